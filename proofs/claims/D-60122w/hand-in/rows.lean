section
-- ===== PART A: goes FIRST, ahead of the names: the tables' words, and 'selects' of the private methods out of them =====
/-- a private method of a class that the tables say can be made, by its rows of tables_1 -/
def lw_okq (q : MethodName × Nat) : Prop := (q.1.cls ≠ "java/lang/invoke/MethodHandle" ∧ q.1.cls ≠ "java/lang/invoke/VarHandle") ∧ Cond.instantiable q.1.cls q.2 ∈ tables_1 ∧ Cond.privateMethod q.1 ∈ tables_1 ∧ Cond.instanceMethod q.1 ∈ tables_1
set_option maxRecDepth 100000
theorem lw_t1 {w : Cond} (h : w ∈ tables_1_1) : w ∈ tables_1 := List.mem_append_left _ h
theorem lw_t2 {w : Cond} (h : w ∈ tables_1_2) : w ∈ tables_1 := List.mem_append_right _ h
theorem lw_p0 : lw_okq (⟨"VipCache", "badPage", "(I)Z"⟩, 16) := ⟨⟨by decide +kernel, by decide +kernel⟩, lw_t1 (List.mem_of_getElem? (i := 4) rfl), lw_t1 (List.mem_of_getElem? (i := 67) rfl), lw_t1 (List.mem_of_getElem? (i := 68) rfl)⟩
theorem lw_p1 : lw_okq (⟨"VipCache", "badEight", "(I)Z"⟩, 16) := ⟨⟨by decide +kernel, by decide +kernel⟩, lw_t1 (List.mem_of_getElem? (i := 4) rfl), lw_t1 (List.mem_of_getElem? (i := 71) rfl), lw_t1 (List.mem_of_getElem? (i := 72) rfl)⟩
theorem lw_p2 : lw_okq (⟨"VipCache", "shoot", "(I)V"⟩, 16) := ⟨⟨by decide +kernel, by decide +kernel⟩, lw_t1 (List.mem_of_getElem? (i := 4) rfl), lw_t1 (List.mem_of_getElem? (i := 75) rfl), lw_t1 (List.mem_of_getElem? (i := 76) rfl)⟩
theorem lw_p3 : lw_okq (⟨"VipCache", "translate", "(IZ)I"⟩, 16) := ⟨⟨by decide +kernel, by decide +kernel⟩, lw_t1 (List.mem_of_getElem? (i := 4) rfl), lw_t1 (List.mem_of_getElem? (i := 95) rfl), lw_t1 (List.mem_of_getElem? (i := 96) rfl)⟩
theorem lw_p4 : lw_okq (⟨"VipCache", "entryOf", "(I)I"⟩, 16) := ⟨⟨by decide +kernel, by decide +kernel⟩, lw_t1 (List.mem_of_getElem? (i := 4) rfl), lw_t1 (List.mem_of_getElem? (i := 99) rfl), lw_t1 (List.mem_of_getElem? (i := 100) rfl)⟩
theorem lw_p5 : lw_okq (⟨"VipCache", "oldestEntry", "()I"⟩, 16) := ⟨⟨by decide +kernel, by decide +kernel⟩, lw_t1 (List.mem_of_getElem? (i := 4) rfl), lw_t1 (List.mem_of_getElem? (i := 103) rfl), lw_t1 (List.mem_of_getElem? (i := 104) rfl)⟩
theorem lw_p6 : lw_okq (⟨"VipCache", "reach", "(III)I"⟩, 16) := ⟨⟨by decide +kernel, by decide +kernel⟩, lw_t1 (List.mem_of_getElem? (i := 4) rfl), lw_t1 (List.mem_of_getElem? (i := 107) rfl), lw_t1 (List.mem_of_getElem? (i := 108) rfl)⟩
theorem lw_p7 : lw_okq (⟨"VipCache", "bring", "(II)I"⟩, 16) := ⟨⟨by decide +kernel, by decide +kernel⟩, lw_t1 (List.mem_of_getElem? (i := 4) rfl), lw_t1 (List.mem_of_getElem? (i := 111) rfl), lw_t1 (List.mem_of_getElem? (i := 112) rfl)⟩
theorem lw_p8 : lw_okq (⟨"VipCache", "lineIn", "(II)I"⟩, 16) := ⟨⟨by decide +kernel, by decide +kernel⟩, lw_t1 (List.mem_of_getElem? (i := 4) rfl), lw_t1 (List.mem_of_getElem? (i := 115) rfl), lw_t1 (List.mem_of_getElem? (i := 116) rfl)⟩
theorem lw_p9 : lw_okq (⟨"VipCache", "lineAnywhere", "(I)I"⟩, 16) := ⟨⟨by decide +kernel, by decide +kernel⟩, lw_t1 (List.mem_of_getElem? (i := 4) rfl), lw_t1 (List.mem_of_getElem? (i := 119) rfl), lw_t1 (List.mem_of_getElem? (i := 120) rfl)⟩
theorem lw_p10 : lw_okq (⟨"VipCache", "victim", "(I)I"⟩, 16) := ⟨⟨by decide +kernel, by decide +kernel⟩, lw_t1 (List.mem_of_getElem? (i := 4) rfl), lw_t1 (List.mem_of_getElem? (i := 123) rfl), lw_t1 (List.mem_of_getElem? (i := 124) rfl)⟩
theorem lw_p11 : lw_okq (⟨"VipCache", "writeBack", "(I)V"⟩, 16) := ⟨⟨by decide +kernel, by decide +kernel⟩, lw_t1 (List.mem_of_getElem? (i := 4) rfl), lw_t1 (List.mem_of_getElem? (i := 127) rfl), lw_t1 (List.mem_of_getElem? (i := 128) rfl)⟩
theorem lw_p12 : lw_okq (⟨"VipCache", "open", "(II)I"⟩, 16) := ⟨⟨by decide +kernel, by decide +kernel⟩, lw_t1 (List.mem_of_getElem? (i := 4) rfl), lw_t1 (List.mem_of_getElem? (i := 135) rfl), lw_t1 (List.mem_of_getElem? (i := 136) rfl)⟩
theorem lw_p13 : lw_okq (⟨"VipCache", "snoop", "(IZ)V"⟩, 16) := ⟨⟨by decide +kernel, by decide +kernel⟩, lw_t1 (List.mem_of_getElem? (i := 4) rfl), lw_t1 (List.mem_of_getElem? (i := 151) rfl), lw_t1 (List.mem_of_getElem? (i := 152) rfl)⟩
theorem lw_p14 : lw_okq (⟨"VipCacheModel", "isPage", "(I)Z"⟩, 6) := ⟨⟨by decide +kernel, by decide +kernel⟩, lw_t1 (List.mem_of_getElem? (i := 192) rfl), lw_t1 (List.mem_of_getElem? (i := 221) rfl), lw_t1 (List.mem_of_getElem? (i := 222) rfl)⟩
theorem lw_p15 : lw_okq (⟨"VipCacheModel", "isNumber", "(I)Z"⟩, 6) := ⟨⟨by decide +kernel, by decide +kernel⟩, lw_t1 (List.mem_of_getElem? (i := 192) rfl), lw_t1 (List.mem_of_getElem? (i := 225) rfl), lw_t1 (List.mem_of_getElem? (i := 226) rfl)⟩
def lw_privs_1 : List (MethodName × Nat) := [(⟨"VipCache", "badPage", "(I)Z"⟩, 16), (⟨"VipCache", "badEight", "(I)Z"⟩, 16), (⟨"VipCache", "shoot", "(I)V"⟩, 16), (⟨"VipCache", "translate", "(IZ)I"⟩, 16), (⟨"VipCache", "entryOf", "(I)I"⟩, 16), (⟨"VipCache", "oldestEntry", "()I"⟩, 16), (⟨"VipCache", "reach", "(III)I"⟩, 16), (⟨"VipCache", "bring", "(II)I"⟩, 16), (⟨"VipCache", "lineIn", "(II)I"⟩, 16), (⟨"VipCache", "lineAnywhere", "(I)I"⟩, 16), (⟨"VipCache", "victim", "(I)I"⟩, 16), (⟨"VipCache", "writeBack", "(I)V"⟩, 16), (⟨"VipCache", "open", "(II)I"⟩, 16), (⟨"VipCache", "snoop", "(IZ)V"⟩, 16), (⟨"VipCacheModel", "isPage", "(I)Z"⟩, 6), (⟨"VipCacheModel", "isNumber", "(I)Z"⟩, 6)]
theorem lw_r1 : ∀ q ∈ lw_privs_1, lw_okq q := List.forall_mem_cons.mpr ⟨lw_p0, List.forall_mem_cons.mpr ⟨lw_p1, List.forall_mem_cons.mpr ⟨lw_p2, List.forall_mem_cons.mpr ⟨lw_p3, List.forall_mem_cons.mpr ⟨lw_p4, List.forall_mem_cons.mpr ⟨lw_p5, List.forall_mem_cons.mpr ⟨lw_p6, List.forall_mem_cons.mpr ⟨lw_p7, List.forall_mem_cons.mpr ⟨lw_p8, List.forall_mem_cons.mpr ⟨lw_p9, List.forall_mem_cons.mpr ⟨lw_p10, List.forall_mem_cons.mpr ⟨lw_p11, List.forall_mem_cons.mpr ⟨lw_p12, List.forall_mem_cons.mpr ⟨lw_p13, List.forall_mem_cons.mpr ⟨lw_p14, List.forall_mem_cons.mpr ⟨lw_p15, fun _ h => absurd h List.not_mem_nil⟩⟩⟩⟩⟩⟩⟩⟩⟩⟩⟩⟩⟩⟩⟩⟩
theorem lw_p16 : lw_okq (⟨"VipCacheModel", "show", "(IIZ)V"⟩, 6) := ⟨⟨by decide +kernel, by decide +kernel⟩, lw_t1 (List.mem_of_getElem? (i := 192) rfl), lw_t1 (List.mem_of_getElem? (i := 229) rfl), lw_t1 (List.mem_of_getElem? (i := 230) rfl)⟩
theorem lw_p17 : lw_okq (⟨"VipCacheModel", "mayStore", "(II)Z"⟩, 6) := ⟨⟨by decide +kernel, by decide +kernel⟩, lw_t1 (List.mem_of_getElem? (i := 192) rfl), lw_t2 (List.mem_of_getElem? (i := 13) rfl), lw_t2 (List.mem_of_getElem? (i := 14) rfl)⟩
def lw_privs_2 : List (MethodName × Nat) := [(⟨"VipCacheModel", "show", "(IIZ)V"⟩, 6), (⟨"VipCacheModel", "mayStore", "(II)Z"⟩, 6)]
theorem lw_r2 : ∀ q ∈ lw_privs_2, lw_okq q := List.forall_mem_cons.mpr ⟨lw_p16, List.forall_mem_cons.mpr ⟨lw_p17, fun _ h => absurd h List.not_mem_nil⟩⟩
def lw_privs : List (MethodName × Nat) := lw_privs_1 ++ (lw_privs_2)
def lw_tbl : List Cond := k2_sels lw_privs ++ tables_1
theorem lw_privs_ok : ∀ q ∈ lw_privs, lw_okq q := by
  show ∀ q ∈ lw_privs_1 ++ (lw_privs_2), lw_okq q
  exact List.forall_mem_append.mpr ⟨lw_r1, lw_r2⟩
-- ===== ONE list of words for every method: the tables' words that hold all through a run =====
def lw_all : List Cond := lw_tbl.filter goodWord
/-- a word of the tables by its place: claim/WORDS.tsv -/
theorem lw_w {w : Cond} (i : Nat) (h : lw_tbl[i]? = some w) (g : goodWord w = true) : w ∈ lw_all := List.mem_filter.mpr ⟨List.mem_of_getElem? h, g⟩
theorem lw_all_tbl {w : Cond} (h : w ∈ lw_all) : w ∈ lw_tbl := (List.mem_filter.mp h).1
theorem lw_self : GoodIn lw_all lw_all := fun w h => ⟨h, good_of_word (List.mem_filter.mp h).2⟩
/-- a class's field words, by their places -/
theorem lw_in (ws : List Cond) (ps : List Nat) (hp : ws = ps.filterMap (fun i => lw_tbl[i]?)) (hg : ws.all goodWord = true) : ∀ w ∈ ws, w ∈ lw_all := by
  intro w h
  have h1 := List.all_eq_true.mp hg w h
  rw [hp] at h
  obtain ⟨i, -, hi⟩ := List.mem_filterMap.mp h
  exact lw_w i hi h1
/-- the words of a contract for the method y with code b, L locals, answer r -/
abbrev ws_ (y : MethodName) (b : ByteArray) (L : Nat) (r : Option FieldType) : List Cond := Cond.code y b L r :: lw_all
theorem lw_meth {y : MethodName} {b : ByteArray} {L : Nat} {r : Option FieldType} (h : Cond.code y b L r ∈ lw_all) : GoodIn lw_all (ws_ y b L r) := by
  intro w hw
  rcases List.mem_cons.mp hw with e | e
  · rw [e]
    exact lw_self _ h
  · exact lw_self _ e
theorem lw_app {a c : List Cond} (ha : ∀ w ∈ a, w ∈ lw_all) (hc : GoodIn lw_all c) : GoodIn lw_all (a ++ c) := by
  intro w hw
  rcases List.mem_append.mp hw with e | e
  · exact lw_self w (ha w e)
  · exact hc w e
/-- what a call through an object asks: cwV n hts (lw_V ..) -/
theorem lw_V {own : String} {idx : Nat} {C : String} {y : MethodName} {b : ByteArray} {L : Nat} {r : Option FieldType} (h1 : Cond.methodLink own idx y ∈ lw_all) (h2 : Cond.instanceMethod y ∈ lw_all) (h3 : Cond.selects C y y ∈ lw_all) (h4 : Cond.initialized C ∈ lw_all) (h5 : Cond.code y b L r ∈ lw_all) : GoodIn lw_all (wsV own idx C y (ws_ y b L r)) := by
  refine lw_app ?_ (lw_meth h5)
  intro w hw
  simp only [List.mem_cons, List.not_mem_nil, or_false] at hw
  rcases hw with e | e | e | e
  · rw [e]; exact h1
  · rw [e]; exact h2
  · rw [e]; exact h3
  · rw [e]; exact h4
/-- what a static call asks: va_cwS n hts (lw_S ..) -/
theorem lw_S {own : String} {idx : Nat} {y : MethodName} {b : ByteArray} {L : Nat} {r : Option FieldType} (h1 : Cond.methodLink own idx y ∈ lw_all) (h2 : Cond.static y ∈ lw_all) (h3 : Cond.initialized y.cls ∈ lw_all) (h4 : Cond.code y b L r ∈ lw_all) : GoodIn lw_all (va_wsS own idx y (ws_ y b L r)) := by
  refine lw_app ?_ (lw_meth h4)
  intro w hw
  simp only [List.mem_cons, List.not_mem_nil, or_false] at hw
  rcases hw with e | e | e
  · rw [e]; exact h1
  · rw [e]; exact h2
  · rw [e]; exact h3
/-- the words of a contract for a method WITH HANDLERS (hh: its table) -/
abbrev wsW_ (y : MethodName) (b : ByteArray) (L : Nat) (r : Option FieldType) (hh : List (Nat × Nat × Nat × Nat)) : List Cond := Cond.codeWith y b L r hh :: lw_all
theorem lw_methW {y : MethodName} {b : ByteArray} {L : Nat} {r : Option FieldType} {hh : List (Nat × Nat × Nat × Nat)} (h : Cond.codeWith y b L r hh ∈ lw_all) : GoodIn lw_all (wsW_ y b L r hh) := by
  intro w hw
  rcases List.mem_cons.mp hw with e | e
  · rw [e]
    exact lw_self _ h
  · exact lw_self _ e
/-- any list of words by their places (lw_in), good -/
theorem lw_good {ws : List Cond} (h : ∀ w ∈ ws, w ∈ lw_all) : GoodIn lw_all ws := fun w hw => lw_self w (h w hw)
/-- what a call of a method with handlers asks: vx_cwVW n hts (lw_VW ..), vx_cwSW n hts (lw_SW ..) -/
theorem lw_VW {own : String} {idx : Nat} {C : String} {y : MethodName} {b : ByteArray} {L : Nat} {r : Option FieldType} {hh : List (Nat × Nat × Nat × Nat)} (h1 : Cond.methodLink own idx y ∈ lw_all) (h2 : Cond.instanceMethod y ∈ lw_all) (h3 : Cond.selects C y y ∈ lw_all) (h4 : Cond.initialized C ∈ lw_all) (h5 : Cond.codeWith y b L r hh ∈ lw_all) : GoodIn lw_all (wsV own idx C y (wsW_ y b L r hh)) := by
  refine lw_app ?_ (lw_methW h5)
  intro w hw
  simp only [List.mem_cons, List.not_mem_nil, or_false] at hw
  rcases hw with e | e | e | e
  · rw [e]; exact h1
  · rw [e]; exact h2
  · rw [e]; exact h3
  · rw [e]; exact h4
theorem lw_SW {own : String} {idx : Nat} {y : MethodName} {b : ByteArray} {L : Nat} {r : Option FieldType} {hh : List (Nat × Nat × Nat × Nat)} (h1 : Cond.methodLink own idx y ∈ lw_all) (h2 : Cond.static y ∈ lw_all) (h3 : Cond.initialized y.cls ∈ lw_all) (h4 : Cond.codeWith y b L r hh ∈ lw_all) : GoodIn lw_all (va_wsS own idx y (wsW_ y b L r hh)) := by
  refine lw_app ?_ (lw_methW h4)
  intro w hw
  simp only [List.mem_cons, List.not_mem_nil, or_false] at hw
  rcases hw with e | e | e
  · rw [e]; exact h1
  · rw [e]; exact h2
  · rw [e]; exact h3
/-- a word by its place in its run of the tables -/
theorem lw_at {r : List Cond} (hr : ∀ w ∈ r, w ∈ lw_tbl) {w : Cond} (i : Nat) (h : r[i]? = some w) : w ∈ lw_tbl := hr w (List.mem_of_getElem? h)
theorem lw_g {w : Cond} (h : w ∈ lw_tbl) (g : goodWord w = true) : w ∈ lw_all := List.mem_filter.mpr ⟨h, g⟩
theorem lw_ms : ∀ w ∈ k2_sels lw_privs, w ∈ lw_tbl := fun w h => show w ∈ k2_sels lw_privs ++ tables_1 from List.mem_append_left _ h
theorem lw_m1 : ∀ w ∈ tables_1_1, w ∈ lw_tbl := fun w h => show w ∈ k2_sels lw_privs ++ tables_1 from List.mem_append_right (k2_sels lw_privs) (show w ∈ tables_1 from List.mem_append_left _ h)
theorem lw_m2 : ∀ w ∈ tables_1_2, w ∈ lw_tbl := fun w h => show w ∈ k2_sels lw_privs ++ tables_1 from List.mem_append_right (k2_sels lw_privs) (show w ∈ tables_1 from List.mem_append_right _ h)
theorem qs0 : (Cond.selects "VipCache" ⟨"VipCache", "badPage", "(I)Z"⟩ ⟨"VipCache", "badPage", "(I)Z"⟩) ∈ lw_all := lw_g (lw_at lw_ms 0 rfl) rfl
theorem qs1 : (Cond.selects "VipCache" ⟨"VipCache", "badEight", "(I)Z"⟩ ⟨"VipCache", "badEight", "(I)Z"⟩) ∈ lw_all := lw_g (lw_at lw_ms 1 rfl) rfl
theorem qs2 : (Cond.selects "VipCache" ⟨"VipCache", "shoot", "(I)V"⟩ ⟨"VipCache", "shoot", "(I)V"⟩) ∈ lw_all := lw_g (lw_at lw_ms 2 rfl) rfl
theorem qs3 : (Cond.selects "VipCache" ⟨"VipCache", "translate", "(IZ)I"⟩ ⟨"VipCache", "translate", "(IZ)I"⟩) ∈ lw_all := lw_g (lw_at lw_ms 3 rfl) rfl
theorem qs4 : (Cond.selects "VipCache" ⟨"VipCache", "entryOf", "(I)I"⟩ ⟨"VipCache", "entryOf", "(I)I"⟩) ∈ lw_all := lw_g (lw_at lw_ms 4 rfl) rfl
theorem qs5 : (Cond.selects "VipCache" ⟨"VipCache", "oldestEntry", "()I"⟩ ⟨"VipCache", "oldestEntry", "()I"⟩) ∈ lw_all := lw_g (lw_at lw_ms 5 rfl) rfl
theorem qs6 : (Cond.selects "VipCache" ⟨"VipCache", "reach", "(III)I"⟩ ⟨"VipCache", "reach", "(III)I"⟩) ∈ lw_all := lw_g (lw_at lw_ms 6 rfl) rfl
theorem qs7 : (Cond.selects "VipCache" ⟨"VipCache", "bring", "(II)I"⟩ ⟨"VipCache", "bring", "(II)I"⟩) ∈ lw_all := lw_g (lw_at lw_ms 7 rfl) rfl
theorem qs8 : (Cond.selects "VipCache" ⟨"VipCache", "lineIn", "(II)I"⟩ ⟨"VipCache", "lineIn", "(II)I"⟩) ∈ lw_all := lw_g (lw_at lw_ms 8 rfl) rfl
theorem qs9 : (Cond.selects "VipCache" ⟨"VipCache", "lineAnywhere", "(I)I"⟩ ⟨"VipCache", "lineAnywhere", "(I)I"⟩) ∈ lw_all := lw_g (lw_at lw_ms 9 rfl) rfl
theorem qs10 : (Cond.selects "VipCache" ⟨"VipCache", "victim", "(I)I"⟩ ⟨"VipCache", "victim", "(I)I"⟩) ∈ lw_all := lw_g (lw_at lw_ms 10 rfl) rfl
theorem qs11 : (Cond.selects "VipCache" ⟨"VipCache", "writeBack", "(I)V"⟩ ⟨"VipCache", "writeBack", "(I)V"⟩) ∈ lw_all := lw_g (lw_at lw_ms 11 rfl) rfl
theorem qs12 : (Cond.selects "VipCache" ⟨"VipCache", "open", "(II)I"⟩ ⟨"VipCache", "open", "(II)I"⟩) ∈ lw_all := lw_g (lw_at lw_ms 12 rfl) rfl
theorem qs13 : (Cond.selects "VipCache" ⟨"VipCache", "snoop", "(IZ)V"⟩ ⟨"VipCache", "snoop", "(IZ)V"⟩) ∈ lw_all := lw_g (lw_at lw_ms 13 rfl) rfl
theorem qs14 : (Cond.selects "VipCacheModel" ⟨"VipCacheModel", "isPage", "(I)Z"⟩ ⟨"VipCacheModel", "isPage", "(I)Z"⟩) ∈ lw_all := lw_g (lw_at lw_ms 14 rfl) rfl
theorem qs15 : (Cond.selects "VipCacheModel" ⟨"VipCacheModel", "isNumber", "(I)Z"⟩ ⟨"VipCacheModel", "isNumber", "(I)Z"⟩) ∈ lw_all := lw_g (lw_at lw_ms 15 rfl) rfl
theorem qs16 : (Cond.selects "VipCacheModel" ⟨"VipCacheModel", "show", "(IIZ)V"⟩ ⟨"VipCacheModel", "show", "(IIZ)V"⟩) ∈ lw_all := lw_g (lw_at lw_ms 16 rfl) rfl
theorem qs17 : (Cond.selects "VipCacheModel" ⟨"VipCacheModel", "mayStore", "(II)Z"⟩ ⟨"VipCacheModel", "mayStore", "(II)Z"⟩) ∈ lw_all := lw_g (lw_at lw_ms 17 rfl) rfl
end
section
/-! VipCache -/
set_option maxRecDepth 100000
def RX0 : String := "VipCache"
def TX0 : u_T := fun k => match k with
  | 0 => ("VipCache", "memory", "[I", true)
  | 1 => ("VipCache", "frame", "[I", true)
  | 2 => ("VipCache", "writable", "[Z", true)
  | 3 => ("VipCache", "used", "[Z", true)
  | 4 => ("VipCache", "dirty", "[Z", true)
  | 5 => ("VipCache", "clock", "I", false)
  | 6 => ("VipCache", "name", "[I", true)
  | 7 => ("VipCache", "changed", "[Z", true)
  | 8 => ("VipCache", "lineStamp", "[I", true)
  | 9 => ("VipCache", "data", "[I", true)
  | 10 => ("VipCache", "entryPage", "[I", true)
  | 11 => ("VipCache", "entryFrame", "[I", true)
  | 12 => ("VipCache", "entryWritable", "[Z", true)
  | 13 => ("VipCache", "entryDirty", "[Z", true)
  | 14 => ("VipCache", "entryStamp", "[I", true)
  | _ => ("VipCache", "outcome", "I", false)
def tyX0 : Nat → FieldType := fun k => match k with
  | 0 => .array .int
  | 1 => .array .int
  | 2 => .array .boolean
  | 3 => .array .boolean
  | 4 => .array .boolean
  | 5 => .int
  | 6 => .array .int
  | 7 => .array .boolean
  | 8 => .array .int
  | 9 => .array .int
  | 10 => .array .int
  | 11 => .array .int
  | 12 => .array .boolean
  | 13 => .array .boolean
  | 14 => .array .int
  | _ => .int
abbrev wsX00 : List Cond := u_ws RX0 TX0 16
set_option maxRecDepth 100000 in
theorem nmX0 : ∀ a, a < 16 → ∀ b, b < 16 → a ≠ b → (TX0 a).2.1 ≠ (TX0 b).2.1 := by decide +kernel
set_option maxRecDepth 100000 in
theorem tyX0_ok : ∀ k, k < 16 → parseFieldDescriptor (TX0 k).2.2.1 = some (tyX0 k) := by decide +kernel
abbrev cX0_init : ByteArray := prog_1_method_1_code
def yX0_init : MethodName := ⟨RX0, "<init>", "()V"⟩
theorem dX0_init_0 : decode cX0_init 0 = .ok (.aload_n 0, 1) := by decide +kernel
theorem dX0_init_1 : decode cX0_init 1 = .ok (.invokespecial 1, 3) := by decide +kernel
theorem dX0_init_4 : decode cX0_init 4 = .ok (.aload_n 0, 1) := by decide +kernel
theorem dX0_init_5 : decode cX0_init 5 = .ok (.bipush 64, 2) := by decide +kernel
theorem dX0_init_7 : decode cX0_init 7 = .ok (.newarray .int, 2) := by decide +kernel
theorem dX0_init_9 : decode cX0_init 9 = .ok (.putfield 7, 3) := by decide +kernel
theorem dX0_init_12 : decode cX0_init 12 = .ok (.aload_n 0, 1) := by decide +kernel
theorem dX0_init_13 : decode cX0_init 13 = .ok (.bipush 16, 2) := by decide +kernel
theorem dX0_init_15 : decode cX0_init 15 = .ok (.newarray .int, 2) := by decide +kernel
theorem dX0_init_17 : decode cX0_init 17 = .ok (.putfield 13, 3) := by decide +kernel
theorem dX0_init_20 : decode cX0_init 20 = .ok (.aload_n 0, 1) := by decide +kernel
theorem dX0_init_21 : decode cX0_init 21 = .ok (.bipush 16, 2) := by decide +kernel
theorem dX0_init_23 : decode cX0_init 23 = .ok (.newarray .boolean, 2) := by decide +kernel
theorem dX0_init_25 : decode cX0_init 25 = .ok (.putfield 16, 3) := by decide +kernel
theorem dX0_init_28 : decode cX0_init 28 = .ok (.aload_n 0, 1) := by decide +kernel
theorem dX0_init_29 : decode cX0_init 29 = .ok (.bipush 16, 2) := by decide +kernel
theorem dX0_init_31 : decode cX0_init 31 = .ok (.newarray .boolean, 2) := by decide +kernel
theorem dX0_init_33 : decode cX0_init 33 = .ok (.putfield 20, 3) := by decide +kernel
theorem dX0_init_36 : decode cX0_init 36 = .ok (.aload_n 0, 1) := by decide +kernel
theorem dX0_init_37 : decode cX0_init 37 = .ok (.bipush 16, 2) := by decide +kernel
theorem dX0_init_39 : decode cX0_init 39 = .ok (.newarray .boolean, 2) := by decide +kernel
theorem dX0_init_41 : decode cX0_init 41 = .ok (.putfield 23, 3) := by decide +kernel
theorem dX0_init_44 : decode cX0_init 44 = .ok (.aload_n 0, 1) := by decide +kernel
theorem dX0_init_45 : decode cX0_init 45 = .ok (.bipush 16, 2) := by decide +kernel
theorem dX0_init_47 : decode cX0_init 47 = .ok (.newarray .int, 2) := by decide +kernel
theorem dX0_init_49 : decode cX0_init 49 = .ok (.putfield 26, 3) := by decide +kernel
theorem dX0_init_52 : decode cX0_init 52 = .ok (.aload_n 0, 1) := by decide +kernel
theorem dX0_init_53 : decode cX0_init 53 = .ok (.bipush 16, 2) := by decide +kernel
theorem dX0_init_55 : decode cX0_init 55 = .ok (.newarray .boolean, 2) := by decide +kernel
theorem dX0_init_57 : decode cX0_init 57 = .ok (.putfield 29, 3) := by decide +kernel
theorem dX0_init_60 : decode cX0_init 60 = .ok (.aload_n 0, 1) := by decide +kernel
theorem dX0_init_61 : decode cX0_init 61 = .ok (.bipush 16, 2) := by decide +kernel
theorem dX0_init_63 : decode cX0_init 63 = .ok (.newarray .int, 2) := by decide +kernel
theorem dX0_init_65 : decode cX0_init 65 = .ok (.putfield 32, 3) := by decide +kernel
theorem dX0_init_68 : decode cX0_init 68 = .ok (.aload_n 0, 1) := by decide +kernel
theorem dX0_init_69 : decode cX0_init 69 = .ok (.bipush 64, 2) := by decide +kernel
theorem dX0_init_71 : decode cX0_init 71 = .ok (.newarray .int, 2) := by decide +kernel
theorem dX0_init_73 : decode cX0_init 73 = .ok (.putfield 35, 3) := by decide +kernel
theorem dX0_init_76 : decode cX0_init 76 = .ok (.aload_n 0, 1) := by decide +kernel
theorem dX0_init_77 : decode cX0_init 77 = .ok (.iconst 4, 1) := by decide +kernel
theorem dX0_init_78 : decode cX0_init 78 = .ok (.newarray .int, 2) := by decide +kernel
theorem dX0_init_80 : decode cX0_init 80 = .ok (.putfield 38, 3) := by decide +kernel
theorem dX0_init_83 : decode cX0_init 83 = .ok (.aload_n 0, 1) := by decide +kernel
theorem dX0_init_84 : decode cX0_init 84 = .ok (.iconst 4, 1) := by decide +kernel
theorem dX0_init_85 : decode cX0_init 85 = .ok (.newarray .int, 2) := by decide +kernel
theorem dX0_init_87 : decode cX0_init 87 = .ok (.putfield 41, 3) := by decide +kernel
theorem dX0_init_90 : decode cX0_init 90 = .ok (.aload_n 0, 1) := by decide +kernel
theorem dX0_init_91 : decode cX0_init 91 = .ok (.iconst 4, 1) := by decide +kernel
theorem dX0_init_92 : decode cX0_init 92 = .ok (.newarray .boolean, 2) := by decide +kernel
theorem dX0_init_94 : decode cX0_init 94 = .ok (.putfield 44, 3) := by decide +kernel
theorem dX0_init_97 : decode cX0_init 97 = .ok (.aload_n 0, 1) := by decide +kernel
theorem dX0_init_98 : decode cX0_init 98 = .ok (.iconst 4, 1) := by decide +kernel
theorem dX0_init_99 : decode cX0_init 99 = .ok (.newarray .boolean, 2) := by decide +kernel
theorem dX0_init_101 : decode cX0_init 101 = .ok (.putfield 47, 3) := by decide +kernel
theorem dX0_init_104 : decode cX0_init 104 = .ok (.aload_n 0, 1) := by decide +kernel
theorem dX0_init_105 : decode cX0_init 105 = .ok (.iconst 4, 1) := by decide +kernel
theorem dX0_init_106 : decode cX0_init 106 = .ok (.newarray .int, 2) := by decide +kernel
theorem dX0_init_108 : decode cX0_init 108 = .ok (.putfield 50, 3) := by decide +kernel
theorem dX0_init_111 : decode cX0_init 111 = .ok (.iconst 0, 1) := by decide +kernel
theorem dX0_init_112 : decode cX0_init 112 = .ok (.istore_n 1, 1) := by decide +kernel
theorem dX0_init_113 : decode cX0_init 113 = .ok (.iload_n 1, 1) := by decide +kernel
theorem dX0_init_114 : decode cX0_init 114 = .ok (.bipush 16, 2) := by decide +kernel
theorem dX0_init_116 : decode cX0_init 116 = .ok (.if_icmp .ge 17, 3) := by decide +kernel
theorem dX0_init_119 : decode cX0_init 119 = .ok (.aload_n 0, 1) := by decide +kernel
theorem dX0_init_120 : decode cX0_init 120 = .ok (.getfield 13, 3) := by decide +kernel
theorem dX0_init_123 : decode cX0_init 123 = .ok (.iload_n 1, 1) := by decide +kernel
theorem dX0_init_124 : decode cX0_init 124 = .ok (.bipush (-2), 2) := by decide +kernel
theorem dX0_init_126 : decode cX0_init 126 = .ok (.iastore, 1) := by decide +kernel
theorem dX0_init_127 : decode cX0_init 127 = .ok (.iinc 1 1, 3) := by decide +kernel
theorem dX0_init_130 : decode cX0_init 130 = .ok (.goto (-17), 3) := by decide +kernel
theorem dX0_init_133 : decode cX0_init 133 = .ok (.iconst 0, 1) := by decide +kernel
theorem dX0_init_134 : decode cX0_init 134 = .ok (.istore_n 1, 1) := by decide +kernel
theorem dX0_init_135 : decode cX0_init 135 = .ok (.iload_n 1, 1) := by decide +kernel
theorem dX0_init_136 : decode cX0_init 136 = .ok (.bipush 16, 2) := by decide +kernel
theorem dX0_init_138 : decode cX0_init 138 = .ok (.if_icmp .ge 16, 3) := by decide +kernel
theorem dX0_init_141 : decode cX0_init 141 = .ok (.aload_n 0, 1) := by decide +kernel
theorem dX0_init_142 : decode cX0_init 142 = .ok (.getfield 26, 3) := by decide +kernel
theorem dX0_init_145 : decode cX0_init 145 = .ok (.iload_n 1, 1) := by decide +kernel
theorem dX0_init_146 : decode cX0_init 146 = .ok (.iconst (-1), 1) := by decide +kernel
theorem dX0_init_147 : decode cX0_init 147 = .ok (.iastore, 1) := by decide +kernel
theorem dX0_init_148 : decode cX0_init 148 = .ok (.iinc 1 1, 3) := by decide +kernel
theorem dX0_init_151 : decode cX0_init 151 = .ok (.goto (-16), 3) := by decide +kernel
theorem dX0_init_154 : decode cX0_init 154 = .ok (.iconst 0, 1) := by decide +kernel
theorem dX0_init_155 : decode cX0_init 155 = .ok (.istore_n 1, 1) := by decide +kernel
theorem dX0_init_156 : decode cX0_init 156 = .ok (.iload_n 1, 1) := by decide +kernel
theorem dX0_init_157 : decode cX0_init 157 = .ok (.iconst 4, 1) := by decide +kernel
theorem dX0_init_158 : decode cX0_init 158 = .ok (.if_icmp .ge 16, 3) := by decide +kernel
theorem dX0_init_161 : decode cX0_init 161 = .ok (.aload_n 0, 1) := by decide +kernel
theorem dX0_init_162 : decode cX0_init 162 = .ok (.getfield 38, 3) := by decide +kernel
theorem dX0_init_165 : decode cX0_init 165 = .ok (.iload_n 1, 1) := by decide +kernel
theorem dX0_init_166 : decode cX0_init 166 = .ok (.iconst (-1), 1) := by decide +kernel
theorem dX0_init_167 : decode cX0_init 167 = .ok (.iastore, 1) := by decide +kernel
theorem dX0_init_168 : decode cX0_init 168 = .ok (.iinc 1 1, 3) := by decide +kernel
theorem dX0_init_171 : decode cX0_init 171 = .ok (.goto (-15), 3) := by decide +kernel
theorem dX0_init_174 : decode cX0_init 174 = .ok (.return_, 1) := by decide +kernel
abbrev cX0_map : ByteArray := prog_1_method_5_code
def yX0_map : MethodName := ⟨RX0, "map", "(III)I"⟩
theorem dX0_map_0 : decode cX0_map 0 = .ok (.aload_n 0, 1) := by decide +kernel
theorem dX0_map_1 : decode cX0_map 1 = .ok (.iload_n 1, 1) := by decide +kernel
theorem dX0_map_2 : decode cX0_map 2 = .ok (.invokevirtual 53, 3) := by decide +kernel
theorem dX0_map_5 : decode cX0_map 5 = .ok (.ifCond .ne 11, 3) := by decide +kernel
theorem dX0_map_8 : decode cX0_map 8 = .ok (.aload_n 0, 1) := by decide +kernel
theorem dX0_map_9 : decode cX0_map 9 = .ok (.iload_n 2, 1) := by decide +kernel
theorem dX0_map_10 : decode cX0_map 10 = .ok (.invokevirtual 57, 3) := by decide +kernel
theorem dX0_map_13 : decode cX0_map 13 = .ok (.ifCond .eq 5, 3) := by decide +kernel
theorem dX0_map_16 : decode cX0_map 16 = .ok (.iconst (-1), 1) := by decide +kernel
theorem dX0_map_17 : decode cX0_map 17 = .ok (.ireturn, 1) := by decide +kernel
theorem dX0_map_18 : decode cX0_map 18 = .ok (.aload_n 0, 1) := by decide +kernel
theorem dX0_map_19 : decode cX0_map 19 = .ok (.getfield 13, 3) := by decide +kernel
theorem dX0_map_22 : decode cX0_map 22 = .ok (.iload_n 1, 1) := by decide +kernel
theorem dX0_map_23 : decode cX0_map 23 = .ok (.iaload, 1) := by decide +kernel
theorem dX0_map_24 : decode cX0_map 24 = .ok (.istore 4, 2) := by decide +kernel
theorem dX0_map_26 : decode cX0_map 26 = .ok (.aload_n 0, 1) := by decide +kernel
theorem dX0_map_27 : decode cX0_map 27 = .ok (.getfield 13, 3) := by decide +kernel
theorem dX0_map_30 : decode cX0_map 30 = .ok (.iload_n 1, 1) := by decide +kernel
theorem dX0_map_31 : decode cX0_map 31 = .ok (.iload_n 2, 1) := by decide +kernel
theorem dX0_map_32 : decode cX0_map 32 = .ok (.iastore, 1) := by decide +kernel
theorem dX0_map_33 : decode cX0_map 33 = .ok (.aload_n 0, 1) := by decide +kernel
theorem dX0_map_34 : decode cX0_map 34 = .ok (.getfield 16, 3) := by decide +kernel
theorem dX0_map_37 : decode cX0_map 37 = .ok (.iload_n 1, 1) := by decide +kernel
theorem dX0_map_38 : decode cX0_map 38 = .ok (.iload_n 3, 1) := by decide +kernel
theorem dX0_map_39 : decode cX0_map 39 = .ok (.ifCond .eq 7, 3) := by decide +kernel
theorem dX0_map_42 : decode cX0_map 42 = .ok (.iconst 1, 1) := by decide +kernel
theorem dX0_map_43 : decode cX0_map 43 = .ok (.goto 4, 3) := by decide +kernel
theorem dX0_map_46 : decode cX0_map 46 = .ok (.iconst 0, 1) := by decide +kernel
theorem dX0_map_47 : decode cX0_map 47 = .ok (.bastore, 1) := by decide +kernel
theorem dX0_map_48 : decode cX0_map 48 = .ok (.aload_n 0, 1) := by decide +kernel
theorem dX0_map_49 : decode cX0_map 49 = .ok (.getfield 20, 3) := by decide +kernel
theorem dX0_map_52 : decode cX0_map 52 = .ok (.iload_n 1, 1) := by decide +kernel
theorem dX0_map_53 : decode cX0_map 53 = .ok (.iconst 0, 1) := by decide +kernel
theorem dX0_map_54 : decode cX0_map 54 = .ok (.bastore, 1) := by decide +kernel
theorem dX0_map_55 : decode cX0_map 55 = .ok (.aload_n 0, 1) := by decide +kernel
theorem dX0_map_56 : decode cX0_map 56 = .ok (.getfield 23, 3) := by decide +kernel
theorem dX0_map_59 : decode cX0_map 59 = .ok (.iload_n 1, 1) := by decide +kernel
theorem dX0_map_60 : decode cX0_map 60 = .ok (.iconst 0, 1) := by decide +kernel
theorem dX0_map_61 : decode cX0_map 61 = .ok (.bastore, 1) := by decide +kernel
theorem dX0_map_62 : decode cX0_map 62 = .ok (.aload_n 0, 1) := by decide +kernel
theorem dX0_map_63 : decode cX0_map 63 = .ok (.iload_n 1, 1) := by decide +kernel
theorem dX0_map_64 : decode cX0_map 64 = .ok (.invokevirtual 60, 3) := by decide +kernel
theorem dX0_map_67 : decode cX0_map 67 = .ok (.iload 4, 2) := by decide +kernel
theorem dX0_map_69 : decode cX0_map 69 = .ok (.ireturn, 1) := by decide +kernel
abbrev cX0_badPage : ByteArray := prog_1_method_2_code
def yX0_badPage : MethodName := ⟨RX0, "badPage", "(I)Z"⟩
theorem dX0_badPage_0 : decode cX0_badPage 0 = .ok (.iload_n 1, 1) := by decide +kernel
theorem dX0_badPage_1 : decode cX0_badPage 1 = .ok (.ifCond .lt 9, 3) := by decide +kernel
theorem dX0_badPage_4 : decode cX0_badPage 4 = .ok (.iload_n 1, 1) := by decide +kernel
theorem dX0_badPage_5 : decode cX0_badPage 5 = .ok (.bipush 16, 2) := by decide +kernel
theorem dX0_badPage_7 : decode cX0_badPage 7 = .ok (.if_icmp .lt 7, 3) := by decide +kernel
theorem dX0_badPage_10 : decode cX0_badPage 10 = .ok (.iconst 1, 1) := by decide +kernel
theorem dX0_badPage_11 : decode cX0_badPage 11 = .ok (.goto 4, 3) := by decide +kernel
theorem dX0_badPage_14 : decode cX0_badPage 14 = .ok (.iconst 0, 1) := by decide +kernel
theorem dX0_badPage_15 : decode cX0_badPage 15 = .ok (.ireturn, 1) := by decide +kernel
abbrev cX0_badEight : ByteArray := prog_1_method_3_code
def yX0_badEight : MethodName := ⟨RX0, "badEight", "(I)Z"⟩
theorem dX0_badEight_0 : decode cX0_badEight 0 = .ok (.iload_n 1, 1) := by decide +kernel
theorem dX0_badEight_1 : decode cX0_badEight 1 = .ok (.ifCond .lt 9, 3) := by decide +kernel
theorem dX0_badEight_4 : decode cX0_badEight 4 = .ok (.iload_n 1, 1) := by decide +kernel
theorem dX0_badEight_5 : decode cX0_badEight 5 = .ok (.bipush 7, 2) := by decide +kernel
theorem dX0_badEight_7 : decode cX0_badEight 7 = .ok (.if_icmp .le 7, 3) := by decide +kernel
theorem dX0_badEight_10 : decode cX0_badEight 10 = .ok (.iconst 1, 1) := by decide +kernel
theorem dX0_badEight_11 : decode cX0_badEight 11 = .ok (.goto 4, 3) := by decide +kernel
theorem dX0_badEight_14 : decode cX0_badEight 14 = .ok (.iconst 0, 1) := by decide +kernel
theorem dX0_badEight_15 : decode cX0_badEight 15 = .ok (.ireturn, 1) := by decide +kernel
abbrev cX0_shoot : ByteArray := prog_1_method_4_code
def yX0_shoot : MethodName := ⟨RX0, "shoot", "(I)V"⟩
theorem dX0_shoot_0 : decode cX0_shoot 0 = .ok (.iconst 0, 1) := by decide +kernel
theorem dX0_shoot_1 : decode cX0_shoot 1 = .ok (.istore_n 2, 1) := by decide +kernel
theorem dX0_shoot_2 : decode cX0_shoot 2 = .ok (.iload_n 2, 1) := by decide +kernel
theorem dX0_shoot_3 : decode cX0_shoot 3 = .ok (.iconst 4, 1) := by decide +kernel
theorem dX0_shoot_4 : decode cX0_shoot 4 = .ok (.if_icmp .ge 26, 3) := by decide +kernel
theorem dX0_shoot_7 : decode cX0_shoot 7 = .ok (.aload_n 0, 1) := by decide +kernel
theorem dX0_shoot_8 : decode cX0_shoot 8 = .ok (.getfield 38, 3) := by decide +kernel
theorem dX0_shoot_11 : decode cX0_shoot 11 = .ok (.iload_n 2, 1) := by decide +kernel
theorem dX0_shoot_12 : decode cX0_shoot 12 = .ok (.iaload, 1) := by decide +kernel
theorem dX0_shoot_13 : decode cX0_shoot 13 = .ok (.iload_n 1, 1) := by decide +kernel
theorem dX0_shoot_14 : decode cX0_shoot 14 = .ok (.if_icmp .ne 10, 3) := by decide +kernel
theorem dX0_shoot_17 : decode cX0_shoot 17 = .ok (.aload_n 0, 1) := by decide +kernel
theorem dX0_shoot_18 : decode cX0_shoot 18 = .ok (.getfield 38, 3) := by decide +kernel
theorem dX0_shoot_21 : decode cX0_shoot 21 = .ok (.iload_n 2, 1) := by decide +kernel
theorem dX0_shoot_22 : decode cX0_shoot 22 = .ok (.iconst (-1), 1) := by decide +kernel
theorem dX0_shoot_23 : decode cX0_shoot 23 = .ok (.iastore, 1) := by decide +kernel
theorem dX0_shoot_24 : decode cX0_shoot 24 = .ok (.iinc 2 1, 3) := by decide +kernel
theorem dX0_shoot_27 : decode cX0_shoot 27 = .ok (.goto (-25), 3) := by decide +kernel
theorem dX0_shoot_30 : decode cX0_shoot 30 = .ok (.return_, 1) := by decide +kernel
abbrev cX0_unmap : ByteArray := prog_1_method_6_code
def yX0_unmap : MethodName := ⟨RX0, "unmap", "(I)I"⟩
theorem dX0_unmap_0 : decode cX0_unmap 0 = .ok (.aload_n 0, 1) := by decide +kernel
theorem dX0_unmap_1 : decode cX0_unmap 1 = .ok (.iload_n 1, 1) := by decide +kernel
theorem dX0_unmap_2 : decode cX0_unmap 2 = .ok (.invokevirtual 53, 3) := by decide +kernel
theorem dX0_unmap_5 : decode cX0_unmap 5 = .ok (.ifCond .eq 5, 3) := by decide +kernel
theorem dX0_unmap_8 : decode cX0_unmap 8 = .ok (.iconst (-1), 1) := by decide +kernel
theorem dX0_unmap_9 : decode cX0_unmap 9 = .ok (.ireturn, 1) := by decide +kernel
theorem dX0_unmap_10 : decode cX0_unmap 10 = .ok (.aload_n 0, 1) := by decide +kernel
theorem dX0_unmap_11 : decode cX0_unmap 11 = .ok (.getfield 13, 3) := by decide +kernel
theorem dX0_unmap_14 : decode cX0_unmap 14 = .ok (.iload_n 1, 1) := by decide +kernel
theorem dX0_unmap_15 : decode cX0_unmap 15 = .ok (.iaload, 1) := by decide +kernel
theorem dX0_unmap_16 : decode cX0_unmap 16 = .ok (.istore_n 2, 1) := by decide +kernel
theorem dX0_unmap_17 : decode cX0_unmap 17 = .ok (.aload_n 0, 1) := by decide +kernel
theorem dX0_unmap_18 : decode cX0_unmap 18 = .ok (.getfield 13, 3) := by decide +kernel
theorem dX0_unmap_21 : decode cX0_unmap 21 = .ok (.iload_n 1, 1) := by decide +kernel
theorem dX0_unmap_22 : decode cX0_unmap 22 = .ok (.bipush (-2), 2) := by decide +kernel
theorem dX0_unmap_24 : decode cX0_unmap 24 = .ok (.iastore, 1) := by decide +kernel
theorem dX0_unmap_25 : decode cX0_unmap 25 = .ok (.aload_n 0, 1) := by decide +kernel
theorem dX0_unmap_26 : decode cX0_unmap 26 = .ok (.getfield 20, 3) := by decide +kernel
theorem dX0_unmap_29 : decode cX0_unmap 29 = .ok (.iload_n 1, 1) := by decide +kernel
theorem dX0_unmap_30 : decode cX0_unmap 30 = .ok (.iconst 0, 1) := by decide +kernel
theorem dX0_unmap_31 : decode cX0_unmap 31 = .ok (.bastore, 1) := by decide +kernel
theorem dX0_unmap_32 : decode cX0_unmap 32 = .ok (.aload_n 0, 1) := by decide +kernel
theorem dX0_unmap_33 : decode cX0_unmap 33 = .ok (.getfield 23, 3) := by decide +kernel
theorem dX0_unmap_36 : decode cX0_unmap 36 = .ok (.iload_n 1, 1) := by decide +kernel
theorem dX0_unmap_37 : decode cX0_unmap 37 = .ok (.iconst 0, 1) := by decide +kernel
theorem dX0_unmap_38 : decode cX0_unmap 38 = .ok (.bastore, 1) := by decide +kernel
theorem dX0_unmap_39 : decode cX0_unmap 39 = .ok (.aload_n 0, 1) := by decide +kernel
theorem dX0_unmap_40 : decode cX0_unmap 40 = .ok (.iload_n 1, 1) := by decide +kernel
theorem dX0_unmap_41 : decode cX0_unmap 41 = .ok (.invokevirtual 60, 3) := by decide +kernel
theorem dX0_unmap_44 : decode cX0_unmap 44 = .ok (.iload_n 2, 1) := by decide +kernel
theorem dX0_unmap_45 : decode cX0_unmap 45 = .ok (.ireturn, 1) := by decide +kernel
abbrev cX0_frameOf : ByteArray := prog_1_method_7_code
def yX0_frameOf : MethodName := ⟨RX0, "frameOf", "(I)I"⟩
theorem dX0_frameOf_0 : decode cX0_frameOf 0 = .ok (.aload_n 0, 1) := by decide +kernel
theorem dX0_frameOf_1 : decode cX0_frameOf 1 = .ok (.iload_n 1, 1) := by decide +kernel
theorem dX0_frameOf_2 : decode cX0_frameOf 2 = .ok (.invokevirtual 53, 3) := by decide +kernel
theorem dX0_frameOf_5 : decode cX0_frameOf 5 = .ok (.ifCond .eq 7, 3) := by decide +kernel
theorem dX0_frameOf_8 : decode cX0_frameOf 8 = .ok (.iconst (-1), 1) := by decide +kernel
theorem dX0_frameOf_9 : decode cX0_frameOf 9 = .ok (.goto 9, 3) := by decide +kernel
theorem dX0_frameOf_12 : decode cX0_frameOf 12 = .ok (.aload_n 0, 1) := by decide +kernel
theorem dX0_frameOf_13 : decode cX0_frameOf 13 = .ok (.getfield 13, 3) := by decide +kernel
theorem dX0_frameOf_16 : decode cX0_frameOf 16 = .ok (.iload_n 1, 1) := by decide +kernel
theorem dX0_frameOf_17 : decode cX0_frameOf 17 = .ok (.iaload, 1) := by decide +kernel
theorem dX0_frameOf_18 : decode cX0_frameOf 18 = .ok (.ireturn, 1) := by decide +kernel
abbrev cX0_allow : ByteArray := prog_1_method_8_code
def yX0_allow : MethodName := ⟨RX0, "allow", "(II)I"⟩
theorem dX0_allow_0 : decode cX0_allow 0 = .ok (.aload_n 0, 1) := by decide +kernel
theorem dX0_allow_1 : decode cX0_allow 1 = .ok (.iload_n 1, 1) := by decide +kernel
theorem dX0_allow_2 : decode cX0_allow 2 = .ok (.invokevirtual 53, 3) := by decide +kernel
theorem dX0_allow_5 : decode cX0_allow 5 = .ok (.ifCond .eq 5, 3) := by decide +kernel
theorem dX0_allow_8 : decode cX0_allow 8 = .ok (.iconst (-1), 1) := by decide +kernel
theorem dX0_allow_9 : decode cX0_allow 9 = .ok (.ireturn, 1) := by decide +kernel
theorem dX0_allow_10 : decode cX0_allow 10 = .ok (.aload_n 0, 1) := by decide +kernel
theorem dX0_allow_11 : decode cX0_allow 11 = .ok (.getfield 13, 3) := by decide +kernel
theorem dX0_allow_14 : decode cX0_allow 14 = .ok (.iload_n 1, 1) := by decide +kernel
theorem dX0_allow_15 : decode cX0_allow 15 = .ok (.iaload, 1) := by decide +kernel
theorem dX0_allow_16 : decode cX0_allow 16 = .ok (.ifCond .ge 6, 3) := by decide +kernel
theorem dX0_allow_19 : decode cX0_allow 19 = .ok (.bipush (-2), 2) := by decide +kernel
theorem dX0_allow_21 : decode cX0_allow 21 = .ok (.ireturn, 1) := by decide +kernel
theorem dX0_allow_22 : decode cX0_allow 22 = .ok (.aload_n 0, 1) := by decide +kernel
theorem dX0_allow_23 : decode cX0_allow 23 = .ok (.getfield 16, 3) := by decide +kernel
theorem dX0_allow_26 : decode cX0_allow 26 = .ok (.iload_n 1, 1) := by decide +kernel
theorem dX0_allow_27 : decode cX0_allow 27 = .ok (.baload, 1) := by decide +kernel
theorem dX0_allow_28 : decode cX0_allow 28 = .ok (.ifCond .eq 7, 3) := by decide +kernel
theorem dX0_allow_31 : decode cX0_allow 31 = .ok (.iconst 1, 1) := by decide +kernel
theorem dX0_allow_32 : decode cX0_allow 32 = .ok (.goto 4, 3) := by decide +kernel
theorem dX0_allow_35 : decode cX0_allow 35 = .ok (.iconst 0, 1) := by decide +kernel
theorem dX0_allow_36 : decode cX0_allow 36 = .ok (.istore_n 3, 1) := by decide +kernel
theorem dX0_allow_37 : decode cX0_allow 37 = .ok (.aload_n 0, 1) := by decide +kernel
theorem dX0_allow_38 : decode cX0_allow 38 = .ok (.getfield 16, 3) := by decide +kernel
theorem dX0_allow_41 : decode cX0_allow 41 = .ok (.iload_n 1, 1) := by decide +kernel
theorem dX0_allow_42 : decode cX0_allow 42 = .ok (.iload_n 2, 1) := by decide +kernel
theorem dX0_allow_43 : decode cX0_allow 43 = .ok (.ifCond .eq 7, 3) := by decide +kernel
theorem dX0_allow_46 : decode cX0_allow 46 = .ok (.iconst 1, 1) := by decide +kernel
theorem dX0_allow_47 : decode cX0_allow 47 = .ok (.goto 4, 3) := by decide +kernel
theorem dX0_allow_50 : decode cX0_allow 50 = .ok (.iconst 0, 1) := by decide +kernel
theorem dX0_allow_51 : decode cX0_allow 51 = .ok (.bastore, 1) := by decide +kernel
theorem dX0_allow_52 : decode cX0_allow 52 = .ok (.aload_n 0, 1) := by decide +kernel
theorem dX0_allow_53 : decode cX0_allow 53 = .ok (.iload_n 1, 1) := by decide +kernel
theorem dX0_allow_54 : decode cX0_allow 54 = .ok (.invokevirtual 60, 3) := by decide +kernel
theorem dX0_allow_57 : decode cX0_allow 57 = .ok (.iload_n 3, 1) := by decide +kernel
theorem dX0_allow_58 : decode cX0_allow 58 = .ok (.ireturn, 1) := by decide +kernel
end
section
set_option maxRecDepth 100000
abbrev cX0_load : ByteArray := prog_1_method_19_code
def yX0_load : MethodName := ⟨RX0, "load", "(II)I"⟩
theorem dX0_load_0 : decode cX0_load 0 = .ok (.aload_n 0, 1) := by decide +kernel
theorem dX0_load_1 : decode cX0_load 1 = .ok (.iload_n 1, 1) := by decide +kernel
theorem dX0_load_2 : decode cX0_load 2 = .ok (.invokevirtual 53, 3) := by decide +kernel
theorem dX0_load_5 : decode cX0_load 5 = .ok (.ifCond .ne 11, 3) := by decide +kernel
theorem dX0_load_8 : decode cX0_load 8 = .ok (.aload_n 0, 1) := by decide +kernel
theorem dX0_load_9 : decode cX0_load 9 = .ok (.iload_n 2, 1) := by decide +kernel
theorem dX0_load_10 : decode cX0_load 10 = .ok (.invokevirtual 57, 3) := by decide +kernel
theorem dX0_load_13 : decode cX0_load 13 = .ok (.ifCond .eq 10, 3) := by decide +kernel
theorem dX0_load_16 : decode cX0_load 16 = .ok (.aload_n 0, 1) := by decide +kernel
theorem dX0_load_17 : decode cX0_load 17 = .ok (.iconst (-1), 1) := by decide +kernel
theorem dX0_load_18 : decode cX0_load 18 = .ok (.putfield 92, 3) := by decide +kernel
theorem dX0_load_21 : decode cX0_load 21 = .ok (.iconst 0, 1) := by decide +kernel
theorem dX0_load_22 : decode cX0_load 22 = .ok (.ireturn, 1) := by decide +kernel
theorem dX0_load_23 : decode cX0_load 23 = .ok (.aload_n 0, 1) := by decide +kernel
theorem dX0_load_24 : decode cX0_load 24 = .ok (.iload_n 1, 1) := by decide +kernel
theorem dX0_load_25 : decode cX0_load 25 = .ok (.iconst 0, 1) := by decide +kernel
theorem dX0_load_26 : decode cX0_load 26 = .ok (.invokevirtual 95, 3) := by decide +kernel
theorem dX0_load_29 : decode cX0_load 29 = .ok (.istore_n 3, 1) := by decide +kernel
theorem dX0_load_30 : decode cX0_load 30 = .ok (.iload_n 3, 1) := by decide +kernel
theorem dX0_load_31 : decode cX0_load 31 = .ok (.ifCond .ge 10, 3) := by decide +kernel
theorem dX0_load_34 : decode cX0_load 34 = .ok (.aload_n 0, 1) := by decide +kernel
theorem dX0_load_35 : decode cX0_load 35 = .ok (.iload_n 3, 1) := by decide +kernel
theorem dX0_load_36 : decode cX0_load 36 = .ok (.putfield 92, 3) := by decide +kernel
theorem dX0_load_39 : decode cX0_load 39 = .ok (.iconst 0, 1) := by decide +kernel
theorem dX0_load_40 : decode cX0_load 40 = .ok (.ireturn, 1) := by decide +kernel
theorem dX0_load_41 : decode cX0_load 41 = .ok (.aload_n 0, 1) := by decide +kernel
theorem dX0_load_42 : decode cX0_load 42 = .ok (.iconst 0, 1) := by decide +kernel
theorem dX0_load_43 : decode cX0_load 43 = .ok (.putfield 92, 3) := by decide +kernel
theorem dX0_load_46 : decode cX0_load 46 = .ok (.aload_n 0, 1) := by decide +kernel
theorem dX0_load_47 : decode cX0_load 47 = .ok (.iload_n 1, 1) := by decide +kernel
theorem dX0_load_48 : decode cX0_load 48 = .ok (.aload_n 0, 1) := by decide +kernel
theorem dX0_load_49 : decode cX0_load 49 = .ok (.getfield 41, 3) := by decide +kernel
theorem dX0_load_52 : decode cX0_load 52 = .ok (.iload_n 3, 1) := by decide +kernel
theorem dX0_load_53 : decode cX0_load 53 = .ok (.iaload, 1) := by decide +kernel
theorem dX0_load_54 : decode cX0_load 54 = .ok (.iload_n 2, 1) := by decide +kernel
theorem dX0_load_55 : decode cX0_load 55 = .ok (.invokevirtual 99, 3) := by decide +kernel
theorem dX0_load_58 : decode cX0_load 58 = .ok (.istore 4, 2) := by decide +kernel
theorem dX0_load_60 : decode cX0_load 60 = .ok (.aload_n 0, 1) := by decide +kernel
theorem dX0_load_61 : decode cX0_load 61 = .ok (.getfield 35, 3) := by decide +kernel
theorem dX0_load_64 : decode cX0_load 64 = .ok (.iload 4, 2) := by decide +kernel
theorem dX0_load_66 : decode cX0_load 66 = .ok (.iaload, 1) := by decide +kernel
theorem dX0_load_67 : decode cX0_load 67 = .ok (.ireturn, 1) := by decide +kernel
abbrev cX0_translate : ByteArray := prog_1_method_11_code
def yX0_translate : MethodName := ⟨RX0, "translate", "(IZ)I"⟩
theorem dX0_translate_0 : decode cX0_translate 0 = .ok (.aload_n 0, 1) := by decide +kernel
theorem dX0_translate_1 : decode cX0_translate 1 = .ok (.dup, 1) := by decide +kernel
theorem dX0_translate_2 : decode cX0_translate 2 = .ok (.getfield 64, 3) := by decide +kernel
theorem dX0_translate_5 : decode cX0_translate 5 = .ok (.iconst 1, 1) := by decide +kernel
theorem dX0_translate_6 : decode cX0_translate 6 = .ok (.iadd, 1) := by decide +kernel
theorem dX0_translate_7 : decode cX0_translate 7 = .ok (.putfield 64, 3) := by decide +kernel
theorem dX0_translate_10 : decode cX0_translate 10 = .ok (.aload_n 0, 1) := by decide +kernel
theorem dX0_translate_11 : decode cX0_translate 11 = .ok (.iload_n 1, 1) := by decide +kernel
theorem dX0_translate_12 : decode cX0_translate 12 = .ok (.invokevirtual 68, 3) := by decide +kernel
theorem dX0_translate_15 : decode cX0_translate 15 = .ok (.istore_n 3, 1) := by decide +kernel
theorem dX0_translate_16 : decode cX0_translate 16 = .ok (.iload_n 3, 1) := by decide +kernel
theorem dX0_translate_17 : decode cX0_translate 17 = .ok (.ifCond .ge 86, 3) := by decide +kernel
theorem dX0_translate_20 : decode cX0_translate 20 = .ok (.aload_n 0, 1) := by decide +kernel
theorem dX0_translate_21 : decode cX0_translate 21 = .ok (.getfield 13, 3) := by decide +kernel
theorem dX0_translate_24 : decode cX0_translate 24 = .ok (.iload_n 1, 1) := by decide +kernel
theorem dX0_translate_25 : decode cX0_translate 25 = .ok (.iaload, 1) := by decide +kernel
theorem dX0_translate_26 : decode cX0_translate 26 = .ok (.ifCond .ge 6, 3) := by decide +kernel
theorem dX0_translate_29 : decode cX0_translate 29 = .ok (.bipush (-2), 2) := by decide +kernel
theorem dX0_translate_31 : decode cX0_translate 31 = .ok (.ireturn, 1) := by decide +kernel
theorem dX0_translate_32 : decode cX0_translate 32 = .ok (.iload_n 2, 1) := by decide +kernel
theorem dX0_translate_33 : decode cX0_translate 33 = .ok (.ifCond .eq 15, 3) := by decide +kernel
theorem dX0_translate_36 : decode cX0_translate 36 = .ok (.aload_n 0, 1) := by decide +kernel
theorem dX0_translate_37 : decode cX0_translate 37 = .ok (.getfield 16, 3) := by decide +kernel
theorem dX0_translate_40 : decode cX0_translate 40 = .ok (.iload_n 1, 1) := by decide +kernel
theorem dX0_translate_41 : decode cX0_translate 41 = .ok (.baload, 1) := by decide +kernel
theorem dX0_translate_42 : decode cX0_translate 42 = .ok (.ifCond .ne 6, 3) := by decide +kernel
theorem dX0_translate_45 : decode cX0_translate 45 = .ok (.bipush (-3), 2) := by decide +kernel
theorem dX0_translate_47 : decode cX0_translate 47 = .ok (.ireturn, 1) := by decide +kernel
theorem dX0_translate_48 : decode cX0_translate 48 = .ok (.aload_n 0, 1) := by decide +kernel
theorem dX0_translate_49 : decode cX0_translate 49 = .ok (.invokevirtual 72, 3) := by decide +kernel
theorem dX0_translate_52 : decode cX0_translate 52 = .ok (.istore_n 3, 1) := by decide +kernel
theorem dX0_translate_53 : decode cX0_translate 53 = .ok (.aload_n 0, 1) := by decide +kernel
theorem dX0_translate_54 : decode cX0_translate 54 = .ok (.getfield 38, 3) := by decide +kernel
theorem dX0_translate_57 : decode cX0_translate 57 = .ok (.iload_n 3, 1) := by decide +kernel
theorem dX0_translate_58 : decode cX0_translate 58 = .ok (.iload_n 1, 1) := by decide +kernel
theorem dX0_translate_59 : decode cX0_translate 59 = .ok (.iastore, 1) := by decide +kernel
theorem dX0_translate_60 : decode cX0_translate 60 = .ok (.aload_n 0, 1) := by decide +kernel
theorem dX0_translate_61 : decode cX0_translate 61 = .ok (.getfield 41, 3) := by decide +kernel
theorem dX0_translate_64 : decode cX0_translate 64 = .ok (.iload_n 3, 1) := by decide +kernel
theorem dX0_translate_65 : decode cX0_translate 65 = .ok (.aload_n 0, 1) := by decide +kernel
theorem dX0_translate_66 : decode cX0_translate 66 = .ok (.getfield 13, 3) := by decide +kernel
theorem dX0_translate_69 : decode cX0_translate 69 = .ok (.iload_n 1, 1) := by decide +kernel
theorem dX0_translate_70 : decode cX0_translate 70 = .ok (.iaload, 1) := by decide +kernel
theorem dX0_translate_71 : decode cX0_translate 71 = .ok (.iastore, 1) := by decide +kernel
theorem dX0_translate_72 : decode cX0_translate 72 = .ok (.aload_n 0, 1) := by decide +kernel
theorem dX0_translate_73 : decode cX0_translate 73 = .ok (.getfield 44, 3) := by decide +kernel
theorem dX0_translate_76 : decode cX0_translate 76 = .ok (.iload_n 3, 1) := by decide +kernel
theorem dX0_translate_77 : decode cX0_translate 77 = .ok (.aload_n 0, 1) := by decide +kernel
theorem dX0_translate_78 : decode cX0_translate 78 = .ok (.getfield 16, 3) := by decide +kernel
theorem dX0_translate_81 : decode cX0_translate 81 = .ok (.iload_n 1, 1) := by decide +kernel
theorem dX0_translate_82 : decode cX0_translate 82 = .ok (.baload, 1) := by decide +kernel
theorem dX0_translate_83 : decode cX0_translate 83 = .ok (.bastore, 1) := by decide +kernel
theorem dX0_translate_84 : decode cX0_translate 84 = .ok (.aload_n 0, 1) := by decide +kernel
theorem dX0_translate_85 : decode cX0_translate 85 = .ok (.getfield 47, 3) := by decide +kernel
theorem dX0_translate_88 : decode cX0_translate 88 = .ok (.iload_n 3, 1) := by decide +kernel
theorem dX0_translate_89 : decode cX0_translate 89 = .ok (.aload_n 0, 1) := by decide +kernel
theorem dX0_translate_90 : decode cX0_translate 90 = .ok (.getfield 23, 3) := by decide +kernel
theorem dX0_translate_93 : decode cX0_translate 93 = .ok (.iload_n 1, 1) := by decide +kernel
theorem dX0_translate_94 : decode cX0_translate 94 = .ok (.baload, 1) := by decide +kernel
theorem dX0_translate_95 : decode cX0_translate 95 = .ok (.bastore, 1) := by decide +kernel
theorem dX0_translate_96 : decode cX0_translate 96 = .ok (.aload_n 0, 1) := by decide +kernel
theorem dX0_translate_97 : decode cX0_translate 97 = .ok (.getfield 20, 3) := by decide +kernel
theorem dX0_translate_100 : decode cX0_translate 100 = .ok (.iload_n 1, 1) := by decide +kernel
theorem dX0_translate_101 : decode cX0_translate 101 = .ok (.iconst 1, 1) := by decide +kernel
theorem dX0_translate_102 : decode cX0_translate 102 = .ok (.bastore, 1) := by decide +kernel
theorem dX0_translate_103 : decode cX0_translate 103 = .ok (.aload_n 0, 1) := by decide +kernel
theorem dX0_translate_104 : decode cX0_translate 104 = .ok (.getfield 50, 3) := by decide +kernel
theorem dX0_translate_107 : decode cX0_translate 107 = .ok (.iload_n 3, 1) := by decide +kernel
theorem dX0_translate_108 : decode cX0_translate 108 = .ok (.aload_n 0, 1) := by decide +kernel
theorem dX0_translate_109 : decode cX0_translate 109 = .ok (.getfield 64, 3) := by decide +kernel
theorem dX0_translate_112 : decode cX0_translate 112 = .ok (.iastore, 1) := by decide +kernel
theorem dX0_translate_113 : decode cX0_translate 113 = .ok (.iload_n 2, 1) := by decide +kernel
theorem dX0_translate_114 : decode cX0_translate 114 = .ok (.ifCond .eq 38, 3) := by decide +kernel
theorem dX0_translate_117 : decode cX0_translate 117 = .ok (.aload_n 0, 1) := by decide +kernel
theorem dX0_translate_118 : decode cX0_translate 118 = .ok (.getfield 44, 3) := by decide +kernel
theorem dX0_translate_121 : decode cX0_translate 121 = .ok (.iload_n 3, 1) := by decide +kernel
theorem dX0_translate_122 : decode cX0_translate 122 = .ok (.baload, 1) := by decide +kernel
theorem dX0_translate_123 : decode cX0_translate 123 = .ok (.ifCond .ne 6, 3) := by decide +kernel
theorem dX0_translate_126 : decode cX0_translate 126 = .ok (.bipush (-3), 2) := by decide +kernel
theorem dX0_translate_128 : decode cX0_translate 128 = .ok (.ireturn, 1) := by decide +kernel
theorem dX0_translate_129 : decode cX0_translate 129 = .ok (.aload_n 0, 1) := by decide +kernel
theorem dX0_translate_130 : decode cX0_translate 130 = .ok (.getfield 47, 3) := by decide +kernel
theorem dX0_translate_133 : decode cX0_translate 133 = .ok (.iload_n 3, 1) := by decide +kernel
theorem dX0_translate_134 : decode cX0_translate 134 = .ok (.baload, 1) := by decide +kernel
theorem dX0_translate_135 : decode cX0_translate 135 = .ok (.ifCond .ne 17, 3) := by decide +kernel
theorem dX0_translate_138 : decode cX0_translate 138 = .ok (.aload_n 0, 1) := by decide +kernel
theorem dX0_translate_139 : decode cX0_translate 139 = .ok (.getfield 47, 3) := by decide +kernel
theorem dX0_translate_142 : decode cX0_translate 142 = .ok (.iload_n 3, 1) := by decide +kernel
theorem dX0_translate_143 : decode cX0_translate 143 = .ok (.iconst 1, 1) := by decide +kernel
theorem dX0_translate_144 : decode cX0_translate 144 = .ok (.bastore, 1) := by decide +kernel
theorem dX0_translate_145 : decode cX0_translate 145 = .ok (.aload_n 0, 1) := by decide +kernel
theorem dX0_translate_146 : decode cX0_translate 146 = .ok (.getfield 23, 3) := by decide +kernel
theorem dX0_translate_149 : decode cX0_translate 149 = .ok (.iload_n 1, 1) := by decide +kernel
theorem dX0_translate_150 : decode cX0_translate 150 = .ok (.iconst 1, 1) := by decide +kernel
theorem dX0_translate_151 : decode cX0_translate 151 = .ok (.bastore, 1) := by decide +kernel
theorem dX0_translate_152 : decode cX0_translate 152 = .ok (.iload_n 3, 1) := by decide +kernel
theorem dX0_translate_153 : decode cX0_translate 153 = .ok (.ireturn, 1) := by decide +kernel
abbrev cX0_entryOf : ByteArray := prog_1_method_9_code
def yX0_entryOf : MethodName := ⟨RX0, "entryOf", "(I)I"⟩
theorem dX0_entryOf_0 : decode cX0_entryOf 0 = .ok (.iconst (-1), 1) := by decide +kernel
theorem dX0_entryOf_1 : decode cX0_entryOf 1 = .ok (.istore_n 2, 1) := by decide +kernel
theorem dX0_entryOf_2 : decode cX0_entryOf 2 = .ok (.iconst 0, 1) := by decide +kernel
theorem dX0_entryOf_3 : decode cX0_entryOf 3 = .ok (.istore_n 3, 1) := by decide +kernel
theorem dX0_entryOf_4 : decode cX0_entryOf 4 = .ok (.iload_n 3, 1) := by decide +kernel
theorem dX0_entryOf_5 : decode cX0_entryOf 5 = .ok (.iconst 4, 1) := by decide +kernel
theorem dX0_entryOf_6 : decode cX0_entryOf 6 = .ok (.if_icmp .ge 21, 3) := by decide +kernel
theorem dX0_entryOf_9 : decode cX0_entryOf 9 = .ok (.aload_n 0, 1) := by decide +kernel
theorem dX0_entryOf_10 : decode cX0_entryOf 10 = .ok (.getfield 38, 3) := by decide +kernel
theorem dX0_entryOf_13 : decode cX0_entryOf 13 = .ok (.iload_n 3, 1) := by decide +kernel
theorem dX0_entryOf_14 : decode cX0_entryOf 14 = .ok (.iaload, 1) := by decide +kernel
theorem dX0_entryOf_15 : decode cX0_entryOf 15 = .ok (.iload_n 1, 1) := by decide +kernel
theorem dX0_entryOf_16 : decode cX0_entryOf 16 = .ok (.if_icmp .ne 5, 3) := by decide +kernel
theorem dX0_entryOf_19 : decode cX0_entryOf 19 = .ok (.iload_n 3, 1) := by decide +kernel
theorem dX0_entryOf_20 : decode cX0_entryOf 20 = .ok (.istore_n 2, 1) := by decide +kernel
theorem dX0_entryOf_21 : decode cX0_entryOf 21 = .ok (.iinc 3 1, 3) := by decide +kernel
theorem dX0_entryOf_24 : decode cX0_entryOf 24 = .ok (.goto (-20), 3) := by decide +kernel
theorem dX0_entryOf_27 : decode cX0_entryOf 27 = .ok (.iload_n 2, 1) := by decide +kernel
theorem dX0_entryOf_28 : decode cX0_entryOf 28 = .ok (.ireturn, 1) := by decide +kernel
abbrev cX0_oldestEntry : ByteArray := prog_1_method_10_code
def yX0_oldestEntry : MethodName := ⟨RX0, "oldestEntry", "()I"⟩
theorem dX0_oldestEntry_0 : decode cX0_oldestEntry 0 = .ok (.iconst 0, 1) := by decide +kernel
theorem dX0_oldestEntry_1 : decode cX0_oldestEntry 1 = .ok (.istore_n 1, 1) := by decide +kernel
theorem dX0_oldestEntry_2 : decode cX0_oldestEntry 2 = .ok (.iconst 0, 1) := by decide +kernel
theorem dX0_oldestEntry_3 : decode cX0_oldestEntry 3 = .ok (.istore_n 2, 1) := by decide +kernel
theorem dX0_oldestEntry_4 : decode cX0_oldestEntry 4 = .ok (.iload_n 2, 1) := by decide +kernel
theorem dX0_oldestEntry_5 : decode cX0_oldestEntry 5 = .ok (.iconst 4, 1) := by decide +kernel
theorem dX0_oldestEntry_6 : decode cX0_oldestEntry 6 = .ok (.if_icmp .ge 37, 3) := by decide +kernel
theorem dX0_oldestEntry_9 : decode cX0_oldestEntry 9 = .ok (.aload_n 0, 1) := by decide +kernel
theorem dX0_oldestEntry_10 : decode cX0_oldestEntry 10 = .ok (.getfield 38, 3) := by decide +kernel
theorem dX0_oldestEntry_13 : decode cX0_oldestEntry 13 = .ok (.iload_n 2, 1) := by decide +kernel
theorem dX0_oldestEntry_14 : decode cX0_oldestEntry 14 = .ok (.iaload, 1) := by decide +kernel
theorem dX0_oldestEntry_15 : decode cX0_oldestEntry 15 = .ok (.ifCond .ge 5, 3) := by decide +kernel
theorem dX0_oldestEntry_18 : decode cX0_oldestEntry 18 = .ok (.iload_n 2, 1) := by decide +kernel
theorem dX0_oldestEntry_19 : decode cX0_oldestEntry 19 = .ok (.ireturn, 1) := by decide +kernel
theorem dX0_oldestEntry_20 : decode cX0_oldestEntry 20 = .ok (.aload_n 0, 1) := by decide +kernel
theorem dX0_oldestEntry_21 : decode cX0_oldestEntry 21 = .ok (.getfield 50, 3) := by decide +kernel
theorem dX0_oldestEntry_24 : decode cX0_oldestEntry 24 = .ok (.iload_n 2, 1) := by decide +kernel
theorem dX0_oldestEntry_25 : decode cX0_oldestEntry 25 = .ok (.iaload, 1) := by decide +kernel
theorem dX0_oldestEntry_26 : decode cX0_oldestEntry 26 = .ok (.aload_n 0, 1) := by decide +kernel
theorem dX0_oldestEntry_27 : decode cX0_oldestEntry 27 = .ok (.getfield 50, 3) := by decide +kernel
theorem dX0_oldestEntry_30 : decode cX0_oldestEntry 30 = .ok (.iload_n 1, 1) := by decide +kernel
theorem dX0_oldestEntry_31 : decode cX0_oldestEntry 31 = .ok (.iaload, 1) := by decide +kernel
theorem dX0_oldestEntry_32 : decode cX0_oldestEntry 32 = .ok (.if_icmp .ge 5, 3) := by decide +kernel
theorem dX0_oldestEntry_35 : decode cX0_oldestEntry 35 = .ok (.iload_n 2, 1) := by decide +kernel
theorem dX0_oldestEntry_36 : decode cX0_oldestEntry 36 = .ok (.istore_n 1, 1) := by decide +kernel
theorem dX0_oldestEntry_37 : decode cX0_oldestEntry 37 = .ok (.iinc 2 1, 3) := by decide +kernel
theorem dX0_oldestEntry_40 : decode cX0_oldestEntry 40 = .ok (.goto (-36), 3) := by decide +kernel
theorem dX0_oldestEntry_43 : decode cX0_oldestEntry 43 = .ok (.iload_n 1, 1) := by decide +kernel
theorem dX0_oldestEntry_44 : decode cX0_oldestEntry 44 = .ok (.ireturn, 1) := by decide +kernel
abbrev cX0_reach : ByteArray := prog_1_method_17_code
def yX0_reach : MethodName := ⟨RX0, "reach", "(III)I"⟩
theorem dX0_reach_0 : decode cX0_reach 0 = .ok (.iload_n 3, 1) := by decide +kernel
theorem dX0_reach_1 : decode cX0_reach 1 = .ok (.iconst 2, 1) := by decide +kernel
theorem dX0_reach_2 : decode cX0_reach 2 = .ok (.ishr, 1) := by decide +kernel
theorem dX0_reach_3 : decode cX0_reach 3 = .ok (.istore 4, 2) := by decide +kernel
theorem dX0_reach_5 : decode cX0_reach 5 = .ok (.aload_n 0, 1) := by decide +kernel
theorem dX0_reach_6 : decode cX0_reach 6 = .ok (.iload_n 1, 1) := by decide +kernel
theorem dX0_reach_7 : decode cX0_reach 7 = .ok (.iconst 3, 1) := by decide +kernel
theorem dX0_reach_8 : decode cX0_reach 8 = .ok (.iand, 1) := by decide +kernel
theorem dX0_reach_9 : decode cX0_reach 9 = .ok (.iconst 2, 1) := by decide +kernel
theorem dX0_reach_10 : decode cX0_reach 10 = .ok (.imul, 1) := by decide +kernel
theorem dX0_reach_11 : decode cX0_reach 11 = .ok (.iload 4, 2) := by decide +kernel
theorem dX0_reach_13 : decode cX0_reach 13 = .ok (.iadd, 1) := by decide +kernel
theorem dX0_reach_14 : decode cX0_reach 14 = .ok (.iload_n 2, 1) := by decide +kernel
theorem dX0_reach_15 : decode cX0_reach 15 = .ok (.iconst 2, 1) := by decide +kernel
theorem dX0_reach_16 : decode cX0_reach 16 = .ok (.imul, 1) := by decide +kernel
theorem dX0_reach_17 : decode cX0_reach 17 = .ok (.iload 4, 2) := by decide +kernel
theorem dX0_reach_19 : decode cX0_reach 19 = .ok (.iadd, 1) := by decide +kernel
theorem dX0_reach_20 : decode cX0_reach 20 = .ok (.invokevirtual 89, 3) := by decide +kernel
theorem dX0_reach_23 : decode cX0_reach 23 = .ok (.istore 5, 2) := by decide +kernel
theorem dX0_reach_25 : decode cX0_reach 25 = .ok (.iload 5, 2) := by decide +kernel
theorem dX0_reach_27 : decode cX0_reach 27 = .ok (.iconst 4, 1) := by decide +kernel
theorem dX0_reach_28 : decode cX0_reach 28 = .ok (.imul, 1) := by decide +kernel
theorem dX0_reach_29 : decode cX0_reach 29 = .ok (.iload_n 3, 1) := by decide +kernel
theorem dX0_reach_30 : decode cX0_reach 30 = .ok (.iconst 3, 1) := by decide +kernel
theorem dX0_reach_31 : decode cX0_reach 31 = .ok (.iand, 1) := by decide +kernel
theorem dX0_reach_32 : decode cX0_reach 32 = .ok (.iadd, 1) := by decide +kernel
theorem dX0_reach_33 : decode cX0_reach 33 = .ok (.ireturn, 1) := by decide +kernel
abbrev cX0_bring : ByteArray := prog_1_method_16_code
def yX0_bring : MethodName := ⟨RX0, "bring", "(II)I"⟩
theorem dX0_bring_0 : decode cX0_bring 0 = .ok (.aload_n 0, 1) := by decide +kernel
theorem dX0_bring_1 : decode cX0_bring 1 = .ok (.dup, 1) := by decide +kernel
theorem dX0_bring_2 : decode cX0_bring 2 = .ok (.getfield 64, 3) := by decide +kernel
theorem dX0_bring_5 : decode cX0_bring 5 = .ok (.iconst 1, 1) := by decide +kernel
theorem dX0_bring_6 : decode cX0_bring 6 = .ok (.iadd, 1) := by decide +kernel
theorem dX0_bring_7 : decode cX0_bring 7 = .ok (.putfield 64, 3) := by decide +kernel
theorem dX0_bring_10 : decode cX0_bring 10 = .ok (.aload_n 0, 1) := by decide +kernel
theorem dX0_bring_11 : decode cX0_bring 11 = .ok (.iload_n 1, 1) := by decide +kernel
theorem dX0_bring_12 : decode cX0_bring 12 = .ok (.iload_n 2, 1) := by decide +kernel
theorem dX0_bring_13 : decode cX0_bring 13 = .ok (.invokevirtual 76, 3) := by decide +kernel
theorem dX0_bring_16 : decode cX0_bring 16 = .ok (.istore_n 3, 1) := by decide +kernel
theorem dX0_bring_17 : decode cX0_bring 17 = .ok (.iload_n 3, 1) := by decide +kernel
theorem dX0_bring_18 : decode cX0_bring 18 = .ok (.ifCond .ge 134, 3) := by decide +kernel
theorem dX0_bring_21 : decode cX0_bring 21 = .ok (.aload_n 0, 1) := by decide +kernel
theorem dX0_bring_22 : decode cX0_bring 22 = .ok (.iload_n 2, 1) := by decide +kernel
theorem dX0_bring_23 : decode cX0_bring 23 = .ok (.invokevirtual 83, 3) := by decide +kernel
theorem dX0_bring_26 : decode cX0_bring 26 = .ok (.istore 4, 2) := by decide +kernel
theorem dX0_bring_28 : decode cX0_bring 28 = .ok (.aload_n 0, 1) := by decide +kernel
theorem dX0_bring_29 : decode cX0_bring 29 = .ok (.iload_n 1, 1) := by decide +kernel
theorem dX0_bring_30 : decode cX0_bring 30 = .ok (.invokevirtual 86, 3) := by decide +kernel
theorem dX0_bring_33 : decode cX0_bring 33 = .ok (.istore_n 3, 1) := by decide +kernel
theorem dX0_bring_34 : decode cX0_bring 34 = .ok (.iload 4, 2) := by decide +kernel
theorem dX0_bring_36 : decode cX0_bring 36 = .ok (.ifCond .lt 65, 3) := by decide +kernel
theorem dX0_bring_39 : decode cX0_bring 39 = .ok (.aload_n 0, 1) := by decide +kernel
theorem dX0_bring_40 : decode cX0_bring 40 = .ok (.getfield 29, 3) := by decide +kernel
theorem dX0_bring_43 : decode cX0_bring 43 = .ok (.iload_n 3, 1) := by decide +kernel
theorem dX0_bring_44 : decode cX0_bring 44 = .ok (.aload_n 0, 1) := by decide +kernel
theorem dX0_bring_45 : decode cX0_bring 45 = .ok (.getfield 29, 3) := by decide +kernel
theorem dX0_bring_48 : decode cX0_bring 48 = .ok (.iload 4, 2) := by decide +kernel
theorem dX0_bring_50 : decode cX0_bring 50 = .ok (.baload, 1) := by decide +kernel
theorem dX0_bring_51 : decode cX0_bring 51 = .ok (.bastore, 1) := by decide +kernel
theorem dX0_bring_52 : decode cX0_bring 52 = .ok (.iconst 0, 1) := by decide +kernel
theorem dX0_bring_53 : decode cX0_bring 53 = .ok (.istore 5, 2) := by decide +kernel
theorem dX0_bring_55 : decode cX0_bring 55 = .ok (.iload 5, 2) := by decide +kernel
theorem dX0_bring_57 : decode cX0_bring 57 = .ok (.iconst 4, 1) := by decide +kernel
theorem dX0_bring_58 : decode cX0_bring 58 = .ok (.if_icmp .ge 32, 3) := by decide +kernel
theorem dX0_bring_61 : decode cX0_bring 61 = .ok (.aload_n 0, 1) := by decide +kernel
theorem dX0_bring_62 : decode cX0_bring 62 = .ok (.getfield 35, 3) := by decide +kernel
theorem dX0_bring_65 : decode cX0_bring 65 = .ok (.iload_n 3, 1) := by decide +kernel
theorem dX0_bring_66 : decode cX0_bring 66 = .ok (.iconst 4, 1) := by decide +kernel
theorem dX0_bring_67 : decode cX0_bring 67 = .ok (.imul, 1) := by decide +kernel
theorem dX0_bring_68 : decode cX0_bring 68 = .ok (.iload 5, 2) := by decide +kernel
theorem dX0_bring_70 : decode cX0_bring 70 = .ok (.iadd, 1) := by decide +kernel
theorem dX0_bring_71 : decode cX0_bring 71 = .ok (.aload_n 0, 1) := by decide +kernel
theorem dX0_bring_72 : decode cX0_bring 72 = .ok (.getfield 35, 3) := by decide +kernel
theorem dX0_bring_75 : decode cX0_bring 75 = .ok (.iload 4, 2) := by decide +kernel
theorem dX0_bring_77 : decode cX0_bring 77 = .ok (.iconst 4, 1) := by decide +kernel
theorem dX0_bring_78 : decode cX0_bring 78 = .ok (.imul, 1) := by decide +kernel
theorem dX0_bring_79 : decode cX0_bring 79 = .ok (.iload 5, 2) := by decide +kernel
theorem dX0_bring_81 : decode cX0_bring 81 = .ok (.iadd, 1) := by decide +kernel
theorem dX0_bring_82 : decode cX0_bring 82 = .ok (.iaload, 1) := by decide +kernel
theorem dX0_bring_83 : decode cX0_bring 83 = .ok (.iastore, 1) := by decide +kernel
theorem dX0_bring_84 : decode cX0_bring 84 = .ok (.iinc 5 1, 3) := by decide +kernel
theorem dX0_bring_87 : decode cX0_bring 87 = .ok (.goto (-32), 3) := by decide +kernel
theorem dX0_bring_90 : decode cX0_bring 90 = .ok (.aload_n 0, 1) := by decide +kernel
theorem dX0_bring_91 : decode cX0_bring 91 = .ok (.getfield 26, 3) := by decide +kernel
theorem dX0_bring_94 : decode cX0_bring 94 = .ok (.iload 4, 2) := by decide +kernel
theorem dX0_bring_96 : decode cX0_bring 96 = .ok (.iconst (-1), 1) := by decide +kernel
theorem dX0_bring_97 : decode cX0_bring 97 = .ok (.iastore, 1) := by decide +kernel
theorem dX0_bring_98 : decode cX0_bring 98 = .ok (.goto 47, 3) := by decide +kernel
theorem dX0_bring_101 : decode cX0_bring 101 = .ok (.aload_n 0, 1) := by decide +kernel
theorem dX0_bring_102 : decode cX0_bring 102 = .ok (.getfield 29, 3) := by decide +kernel
theorem dX0_bring_105 : decode cX0_bring 105 = .ok (.iload_n 3, 1) := by decide +kernel
theorem dX0_bring_106 : decode cX0_bring 106 = .ok (.iconst 0, 1) := by decide +kernel
theorem dX0_bring_107 : decode cX0_bring 107 = .ok (.bastore, 1) := by decide +kernel
theorem dX0_bring_108 : decode cX0_bring 108 = .ok (.iconst 0, 1) := by decide +kernel
theorem dX0_bring_109 : decode cX0_bring 109 = .ok (.istore 5, 2) := by decide +kernel
theorem dX0_bring_111 : decode cX0_bring 111 = .ok (.iload 5, 2) := by decide +kernel
theorem dX0_bring_113 : decode cX0_bring 113 = .ok (.iconst 4, 1) := by decide +kernel
theorem dX0_bring_114 : decode cX0_bring 114 = .ok (.if_icmp .ge 31, 3) := by decide +kernel
theorem dX0_bring_117 : decode cX0_bring 117 = .ok (.aload_n 0, 1) := by decide +kernel
theorem dX0_bring_118 : decode cX0_bring 118 = .ok (.getfield 35, 3) := by decide +kernel
theorem dX0_bring_121 : decode cX0_bring 121 = .ok (.iload_n 3, 1) := by decide +kernel
theorem dX0_bring_122 : decode cX0_bring 122 = .ok (.iconst 4, 1) := by decide +kernel
theorem dX0_bring_123 : decode cX0_bring 123 = .ok (.imul, 1) := by decide +kernel
theorem dX0_bring_124 : decode cX0_bring 124 = .ok (.iload 5, 2) := by decide +kernel
theorem dX0_bring_126 : decode cX0_bring 126 = .ok (.iadd, 1) := by decide +kernel
theorem dX0_bring_127 : decode cX0_bring 127 = .ok (.aload_n 0, 1) := by decide +kernel
theorem dX0_bring_128 : decode cX0_bring 128 = .ok (.getfield 7, 3) := by decide +kernel
theorem dX0_bring_131 : decode cX0_bring 131 = .ok (.iload_n 2, 1) := by decide +kernel
theorem dX0_bring_132 : decode cX0_bring 132 = .ok (.iconst 4, 1) := by decide +kernel
theorem dX0_bring_133 : decode cX0_bring 133 = .ok (.imul, 1) := by decide +kernel
theorem dX0_bring_134 : decode cX0_bring 134 = .ok (.iload 5, 2) := by decide +kernel
theorem dX0_bring_136 : decode cX0_bring 136 = .ok (.iadd, 1) := by decide +kernel
theorem dX0_bring_137 : decode cX0_bring 137 = .ok (.iaload, 1) := by decide +kernel
theorem dX0_bring_138 : decode cX0_bring 138 = .ok (.iastore, 1) := by decide +kernel
theorem dX0_bring_139 : decode cX0_bring 139 = .ok (.iinc 5 1, 3) := by decide +kernel
theorem dX0_bring_142 : decode cX0_bring 142 = .ok (.goto (-31), 3) := by decide +kernel
theorem dX0_bring_145 : decode cX0_bring 145 = .ok (.aload_n 0, 1) := by decide +kernel
theorem dX0_bring_146 : decode cX0_bring 146 = .ok (.getfield 26, 3) := by decide +kernel
theorem dX0_bring_149 : decode cX0_bring 149 = .ok (.iload_n 3, 1) := by decide +kernel
theorem dX0_bring_150 : decode cX0_bring 150 = .ok (.iload_n 2, 1) := by decide +kernel
theorem dX0_bring_151 : decode cX0_bring 151 = .ok (.iastore, 1) := by decide +kernel
theorem dX0_bring_152 : decode cX0_bring 152 = .ok (.aload_n 0, 1) := by decide +kernel
theorem dX0_bring_153 : decode cX0_bring 153 = .ok (.getfield 32, 3) := by decide +kernel
theorem dX0_bring_156 : decode cX0_bring 156 = .ok (.iload_n 3, 1) := by decide +kernel
theorem dX0_bring_157 : decode cX0_bring 157 = .ok (.aload_n 0, 1) := by decide +kernel
theorem dX0_bring_158 : decode cX0_bring 158 = .ok (.getfield 64, 3) := by decide +kernel
theorem dX0_bring_161 : decode cX0_bring 161 = .ok (.iastore, 1) := by decide +kernel
theorem dX0_bring_162 : decode cX0_bring 162 = .ok (.iload_n 3, 1) := by decide +kernel
theorem dX0_bring_163 : decode cX0_bring 163 = .ok (.ireturn, 1) := by decide +kernel
end
section
set_option maxRecDepth 100000
abbrev cX0_lineIn : ByteArray := prog_1_method_13_code
def yX0_lineIn : MethodName := ⟨RX0, "lineIn", "(II)I"⟩
theorem dX0_lineIn_0 : decode cX0_lineIn 0 = .ok (.aload_n 0, 1) := by decide +kernel
theorem dX0_lineIn_1 : decode cX0_lineIn 1 = .ok (.getfield 26, 3) := by decide +kernel
theorem dX0_lineIn_4 : decode cX0_lineIn 4 = .ok (.iload_n 1, 1) := by decide +kernel
theorem dX0_lineIn_5 : decode cX0_lineIn 5 = .ok (.iconst 2, 1) := by decide +kernel
theorem dX0_lineIn_6 : decode cX0_lineIn 6 = .ok (.imul, 1) := by decide +kernel
theorem dX0_lineIn_7 : decode cX0_lineIn 7 = .ok (.iaload, 1) := by decide +kernel
theorem dX0_lineIn_8 : decode cX0_lineIn 8 = .ok (.iload_n 2, 1) := by decide +kernel
theorem dX0_lineIn_9 : decode cX0_lineIn 9 = .ok (.if_icmp .ne 7, 3) := by decide +kernel
theorem dX0_lineIn_12 : decode cX0_lineIn 12 = .ok (.iload_n 1, 1) := by decide +kernel
theorem dX0_lineIn_13 : decode cX0_lineIn 13 = .ok (.iconst 2, 1) := by decide +kernel
theorem dX0_lineIn_14 : decode cX0_lineIn 14 = .ok (.imul, 1) := by decide +kernel
theorem dX0_lineIn_15 : decode cX0_lineIn 15 = .ok (.ireturn, 1) := by decide +kernel
theorem dX0_lineIn_16 : decode cX0_lineIn 16 = .ok (.aload_n 0, 1) := by decide +kernel
theorem dX0_lineIn_17 : decode cX0_lineIn 17 = .ok (.getfield 26, 3) := by decide +kernel
theorem dX0_lineIn_20 : decode cX0_lineIn 20 = .ok (.iload_n 1, 1) := by decide +kernel
theorem dX0_lineIn_21 : decode cX0_lineIn 21 = .ok (.iconst 2, 1) := by decide +kernel
theorem dX0_lineIn_22 : decode cX0_lineIn 22 = .ok (.imul, 1) := by decide +kernel
theorem dX0_lineIn_23 : decode cX0_lineIn 23 = .ok (.iconst 1, 1) := by decide +kernel
theorem dX0_lineIn_24 : decode cX0_lineIn 24 = .ok (.iadd, 1) := by decide +kernel
theorem dX0_lineIn_25 : decode cX0_lineIn 25 = .ok (.iaload, 1) := by decide +kernel
theorem dX0_lineIn_26 : decode cX0_lineIn 26 = .ok (.iload_n 2, 1) := by decide +kernel
theorem dX0_lineIn_27 : decode cX0_lineIn 27 = .ok (.if_icmp .ne 11, 3) := by decide +kernel
theorem dX0_lineIn_30 : decode cX0_lineIn 30 = .ok (.iload_n 1, 1) := by decide +kernel
theorem dX0_lineIn_31 : decode cX0_lineIn 31 = .ok (.iconst 2, 1) := by decide +kernel
theorem dX0_lineIn_32 : decode cX0_lineIn 32 = .ok (.imul, 1) := by decide +kernel
theorem dX0_lineIn_33 : decode cX0_lineIn 33 = .ok (.iconst 1, 1) := by decide +kernel
theorem dX0_lineIn_34 : decode cX0_lineIn 34 = .ok (.iadd, 1) := by decide +kernel
theorem dX0_lineIn_35 : decode cX0_lineIn 35 = .ok (.goto 4, 3) := by decide +kernel
theorem dX0_lineIn_38 : decode cX0_lineIn 38 = .ok (.iconst (-1), 1) := by decide +kernel
theorem dX0_lineIn_39 : decode cX0_lineIn 39 = .ok (.ireturn, 1) := by decide +kernel
abbrev cX0_lineAnywhere : ByteArray := prog_1_method_14_code
def yX0_lineAnywhere : MethodName := ⟨RX0, "lineAnywhere", "(I)I"⟩
theorem dX0_lineAnywhere_0 : decode cX0_lineAnywhere 0 = .ok (.iconst (-1), 1) := by decide +kernel
theorem dX0_lineAnywhere_1 : decode cX0_lineAnywhere 1 = .ok (.istore_n 2, 1) := by decide +kernel
theorem dX0_lineAnywhere_2 : decode cX0_lineAnywhere 2 = .ok (.iconst 0, 1) := by decide +kernel
theorem dX0_lineAnywhere_3 : decode cX0_lineAnywhere 3 = .ok (.istore_n 3, 1) := by decide +kernel
theorem dX0_lineAnywhere_4 : decode cX0_lineAnywhere 4 = .ok (.iload_n 3, 1) := by decide +kernel
theorem dX0_lineAnywhere_5 : decode cX0_lineAnywhere 5 = .ok (.iconst 4, 1) := by decide +kernel
theorem dX0_lineAnywhere_6 : decode cX0_lineAnywhere 6 = .ok (.if_icmp .ge 31, 3) := by decide +kernel
theorem dX0_lineAnywhere_9 : decode cX0_lineAnywhere 9 = .ok (.aload_n 0, 1) := by decide +kernel
theorem dX0_lineAnywhere_10 : decode cX0_lineAnywhere 10 = .ok (.iload_n 3, 1) := by decide +kernel
theorem dX0_lineAnywhere_11 : decode cX0_lineAnywhere 11 = .ok (.iconst 2, 1) := by decide +kernel
theorem dX0_lineAnywhere_12 : decode cX0_lineAnywhere 12 = .ok (.imul, 1) := by decide +kernel
theorem dX0_lineAnywhere_13 : decode cX0_lineAnywhere 13 = .ok (.iload_n 1, 1) := by decide +kernel
theorem dX0_lineAnywhere_14 : decode cX0_lineAnywhere 14 = .ok (.iconst 1, 1) := by decide +kernel
theorem dX0_lineAnywhere_15 : decode cX0_lineAnywhere 15 = .ok (.iand, 1) := by decide +kernel
theorem dX0_lineAnywhere_16 : decode cX0_lineAnywhere 16 = .ok (.iadd, 1) := by decide +kernel
theorem dX0_lineAnywhere_17 : decode cX0_lineAnywhere 17 = .ok (.iload_n 1, 1) := by decide +kernel
theorem dX0_lineAnywhere_18 : decode cX0_lineAnywhere 18 = .ok (.invokevirtual 76, 3) := by decide +kernel
theorem dX0_lineAnywhere_21 : decode cX0_lineAnywhere 21 = .ok (.istore 4, 2) := by decide +kernel
theorem dX0_lineAnywhere_23 : decode cX0_lineAnywhere 23 = .ok (.iload 4, 2) := by decide +kernel
theorem dX0_lineAnywhere_25 : decode cX0_lineAnywhere 25 = .ok (.ifCond .lt 6, 3) := by decide +kernel
theorem dX0_lineAnywhere_28 : decode cX0_lineAnywhere 28 = .ok (.iload 4, 2) := by decide +kernel
theorem dX0_lineAnywhere_30 : decode cX0_lineAnywhere 30 = .ok (.istore_n 2, 1) := by decide +kernel
theorem dX0_lineAnywhere_31 : decode cX0_lineAnywhere 31 = .ok (.iinc 3 1, 3) := by decide +kernel
theorem dX0_lineAnywhere_34 : decode cX0_lineAnywhere 34 = .ok (.goto (-30), 3) := by decide +kernel
theorem dX0_lineAnywhere_37 : decode cX0_lineAnywhere 37 = .ok (.iload_n 2, 1) := by decide +kernel
theorem dX0_lineAnywhere_38 : decode cX0_lineAnywhere 38 = .ok (.ireturn, 1) := by decide +kernel
abbrev cX0_victim : ByteArray := prog_1_method_15_code
def yX0_victim : MethodName := ⟨RX0, "victim", "(I)I"⟩
theorem dX0_victim_0 : decode cX0_victim 0 = .ok (.iload_n 1, 1) := by decide +kernel
theorem dX0_victim_1 : decode cX0_victim 1 = .ok (.iconst 2, 1) := by decide +kernel
theorem dX0_victim_2 : decode cX0_victim 2 = .ok (.imul, 1) := by decide +kernel
theorem dX0_victim_3 : decode cX0_victim 3 = .ok (.istore_n 2, 1) := by decide +kernel
theorem dX0_victim_4 : decode cX0_victim 4 = .ok (.iload_n 2, 1) := by decide +kernel
theorem dX0_victim_5 : decode cX0_victim 5 = .ok (.iconst 1, 1) := by decide +kernel
theorem dX0_victim_6 : decode cX0_victim 6 = .ok (.iadd, 1) := by decide +kernel
theorem dX0_victim_7 : decode cX0_victim 7 = .ok (.istore_n 3, 1) := by decide +kernel
theorem dX0_victim_8 : decode cX0_victim 8 = .ok (.iload_n 2, 1) := by decide +kernel
theorem dX0_victim_9 : decode cX0_victim 9 = .ok (.istore 4, 2) := by decide +kernel
theorem dX0_victim_11 : decode cX0_victim 11 = .ok (.aload_n 0, 1) := by decide +kernel
theorem dX0_victim_12 : decode cX0_victim 12 = .ok (.getfield 26, 3) := by decide +kernel
theorem dX0_victim_15 : decode cX0_victim 15 = .ok (.iload_n 2, 1) := by decide +kernel
theorem dX0_victim_16 : decode cX0_victim 16 = .ok (.iaload, 1) := by decide +kernel
theorem dX0_victim_17 : decode cX0_victim 17 = .ok (.ifCond .lt 30, 3) := by decide +kernel
theorem dX0_victim_20 : decode cX0_victim 20 = .ok (.aload_n 0, 1) := by decide +kernel
theorem dX0_victim_21 : decode cX0_victim 21 = .ok (.getfield 26, 3) := by decide +kernel
theorem dX0_victim_24 : decode cX0_victim 24 = .ok (.iload_n 3, 1) := by decide +kernel
theorem dX0_victim_25 : decode cX0_victim 25 = .ok (.iaload, 1) := by decide +kernel
theorem dX0_victim_26 : decode cX0_victim 26 = .ok (.ifCond .lt 18, 3) := by decide +kernel
theorem dX0_victim_29 : decode cX0_victim 29 = .ok (.aload_n 0, 1) := by decide +kernel
theorem dX0_victim_30 : decode cX0_victim 30 = .ok (.getfield 32, 3) := by decide +kernel
theorem dX0_victim_33 : decode cX0_victim 33 = .ok (.iload_n 3, 1) := by decide +kernel
theorem dX0_victim_34 : decode cX0_victim 34 = .ok (.iaload, 1) := by decide +kernel
theorem dX0_victim_35 : decode cX0_victim 35 = .ok (.aload_n 0, 1) := by decide +kernel
theorem dX0_victim_36 : decode cX0_victim 36 = .ok (.getfield 32, 3) := by decide +kernel
theorem dX0_victim_39 : decode cX0_victim 39 = .ok (.iload_n 2, 1) := by decide +kernel
theorem dX0_victim_40 : decode cX0_victim 40 = .ok (.iaload, 1) := by decide +kernel
theorem dX0_victim_41 : decode cX0_victim 41 = .ok (.if_icmp .ge 6, 3) := by decide +kernel
theorem dX0_victim_44 : decode cX0_victim 44 = .ok (.iload_n 3, 1) := by decide +kernel
theorem dX0_victim_45 : decode cX0_victim 45 = .ok (.istore 4, 2) := by decide +kernel
theorem dX0_victim_47 : decode cX0_victim 47 = .ok (.aload_n 0, 1) := by decide +kernel
theorem dX0_victim_48 : decode cX0_victim 48 = .ok (.iload 4, 2) := by decide +kernel
theorem dX0_victim_50 : decode cX0_victim 50 = .ok (.invokevirtual 80, 3) := by decide +kernel
theorem dX0_victim_53 : decode cX0_victim 53 = .ok (.aload_n 0, 1) := by decide +kernel
theorem dX0_victim_54 : decode cX0_victim 54 = .ok (.getfield 26, 3) := by decide +kernel
theorem dX0_victim_57 : decode cX0_victim 57 = .ok (.iload 4, 2) := by decide +kernel
theorem dX0_victim_59 : decode cX0_victim 59 = .ok (.iconst (-1), 1) := by decide +kernel
theorem dX0_victim_60 : decode cX0_victim 60 = .ok (.iastore, 1) := by decide +kernel
theorem dX0_victim_61 : decode cX0_victim 61 = .ok (.iload 4, 2) := by decide +kernel
theorem dX0_victim_63 : decode cX0_victim 63 = .ok (.ireturn, 1) := by decide +kernel
abbrev cX0_writeBack : ByteArray := prog_1_method_12_code
def yX0_writeBack : MethodName := ⟨RX0, "writeBack", "(I)V"⟩
theorem dX0_writeBack_0 : decode cX0_writeBack 0 = .ok (.aload_n 0, 1) := by decide +kernel
theorem dX0_writeBack_1 : decode cX0_writeBack 1 = .ok (.getfield 26, 3) := by decide +kernel
theorem dX0_writeBack_4 : decode cX0_writeBack 4 = .ok (.iload_n 1, 1) := by decide +kernel
theorem dX0_writeBack_5 : decode cX0_writeBack 5 = .ok (.iaload, 1) := by decide +kernel
theorem dX0_writeBack_6 : decode cX0_writeBack 6 = .ok (.ifCond .lt 57, 3) := by decide +kernel
theorem dX0_writeBack_9 : decode cX0_writeBack 9 = .ok (.aload_n 0, 1) := by decide +kernel
theorem dX0_writeBack_10 : decode cX0_writeBack 10 = .ok (.getfield 29, 3) := by decide +kernel
theorem dX0_writeBack_13 : decode cX0_writeBack 13 = .ok (.iload_n 1, 1) := by decide +kernel
theorem dX0_writeBack_14 : decode cX0_writeBack 14 = .ok (.baload, 1) := by decide +kernel
theorem dX0_writeBack_15 : decode cX0_writeBack 15 = .ok (.ifCond .eq 48, 3) := by decide +kernel
theorem dX0_writeBack_18 : decode cX0_writeBack 18 = .ok (.iconst 0, 1) := by decide +kernel
theorem dX0_writeBack_19 : decode cX0_writeBack 19 = .ok (.istore_n 2, 1) := by decide +kernel
theorem dX0_writeBack_20 : decode cX0_writeBack 20 = .ok (.iload_n 2, 1) := by decide +kernel
theorem dX0_writeBack_21 : decode cX0_writeBack 21 = .ok (.iconst 4, 1) := by decide +kernel
theorem dX0_writeBack_22 : decode cX0_writeBack 22 = .ok (.if_icmp .ge 34, 3) := by decide +kernel
theorem dX0_writeBack_25 : decode cX0_writeBack 25 = .ok (.aload_n 0, 1) := by decide +kernel
theorem dX0_writeBack_26 : decode cX0_writeBack 26 = .ok (.getfield 7, 3) := by decide +kernel
theorem dX0_writeBack_29 : decode cX0_writeBack 29 = .ok (.aload_n 0, 1) := by decide +kernel
theorem dX0_writeBack_30 : decode cX0_writeBack 30 = .ok (.getfield 26, 3) := by decide +kernel
theorem dX0_writeBack_33 : decode cX0_writeBack 33 = .ok (.iload_n 1, 1) := by decide +kernel
theorem dX0_writeBack_34 : decode cX0_writeBack 34 = .ok (.iaload, 1) := by decide +kernel
theorem dX0_writeBack_35 : decode cX0_writeBack 35 = .ok (.iconst 4, 1) := by decide +kernel
theorem dX0_writeBack_36 : decode cX0_writeBack 36 = .ok (.imul, 1) := by decide +kernel
theorem dX0_writeBack_37 : decode cX0_writeBack 37 = .ok (.iload_n 2, 1) := by decide +kernel
theorem dX0_writeBack_38 : decode cX0_writeBack 38 = .ok (.iadd, 1) := by decide +kernel
theorem dX0_writeBack_39 : decode cX0_writeBack 39 = .ok (.aload_n 0, 1) := by decide +kernel
theorem dX0_writeBack_40 : decode cX0_writeBack 40 = .ok (.getfield 35, 3) := by decide +kernel
theorem dX0_writeBack_43 : decode cX0_writeBack 43 = .ok (.iload_n 1, 1) := by decide +kernel
theorem dX0_writeBack_44 : decode cX0_writeBack 44 = .ok (.iconst 4, 1) := by decide +kernel
theorem dX0_writeBack_45 : decode cX0_writeBack 45 = .ok (.imul, 1) := by decide +kernel
theorem dX0_writeBack_46 : decode cX0_writeBack 46 = .ok (.iload_n 2, 1) := by decide +kernel
theorem dX0_writeBack_47 : decode cX0_writeBack 47 = .ok (.iadd, 1) := by decide +kernel
theorem dX0_writeBack_48 : decode cX0_writeBack 48 = .ok (.iaload, 1) := by decide +kernel
theorem dX0_writeBack_49 : decode cX0_writeBack 49 = .ok (.iastore, 1) := by decide +kernel
theorem dX0_writeBack_50 : decode cX0_writeBack 50 = .ok (.iinc 2 1, 3) := by decide +kernel
theorem dX0_writeBack_53 : decode cX0_writeBack 53 = .ok (.goto (-33), 3) := by decide +kernel
theorem dX0_writeBack_56 : decode cX0_writeBack 56 = .ok (.aload_n 0, 1) := by decide +kernel
theorem dX0_writeBack_57 : decode cX0_writeBack 57 = .ok (.getfield 29, 3) := by decide +kernel
theorem dX0_writeBack_60 : decode cX0_writeBack 60 = .ok (.iload_n 1, 1) := by decide +kernel
theorem dX0_writeBack_61 : decode cX0_writeBack 61 = .ok (.iconst 0, 1) := by decide +kernel
theorem dX0_writeBack_62 : decode cX0_writeBack 62 = .ok (.bastore, 1) := by decide +kernel
theorem dX0_writeBack_63 : decode cX0_writeBack 63 = .ok (.return_, 1) := by decide +kernel
abbrev cX0_store : ByteArray := prog_1_method_21_code
def yX0_store : MethodName := ⟨RX0, "store", "(III)I"⟩
theorem dX0_store_0 : decode cX0_store 0 = .ok (.aload_n 0, 1) := by decide +kernel
theorem dX0_store_1 : decode cX0_store 1 = .ok (.iload_n 1, 1) := by decide +kernel
theorem dX0_store_2 : decode cX0_store 2 = .ok (.iload_n 2, 1) := by decide +kernel
theorem dX0_store_3 : decode cX0_store 3 = .ok (.invokevirtual 103, 3) := by decide +kernel
theorem dX0_store_6 : decode cX0_store 6 = .ok (.istore 4, 2) := by decide +kernel
theorem dX0_store_8 : decode cX0_store 8 = .ok (.iload 4, 2) := by decide +kernel
theorem dX0_store_10 : decode cX0_store 10 = .ok (.ifCond .ge 6, 3) := by decide +kernel
theorem dX0_store_13 : decode cX0_store 13 = .ok (.iload 4, 2) := by decide +kernel
theorem dX0_store_15 : decode cX0_store 15 = .ok (.ireturn, 1) := by decide +kernel
theorem dX0_store_16 : decode cX0_store 16 = .ok (.aload_n 0, 1) := by decide +kernel
theorem dX0_store_17 : decode cX0_store 17 = .ok (.getfield 35, 3) := by decide +kernel
theorem dX0_store_20 : decode cX0_store 20 = .ok (.iload 4, 2) := by decide +kernel
theorem dX0_store_22 : decode cX0_store 22 = .ok (.iload_n 3, 1) := by decide +kernel
theorem dX0_store_23 : decode cX0_store 23 = .ok (.iastore, 1) := by decide +kernel
theorem dX0_store_24 : decode cX0_store 24 = .ok (.iconst 0, 1) := by decide +kernel
theorem dX0_store_25 : decode cX0_store 25 = .ok (.ireturn, 1) := by decide +kernel
abbrev cX0_open : ByteArray := prog_1_method_20_code
def yX0_open : MethodName := ⟨RX0, "open", "(II)I"⟩
theorem dX0_open_0 : decode cX0_open 0 = .ok (.aload_n 0, 1) := by decide +kernel
theorem dX0_open_1 : decode cX0_open 1 = .ok (.iload_n 1, 1) := by decide +kernel
theorem dX0_open_2 : decode cX0_open 2 = .ok (.invokevirtual 53, 3) := by decide +kernel
theorem dX0_open_5 : decode cX0_open 5 = .ok (.ifCond .ne 11, 3) := by decide +kernel
theorem dX0_open_8 : decode cX0_open 8 = .ok (.aload_n 0, 1) := by decide +kernel
theorem dX0_open_9 : decode cX0_open 9 = .ok (.iload_n 2, 1) := by decide +kernel
theorem dX0_open_10 : decode cX0_open 10 = .ok (.invokevirtual 57, 3) := by decide +kernel
theorem dX0_open_13 : decode cX0_open 13 = .ok (.ifCond .eq 10, 3) := by decide +kernel
theorem dX0_open_16 : decode cX0_open 16 = .ok (.aload_n 0, 1) := by decide +kernel
theorem dX0_open_17 : decode cX0_open 17 = .ok (.iconst (-1), 1) := by decide +kernel
theorem dX0_open_18 : decode cX0_open 18 = .ok (.putfield 92, 3) := by decide +kernel
theorem dX0_open_21 : decode cX0_open 21 = .ok (.iconst (-1), 1) := by decide +kernel
theorem dX0_open_22 : decode cX0_open 22 = .ok (.ireturn, 1) := by decide +kernel
theorem dX0_open_23 : decode cX0_open 23 = .ok (.aload_n 0, 1) := by decide +kernel
theorem dX0_open_24 : decode cX0_open 24 = .ok (.iload_n 1, 1) := by decide +kernel
theorem dX0_open_25 : decode cX0_open 25 = .ok (.iconst 1, 1) := by decide +kernel
theorem dX0_open_26 : decode cX0_open 26 = .ok (.invokevirtual 95, 3) := by decide +kernel
theorem dX0_open_29 : decode cX0_open 29 = .ok (.istore_n 3, 1) := by decide +kernel
theorem dX0_open_30 : decode cX0_open 30 = .ok (.iload_n 3, 1) := by decide +kernel
theorem dX0_open_31 : decode cX0_open 31 = .ok (.ifCond .ge 10, 3) := by decide +kernel
theorem dX0_open_34 : decode cX0_open 34 = .ok (.aload_n 0, 1) := by decide +kernel
theorem dX0_open_35 : decode cX0_open 35 = .ok (.iload_n 3, 1) := by decide +kernel
theorem dX0_open_36 : decode cX0_open 36 = .ok (.putfield 92, 3) := by decide +kernel
theorem dX0_open_39 : decode cX0_open 39 = .ok (.iload_n 3, 1) := by decide +kernel
theorem dX0_open_40 : decode cX0_open 40 = .ok (.ireturn, 1) := by decide +kernel
theorem dX0_open_41 : decode cX0_open 41 = .ok (.aload_n 0, 1) := by decide +kernel
theorem dX0_open_42 : decode cX0_open 42 = .ok (.iconst 0, 1) := by decide +kernel
theorem dX0_open_43 : decode cX0_open 43 = .ok (.putfield 92, 3) := by decide +kernel
theorem dX0_open_46 : decode cX0_open 46 = .ok (.aload_n 0, 1) := by decide +kernel
theorem dX0_open_47 : decode cX0_open 47 = .ok (.iload_n 1, 1) := by decide +kernel
theorem dX0_open_48 : decode cX0_open 48 = .ok (.aload_n 0, 1) := by decide +kernel
theorem dX0_open_49 : decode cX0_open 49 = .ok (.getfield 41, 3) := by decide +kernel
theorem dX0_open_52 : decode cX0_open 52 = .ok (.iload_n 3, 1) := by decide +kernel
theorem dX0_open_53 : decode cX0_open 53 = .ok (.iaload, 1) := by decide +kernel
theorem dX0_open_54 : decode cX0_open 54 = .ok (.iload_n 2, 1) := by decide +kernel
theorem dX0_open_55 : decode cX0_open 55 = .ok (.invokevirtual 99, 3) := by decide +kernel
theorem dX0_open_58 : decode cX0_open 58 = .ok (.istore 4, 2) := by decide +kernel
theorem dX0_open_60 : decode cX0_open 60 = .ok (.aload_n 0, 1) := by decide +kernel
theorem dX0_open_61 : decode cX0_open 61 = .ok (.getfield 29, 3) := by decide +kernel
theorem dX0_open_64 : decode cX0_open 64 = .ok (.iload 4, 2) := by decide +kernel
theorem dX0_open_66 : decode cX0_open 66 = .ok (.iconst 2, 1) := by decide +kernel
theorem dX0_open_67 : decode cX0_open 67 = .ok (.ishr, 1) := by decide +kernel
theorem dX0_open_68 : decode cX0_open 68 = .ok (.iconst 1, 1) := by decide +kernel
theorem dX0_open_69 : decode cX0_open 69 = .ok (.bastore, 1) := by decide +kernel
theorem dX0_open_70 : decode cX0_open 70 = .ok (.iload 4, 2) := by decide +kernel
theorem dX0_open_72 : decode cX0_open 72 = .ok (.ireturn, 1) := by decide +kernel
abbrev cX0_trade : ByteArray := prog_1_method_22_code
def yX0_trade : MethodName := ⟨RX0, "trade", "(III)I"⟩
theorem dX0_trade_0 : decode cX0_trade 0 = .ok (.aload_n 0, 1) := by decide +kernel
theorem dX0_trade_1 : decode cX0_trade 1 = .ok (.iload_n 1, 1) := by decide +kernel
theorem dX0_trade_2 : decode cX0_trade 2 = .ok (.iload_n 2, 1) := by decide +kernel
theorem dX0_trade_3 : decode cX0_trade 3 = .ok (.invokevirtual 103, 3) := by decide +kernel
theorem dX0_trade_6 : decode cX0_trade 6 = .ok (.istore 4, 2) := by decide +kernel
theorem dX0_trade_8 : decode cX0_trade 8 = .ok (.iload 4, 2) := by decide +kernel
theorem dX0_trade_10 : decode cX0_trade 10 = .ok (.ifCond .ge 5, 3) := by decide +kernel
theorem dX0_trade_13 : decode cX0_trade 13 = .ok (.iconst 0, 1) := by decide +kernel
theorem dX0_trade_14 : decode cX0_trade 14 = .ok (.ireturn, 1) := by decide +kernel
theorem dX0_trade_15 : decode cX0_trade 15 = .ok (.aload_n 0, 1) := by decide +kernel
theorem dX0_trade_16 : decode cX0_trade 16 = .ok (.getfield 35, 3) := by decide +kernel
theorem dX0_trade_19 : decode cX0_trade 19 = .ok (.iload 4, 2) := by decide +kernel
theorem dX0_trade_21 : decode cX0_trade 21 = .ok (.iaload, 1) := by decide +kernel
theorem dX0_trade_22 : decode cX0_trade 22 = .ok (.istore 5, 2) := by decide +kernel
theorem dX0_trade_24 : decode cX0_trade 24 = .ok (.aload_n 0, 1) := by decide +kernel
theorem dX0_trade_25 : decode cX0_trade 25 = .ok (.getfield 35, 3) := by decide +kernel
theorem dX0_trade_28 : decode cX0_trade 28 = .ok (.iload 4, 2) := by decide +kernel
theorem dX0_trade_30 : decode cX0_trade 30 = .ok (.iload_n 3, 1) := by decide +kernel
theorem dX0_trade_31 : decode cX0_trade 31 = .ok (.iastore, 1) := by decide +kernel
theorem dX0_trade_32 : decode cX0_trade 32 = .ok (.iload 5, 2) := by decide +kernel
theorem dX0_trade_34 : decode cX0_trade 34 = .ok (.ireturn, 1) := by decide +kernel
abbrev cX0_fault : ByteArray := prog_1_method_23_code
def yX0_fault : MethodName := ⟨RX0, "fault", "()I"⟩
theorem dX0_fault_0 : decode cX0_fault 0 = .ok (.aload_n 0, 1) := by decide +kernel
theorem dX0_fault_1 : decode cX0_fault 1 = .ok (.getfield 92, 3) := by decide +kernel
theorem dX0_fault_4 : decode cX0_fault 4 = .ok (.ireturn, 1) := by decide +kernel
abbrev cX0_word : ByteArray := prog_1_method_24_code
def yX0_word : MethodName := ⟨RX0, "word", "(II)I"⟩
theorem dX0_word_0 : decode cX0_word 0 = .ok (.aload_n 0, 1) := by decide +kernel
theorem dX0_word_1 : decode cX0_word 1 = .ok (.iload_n 1, 1) := by decide +kernel
theorem dX0_word_2 : decode cX0_word 2 = .ok (.invokevirtual 57, 3) := by decide +kernel
theorem dX0_word_5 : decode cX0_word 5 = .ok (.ifCond .ne 11, 3) := by decide +kernel
theorem dX0_word_8 : decode cX0_word 8 = .ok (.aload_n 0, 1) := by decide +kernel
theorem dX0_word_9 : decode cX0_word 9 = .ok (.iload_n 2, 1) := by decide +kernel
theorem dX0_word_10 : decode cX0_word 10 = .ok (.invokevirtual 57, 3) := by decide +kernel
theorem dX0_word_13 : decode cX0_word 13 = .ok (.ifCond .eq 5, 3) := by decide +kernel
theorem dX0_word_16 : decode cX0_word 16 = .ok (.iconst 0, 1) := by decide +kernel
theorem dX0_word_17 : decode cX0_word 17 = .ok (.ireturn, 1) := by decide +kernel
theorem dX0_word_18 : decode cX0_word 18 = .ok (.aload_n 0, 1) := by decide +kernel
theorem dX0_word_19 : decode cX0_word 19 = .ok (.iload_n 1, 1) := by decide +kernel
theorem dX0_word_20 : decode cX0_word 20 = .ok (.iconst 2, 1) := by decide +kernel
theorem dX0_word_21 : decode cX0_word 21 = .ok (.imul, 1) := by decide +kernel
theorem dX0_word_22 : decode cX0_word 22 = .ok (.iload_n 2, 1) := by decide +kernel
theorem dX0_word_23 : decode cX0_word 23 = .ok (.iconst 2, 1) := by decide +kernel
theorem dX0_word_24 : decode cX0_word 24 = .ok (.ishr, 1) := by decide +kernel
theorem dX0_word_25 : decode cX0_word 25 = .ok (.iadd, 1) := by decide +kernel
theorem dX0_word_26 : decode cX0_word 26 = .ok (.iconst 0, 1) := by decide +kernel
theorem dX0_word_27 : decode cX0_word 27 = .ok (.invokevirtual 106, 3) := by decide +kernel
theorem dX0_word_30 : decode cX0_word 30 = .ok (.aload_n 0, 1) := by decide +kernel
theorem dX0_word_31 : decode cX0_word 31 = .ok (.getfield 7, 3) := by decide +kernel
theorem dX0_word_34 : decode cX0_word 34 = .ok (.iload_n 1, 1) := by decide +kernel
theorem dX0_word_35 : decode cX0_word 35 = .ok (.bipush 8, 2) := by decide +kernel
theorem dX0_word_37 : decode cX0_word 37 = .ok (.imul, 1) := by decide +kernel
theorem dX0_word_38 : decode cX0_word 38 = .ok (.iload_n 2, 1) := by decide +kernel
theorem dX0_word_39 : decode cX0_word 39 = .ok (.iadd, 1) := by decide +kernel
theorem dX0_word_40 : decode cX0_word 40 = .ok (.iaload, 1) := by decide +kernel
theorem dX0_word_41 : decode cX0_word 41 = .ok (.ireturn, 1) := by decide +kernel
abbrev cX0_snoop : ByteArray := prog_1_method_18_code
def yX0_snoop : MethodName := ⟨RX0, "snoop", "(IZ)V"⟩
theorem dX0_snoop_0 : decode cX0_snoop 0 = .ok (.aload_n 0, 1) := by decide +kernel
theorem dX0_snoop_1 : decode cX0_snoop 1 = .ok (.iload_n 1, 1) := by decide +kernel
theorem dX0_snoop_2 : decode cX0_snoop 2 = .ok (.invokevirtual 83, 3) := by decide +kernel
theorem dX0_snoop_5 : decode cX0_snoop 5 = .ok (.istore_n 3, 1) := by decide +kernel
theorem dX0_snoop_6 : decode cX0_snoop 6 = .ok (.iload_n 3, 1) := by decide +kernel
theorem dX0_snoop_7 : decode cX0_snoop 7 = .ok (.ifCond .lt 19, 3) := by decide +kernel
theorem dX0_snoop_10 : decode cX0_snoop 10 = .ok (.aload_n 0, 1) := by decide +kernel
theorem dX0_snoop_11 : decode cX0_snoop 11 = .ok (.iload_n 3, 1) := by decide +kernel
theorem dX0_snoop_12 : decode cX0_snoop 12 = .ok (.invokevirtual 80, 3) := by decide +kernel
theorem dX0_snoop_15 : decode cX0_snoop 15 = .ok (.iload_n 2, 1) := by decide +kernel
theorem dX0_snoop_16 : decode cX0_snoop 16 = .ok (.ifCond .eq 10, 3) := by decide +kernel
theorem dX0_snoop_19 : decode cX0_snoop 19 = .ok (.aload_n 0, 1) := by decide +kernel
theorem dX0_snoop_20 : decode cX0_snoop 20 = .ok (.getfield 26, 3) := by decide +kernel
theorem dX0_snoop_23 : decode cX0_snoop 23 = .ok (.iload_n 3, 1) := by decide +kernel
theorem dX0_snoop_24 : decode cX0_snoop 24 = .ok (.iconst (-1), 1) := by decide +kernel
theorem dX0_snoop_25 : decode cX0_snoop 25 = .ok (.iastore, 1) := by decide +kernel
theorem dX0_snoop_26 : decode cX0_snoop 26 = .ok (.return_, 1) := by decide +kernel
end
section
set_option maxRecDepth 100000
abbrev cX0_setWord : ByteArray := prog_1_method_25_code
def yX0_setWord : MethodName := ⟨RX0, "setWord", "(III)I"⟩
theorem dX0_setWord_0 : decode cX0_setWord 0 = .ok (.aload_n 0, 1) := by decide +kernel
theorem dX0_setWord_1 : decode cX0_setWord 1 = .ok (.iload_n 1, 1) := by decide +kernel
theorem dX0_setWord_2 : decode cX0_setWord 2 = .ok (.invokevirtual 57, 3) := by decide +kernel
theorem dX0_setWord_5 : decode cX0_setWord 5 = .ok (.ifCond .ne 11, 3) := by decide +kernel
theorem dX0_setWord_8 : decode cX0_setWord 8 = .ok (.aload_n 0, 1) := by decide +kernel
theorem dX0_setWord_9 : decode cX0_setWord 9 = .ok (.iload_n 2, 1) := by decide +kernel
theorem dX0_setWord_10 : decode cX0_setWord 10 = .ok (.invokevirtual 57, 3) := by decide +kernel
theorem dX0_setWord_13 : decode cX0_setWord 13 = .ok (.ifCond .eq 5, 3) := by decide +kernel
theorem dX0_setWord_16 : decode cX0_setWord 16 = .ok (.iconst (-1), 1) := by decide +kernel
theorem dX0_setWord_17 : decode cX0_setWord 17 = .ok (.ireturn, 1) := by decide +kernel
theorem dX0_setWord_18 : decode cX0_setWord 18 = .ok (.aload_n 0, 1) := by decide +kernel
theorem dX0_setWord_19 : decode cX0_setWord 19 = .ok (.iload_n 1, 1) := by decide +kernel
theorem dX0_setWord_20 : decode cX0_setWord 20 = .ok (.iconst 2, 1) := by decide +kernel
theorem dX0_setWord_21 : decode cX0_setWord 21 = .ok (.imul, 1) := by decide +kernel
theorem dX0_setWord_22 : decode cX0_setWord 22 = .ok (.iload_n 2, 1) := by decide +kernel
theorem dX0_setWord_23 : decode cX0_setWord 23 = .ok (.iconst 2, 1) := by decide +kernel
theorem dX0_setWord_24 : decode cX0_setWord 24 = .ok (.ishr, 1) := by decide +kernel
theorem dX0_setWord_25 : decode cX0_setWord 25 = .ok (.iadd, 1) := by decide +kernel
theorem dX0_setWord_26 : decode cX0_setWord 26 = .ok (.iconst 1, 1) := by decide +kernel
theorem dX0_setWord_27 : decode cX0_setWord 27 = .ok (.invokevirtual 106, 3) := by decide +kernel
theorem dX0_setWord_30 : decode cX0_setWord 30 = .ok (.aload_n 0, 1) := by decide +kernel
theorem dX0_setWord_31 : decode cX0_setWord 31 = .ok (.getfield 7, 3) := by decide +kernel
theorem dX0_setWord_34 : decode cX0_setWord 34 = .ok (.iload_n 1, 1) := by decide +kernel
theorem dX0_setWord_35 : decode cX0_setWord 35 = .ok (.bipush 8, 2) := by decide +kernel
theorem dX0_setWord_37 : decode cX0_setWord 37 = .ok (.imul, 1) := by decide +kernel
theorem dX0_setWord_38 : decode cX0_setWord 38 = .ok (.iload_n 2, 1) := by decide +kernel
theorem dX0_setWord_39 : decode cX0_setWord 39 = .ok (.iadd, 1) := by decide +kernel
theorem dX0_setWord_40 : decode cX0_setWord 40 = .ok (.iload_n 3, 1) := by decide +kernel
theorem dX0_setWord_41 : decode cX0_setWord 41 = .ok (.iastore, 1) := by decide +kernel
theorem dX0_setWord_42 : decode cX0_setWord 42 = .ok (.iconst 0, 1) := by decide +kernel
theorem dX0_setWord_43 : decode cX0_setWord 43 = .ok (.ireturn, 1) := by decide +kernel
abbrev cX0_copyFrame : ByteArray := prog_1_method_26_code
def yX0_copyFrame : MethodName := ⟨RX0, "copyFrame", "(II)I"⟩
theorem dX0_copyFrame_0 : decode cX0_copyFrame 0 = .ok (.aload_n 0, 1) := by decide +kernel
theorem dX0_copyFrame_1 : decode cX0_copyFrame 1 = .ok (.iload_n 1, 1) := by decide +kernel
theorem dX0_copyFrame_2 : decode cX0_copyFrame 2 = .ok (.invokevirtual 57, 3) := by decide +kernel
theorem dX0_copyFrame_5 : decode cX0_copyFrame 5 = .ok (.ifCond .ne 11, 3) := by decide +kernel
theorem dX0_copyFrame_8 : decode cX0_copyFrame 8 = .ok (.aload_n 0, 1) := by decide +kernel
theorem dX0_copyFrame_9 : decode cX0_copyFrame 9 = .ok (.iload_n 2, 1) := by decide +kernel
theorem dX0_copyFrame_10 : decode cX0_copyFrame 10 = .ok (.invokevirtual 57, 3) := by decide +kernel
theorem dX0_copyFrame_13 : decode cX0_copyFrame 13 = .ok (.ifCond .eq 5, 3) := by decide +kernel
theorem dX0_copyFrame_16 : decode cX0_copyFrame 16 = .ok (.iconst (-1), 1) := by decide +kernel
theorem dX0_copyFrame_17 : decode cX0_copyFrame 17 = .ok (.ireturn, 1) := by decide +kernel
theorem dX0_copyFrame_18 : decode cX0_copyFrame 18 = .ok (.iconst 0, 1) := by decide +kernel
theorem dX0_copyFrame_19 : decode cX0_copyFrame 19 = .ok (.istore_n 3, 1) := by decide +kernel
theorem dX0_copyFrame_20 : decode cX0_copyFrame 20 = .ok (.iload_n 3, 1) := by decide +kernel
theorem dX0_copyFrame_21 : decode cX0_copyFrame 21 = .ok (.iconst 2, 1) := by decide +kernel
theorem dX0_copyFrame_22 : decode cX0_copyFrame 22 = .ok (.if_icmp .ge 29, 3) := by decide +kernel
theorem dX0_copyFrame_25 : decode cX0_copyFrame 25 = .ok (.aload_n 0, 1) := by decide +kernel
theorem dX0_copyFrame_26 : decode cX0_copyFrame 26 = .ok (.iload_n 2, 1) := by decide +kernel
theorem dX0_copyFrame_27 : decode cX0_copyFrame 27 = .ok (.iconst 2, 1) := by decide +kernel
theorem dX0_copyFrame_28 : decode cX0_copyFrame 28 = .ok (.imul, 1) := by decide +kernel
theorem dX0_copyFrame_29 : decode cX0_copyFrame 29 = .ok (.iload_n 3, 1) := by decide +kernel
theorem dX0_copyFrame_30 : decode cX0_copyFrame 30 = .ok (.iadd, 1) := by decide +kernel
theorem dX0_copyFrame_31 : decode cX0_copyFrame 31 = .ok (.iconst 0, 1) := by decide +kernel
theorem dX0_copyFrame_32 : decode cX0_copyFrame 32 = .ok (.invokevirtual 106, 3) := by decide +kernel
theorem dX0_copyFrame_35 : decode cX0_copyFrame 35 = .ok (.aload_n 0, 1) := by decide +kernel
theorem dX0_copyFrame_36 : decode cX0_copyFrame 36 = .ok (.iload_n 1, 1) := by decide +kernel
theorem dX0_copyFrame_37 : decode cX0_copyFrame 37 = .ok (.iconst 2, 1) := by decide +kernel
theorem dX0_copyFrame_38 : decode cX0_copyFrame 38 = .ok (.imul, 1) := by decide +kernel
theorem dX0_copyFrame_39 : decode cX0_copyFrame 39 = .ok (.iload_n 3, 1) := by decide +kernel
theorem dX0_copyFrame_40 : decode cX0_copyFrame 40 = .ok (.iadd, 1) := by decide +kernel
theorem dX0_copyFrame_41 : decode cX0_copyFrame 41 = .ok (.iconst 1, 1) := by decide +kernel
theorem dX0_copyFrame_42 : decode cX0_copyFrame 42 = .ok (.invokevirtual 106, 3) := by decide +kernel
theorem dX0_copyFrame_45 : decode cX0_copyFrame 45 = .ok (.iinc 3 1, 3) := by decide +kernel
theorem dX0_copyFrame_48 : decode cX0_copyFrame 48 = .ok (.goto (-28), 3) := by decide +kernel
theorem dX0_copyFrame_51 : decode cX0_copyFrame 51 = .ok (.iconst 0, 1) := by decide +kernel
theorem dX0_copyFrame_52 : decode cX0_copyFrame 52 = .ok (.istore_n 3, 1) := by decide +kernel
theorem dX0_copyFrame_53 : decode cX0_copyFrame 53 = .ok (.iconst 0, 1) := by decide +kernel
theorem dX0_copyFrame_54 : decode cX0_copyFrame 54 = .ok (.istore 4, 2) := by decide +kernel
theorem dX0_copyFrame_56 : decode cX0_copyFrame 56 = .ok (.iload 4, 2) := by decide +kernel
theorem dX0_copyFrame_58 : decode cX0_copyFrame 58 = .ok (.bipush 8, 2) := by decide +kernel
theorem dX0_copyFrame_60 : decode cX0_copyFrame 60 = .ok (.if_icmp .ge 63, 3) := by decide +kernel
theorem dX0_copyFrame_63 : decode cX0_copyFrame 63 = .ok (.aload_n 0, 1) := by decide +kernel
theorem dX0_copyFrame_64 : decode cX0_copyFrame 64 = .ok (.getfield 7, 3) := by decide +kernel
theorem dX0_copyFrame_67 : decode cX0_copyFrame 67 = .ok (.iload_n 1, 1) := by decide +kernel
theorem dX0_copyFrame_68 : decode cX0_copyFrame 68 = .ok (.bipush 8, 2) := by decide +kernel
theorem dX0_copyFrame_70 : decode cX0_copyFrame 70 = .ok (.imul, 1) := by decide +kernel
theorem dX0_copyFrame_71 : decode cX0_copyFrame 71 = .ok (.iload 4, 2) := by decide +kernel
theorem dX0_copyFrame_73 : decode cX0_copyFrame 73 = .ok (.iadd, 1) := by decide +kernel
theorem dX0_copyFrame_74 : decode cX0_copyFrame 74 = .ok (.iaload, 1) := by decide +kernel
theorem dX0_copyFrame_75 : decode cX0_copyFrame 75 = .ok (.aload_n 0, 1) := by decide +kernel
theorem dX0_copyFrame_76 : decode cX0_copyFrame 76 = .ok (.getfield 7, 3) := by decide +kernel
theorem dX0_copyFrame_79 : decode cX0_copyFrame 79 = .ok (.iload_n 2, 1) := by decide +kernel
theorem dX0_copyFrame_80 : decode cX0_copyFrame 80 = .ok (.bipush 8, 2) := by decide +kernel
theorem dX0_copyFrame_82 : decode cX0_copyFrame 82 = .ok (.imul, 1) := by decide +kernel
theorem dX0_copyFrame_83 : decode cX0_copyFrame 83 = .ok (.iload 4, 2) := by decide +kernel
theorem dX0_copyFrame_85 : decode cX0_copyFrame 85 = .ok (.iadd, 1) := by decide +kernel
theorem dX0_copyFrame_86 : decode cX0_copyFrame 86 = .ok (.iaload, 1) := by decide +kernel
theorem dX0_copyFrame_87 : decode cX0_copyFrame 87 = .ok (.if_icmp .eq 6, 3) := by decide +kernel
theorem dX0_copyFrame_90 : decode cX0_copyFrame 90 = .ok (.iinc 3 1, 3) := by decide +kernel
theorem dX0_copyFrame_93 : decode cX0_copyFrame 93 = .ok (.aload_n 0, 1) := by decide +kernel
theorem dX0_copyFrame_94 : decode cX0_copyFrame 94 = .ok (.getfield 7, 3) := by decide +kernel
theorem dX0_copyFrame_97 : decode cX0_copyFrame 97 = .ok (.iload_n 1, 1) := by decide +kernel
theorem dX0_copyFrame_98 : decode cX0_copyFrame 98 = .ok (.bipush 8, 2) := by decide +kernel
theorem dX0_copyFrame_100 : decode cX0_copyFrame 100 = .ok (.imul, 1) := by decide +kernel
theorem dX0_copyFrame_101 : decode cX0_copyFrame 101 = .ok (.iload 4, 2) := by decide +kernel
theorem dX0_copyFrame_103 : decode cX0_copyFrame 103 = .ok (.iadd, 1) := by decide +kernel
theorem dX0_copyFrame_104 : decode cX0_copyFrame 104 = .ok (.aload_n 0, 1) := by decide +kernel
theorem dX0_copyFrame_105 : decode cX0_copyFrame 105 = .ok (.getfield 7, 3) := by decide +kernel
theorem dX0_copyFrame_108 : decode cX0_copyFrame 108 = .ok (.iload_n 2, 1) := by decide +kernel
theorem dX0_copyFrame_109 : decode cX0_copyFrame 109 = .ok (.bipush 8, 2) := by decide +kernel
theorem dX0_copyFrame_111 : decode cX0_copyFrame 111 = .ok (.imul, 1) := by decide +kernel
theorem dX0_copyFrame_112 : decode cX0_copyFrame 112 = .ok (.iload 4, 2) := by decide +kernel
theorem dX0_copyFrame_114 : decode cX0_copyFrame 114 = .ok (.iadd, 1) := by decide +kernel
theorem dX0_copyFrame_115 : decode cX0_copyFrame 115 = .ok (.iaload, 1) := by decide +kernel
theorem dX0_copyFrame_116 : decode cX0_copyFrame 116 = .ok (.iastore, 1) := by decide +kernel
theorem dX0_copyFrame_117 : decode cX0_copyFrame 117 = .ok (.iinc 4 1, 3) := by decide +kernel
theorem dX0_copyFrame_120 : decode cX0_copyFrame 120 = .ok (.goto (-64), 3) := by decide +kernel
theorem dX0_copyFrame_123 : decode cX0_copyFrame 123 = .ok (.iload_n 3, 1) := by decide +kernel
theorem dX0_copyFrame_124 : decode cX0_copyFrame 124 = .ok (.ireturn, 1) := by decide +kernel
abbrev cX0_marks : ByteArray := prog_1_method_27_code
def yX0_marks : MethodName := ⟨RX0, "marks", "(I)I"⟩
theorem dX0_marks_0 : decode cX0_marks 0 = .ok (.aload_n 0, 1) := by decide +kernel
theorem dX0_marks_1 : decode cX0_marks 1 = .ok (.iload_n 1, 1) := by decide +kernel
theorem dX0_marks_2 : decode cX0_marks 2 = .ok (.invokevirtual 53, 3) := by decide +kernel
theorem dX0_marks_5 : decode cX0_marks 5 = .ok (.ifCond .eq 5, 3) := by decide +kernel
theorem dX0_marks_8 : decode cX0_marks 8 = .ok (.iconst (-1), 1) := by decide +kernel
theorem dX0_marks_9 : decode cX0_marks 9 = .ok (.ireturn, 1) := by decide +kernel
theorem dX0_marks_10 : decode cX0_marks 10 = .ok (.aload_n 0, 1) := by decide +kernel
theorem dX0_marks_11 : decode cX0_marks 11 = .ok (.getfield 20, 3) := by decide +kernel
theorem dX0_marks_14 : decode cX0_marks 14 = .ok (.iload_n 1, 1) := by decide +kernel
theorem dX0_marks_15 : decode cX0_marks 15 = .ok (.baload, 1) := by decide +kernel
theorem dX0_marks_16 : decode cX0_marks 16 = .ok (.ifCond .eq 7, 3) := by decide +kernel
theorem dX0_marks_19 : decode cX0_marks 19 = .ok (.iconst 1, 1) := by decide +kernel
theorem dX0_marks_20 : decode cX0_marks 20 = .ok (.goto 4, 3) := by decide +kernel
theorem dX0_marks_23 : decode cX0_marks 23 = .ok (.iconst 0, 1) := by decide +kernel
theorem dX0_marks_24 : decode cX0_marks 24 = .ok (.istore_n 2, 1) := by decide +kernel
theorem dX0_marks_25 : decode cX0_marks 25 = .ok (.aload_n 0, 1) := by decide +kernel
theorem dX0_marks_26 : decode cX0_marks 26 = .ok (.getfield 23, 3) := by decide +kernel
theorem dX0_marks_29 : decode cX0_marks 29 = .ok (.iload_n 1, 1) := by decide +kernel
theorem dX0_marks_30 : decode cX0_marks 30 = .ok (.baload, 1) := by decide +kernel
theorem dX0_marks_31 : decode cX0_marks 31 = .ok (.ifCond .eq 9, 3) := by decide +kernel
theorem dX0_marks_34 : decode cX0_marks 34 = .ok (.iload_n 2, 1) := by decide +kernel
theorem dX0_marks_35 : decode cX0_marks 35 = .ok (.iconst 2, 1) := by decide +kernel
theorem dX0_marks_36 : decode cX0_marks 36 = .ok (.iadd, 1) := by decide +kernel
theorem dX0_marks_37 : decode cX0_marks 37 = .ok (.goto 4, 3) := by decide +kernel
theorem dX0_marks_40 : decode cX0_marks 40 = .ok (.iload_n 2, 1) := by decide +kernel
theorem dX0_marks_41 : decode cX0_marks 41 = .ok (.ireturn, 1) := by decide +kernel
abbrev cX0_clearMarks : ByteArray := prog_1_method_28_code
def yX0_clearMarks : MethodName := ⟨RX0, "clearMarks", "(I)I"⟩
theorem dX0_clearMarks_0 : decode cX0_clearMarks 0 = .ok (.aload_n 0, 1) := by decide +kernel
theorem dX0_clearMarks_1 : decode cX0_clearMarks 1 = .ok (.iload_n 1, 1) := by decide +kernel
theorem dX0_clearMarks_2 : decode cX0_clearMarks 2 = .ok (.invokevirtual 110, 3) := by decide +kernel
theorem dX0_clearMarks_5 : decode cX0_clearMarks 5 = .ok (.istore_n 2, 1) := by decide +kernel
theorem dX0_clearMarks_6 : decode cX0_clearMarks 6 = .ok (.iload_n 2, 1) := by decide +kernel
theorem dX0_clearMarks_7 : decode cX0_clearMarks 7 = .ok (.ifCond .lt 22, 3) := by decide +kernel
theorem dX0_clearMarks_10 : decode cX0_clearMarks 10 = .ok (.aload_n 0, 1) := by decide +kernel
theorem dX0_clearMarks_11 : decode cX0_clearMarks 11 = .ok (.getfield 20, 3) := by decide +kernel
theorem dX0_clearMarks_14 : decode cX0_clearMarks 14 = .ok (.iload_n 1, 1) := by decide +kernel
theorem dX0_clearMarks_15 : decode cX0_clearMarks 15 = .ok (.iconst 0, 1) := by decide +kernel
theorem dX0_clearMarks_16 : decode cX0_clearMarks 16 = .ok (.bastore, 1) := by decide +kernel
theorem dX0_clearMarks_17 : decode cX0_clearMarks 17 = .ok (.aload_n 0, 1) := by decide +kernel
theorem dX0_clearMarks_18 : decode cX0_clearMarks 18 = .ok (.getfield 23, 3) := by decide +kernel
theorem dX0_clearMarks_21 : decode cX0_clearMarks 21 = .ok (.iload_n 1, 1) := by decide +kernel
theorem dX0_clearMarks_22 : decode cX0_clearMarks 22 = .ok (.iconst 0, 1) := by decide +kernel
theorem dX0_clearMarks_23 : decode cX0_clearMarks 23 = .ok (.bastore, 1) := by decide +kernel
theorem dX0_clearMarks_24 : decode cX0_clearMarks 24 = .ok (.aload_n 0, 1) := by decide +kernel
theorem dX0_clearMarks_25 : decode cX0_clearMarks 25 = .ok (.iload_n 1, 1) := by decide +kernel
theorem dX0_clearMarks_26 : decode cX0_clearMarks 26 = .ok (.invokevirtual 60, 3) := by decide +kernel
theorem dX0_clearMarks_29 : decode cX0_clearMarks 29 = .ok (.iload_n 2, 1) := by decide +kernel
theorem dX0_clearMarks_30 : decode cX0_clearMarks 30 = .ok (.ireturn, 1) := by decide +kernel
abbrev cX0_shown : ByteArray := prog_1_method_29_code
def yX0_shown : MethodName := ⟨RX0, "shown", "(I)I"⟩
theorem dX0_shown_0 : decode cX0_shown 0 = .ok (.aload_n 0, 1) := by decide +kernel
theorem dX0_shown_1 : decode cX0_shown 1 = .ok (.iload_n 1, 1) := by decide +kernel
theorem dX0_shown_2 : decode cX0_shown 2 = .ok (.invokevirtual 57, 3) := by decide +kernel
theorem dX0_shown_5 : decode cX0_shown 5 = .ok (.ifCond .eq 5, 3) := by decide +kernel
theorem dX0_shown_8 : decode cX0_shown 8 = .ok (.iconst (-1), 1) := by decide +kernel
theorem dX0_shown_9 : decode cX0_shown 9 = .ok (.ireturn, 1) := by decide +kernel
theorem dX0_shown_10 : decode cX0_shown 10 = .ok (.iconst 0, 1) := by decide +kernel
theorem dX0_shown_11 : decode cX0_shown 11 = .ok (.istore_n 2, 1) := by decide +kernel
theorem dX0_shown_12 : decode cX0_shown 12 = .ok (.iconst 0, 1) := by decide +kernel
theorem dX0_shown_13 : decode cX0_shown 13 = .ok (.istore_n 3, 1) := by decide +kernel
theorem dX0_shown_14 : decode cX0_shown 14 = .ok (.iload_n 3, 1) := by decide +kernel
theorem dX0_shown_15 : decode cX0_shown 15 = .ok (.bipush 16, 2) := by decide +kernel
theorem dX0_shown_17 : decode cX0_shown 17 = .ok (.if_icmp .ge 22, 3) := by decide +kernel
theorem dX0_shown_20 : decode cX0_shown 20 = .ok (.aload_n 0, 1) := by decide +kernel
theorem dX0_shown_21 : decode cX0_shown 21 = .ok (.getfield 13, 3) := by decide +kernel
theorem dX0_shown_24 : decode cX0_shown 24 = .ok (.iload_n 3, 1) := by decide +kernel
theorem dX0_shown_25 : decode cX0_shown 25 = .ok (.iaload, 1) := by decide +kernel
theorem dX0_shown_26 : decode cX0_shown 26 = .ok (.iload_n 1, 1) := by decide +kernel
theorem dX0_shown_27 : decode cX0_shown 27 = .ok (.if_icmp .ne 6, 3) := by decide +kernel
theorem dX0_shown_30 : decode cX0_shown 30 = .ok (.iinc 2 1, 3) := by decide +kernel
theorem dX0_shown_33 : decode cX0_shown 33 = .ok (.iinc 3 1, 3) := by decide +kernel
theorem dX0_shown_36 : decode cX0_shown 36 = .ok (.goto (-22), 3) := by decide +kernel
theorem dX0_shown_39 : decode cX0_shown 39 = .ok (.iload_n 2, 1) := by decide +kernel
theorem dX0_shown_40 : decode cX0_shown 40 = .ok (.ireturn, 1) := by decide +kernel
abbrev cX0_dirtyPages : ByteArray := prog_1_method_30_code
def yX0_dirtyPages : MethodName := ⟨RX0, "dirtyPages", "()I"⟩
theorem dX0_dirtyPages_0 : decode cX0_dirtyPages 0 = .ok (.iconst 0, 1) := by decide +kernel
theorem dX0_dirtyPages_1 : decode cX0_dirtyPages 1 = .ok (.istore_n 1, 1) := by decide +kernel
theorem dX0_dirtyPages_2 : decode cX0_dirtyPages 2 = .ok (.iconst 0, 1) := by decide +kernel
theorem dX0_dirtyPages_3 : decode cX0_dirtyPages 3 = .ok (.istore_n 2, 1) := by decide +kernel
theorem dX0_dirtyPages_4 : decode cX0_dirtyPages 4 = .ok (.iload_n 2, 1) := by decide +kernel
theorem dX0_dirtyPages_5 : decode cX0_dirtyPages 5 = .ok (.bipush 16, 2) := by decide +kernel
theorem dX0_dirtyPages_7 : decode cX0_dirtyPages 7 = .ok (.if_icmp .ge 21, 3) := by decide +kernel
theorem dX0_dirtyPages_10 : decode cX0_dirtyPages 10 = .ok (.aload_n 0, 1) := by decide +kernel
theorem dX0_dirtyPages_11 : decode cX0_dirtyPages 11 = .ok (.getfield 23, 3) := by decide +kernel
theorem dX0_dirtyPages_14 : decode cX0_dirtyPages 14 = .ok (.iload_n 2, 1) := by decide +kernel
theorem dX0_dirtyPages_15 : decode cX0_dirtyPages 15 = .ok (.baload, 1) := by decide +kernel
theorem dX0_dirtyPages_16 : decode cX0_dirtyPages 16 = .ok (.ifCond .eq 6, 3) := by decide +kernel
theorem dX0_dirtyPages_19 : decode cX0_dirtyPages 19 = .ok (.iinc 1 1, 3) := by decide +kernel
theorem dX0_dirtyPages_22 : decode cX0_dirtyPages 22 = .ok (.iinc 2 1, 3) := by decide +kernel
theorem dX0_dirtyPages_25 : decode cX0_dirtyPages 25 = .ok (.goto (-21), 3) := by decide +kernel
theorem dX0_dirtyPages_28 : decode cX0_dirtyPages 28 = .ok (.iload_n 1, 1) := by decide +kernel
theorem dX0_dirtyPages_29 : decode cX0_dirtyPages 29 = .ok (.ireturn, 1) := by decide +kernel
abbrev cX0_flush : ByteArray := prog_1_method_31_code
def yX0_flush : MethodName := ⟨RX0, "flush", "()V"⟩
theorem dX0_flush_0 : decode cX0_flush 0 = .ok (.iconst 0, 1) := by decide +kernel
theorem dX0_flush_1 : decode cX0_flush 1 = .ok (.istore_n 1, 1) := by decide +kernel
theorem dX0_flush_2 : decode cX0_flush 2 = .ok (.iload_n 1, 1) := by decide +kernel
theorem dX0_flush_3 : decode cX0_flush 3 = .ok (.bipush 16, 2) := by decide +kernel
theorem dX0_flush_5 : decode cX0_flush 5 = .ok (.if_icmp .ge 21, 3) := by decide +kernel
theorem dX0_flush_8 : decode cX0_flush 8 = .ok (.aload_n 0, 1) := by decide +kernel
theorem dX0_flush_9 : decode cX0_flush 9 = .ok (.iload_n 1, 1) := by decide +kernel
theorem dX0_flush_10 : decode cX0_flush 10 = .ok (.invokevirtual 80, 3) := by decide +kernel
theorem dX0_flush_13 : decode cX0_flush 13 = .ok (.aload_n 0, 1) := by decide +kernel
theorem dX0_flush_14 : decode cX0_flush 14 = .ok (.getfield 26, 3) := by decide +kernel
theorem dX0_flush_17 : decode cX0_flush 17 = .ok (.iload_n 1, 1) := by decide +kernel
theorem dX0_flush_18 : decode cX0_flush 18 = .ok (.iconst (-1), 1) := by decide +kernel
theorem dX0_flush_19 : decode cX0_flush 19 = .ok (.iastore, 1) := by decide +kernel
theorem dX0_flush_20 : decode cX0_flush 20 = .ok (.iinc 1 1, 3) := by decide +kernel
theorem dX0_flush_23 : decode cX0_flush 23 = .ok (.goto (-21), 3) := by decide +kernel
theorem dX0_flush_26 : decode cX0_flush 26 = .ok (.return_, 1) := by decide +kernel
abbrev cX0_forget : ByteArray := prog_1_method_32_code
def yX0_forget : MethodName := ⟨RX0, "forget", "(I)I"⟩
theorem dX0_forget_0 : decode cX0_forget 0 = .ok (.aload_n 0, 1) := by decide +kernel
theorem dX0_forget_1 : decode cX0_forget 1 = .ok (.iload_n 1, 1) := by decide +kernel
theorem dX0_forget_2 : decode cX0_forget 2 = .ok (.invokevirtual 53, 3) := by decide +kernel
theorem dX0_forget_5 : decode cX0_forget 5 = .ok (.ifCond .eq 5, 3) := by decide +kernel
theorem dX0_forget_8 : decode cX0_forget 8 = .ok (.iconst (-1), 1) := by decide +kernel
theorem dX0_forget_9 : decode cX0_forget 9 = .ok (.ireturn, 1) := by decide +kernel
theorem dX0_forget_10 : decode cX0_forget 10 = .ok (.aload_n 0, 1) := by decide +kernel
theorem dX0_forget_11 : decode cX0_forget 11 = .ok (.iload_n 1, 1) := by decide +kernel
theorem dX0_forget_12 : decode cX0_forget 12 = .ok (.invokevirtual 60, 3) := by decide +kernel
theorem dX0_forget_15 : decode cX0_forget 15 = .ok (.iconst 0, 1) := by decide +kernel
theorem dX0_forget_16 : decode cX0_forget 16 = .ok (.ireturn, 1) := by decide +kernel
abbrev cX0_warm : ByteArray := prog_1_method_33_code
def yX0_warm : MethodName := ⟨RX0, "warm", "(I)I"⟩
theorem dX0_warm_0 : decode cX0_warm 0 = .ok (.aload_n 0, 1) := by decide +kernel
theorem dX0_warm_1 : decode cX0_warm 1 = .ok (.iload_n 1, 1) := by decide +kernel
theorem dX0_warm_2 : decode cX0_warm 2 = .ok (.invokevirtual 57, 3) := by decide +kernel
theorem dX0_warm_5 : decode cX0_warm 5 = .ok (.ifCond .eq 5, 3) := by decide +kernel
theorem dX0_warm_8 : decode cX0_warm 8 = .ok (.iconst (-1), 1) := by decide +kernel
theorem dX0_warm_9 : decode cX0_warm 9 = .ok (.ireturn, 1) := by decide +kernel
theorem dX0_warm_10 : decode cX0_warm 10 = .ok (.aload_n 0, 1) := by decide +kernel
theorem dX0_warm_11 : decode cX0_warm 11 = .ok (.iload_n 1, 1) := by decide +kernel
theorem dX0_warm_12 : decode cX0_warm 12 = .ok (.iconst 3, 1) := by decide +kernel
theorem dX0_warm_13 : decode cX0_warm 13 = .ok (.iand, 1) := by decide +kernel
theorem dX0_warm_14 : decode cX0_warm 14 = .ok (.iconst 2, 1) := by decide +kernel
theorem dX0_warm_15 : decode cX0_warm 15 = .ok (.imul, 1) := by decide +kernel
theorem dX0_warm_16 : decode cX0_warm 16 = .ok (.iload_n 1, 1) := by decide +kernel
theorem dX0_warm_17 : decode cX0_warm 17 = .ok (.iconst 2, 1) := by decide +kernel
theorem dX0_warm_18 : decode cX0_warm 18 = .ok (.imul, 1) := by decide +kernel
theorem dX0_warm_19 : decode cX0_warm 19 = .ok (.invokevirtual 89, 3) := by decide +kernel
theorem dX0_warm_22 : decode cX0_warm 22 = .ok (.pop, 1) := by decide +kernel
theorem dX0_warm_23 : decode cX0_warm 23 = .ok (.aload_n 0, 1) := by decide +kernel
theorem dX0_warm_24 : decode cX0_warm 24 = .ok (.iload_n 1, 1) := by decide +kernel
theorem dX0_warm_25 : decode cX0_warm 25 = .ok (.iconst 3, 1) := by decide +kernel
theorem dX0_warm_26 : decode cX0_warm 26 = .ok (.iand, 1) := by decide +kernel
theorem dX0_warm_27 : decode cX0_warm 27 = .ok (.iconst 2, 1) := by decide +kernel
theorem dX0_warm_28 : decode cX0_warm 28 = .ok (.imul, 1) := by decide +kernel
theorem dX0_warm_29 : decode cX0_warm 29 = .ok (.iconst 1, 1) := by decide +kernel
theorem dX0_warm_30 : decode cX0_warm 30 = .ok (.iadd, 1) := by decide +kernel
theorem dX0_warm_31 : decode cX0_warm 31 = .ok (.iload_n 1, 1) := by decide +kernel
theorem dX0_warm_32 : decode cX0_warm 32 = .ok (.iconst 2, 1) := by decide +kernel
theorem dX0_warm_33 : decode cX0_warm 33 = .ok (.imul, 1) := by decide +kernel
theorem dX0_warm_34 : decode cX0_warm 34 = .ok (.iconst 1, 1) := by decide +kernel
theorem dX0_warm_35 : decode cX0_warm 35 = .ok (.iadd, 1) := by decide +kernel
theorem dX0_warm_36 : decode cX0_warm 36 = .ok (.invokevirtual 89, 3) := by decide +kernel
theorem dX0_warm_39 : decode cX0_warm 39 = .ok (.pop, 1) := by decide +kernel
theorem dX0_warm_40 : decode cX0_warm 40 = .ok (.iconst 0, 1) := by decide +kernel
theorem dX0_warm_41 : decode cX0_warm 41 = .ok (.ireturn, 1) := by decide +kernel
end
section
set_option maxRecDepth 100000
theorem q19 : (Jvm.Cond.initialized "VipCache") ∈ lw_all := lw_g (lw_at lw_m1 1 rfl) rfl
theorem q22 : (Jvm.Cond.instantiable "VipCache" (16 : Nat)) ∈ lw_all := lw_g (lw_at lw_m1 4 rfl) rfl
theorem q24 : (Jvm.Cond.instanceMethod ({ cls := "VipCache", name := "<init>", desc := "()V" } : Jvm.MethodName)) ∈ lw_all := lw_g (lw_at lw_m1 6 rfl) rfl
theorem q25 : (Jvm.Cond.code ({ cls := "VipCache", name := "<init>", desc := "()V" } : Jvm.MethodName) prog_1_method_1_code (2 : Nat) (Option.none : Option Jvm.ClassFile.FieldType)) ∈ lw_all := lw_g (lw_at lw_m1 7 rfl) rfl
theorem q26 : (Jvm.Cond.methodLink "VipCache" (1 : Nat) ({ cls := "java/lang/Object", name := "<init>", desc := "()V" } : Jvm.MethodName)) ∈ lw_all := lw_g (lw_at lw_m1 8 rfl) rfl
theorem q29 : (Jvm.Cond.fieldLink "VipCache" (7 : Nat) "VipCache" "memory" "[I") ∈ lw_all := lw_g (lw_at lw_m1 11 rfl) rfl
theorem q30 : (Jvm.Cond.fieldLink "VipCache" (13 : Nat) "VipCache" "frame" "[I") ∈ lw_all := lw_g (lw_at lw_m1 12 rfl) rfl
theorem q31 : (Jvm.Cond.fieldLink "VipCache" (16 : Nat) "VipCache" "writable" "[Z") ∈ lw_all := lw_g (lw_at lw_m1 13 rfl) rfl
theorem q32 : (Jvm.Cond.fieldLink "VipCache" (20 : Nat) "VipCache" "used" "[Z") ∈ lw_all := lw_g (lw_at lw_m1 14 rfl) rfl
theorem q33 : (Jvm.Cond.fieldLink "VipCache" (23 : Nat) "VipCache" "dirty" "[Z") ∈ lw_all := lw_g (lw_at lw_m1 15 rfl) rfl
theorem q34 : (Jvm.Cond.fieldLink "VipCache" (64 : Nat) "VipCache" "clock" "I") ∈ lw_all := lw_g (lw_at lw_m1 16 rfl) rfl
theorem q35 : (Jvm.Cond.fieldLink "VipCache" (26 : Nat) "VipCache" "name" "[I") ∈ lw_all := lw_g (lw_at lw_m1 17 rfl) rfl
theorem q36 : (Jvm.Cond.fieldLink "VipCache" (29 : Nat) "VipCache" "changed" "[Z") ∈ lw_all := lw_g (lw_at lw_m1 18 rfl) rfl
theorem q37 : (Jvm.Cond.fieldLink "VipCache" (32 : Nat) "VipCache" "lineStamp" "[I") ∈ lw_all := lw_g (lw_at lw_m1 19 rfl) rfl
theorem q38 : (Jvm.Cond.fieldLink "VipCache" (35 : Nat) "VipCache" "data" "[I") ∈ lw_all := lw_g (lw_at lw_m1 20 rfl) rfl
theorem q39 : (Jvm.Cond.fieldLink "VipCache" (38 : Nat) "VipCache" "entryPage" "[I") ∈ lw_all := lw_g (lw_at lw_m1 21 rfl) rfl
theorem q40 : (Jvm.Cond.fieldLink "VipCache" (41 : Nat) "VipCache" "entryFrame" "[I") ∈ lw_all := lw_g (lw_at lw_m1 22 rfl) rfl
theorem q41 : (Jvm.Cond.fieldLink "VipCache" (44 : Nat) "VipCache" "entryWritable" "[Z") ∈ lw_all := lw_g (lw_at lw_m1 23 rfl) rfl
theorem q42 : (Jvm.Cond.fieldLink "VipCache" (47 : Nat) "VipCache" "entryDirty" "[Z") ∈ lw_all := lw_g (lw_at lw_m1 24 rfl) rfl
theorem q43 : (Jvm.Cond.fieldLink "VipCache" (50 : Nat) "VipCache" "entryStamp" "[I") ∈ lw_all := lw_g (lw_at lw_m1 25 rfl) rfl
theorem q44 : (Jvm.Cond.fieldLink "VipCache" (92 : Nat) "VipCache" "outcome" "I") ∈ lw_all := lw_g (lw_at lw_m1 26 rfl) rfl
theorem q45 : (Jvm.Cond.laysFinal "VipCache" "VipCache" "memory" "[I") ∈ lw_all := lw_g (lw_at lw_m1 27 rfl) rfl
theorem q46 : (Jvm.Cond.soleField "VipCache" "memory") ∈ lw_all := lw_g (lw_at lw_m1 28 rfl) rfl
theorem q47 : (Jvm.Cond.laysFinal "VipCache" "VipCache" "frame" "[I") ∈ lw_all := lw_g (lw_at lw_m1 29 rfl) rfl
theorem q48 : (Jvm.Cond.soleField "VipCache" "frame") ∈ lw_all := lw_g (lw_at lw_m1 30 rfl) rfl
theorem q49 : (Jvm.Cond.laysFinal "VipCache" "VipCache" "writable" "[Z") ∈ lw_all := lw_g (lw_at lw_m1 31 rfl) rfl
theorem q50 : (Jvm.Cond.soleField "VipCache" "writable") ∈ lw_all := lw_g (lw_at lw_m1 32 rfl) rfl
theorem q51 : (Jvm.Cond.laysFinal "VipCache" "VipCache" "used" "[Z") ∈ lw_all := lw_g (lw_at lw_m1 33 rfl) rfl
theorem q52 : (Jvm.Cond.soleField "VipCache" "used") ∈ lw_all := lw_g (lw_at lw_m1 34 rfl) rfl
theorem q53 : (Jvm.Cond.laysFinal "VipCache" "VipCache" "dirty" "[Z") ∈ lw_all := lw_g (lw_at lw_m1 35 rfl) rfl
theorem q54 : (Jvm.Cond.soleField "VipCache" "dirty") ∈ lw_all := lw_g (lw_at lw_m1 36 rfl) rfl
theorem q55 : (Jvm.Cond.lays "VipCache" "VipCache" "clock" "I") ∈ lw_all := lw_g (lw_at lw_m1 37 rfl) rfl
theorem q56 : (Jvm.Cond.soleField "VipCache" "clock") ∈ lw_all := lw_g (lw_at lw_m1 38 rfl) rfl
theorem q57 : (Jvm.Cond.laysFinal "VipCache" "VipCache" "name" "[I") ∈ lw_all := lw_g (lw_at lw_m1 39 rfl) rfl
theorem q58 : (Jvm.Cond.soleField "VipCache" "name") ∈ lw_all := lw_g (lw_at lw_m1 40 rfl) rfl
theorem q59 : (Jvm.Cond.laysFinal "VipCache" "VipCache" "changed" "[Z") ∈ lw_all := lw_g (lw_at lw_m1 41 rfl) rfl
theorem q60 : (Jvm.Cond.soleField "VipCache" "changed") ∈ lw_all := lw_g (lw_at lw_m1 42 rfl) rfl
theorem q61 : (Jvm.Cond.laysFinal "VipCache" "VipCache" "lineStamp" "[I") ∈ lw_all := lw_g (lw_at lw_m1 43 rfl) rfl
theorem q62 : (Jvm.Cond.soleField "VipCache" "lineStamp") ∈ lw_all := lw_g (lw_at lw_m1 44 rfl) rfl
theorem q63 : (Jvm.Cond.laysFinal "VipCache" "VipCache" "data" "[I") ∈ lw_all := lw_g (lw_at lw_m1 45 rfl) rfl
theorem q64 : (Jvm.Cond.soleField "VipCache" "data") ∈ lw_all := lw_g (lw_at lw_m1 46 rfl) rfl
theorem q65 : (Jvm.Cond.laysFinal "VipCache" "VipCache" "entryPage" "[I") ∈ lw_all := lw_g (lw_at lw_m1 47 rfl) rfl
theorem q66 : (Jvm.Cond.soleField "VipCache" "entryPage") ∈ lw_all := lw_g (lw_at lw_m1 48 rfl) rfl
theorem q67 : (Jvm.Cond.laysFinal "VipCache" "VipCache" "entryFrame" "[I") ∈ lw_all := lw_g (lw_at lw_m1 49 rfl) rfl
theorem q68 : (Jvm.Cond.soleField "VipCache" "entryFrame") ∈ lw_all := lw_g (lw_at lw_m1 50 rfl) rfl
theorem q69 : (Jvm.Cond.laysFinal "VipCache" "VipCache" "entryWritable" "[Z") ∈ lw_all := lw_g (lw_at lw_m1 51 rfl) rfl
theorem q70 : (Jvm.Cond.soleField "VipCache" "entryWritable") ∈ lw_all := lw_g (lw_at lw_m1 52 rfl) rfl
theorem q71 : (Jvm.Cond.laysFinal "VipCache" "VipCache" "entryDirty" "[Z") ∈ lw_all := lw_g (lw_at lw_m1 53 rfl) rfl
theorem q72 : (Jvm.Cond.soleField "VipCache" "entryDirty") ∈ lw_all := lw_g (lw_at lw_m1 54 rfl) rfl
theorem q73 : (Jvm.Cond.laysFinal "VipCache" "VipCache" "entryStamp" "[I") ∈ lw_all := lw_g (lw_at lw_m1 55 rfl) rfl
theorem q74 : (Jvm.Cond.soleField "VipCache" "entryStamp") ∈ lw_all := lw_g (lw_at lw_m1 56 rfl) rfl
theorem q75 : (Jvm.Cond.lays "VipCache" "VipCache" "outcome" "I") ∈ lw_all := lw_g (lw_at lw_m1 57 rfl) rfl
theorem q76 : (Jvm.Cond.soleField "VipCache" "outcome") ∈ lw_all := lw_g (lw_at lw_m1 58 rfl) rfl
theorem q77 : (Jvm.Cond.superclass "VipCache" "java/lang/Object") ∈ lw_all := lw_g (lw_at lw_m1 59 rfl) rfl
theorem q81 : (Jvm.Cond.instanceMethod ({ cls := "VipCache", name := "map", desc := "(III)I" } : Jvm.MethodName)) ∈ lw_all := lw_g (lw_at lw_m1 63 rfl) rfl
theorem q82 : (Jvm.Cond.selects "VipCache" ({ cls := "VipCache", name := "map", desc := "(III)I" } : Jvm.MethodName) ({ cls := "VipCache", name := "map", desc := "(III)I" } : Jvm.MethodName)) ∈ lw_all := lw_g (lw_at lw_m1 64 rfl) rfl
theorem q83 : (Jvm.Cond.code ({ cls := "VipCache", name := "map", desc := "(III)I" } : Jvm.MethodName) prog_1_method_5_code (5 : Nat) (Option.some Jvm.ClassFile.FieldType.int)) ∈ lw_all := lw_g (lw_at lw_m1 65 rfl) rfl
theorem q84 : (Jvm.Cond.methodLink "VipCache" (53 : Nat) ({ cls := "VipCache", name := "badPage", desc := "(I)Z" } : Jvm.MethodName)) ∈ lw_all := lw_g (lw_at lw_m1 66 rfl) rfl
theorem q85 : (Jvm.Cond.privateMethod ({ cls := "VipCache", name := "badPage", desc := "(I)Z" } : Jvm.MethodName)) ∈ lw_tbl := lw_at lw_m1 67 rfl
theorem q86 : (Jvm.Cond.instanceMethod ({ cls := "VipCache", name := "badPage", desc := "(I)Z" } : Jvm.MethodName)) ∈ lw_all := lw_g (lw_at lw_m1 68 rfl) rfl
theorem q87 : (Jvm.Cond.code ({ cls := "VipCache", name := "badPage", desc := "(I)Z" } : Jvm.MethodName) prog_1_method_2_code (2 : Nat) (Option.some Jvm.ClassFile.FieldType.boolean)) ∈ lw_all := lw_g (lw_at lw_m1 69 rfl) rfl
theorem q88 : (Jvm.Cond.methodLink "VipCache" (57 : Nat) ({ cls := "VipCache", name := "badEight", desc := "(I)Z" } : Jvm.MethodName)) ∈ lw_all := lw_g (lw_at lw_m1 70 rfl) rfl
theorem q89 : (Jvm.Cond.privateMethod ({ cls := "VipCache", name := "badEight", desc := "(I)Z" } : Jvm.MethodName)) ∈ lw_tbl := lw_at lw_m1 71 rfl
theorem q90 : (Jvm.Cond.instanceMethod ({ cls := "VipCache", name := "badEight", desc := "(I)Z" } : Jvm.MethodName)) ∈ lw_all := lw_g (lw_at lw_m1 72 rfl) rfl
theorem q91 : (Jvm.Cond.code ({ cls := "VipCache", name := "badEight", desc := "(I)Z" } : Jvm.MethodName) prog_1_method_3_code (2 : Nat) (Option.some Jvm.ClassFile.FieldType.boolean)) ∈ lw_all := lw_g (lw_at lw_m1 73 rfl) rfl
theorem q92 : (Jvm.Cond.methodLink "VipCache" (60 : Nat) ({ cls := "VipCache", name := "shoot", desc := "(I)V" } : Jvm.MethodName)) ∈ lw_all := lw_g (lw_at lw_m1 74 rfl) rfl
theorem q93 : (Jvm.Cond.privateMethod ({ cls := "VipCache", name := "shoot", desc := "(I)V" } : Jvm.MethodName)) ∈ lw_tbl := lw_at lw_m1 75 rfl
theorem q94 : (Jvm.Cond.instanceMethod ({ cls := "VipCache", name := "shoot", desc := "(I)V" } : Jvm.MethodName)) ∈ lw_all := lw_g (lw_at lw_m1 76 rfl) rfl
theorem q95 : (Jvm.Cond.code ({ cls := "VipCache", name := "shoot", desc := "(I)V" } : Jvm.MethodName) prog_1_method_4_code (3 : Nat) (Option.none : Option Jvm.ClassFile.FieldType)) ∈ lw_all := lw_g (lw_at lw_m1 77 rfl) rfl
theorem q97 : (Jvm.Cond.instanceMethod ({ cls := "VipCache", name := "unmap", desc := "(I)I" } : Jvm.MethodName)) ∈ lw_all := lw_g (lw_at lw_m1 79 rfl) rfl
theorem q98 : (Jvm.Cond.selects "VipCache" ({ cls := "VipCache", name := "unmap", desc := "(I)I" } : Jvm.MethodName) ({ cls := "VipCache", name := "unmap", desc := "(I)I" } : Jvm.MethodName)) ∈ lw_all := lw_g (lw_at lw_m1 80 rfl) rfl
theorem q99 : (Jvm.Cond.code ({ cls := "VipCache", name := "unmap", desc := "(I)I" } : Jvm.MethodName) prog_1_method_6_code (3 : Nat) (Option.some Jvm.ClassFile.FieldType.int)) ∈ lw_all := lw_g (lw_at lw_m1 81 rfl) rfl
theorem q101 : (Jvm.Cond.instanceMethod ({ cls := "VipCache", name := "frameOf", desc := "(I)I" } : Jvm.MethodName)) ∈ lw_all := lw_g (lw_at lw_m1 83 rfl) rfl
theorem q102 : (Jvm.Cond.selects "VipCache" ({ cls := "VipCache", name := "frameOf", desc := "(I)I" } : Jvm.MethodName) ({ cls := "VipCache", name := "frameOf", desc := "(I)I" } : Jvm.MethodName)) ∈ lw_all := lw_g (lw_at lw_m1 84 rfl) rfl
theorem q103 : (Jvm.Cond.code ({ cls := "VipCache", name := "frameOf", desc := "(I)I" } : Jvm.MethodName) prog_1_method_7_code (2 : Nat) (Option.some Jvm.ClassFile.FieldType.int)) ∈ lw_all := lw_g (lw_at lw_m1 85 rfl) rfl
theorem q105 : (Jvm.Cond.instanceMethod ({ cls := "VipCache", name := "allow", desc := "(II)I" } : Jvm.MethodName)) ∈ lw_all := lw_g (lw_at lw_m1 87 rfl) rfl
theorem q106 : (Jvm.Cond.selects "VipCache" ({ cls := "VipCache", name := "allow", desc := "(II)I" } : Jvm.MethodName) ({ cls := "VipCache", name := "allow", desc := "(II)I" } : Jvm.MethodName)) ∈ lw_all := lw_g (lw_at lw_m1 88 rfl) rfl
theorem q107 : (Jvm.Cond.code ({ cls := "VipCache", name := "allow", desc := "(II)I" } : Jvm.MethodName) prog_1_method_8_code (4 : Nat) (Option.some Jvm.ClassFile.FieldType.int)) ∈ lw_all := lw_g (lw_at lw_m1 89 rfl) rfl
theorem q109 : (Jvm.Cond.instanceMethod ({ cls := "VipCache", name := "load", desc := "(II)I" } : Jvm.MethodName)) ∈ lw_all := lw_g (lw_at lw_m1 91 rfl) rfl
theorem q110 : (Jvm.Cond.selects "VipCache" ({ cls := "VipCache", name := "load", desc := "(II)I" } : Jvm.MethodName) ({ cls := "VipCache", name := "load", desc := "(II)I" } : Jvm.MethodName)) ∈ lw_all := lw_g (lw_at lw_m1 92 rfl) rfl
theorem q111 : (Jvm.Cond.code ({ cls := "VipCache", name := "load", desc := "(II)I" } : Jvm.MethodName) prog_1_method_19_code (5 : Nat) (Option.some Jvm.ClassFile.FieldType.int)) ∈ lw_all := lw_g (lw_at lw_m1 93 rfl) rfl
theorem q112 : (Jvm.Cond.methodLink "VipCache" (95 : Nat) ({ cls := "VipCache", name := "translate", desc := "(IZ)I" } : Jvm.MethodName)) ∈ lw_all := lw_g (lw_at lw_m1 94 rfl) rfl
theorem q113 : (Jvm.Cond.privateMethod ({ cls := "VipCache", name := "translate", desc := "(IZ)I" } : Jvm.MethodName)) ∈ lw_tbl := lw_at lw_m1 95 rfl
theorem q114 : (Jvm.Cond.instanceMethod ({ cls := "VipCache", name := "translate", desc := "(IZ)I" } : Jvm.MethodName)) ∈ lw_all := lw_g (lw_at lw_m1 96 rfl) rfl
theorem q115 : (Jvm.Cond.code ({ cls := "VipCache", name := "translate", desc := "(IZ)I" } : Jvm.MethodName) prog_1_method_11_code (4 : Nat) (Option.some Jvm.ClassFile.FieldType.int)) ∈ lw_all := lw_g (lw_at lw_m1 97 rfl) rfl
theorem q116 : (Jvm.Cond.methodLink "VipCache" (68 : Nat) ({ cls := "VipCache", name := "entryOf", desc := "(I)I" } : Jvm.MethodName)) ∈ lw_all := lw_g (lw_at lw_m1 98 rfl) rfl
theorem q117 : (Jvm.Cond.privateMethod ({ cls := "VipCache", name := "entryOf", desc := "(I)I" } : Jvm.MethodName)) ∈ lw_tbl := lw_at lw_m1 99 rfl
theorem q118 : (Jvm.Cond.instanceMethod ({ cls := "VipCache", name := "entryOf", desc := "(I)I" } : Jvm.MethodName)) ∈ lw_all := lw_g (lw_at lw_m1 100 rfl) rfl
theorem q119 : (Jvm.Cond.code ({ cls := "VipCache", name := "entryOf", desc := "(I)I" } : Jvm.MethodName) prog_1_method_9_code (4 : Nat) (Option.some Jvm.ClassFile.FieldType.int)) ∈ lw_all := lw_g (lw_at lw_m1 101 rfl) rfl
theorem q120 : (Jvm.Cond.methodLink "VipCache" (72 : Nat) ({ cls := "VipCache", name := "oldestEntry", desc := "()I" } : Jvm.MethodName)) ∈ lw_all := lw_g (lw_at lw_m1 102 rfl) rfl
theorem q121 : (Jvm.Cond.privateMethod ({ cls := "VipCache", name := "oldestEntry", desc := "()I" } : Jvm.MethodName)) ∈ lw_tbl := lw_at lw_m1 103 rfl
theorem q122 : (Jvm.Cond.instanceMethod ({ cls := "VipCache", name := "oldestEntry", desc := "()I" } : Jvm.MethodName)) ∈ lw_all := lw_g (lw_at lw_m1 104 rfl) rfl
theorem q123 : (Jvm.Cond.code ({ cls := "VipCache", name := "oldestEntry", desc := "()I" } : Jvm.MethodName) prog_1_method_10_code (3 : Nat) (Option.some Jvm.ClassFile.FieldType.int)) ∈ lw_all := lw_g (lw_at lw_m1 105 rfl) rfl
theorem q124 : (Jvm.Cond.methodLink "VipCache" (99 : Nat) ({ cls := "VipCache", name := "reach", desc := "(III)I" } : Jvm.MethodName)) ∈ lw_all := lw_g (lw_at lw_m1 106 rfl) rfl
theorem q125 : (Jvm.Cond.privateMethod ({ cls := "VipCache", name := "reach", desc := "(III)I" } : Jvm.MethodName)) ∈ lw_tbl := lw_at lw_m1 107 rfl
theorem q126 : (Jvm.Cond.instanceMethod ({ cls := "VipCache", name := "reach", desc := "(III)I" } : Jvm.MethodName)) ∈ lw_all := lw_g (lw_at lw_m1 108 rfl) rfl
theorem q127 : (Jvm.Cond.code ({ cls := "VipCache", name := "reach", desc := "(III)I" } : Jvm.MethodName) prog_1_method_17_code (6 : Nat) (Option.some Jvm.ClassFile.FieldType.int)) ∈ lw_all := lw_g (lw_at lw_m1 109 rfl) rfl
theorem q128 : (Jvm.Cond.methodLink "VipCache" (89 : Nat) ({ cls := "VipCache", name := "bring", desc := "(II)I" } : Jvm.MethodName)) ∈ lw_all := lw_g (lw_at lw_m1 110 rfl) rfl
theorem q129 : (Jvm.Cond.privateMethod ({ cls := "VipCache", name := "bring", desc := "(II)I" } : Jvm.MethodName)) ∈ lw_tbl := lw_at lw_m1 111 rfl
theorem q130 : (Jvm.Cond.instanceMethod ({ cls := "VipCache", name := "bring", desc := "(II)I" } : Jvm.MethodName)) ∈ lw_all := lw_g (lw_at lw_m1 112 rfl) rfl
theorem q131 : (Jvm.Cond.code ({ cls := "VipCache", name := "bring", desc := "(II)I" } : Jvm.MethodName) prog_1_method_16_code (6 : Nat) (Option.some Jvm.ClassFile.FieldType.int)) ∈ lw_all := lw_g (lw_at lw_m1 113 rfl) rfl
theorem q132 : (Jvm.Cond.methodLink "VipCache" (76 : Nat) ({ cls := "VipCache", name := "lineIn", desc := "(II)I" } : Jvm.MethodName)) ∈ lw_all := lw_g (lw_at lw_m1 114 rfl) rfl
theorem q133 : (Jvm.Cond.privateMethod ({ cls := "VipCache", name := "lineIn", desc := "(II)I" } : Jvm.MethodName)) ∈ lw_tbl := lw_at lw_m1 115 rfl
theorem q134 : (Jvm.Cond.instanceMethod ({ cls := "VipCache", name := "lineIn", desc := "(II)I" } : Jvm.MethodName)) ∈ lw_all := lw_g (lw_at lw_m1 116 rfl) rfl
theorem q135 : (Jvm.Cond.code ({ cls := "VipCache", name := "lineIn", desc := "(II)I" } : Jvm.MethodName) prog_1_method_13_code (3 : Nat) (Option.some Jvm.ClassFile.FieldType.int)) ∈ lw_all := lw_g (lw_at lw_m1 117 rfl) rfl
theorem q136 : (Jvm.Cond.methodLink "VipCache" (83 : Nat) ({ cls := "VipCache", name := "lineAnywhere", desc := "(I)I" } : Jvm.MethodName)) ∈ lw_all := lw_g (lw_at lw_m1 118 rfl) rfl
theorem q137 : (Jvm.Cond.privateMethod ({ cls := "VipCache", name := "lineAnywhere", desc := "(I)I" } : Jvm.MethodName)) ∈ lw_tbl := lw_at lw_m1 119 rfl
theorem q138 : (Jvm.Cond.instanceMethod ({ cls := "VipCache", name := "lineAnywhere", desc := "(I)I" } : Jvm.MethodName)) ∈ lw_all := lw_g (lw_at lw_m1 120 rfl) rfl
theorem q139 : (Jvm.Cond.code ({ cls := "VipCache", name := "lineAnywhere", desc := "(I)I" } : Jvm.MethodName) prog_1_method_14_code (5 : Nat) (Option.some Jvm.ClassFile.FieldType.int)) ∈ lw_all := lw_g (lw_at lw_m1 121 rfl) rfl
theorem q140 : (Jvm.Cond.methodLink "VipCache" (86 : Nat) ({ cls := "VipCache", name := "victim", desc := "(I)I" } : Jvm.MethodName)) ∈ lw_all := lw_g (lw_at lw_m1 122 rfl) rfl
theorem q141 : (Jvm.Cond.privateMethod ({ cls := "VipCache", name := "victim", desc := "(I)I" } : Jvm.MethodName)) ∈ lw_tbl := lw_at lw_m1 123 rfl
theorem q142 : (Jvm.Cond.instanceMethod ({ cls := "VipCache", name := "victim", desc := "(I)I" } : Jvm.MethodName)) ∈ lw_all := lw_g (lw_at lw_m1 124 rfl) rfl
theorem q143 : (Jvm.Cond.code ({ cls := "VipCache", name := "victim", desc := "(I)I" } : Jvm.MethodName) prog_1_method_15_code (5 : Nat) (Option.some Jvm.ClassFile.FieldType.int)) ∈ lw_all := lw_g (lw_at lw_m1 125 rfl) rfl
theorem q144 : (Jvm.Cond.methodLink "VipCache" (80 : Nat) ({ cls := "VipCache", name := "writeBack", desc := "(I)V" } : Jvm.MethodName)) ∈ lw_all := lw_g (lw_at lw_m1 126 rfl) rfl
theorem q145 : (Jvm.Cond.privateMethod ({ cls := "VipCache", name := "writeBack", desc := "(I)V" } : Jvm.MethodName)) ∈ lw_tbl := lw_at lw_m1 127 rfl
theorem q146 : (Jvm.Cond.instanceMethod ({ cls := "VipCache", name := "writeBack", desc := "(I)V" } : Jvm.MethodName)) ∈ lw_all := lw_g (lw_at lw_m1 128 rfl) rfl
theorem q147 : (Jvm.Cond.code ({ cls := "VipCache", name := "writeBack", desc := "(I)V" } : Jvm.MethodName) prog_1_method_12_code (3 : Nat) (Option.none : Option Jvm.ClassFile.FieldType)) ∈ lw_all := lw_g (lw_at lw_m1 129 rfl) rfl
theorem q149 : (Jvm.Cond.instanceMethod ({ cls := "VipCache", name := "store", desc := "(III)I" } : Jvm.MethodName)) ∈ lw_all := lw_g (lw_at lw_m1 131 rfl) rfl
theorem q150 : (Jvm.Cond.selects "VipCache" ({ cls := "VipCache", name := "store", desc := "(III)I" } : Jvm.MethodName) ({ cls := "VipCache", name := "store", desc := "(III)I" } : Jvm.MethodName)) ∈ lw_all := lw_g (lw_at lw_m1 132 rfl) rfl
theorem q151 : (Jvm.Cond.code ({ cls := "VipCache", name := "store", desc := "(III)I" } : Jvm.MethodName) prog_1_method_21_code (5 : Nat) (Option.some Jvm.ClassFile.FieldType.int)) ∈ lw_all := lw_g (lw_at lw_m1 133 rfl) rfl
theorem q152 : (Jvm.Cond.methodLink "VipCache" (103 : Nat) ({ cls := "VipCache", name := "open", desc := "(II)I" } : Jvm.MethodName)) ∈ lw_all := lw_g (lw_at lw_m1 134 rfl) rfl
theorem q153 : (Jvm.Cond.privateMethod ({ cls := "VipCache", name := "open", desc := "(II)I" } : Jvm.MethodName)) ∈ lw_tbl := lw_at lw_m1 135 rfl
theorem q154 : (Jvm.Cond.instanceMethod ({ cls := "VipCache", name := "open", desc := "(II)I" } : Jvm.MethodName)) ∈ lw_all := lw_g (lw_at lw_m1 136 rfl) rfl
theorem q155 : (Jvm.Cond.code ({ cls := "VipCache", name := "open", desc := "(II)I" } : Jvm.MethodName) prog_1_method_20_code (5 : Nat) (Option.some Jvm.ClassFile.FieldType.int)) ∈ lw_all := lw_g (lw_at lw_m1 137 rfl) rfl
theorem q157 : (Jvm.Cond.instanceMethod ({ cls := "VipCache", name := "trade", desc := "(III)I" } : Jvm.MethodName)) ∈ lw_all := lw_g (lw_at lw_m1 139 rfl) rfl
theorem q158 : (Jvm.Cond.selects "VipCache" ({ cls := "VipCache", name := "trade", desc := "(III)I" } : Jvm.MethodName) ({ cls := "VipCache", name := "trade", desc := "(III)I" } : Jvm.MethodName)) ∈ lw_all := lw_g (lw_at lw_m1 140 rfl) rfl
theorem q159 : (Jvm.Cond.code ({ cls := "VipCache", name := "trade", desc := "(III)I" } : Jvm.MethodName) prog_1_method_22_code (6 : Nat) (Option.some Jvm.ClassFile.FieldType.int)) ∈ lw_all := lw_g (lw_at lw_m1 141 rfl) rfl
theorem q161 : (Jvm.Cond.instanceMethod ({ cls := "VipCache", name := "fault", desc := "()I" } : Jvm.MethodName)) ∈ lw_all := lw_g (lw_at lw_m1 143 rfl) rfl
theorem q162 : (Jvm.Cond.selects "VipCache" ({ cls := "VipCache", name := "fault", desc := "()I" } : Jvm.MethodName) ({ cls := "VipCache", name := "fault", desc := "()I" } : Jvm.MethodName)) ∈ lw_all := lw_g (lw_at lw_m1 144 rfl) rfl
theorem q163 : (Jvm.Cond.code ({ cls := "VipCache", name := "fault", desc := "()I" } : Jvm.MethodName) prog_1_method_23_code (1 : Nat) (Option.some Jvm.ClassFile.FieldType.int)) ∈ lw_all := lw_g (lw_at lw_m1 145 rfl) rfl
theorem q165 : (Jvm.Cond.instanceMethod ({ cls := "VipCache", name := "word", desc := "(II)I" } : Jvm.MethodName)) ∈ lw_all := lw_g (lw_at lw_m1 147 rfl) rfl
theorem q166 : (Jvm.Cond.selects "VipCache" ({ cls := "VipCache", name := "word", desc := "(II)I" } : Jvm.MethodName) ({ cls := "VipCache", name := "word", desc := "(II)I" } : Jvm.MethodName)) ∈ lw_all := lw_g (lw_at lw_m1 148 rfl) rfl
theorem q167 : (Jvm.Cond.code ({ cls := "VipCache", name := "word", desc := "(II)I" } : Jvm.MethodName) prog_1_method_24_code (3 : Nat) (Option.some Jvm.ClassFile.FieldType.int)) ∈ lw_all := lw_g (lw_at lw_m1 149 rfl) rfl
theorem q168 : (Jvm.Cond.methodLink "VipCache" (106 : Nat) ({ cls := "VipCache", name := "snoop", desc := "(IZ)V" } : Jvm.MethodName)) ∈ lw_all := lw_g (lw_at lw_m1 150 rfl) rfl
theorem q169 : (Jvm.Cond.privateMethod ({ cls := "VipCache", name := "snoop", desc := "(IZ)V" } : Jvm.MethodName)) ∈ lw_tbl := lw_at lw_m1 151 rfl
theorem q170 : (Jvm.Cond.instanceMethod ({ cls := "VipCache", name := "snoop", desc := "(IZ)V" } : Jvm.MethodName)) ∈ lw_all := lw_g (lw_at lw_m1 152 rfl) rfl
theorem q171 : (Jvm.Cond.code ({ cls := "VipCache", name := "snoop", desc := "(IZ)V" } : Jvm.MethodName) prog_1_method_18_code (4 : Nat) (Option.none : Option Jvm.ClassFile.FieldType)) ∈ lw_all := lw_g (lw_at lw_m1 153 rfl) rfl
theorem q173 : (Jvm.Cond.instanceMethod ({ cls := "VipCache", name := "setWord", desc := "(III)I" } : Jvm.MethodName)) ∈ lw_all := lw_g (lw_at lw_m1 155 rfl) rfl
theorem q174 : (Jvm.Cond.selects "VipCache" ({ cls := "VipCache", name := "setWord", desc := "(III)I" } : Jvm.MethodName) ({ cls := "VipCache", name := "setWord", desc := "(III)I" } : Jvm.MethodName)) ∈ lw_all := lw_g (lw_at lw_m1 156 rfl) rfl
theorem q175 : (Jvm.Cond.code ({ cls := "VipCache", name := "setWord", desc := "(III)I" } : Jvm.MethodName) prog_1_method_25_code (4 : Nat) (Option.some Jvm.ClassFile.FieldType.int)) ∈ lw_all := lw_g (lw_at lw_m1 157 rfl) rfl
theorem q177 : (Jvm.Cond.instanceMethod ({ cls := "VipCache", name := "copyFrame", desc := "(II)I" } : Jvm.MethodName)) ∈ lw_all := lw_g (lw_at lw_m1 159 rfl) rfl
theorem q178 : (Jvm.Cond.selects "VipCache" ({ cls := "VipCache", name := "copyFrame", desc := "(II)I" } : Jvm.MethodName) ({ cls := "VipCache", name := "copyFrame", desc := "(II)I" } : Jvm.MethodName)) ∈ lw_all := lw_g (lw_at lw_m1 160 rfl) rfl
theorem q179 : (Jvm.Cond.code ({ cls := "VipCache", name := "copyFrame", desc := "(II)I" } : Jvm.MethodName) prog_1_method_26_code (5 : Nat) (Option.some Jvm.ClassFile.FieldType.int)) ∈ lw_all := lw_g (lw_at lw_m1 161 rfl) rfl
theorem q181 : (Jvm.Cond.instanceMethod ({ cls := "VipCache", name := "marks", desc := "(I)I" } : Jvm.MethodName)) ∈ lw_all := lw_g (lw_at lw_m1 163 rfl) rfl
theorem q182 : (Jvm.Cond.selects "VipCache" ({ cls := "VipCache", name := "marks", desc := "(I)I" } : Jvm.MethodName) ({ cls := "VipCache", name := "marks", desc := "(I)I" } : Jvm.MethodName)) ∈ lw_all := lw_g (lw_at lw_m1 164 rfl) rfl
theorem q183 : (Jvm.Cond.code ({ cls := "VipCache", name := "marks", desc := "(I)I" } : Jvm.MethodName) prog_1_method_27_code (3 : Nat) (Option.some Jvm.ClassFile.FieldType.int)) ∈ lw_all := lw_g (lw_at lw_m1 165 rfl) rfl
theorem q185 : (Jvm.Cond.instanceMethod ({ cls := "VipCache", name := "clearMarks", desc := "(I)I" } : Jvm.MethodName)) ∈ lw_all := lw_g (lw_at lw_m1 167 rfl) rfl
theorem q186 : (Jvm.Cond.selects "VipCache" ({ cls := "VipCache", name := "clearMarks", desc := "(I)I" } : Jvm.MethodName) ({ cls := "VipCache", name := "clearMarks", desc := "(I)I" } : Jvm.MethodName)) ∈ lw_all := lw_g (lw_at lw_m1 168 rfl) rfl
theorem q187 : (Jvm.Cond.code ({ cls := "VipCache", name := "clearMarks", desc := "(I)I" } : Jvm.MethodName) prog_1_method_28_code (3 : Nat) (Option.some Jvm.ClassFile.FieldType.int)) ∈ lw_all := lw_g (lw_at lw_m1 169 rfl) rfl
theorem q188 : (Jvm.Cond.methodLink "VipCache" (110 : Nat) ({ cls := "VipCache", name := "marks", desc := "(I)I" } : Jvm.MethodName)) ∈ lw_all := lw_g (lw_at lw_m1 170 rfl) rfl
theorem q190 : (Jvm.Cond.instanceMethod ({ cls := "VipCache", name := "shown", desc := "(I)I" } : Jvm.MethodName)) ∈ lw_all := lw_g (lw_at lw_m1 172 rfl) rfl
theorem q191 : (Jvm.Cond.selects "VipCache" ({ cls := "VipCache", name := "shown", desc := "(I)I" } : Jvm.MethodName) ({ cls := "VipCache", name := "shown", desc := "(I)I" } : Jvm.MethodName)) ∈ lw_all := lw_g (lw_at lw_m1 173 rfl) rfl
theorem q192 : (Jvm.Cond.code ({ cls := "VipCache", name := "shown", desc := "(I)I" } : Jvm.MethodName) prog_1_method_29_code (4 : Nat) (Option.some Jvm.ClassFile.FieldType.int)) ∈ lw_all := lw_g (lw_at lw_m1 174 rfl) rfl
theorem q194 : (Jvm.Cond.instanceMethod ({ cls := "VipCache", name := "dirtyPages", desc := "()I" } : Jvm.MethodName)) ∈ lw_all := lw_g (lw_at lw_m1 176 rfl) rfl
theorem q195 : (Jvm.Cond.selects "VipCache" ({ cls := "VipCache", name := "dirtyPages", desc := "()I" } : Jvm.MethodName) ({ cls := "VipCache", name := "dirtyPages", desc := "()I" } : Jvm.MethodName)) ∈ lw_all := lw_g (lw_at lw_m1 177 rfl) rfl
theorem q196 : (Jvm.Cond.code ({ cls := "VipCache", name := "dirtyPages", desc := "()I" } : Jvm.MethodName) prog_1_method_30_code (3 : Nat) (Option.some Jvm.ClassFile.FieldType.int)) ∈ lw_all := lw_g (lw_at lw_m1 178 rfl) rfl
theorem q198 : (Jvm.Cond.instanceMethod ({ cls := "VipCache", name := "flush", desc := "()V" } : Jvm.MethodName)) ∈ lw_all := lw_g (lw_at lw_m1 180 rfl) rfl
theorem q199 : (Jvm.Cond.selects "VipCache" ({ cls := "VipCache", name := "flush", desc := "()V" } : Jvm.MethodName) ({ cls := "VipCache", name := "flush", desc := "()V" } : Jvm.MethodName)) ∈ lw_all := lw_g (lw_at lw_m1 181 rfl) rfl
theorem q200 : (Jvm.Cond.code ({ cls := "VipCache", name := "flush", desc := "()V" } : Jvm.MethodName) prog_1_method_31_code (2 : Nat) (Option.none : Option Jvm.ClassFile.FieldType)) ∈ lw_all := lw_g (lw_at lw_m1 182 rfl) rfl
theorem q202 : (Jvm.Cond.instanceMethod ({ cls := "VipCache", name := "forget", desc := "(I)I" } : Jvm.MethodName)) ∈ lw_all := lw_g (lw_at lw_m1 184 rfl) rfl
theorem q203 : (Jvm.Cond.selects "VipCache" ({ cls := "VipCache", name := "forget", desc := "(I)I" } : Jvm.MethodName) ({ cls := "VipCache", name := "forget", desc := "(I)I" } : Jvm.MethodName)) ∈ lw_all := lw_g (lw_at lw_m1 185 rfl) rfl
theorem q204 : (Jvm.Cond.code ({ cls := "VipCache", name := "forget", desc := "(I)I" } : Jvm.MethodName) prog_1_method_32_code (2 : Nat) (Option.some Jvm.ClassFile.FieldType.int)) ∈ lw_all := lw_g (lw_at lw_m1 186 rfl) rfl
theorem q206 : (Jvm.Cond.instanceMethod ({ cls := "VipCache", name := "warm", desc := "(I)I" } : Jvm.MethodName)) ∈ lw_all := lw_g (lw_at lw_m1 188 rfl) rfl
theorem q207 : (Jvm.Cond.selects "VipCache" ({ cls := "VipCache", name := "warm", desc := "(I)I" } : Jvm.MethodName) ({ cls := "VipCache", name := "warm", desc := "(I)I" } : Jvm.MethodName)) ∈ lw_all := lw_g (lw_at lw_m1 189 rfl) rfl
theorem q208 : (Jvm.Cond.code ({ cls := "VipCache", name := "warm", desc := "(I)I" } : Jvm.MethodName) prog_1_method_33_code (2 : Nat) (Option.some Jvm.ClassFile.FieldType.int)) ∈ lw_all := lw_g (lw_at lw_m1 190 rfl) rfl
theorem in_X0 : ∀ w ∈ wsX00, w ∈ lw_all := lw_in wsX00 [45, 47, 49, 51, 53, 55, 57, 59, 61, 63, 65, 67, 69, 71, 73, 75] (by decide +kernel) (by decide +kernel)
end
section
/-! VipCacheModel -/
set_option maxRecDepth 100000
def RX1 : String := "VipCacheModel"
def TX1 : u_T := fun k => match k with
  | 0 => ("VipCacheModel", "words", "[I", true)
  | 1 => ("VipCacheModel", "frames", "[I", true)
  | 2 => ("VipCacheModel", "writable", "[Z", true)
  | 3 => ("VipCacheModel", "used", "[Z", true)
  | 4 => ("VipCacheModel", "dirty", "[Z", true)
  | _ => ("VipCacheModel", "fault", "I", false)
def tyX1 : Nat → FieldType := fun k => match k with
  | 0 => .array .int
  | 1 => .array .int
  | 2 => .array .boolean
  | 3 => .array .boolean
  | 4 => .array .boolean
  | _ => .int
abbrev wsX10 : List Cond := u_ws RX1 TX1 6
theorem nmX1 : ∀ a, a < 6 → ∀ b, b < 6 → a ≠ b → (TX1 a).2.1 ≠ (TX1 b).2.1 := by decide +kernel
theorem tyX1_ok : ∀ k, k < 6 → parseFieldDescriptor (TX1 k).2.2.1 = some (tyX1 k) := by decide +kernel
abbrev cX1_init : ByteArray := prog_3_method_1_code
def yX1_init : MethodName := ⟨RX1, "<init>", "()V"⟩
theorem dX1_init_0 : decode cX1_init 0 = .ok (.aload_n 0, 1) := by decide +kernel
theorem dX1_init_1 : decode cX1_init 1 = .ok (.invokespecial 1, 3) := by decide +kernel
theorem dX1_init_4 : decode cX1_init 4 = .ok (.aload_n 0, 1) := by decide +kernel
theorem dX1_init_5 : decode cX1_init 5 = .ok (.bipush 64, 2) := by decide +kernel
theorem dX1_init_7 : decode cX1_init 7 = .ok (.newarray .int, 2) := by decide +kernel
theorem dX1_init_9 : decode cX1_init 9 = .ok (.putfield 7, 3) := by decide +kernel
theorem dX1_init_12 : decode cX1_init 12 = .ok (.aload_n 0, 1) := by decide +kernel
theorem dX1_init_13 : decode cX1_init 13 = .ok (.bipush 16, 2) := by decide +kernel
theorem dX1_init_15 : decode cX1_init 15 = .ok (.newarray .int, 2) := by decide +kernel
theorem dX1_init_17 : decode cX1_init 17 = .ok (.putfield 13, 3) := by decide +kernel
theorem dX1_init_20 : decode cX1_init 20 = .ok (.aload_n 0, 1) := by decide +kernel
theorem dX1_init_21 : decode cX1_init 21 = .ok (.bipush 16, 2) := by decide +kernel
theorem dX1_init_23 : decode cX1_init 23 = .ok (.newarray .boolean, 2) := by decide +kernel
theorem dX1_init_25 : decode cX1_init 25 = .ok (.putfield 16, 3) := by decide +kernel
theorem dX1_init_28 : decode cX1_init 28 = .ok (.aload_n 0, 1) := by decide +kernel
theorem dX1_init_29 : decode cX1_init 29 = .ok (.bipush 16, 2) := by decide +kernel
theorem dX1_init_31 : decode cX1_init 31 = .ok (.newarray .boolean, 2) := by decide +kernel
theorem dX1_init_33 : decode cX1_init 33 = .ok (.putfield 20, 3) := by decide +kernel
theorem dX1_init_36 : decode cX1_init 36 = .ok (.aload_n 0, 1) := by decide +kernel
theorem dX1_init_37 : decode cX1_init 37 = .ok (.bipush 16, 2) := by decide +kernel
theorem dX1_init_39 : decode cX1_init 39 = .ok (.newarray .boolean, 2) := by decide +kernel
theorem dX1_init_41 : decode cX1_init 41 = .ok (.putfield 23, 3) := by decide +kernel
theorem dX1_init_44 : decode cX1_init 44 = .ok (.iconst 0, 1) := by decide +kernel
theorem dX1_init_45 : decode cX1_init 45 = .ok (.istore_n 1, 1) := by decide +kernel
theorem dX1_init_46 : decode cX1_init 46 = .ok (.iload_n 1, 1) := by decide +kernel
theorem dX1_init_47 : decode cX1_init 47 = .ok (.bipush 16, 2) := by decide +kernel
theorem dX1_init_49 : decode cX1_init 49 = .ok (.if_icmp .ge 17, 3) := by decide +kernel
theorem dX1_init_52 : decode cX1_init 52 = .ok (.aload_n 0, 1) := by decide +kernel
theorem dX1_init_53 : decode cX1_init 53 = .ok (.getfield 13, 3) := by decide +kernel
theorem dX1_init_56 : decode cX1_init 56 = .ok (.iload_n 1, 1) := by decide +kernel
theorem dX1_init_57 : decode cX1_init 57 = .ok (.bipush (-2), 2) := by decide +kernel
theorem dX1_init_59 : decode cX1_init 59 = .ok (.iastore, 1) := by decide +kernel
theorem dX1_init_60 : decode cX1_init 60 = .ok (.iinc 1 1, 3) := by decide +kernel
theorem dX1_init_63 : decode cX1_init 63 = .ok (.goto (-17), 3) := by decide +kernel
theorem dX1_init_66 : decode cX1_init 66 = .ok (.return_, 1) := by decide +kernel
abbrev cX1_map : ByteArray := prog_3_method_5_code
def yX1_map : MethodName := ⟨RX1, "map", "(III)I"⟩
theorem dX1_map_0 : decode cX1_map 0 = .ok (.aload_n 0, 1) := by decide +kernel
theorem dX1_map_1 : decode cX1_map 1 = .ok (.iload_n 1, 1) := by decide +kernel
theorem dX1_map_2 : decode cX1_map 2 = .ok (.invokevirtual 26, 3) := by decide +kernel
theorem dX1_map_5 : decode cX1_map 5 = .ok (.ifCond .eq 11, 3) := by decide +kernel
theorem dX1_map_8 : decode cX1_map 8 = .ok (.aload_n 0, 1) := by decide +kernel
theorem dX1_map_9 : decode cX1_map 9 = .ok (.iload_n 2, 1) := by decide +kernel
theorem dX1_map_10 : decode cX1_map 10 = .ok (.invokevirtual 30, 3) := by decide +kernel
theorem dX1_map_13 : decode cX1_map 13 = .ok (.ifCond .ne 5, 3) := by decide +kernel
theorem dX1_map_16 : decode cX1_map 16 = .ok (.iconst (-1), 1) := by decide +kernel
theorem dX1_map_17 : decode cX1_map 17 = .ok (.ireturn, 1) := by decide +kernel
theorem dX1_map_18 : decode cX1_map 18 = .ok (.aload_n 0, 1) := by decide +kernel
theorem dX1_map_19 : decode cX1_map 19 = .ok (.getfield 13, 3) := by decide +kernel
theorem dX1_map_22 : decode cX1_map 22 = .ok (.iload_n 1, 1) := by decide +kernel
theorem dX1_map_23 : decode cX1_map 23 = .ok (.iaload, 1) := by decide +kernel
theorem dX1_map_24 : decode cX1_map 24 = .ok (.istore 4, 2) := by decide +kernel
theorem dX1_map_26 : decode cX1_map 26 = .ok (.aload_n 0, 1) := by decide +kernel
theorem dX1_map_27 : decode cX1_map 27 = .ok (.iload_n 1, 1) := by decide +kernel
theorem dX1_map_28 : decode cX1_map 28 = .ok (.iload_n 2, 1) := by decide +kernel
theorem dX1_map_29 : decode cX1_map 29 = .ok (.iload_n 3, 1) := by decide +kernel
theorem dX1_map_30 : decode cX1_map 30 = .ok (.ifCond .eq 7, 3) := by decide +kernel
theorem dX1_map_33 : decode cX1_map 33 = .ok (.iconst 1, 1) := by decide +kernel
theorem dX1_map_34 : decode cX1_map 34 = .ok (.goto 4, 3) := by decide +kernel
theorem dX1_map_37 : decode cX1_map 37 = .ok (.iconst 0, 1) := by decide +kernel
theorem dX1_map_38 : decode cX1_map 38 = .ok (.invokevirtual 33, 3) := by decide +kernel
theorem dX1_map_41 : decode cX1_map 41 = .ok (.iload 4, 2) := by decide +kernel
theorem dX1_map_43 : decode cX1_map 43 = .ok (.ireturn, 1) := by decide +kernel
abbrev cX1_isPage : ByteArray := prog_3_method_2_code
def yX1_isPage : MethodName := ⟨RX1, "isPage", "(I)Z"⟩
theorem dX1_isPage_0 : decode cX1_isPage 0 = .ok (.iload_n 1, 1) := by decide +kernel
theorem dX1_isPage_1 : decode cX1_isPage 1 = .ok (.ifCond .lt 13, 3) := by decide +kernel
theorem dX1_isPage_4 : decode cX1_isPage 4 = .ok (.iload_n 1, 1) := by decide +kernel
theorem dX1_isPage_5 : decode cX1_isPage 5 = .ok (.bipush 15, 2) := by decide +kernel
theorem dX1_isPage_7 : decode cX1_isPage 7 = .ok (.if_icmp .gt 7, 3) := by decide +kernel
theorem dX1_isPage_10 : decode cX1_isPage 10 = .ok (.iconst 1, 1) := by decide +kernel
theorem dX1_isPage_11 : decode cX1_isPage 11 = .ok (.goto 4, 3) := by decide +kernel
theorem dX1_isPage_14 : decode cX1_isPage 14 = .ok (.iconst 0, 1) := by decide +kernel
theorem dX1_isPage_15 : decode cX1_isPage 15 = .ok (.ireturn, 1) := by decide +kernel
abbrev cX1_isNumber : ByteArray := prog_3_method_3_code
def yX1_isNumber : MethodName := ⟨RX1, "isNumber", "(I)Z"⟩
theorem dX1_isNumber_0 : decode cX1_isNumber 0 = .ok (.iload_n 1, 1) := by decide +kernel
theorem dX1_isNumber_1 : decode cX1_isNumber 1 = .ok (.ifCond .lt 13, 3) := by decide +kernel
theorem dX1_isNumber_4 : decode cX1_isNumber 4 = .ok (.iload_n 1, 1) := by decide +kernel
theorem dX1_isNumber_5 : decode cX1_isNumber 5 = .ok (.bipush 7, 2) := by decide +kernel
theorem dX1_isNumber_7 : decode cX1_isNumber 7 = .ok (.if_icmp .gt 7, 3) := by decide +kernel
theorem dX1_isNumber_10 : decode cX1_isNumber 10 = .ok (.iconst 1, 1) := by decide +kernel
theorem dX1_isNumber_11 : decode cX1_isNumber 11 = .ok (.goto 4, 3) := by decide +kernel
theorem dX1_isNumber_14 : decode cX1_isNumber 14 = .ok (.iconst 0, 1) := by decide +kernel
theorem dX1_isNumber_15 : decode cX1_isNumber 15 = .ok (.ireturn, 1) := by decide +kernel
abbrev cX1_show : ByteArray := prog_3_method_4_code
def yX1_show : MethodName := ⟨RX1, "show", "(IIZ)V"⟩
theorem dX1_show_0 : decode cX1_show 0 = .ok (.aload_n 0, 1) := by decide +kernel
theorem dX1_show_1 : decode cX1_show 1 = .ok (.getfield 13, 3) := by decide +kernel
theorem dX1_show_4 : decode cX1_show 4 = .ok (.iload_n 1, 1) := by decide +kernel
theorem dX1_show_5 : decode cX1_show 5 = .ok (.iload_n 2, 1) := by decide +kernel
theorem dX1_show_6 : decode cX1_show 6 = .ok (.iastore, 1) := by decide +kernel
theorem dX1_show_7 : decode cX1_show 7 = .ok (.aload_n 0, 1) := by decide +kernel
theorem dX1_show_8 : decode cX1_show 8 = .ok (.getfield 16, 3) := by decide +kernel
theorem dX1_show_11 : decode cX1_show 11 = .ok (.iload_n 1, 1) := by decide +kernel
theorem dX1_show_12 : decode cX1_show 12 = .ok (.iload_n 3, 1) := by decide +kernel
theorem dX1_show_13 : decode cX1_show 13 = .ok (.bastore, 1) := by decide +kernel
theorem dX1_show_14 : decode cX1_show 14 = .ok (.aload_n 0, 1) := by decide +kernel
theorem dX1_show_15 : decode cX1_show 15 = .ok (.getfield 20, 3) := by decide +kernel
theorem dX1_show_18 : decode cX1_show 18 = .ok (.iload_n 1, 1) := by decide +kernel
theorem dX1_show_19 : decode cX1_show 19 = .ok (.iconst 0, 1) := by decide +kernel
theorem dX1_show_20 : decode cX1_show 20 = .ok (.bastore, 1) := by decide +kernel
theorem dX1_show_21 : decode cX1_show 21 = .ok (.aload_n 0, 1) := by decide +kernel
theorem dX1_show_22 : decode cX1_show 22 = .ok (.getfield 23, 3) := by decide +kernel
theorem dX1_show_25 : decode cX1_show 25 = .ok (.iload_n 1, 1) := by decide +kernel
theorem dX1_show_26 : decode cX1_show 26 = .ok (.iconst 0, 1) := by decide +kernel
theorem dX1_show_27 : decode cX1_show 27 = .ok (.bastore, 1) := by decide +kernel
theorem dX1_show_28 : decode cX1_show 28 = .ok (.return_, 1) := by decide +kernel
abbrev cX1_unmap : ByteArray := prog_3_method_6_code
def yX1_unmap : MethodName := ⟨RX1, "unmap", "(I)I"⟩
theorem dX1_unmap_0 : decode cX1_unmap 0 = .ok (.aload_n 0, 1) := by decide +kernel
theorem dX1_unmap_1 : decode cX1_unmap 1 = .ok (.iload_n 1, 1) := by decide +kernel
theorem dX1_unmap_2 : decode cX1_unmap 2 = .ok (.invokevirtual 26, 3) := by decide +kernel
theorem dX1_unmap_5 : decode cX1_unmap 5 = .ok (.ifCond .ne 5, 3) := by decide +kernel
theorem dX1_unmap_8 : decode cX1_unmap 8 = .ok (.iconst (-1), 1) := by decide +kernel
theorem dX1_unmap_9 : decode cX1_unmap 9 = .ok (.ireturn, 1) := by decide +kernel
theorem dX1_unmap_10 : decode cX1_unmap 10 = .ok (.aload_n 0, 1) := by decide +kernel
theorem dX1_unmap_11 : decode cX1_unmap 11 = .ok (.getfield 13, 3) := by decide +kernel
theorem dX1_unmap_14 : decode cX1_unmap 14 = .ok (.iload_n 1, 1) := by decide +kernel
theorem dX1_unmap_15 : decode cX1_unmap 15 = .ok (.iaload, 1) := by decide +kernel
theorem dX1_unmap_16 : decode cX1_unmap 16 = .ok (.istore_n 2, 1) := by decide +kernel
theorem dX1_unmap_17 : decode cX1_unmap 17 = .ok (.aload_n 0, 1) := by decide +kernel
theorem dX1_unmap_18 : decode cX1_unmap 18 = .ok (.iload_n 1, 1) := by decide +kernel
theorem dX1_unmap_19 : decode cX1_unmap 19 = .ok (.bipush (-2), 2) := by decide +kernel
theorem dX1_unmap_21 : decode cX1_unmap 21 = .ok (.iconst 0, 1) := by decide +kernel
theorem dX1_unmap_22 : decode cX1_unmap 22 = .ok (.invokevirtual 33, 3) := by decide +kernel
theorem dX1_unmap_25 : decode cX1_unmap 25 = .ok (.iload_n 2, 1) := by decide +kernel
theorem dX1_unmap_26 : decode cX1_unmap 26 = .ok (.ireturn, 1) := by decide +kernel
abbrev cX1_frameOf : ByteArray := prog_3_method_7_code
def yX1_frameOf : MethodName := ⟨RX1, "frameOf", "(I)I"⟩
theorem dX1_frameOf_0 : decode cX1_frameOf 0 = .ok (.aload_n 0, 1) := by decide +kernel
theorem dX1_frameOf_1 : decode cX1_frameOf 1 = .ok (.iload_n 1, 1) := by decide +kernel
theorem dX1_frameOf_2 : decode cX1_frameOf 2 = .ok (.invokevirtual 26, 3) := by decide +kernel
theorem dX1_frameOf_5 : decode cX1_frameOf 5 = .ok (.ifCond .eq 12, 3) := by decide +kernel
theorem dX1_frameOf_8 : decode cX1_frameOf 8 = .ok (.aload_n 0, 1) := by decide +kernel
theorem dX1_frameOf_9 : decode cX1_frameOf 9 = .ok (.getfield 13, 3) := by decide +kernel
theorem dX1_frameOf_12 : decode cX1_frameOf 12 = .ok (.iload_n 1, 1) := by decide +kernel
theorem dX1_frameOf_13 : decode cX1_frameOf 13 = .ok (.iaload, 1) := by decide +kernel
theorem dX1_frameOf_14 : decode cX1_frameOf 14 = .ok (.goto 4, 3) := by decide +kernel
theorem dX1_frameOf_17 : decode cX1_frameOf 17 = .ok (.iconst (-1), 1) := by decide +kernel
theorem dX1_frameOf_18 : decode cX1_frameOf 18 = .ok (.ireturn, 1) := by decide +kernel
abbrev cX1_allow : ByteArray := prog_3_method_8_code
def yX1_allow : MethodName := ⟨RX1, "allow", "(II)I"⟩
theorem dX1_allow_0 : decode cX1_allow 0 = .ok (.aload_n 0, 1) := by decide +kernel
theorem dX1_allow_1 : decode cX1_allow 1 = .ok (.iload_n 1, 1) := by decide +kernel
theorem dX1_allow_2 : decode cX1_allow 2 = .ok (.invokevirtual 26, 3) := by decide +kernel
theorem dX1_allow_5 : decode cX1_allow 5 = .ok (.ifCond .ne 5, 3) := by decide +kernel
theorem dX1_allow_8 : decode cX1_allow 8 = .ok (.iconst (-1), 1) := by decide +kernel
theorem dX1_allow_9 : decode cX1_allow 9 = .ok (.ireturn, 1) := by decide +kernel
theorem dX1_allow_10 : decode cX1_allow 10 = .ok (.aload_n 0, 1) := by decide +kernel
theorem dX1_allow_11 : decode cX1_allow 11 = .ok (.getfield 13, 3) := by decide +kernel
theorem dX1_allow_14 : decode cX1_allow 14 = .ok (.iload_n 1, 1) := by decide +kernel
theorem dX1_allow_15 : decode cX1_allow 15 = .ok (.iaload, 1) := by decide +kernel
theorem dX1_allow_16 : decode cX1_allow 16 = .ok (.bipush (-2), 2) := by decide +kernel
theorem dX1_allow_18 : decode cX1_allow 18 = .ok (.if_icmp .ne 6, 3) := by decide +kernel
theorem dX1_allow_21 : decode cX1_allow 21 = .ok (.bipush (-2), 2) := by decide +kernel
theorem dX1_allow_23 : decode cX1_allow 23 = .ok (.ireturn, 1) := by decide +kernel
theorem dX1_allow_24 : decode cX1_allow 24 = .ok (.aload_n 0, 1) := by decide +kernel
theorem dX1_allow_25 : decode cX1_allow 25 = .ok (.getfield 16, 3) := by decide +kernel
theorem dX1_allow_28 : decode cX1_allow 28 = .ok (.iload_n 1, 1) := by decide +kernel
theorem dX1_allow_29 : decode cX1_allow 29 = .ok (.baload, 1) := by decide +kernel
theorem dX1_allow_30 : decode cX1_allow 30 = .ok (.ifCond .eq 7, 3) := by decide +kernel
theorem dX1_allow_33 : decode cX1_allow 33 = .ok (.iconst 1, 1) := by decide +kernel
theorem dX1_allow_34 : decode cX1_allow 34 = .ok (.goto 4, 3) := by decide +kernel
theorem dX1_allow_37 : decode cX1_allow 37 = .ok (.iconst 0, 1) := by decide +kernel
theorem dX1_allow_38 : decode cX1_allow 38 = .ok (.istore_n 3, 1) := by decide +kernel
theorem dX1_allow_39 : decode cX1_allow 39 = .ok (.aload_n 0, 1) := by decide +kernel
theorem dX1_allow_40 : decode cX1_allow 40 = .ok (.getfield 16, 3) := by decide +kernel
theorem dX1_allow_43 : decode cX1_allow 43 = .ok (.iload_n 1, 1) := by decide +kernel
theorem dX1_allow_44 : decode cX1_allow 44 = .ok (.iload_n 2, 1) := by decide +kernel
theorem dX1_allow_45 : decode cX1_allow 45 = .ok (.ifCond .eq 7, 3) := by decide +kernel
theorem dX1_allow_48 : decode cX1_allow 48 = .ok (.iconst 1, 1) := by decide +kernel
theorem dX1_allow_49 : decode cX1_allow 49 = .ok (.goto 4, 3) := by decide +kernel
theorem dX1_allow_52 : decode cX1_allow 52 = .ok (.iconst 0, 1) := by decide +kernel
theorem dX1_allow_53 : decode cX1_allow 53 = .ok (.bastore, 1) := by decide +kernel
theorem dX1_allow_54 : decode cX1_allow 54 = .ok (.iload_n 3, 1) := by decide +kernel
theorem dX1_allow_55 : decode cX1_allow 55 = .ok (.ireturn, 1) := by decide +kernel
abbrev cX1_load : ByteArray := prog_3_method_9_code
def yX1_load : MethodName := ⟨RX1, "load", "(II)I"⟩
theorem dX1_load_0 : decode cX1_load 0 = .ok (.aload_n 0, 1) := by decide +kernel
theorem dX1_load_1 : decode cX1_load 1 = .ok (.aload_n 0, 1) := by decide +kernel
theorem dX1_load_2 : decode cX1_load 2 = .ok (.iload_n 1, 1) := by decide +kernel
theorem dX1_load_3 : decode cX1_load 3 = .ok (.invokevirtual 26, 3) := by decide +kernel
theorem dX1_load_6 : decode cX1_load 6 = .ok (.ifCond .eq 11, 3) := by decide +kernel
theorem dX1_load_9 : decode cX1_load 9 = .ok (.aload_n 0, 1) := by decide +kernel
theorem dX1_load_10 : decode cX1_load 10 = .ok (.iload_n 2, 1) := by decide +kernel
theorem dX1_load_11 : decode cX1_load 11 = .ok (.invokevirtual 30, 3) := by decide +kernel
theorem dX1_load_14 : decode cX1_load 14 = .ok (.ifCond .ne 7, 3) := by decide +kernel
theorem dX1_load_17 : decode cX1_load 17 = .ok (.iconst (-1), 1) := by decide +kernel
theorem dX1_load_18 : decode cX1_load 18 = .ok (.goto 20, 3) := by decide +kernel
theorem dX1_load_21 : decode cX1_load 21 = .ok (.aload_n 0, 1) := by decide +kernel
theorem dX1_load_22 : decode cX1_load 22 = .ok (.getfield 13, 3) := by decide +kernel
theorem dX1_load_25 : decode cX1_load 25 = .ok (.iload_n 1, 1) := by decide +kernel
theorem dX1_load_26 : decode cX1_load 26 = .ok (.iaload, 1) := by decide +kernel
theorem dX1_load_27 : decode cX1_load 27 = .ok (.bipush (-2), 2) := by decide +kernel
theorem dX1_load_29 : decode cX1_load 29 = .ok (.if_icmp .ne 8, 3) := by decide +kernel
theorem dX1_load_32 : decode cX1_load 32 = .ok (.bipush (-2), 2) := by decide +kernel
theorem dX1_load_34 : decode cX1_load 34 = .ok (.goto 4, 3) := by decide +kernel
theorem dX1_load_37 : decode cX1_load 37 = .ok (.iconst 0, 1) := by decide +kernel
theorem dX1_load_38 : decode cX1_load 38 = .ok (.putfield 37, 3) := by decide +kernel
theorem dX1_load_41 : decode cX1_load 41 = .ok (.aload_n 0, 1) := by decide +kernel
theorem dX1_load_42 : decode cX1_load 42 = .ok (.getfield 37, 3) := by decide +kernel
theorem dX1_load_45 : decode cX1_load 45 = .ok (.ifCond .eq 5, 3) := by decide +kernel
theorem dX1_load_48 : decode cX1_load 48 = .ok (.iconst 0, 1) := by decide +kernel
theorem dX1_load_49 : decode cX1_load 49 = .ok (.ireturn, 1) := by decide +kernel
theorem dX1_load_50 : decode cX1_load 50 = .ok (.aload_n 0, 1) := by decide +kernel
theorem dX1_load_51 : decode cX1_load 51 = .ok (.getfield 20, 3) := by decide +kernel
theorem dX1_load_54 : decode cX1_load 54 = .ok (.iload_n 1, 1) := by decide +kernel
theorem dX1_load_55 : decode cX1_load 55 = .ok (.iconst 1, 1) := by decide +kernel
theorem dX1_load_56 : decode cX1_load 56 = .ok (.bastore, 1) := by decide +kernel
theorem dX1_load_57 : decode cX1_load 57 = .ok (.aload_n 0, 1) := by decide +kernel
theorem dX1_load_58 : decode cX1_load 58 = .ok (.getfield 7, 3) := by decide +kernel
theorem dX1_load_61 : decode cX1_load 61 = .ok (.bipush 8, 2) := by decide +kernel
theorem dX1_load_63 : decode cX1_load 63 = .ok (.aload_n 0, 1) := by decide +kernel
theorem dX1_load_64 : decode cX1_load 64 = .ok (.getfield 13, 3) := by decide +kernel
theorem dX1_load_67 : decode cX1_load 67 = .ok (.iload_n 1, 1) := by decide +kernel
theorem dX1_load_68 : decode cX1_load 68 = .ok (.iaload, 1) := by decide +kernel
theorem dX1_load_69 : decode cX1_load 69 = .ok (.imul, 1) := by decide +kernel
theorem dX1_load_70 : decode cX1_load 70 = .ok (.iload_n 2, 1) := by decide +kernel
theorem dX1_load_71 : decode cX1_load 71 = .ok (.iadd, 1) := by decide +kernel
theorem dX1_load_72 : decode cX1_load 72 = .ok (.iaload, 1) := by decide +kernel
theorem dX1_load_73 : decode cX1_load 73 = .ok (.ireturn, 1) := by decide +kernel
abbrev cX1_store : ByteArray := prog_3_method_11_code
def yX1_store : MethodName := ⟨RX1, "store", "(III)I"⟩
theorem dX1_store_0 : decode cX1_store 0 = .ok (.aload_n 0, 1) := by decide +kernel
theorem dX1_store_1 : decode cX1_store 1 = .ok (.iload_n 1, 1) := by decide +kernel
theorem dX1_store_2 : decode cX1_store 2 = .ok (.iload_n 2, 1) := by decide +kernel
theorem dX1_store_3 : decode cX1_store 3 = .ok (.invokevirtual 41, 3) := by decide +kernel
theorem dX1_store_6 : decode cX1_store 6 = .ok (.ifCond .eq 20, 3) := by decide +kernel
theorem dX1_store_9 : decode cX1_store 9 = .ok (.aload_n 0, 1) := by decide +kernel
theorem dX1_store_10 : decode cX1_store 10 = .ok (.getfield 7, 3) := by decide +kernel
theorem dX1_store_13 : decode cX1_store 13 = .ok (.bipush 8, 2) := by decide +kernel
theorem dX1_store_15 : decode cX1_store 15 = .ok (.aload_n 0, 1) := by decide +kernel
theorem dX1_store_16 : decode cX1_store 16 = .ok (.getfield 13, 3) := by decide +kernel
theorem dX1_store_19 : decode cX1_store 19 = .ok (.iload_n 1, 1) := by decide +kernel
theorem dX1_store_20 : decode cX1_store 20 = .ok (.iaload, 1) := by decide +kernel
theorem dX1_store_21 : decode cX1_store 21 = .ok (.imul, 1) := by decide +kernel
theorem dX1_store_22 : decode cX1_store 22 = .ok (.iload_n 2, 1) := by decide +kernel
theorem dX1_store_23 : decode cX1_store 23 = .ok (.iadd, 1) := by decide +kernel
theorem dX1_store_24 : decode cX1_store 24 = .ok (.iload_n 3, 1) := by decide +kernel
theorem dX1_store_25 : decode cX1_store 25 = .ok (.iastore, 1) := by decide +kernel
theorem dX1_store_26 : decode cX1_store 26 = .ok (.aload_n 0, 1) := by decide +kernel
theorem dX1_store_27 : decode cX1_store 27 = .ok (.getfield 37, 3) := by decide +kernel
theorem dX1_store_30 : decode cX1_store 30 = .ok (.ireturn, 1) := by decide +kernel
abbrev cX1_mayStore : ByteArray := prog_3_method_10_code
def yX1_mayStore : MethodName := ⟨RX1, "mayStore", "(II)Z"⟩
theorem dX1_mayStore_0 : decode cX1_mayStore 0 = .ok (.aload_n 0, 1) := by decide +kernel
theorem dX1_mayStore_1 : decode cX1_mayStore 1 = .ok (.aload_n 0, 1) := by decide +kernel
theorem dX1_mayStore_2 : decode cX1_mayStore 2 = .ok (.iload_n 1, 1) := by decide +kernel
theorem dX1_mayStore_3 : decode cX1_mayStore 3 = .ok (.invokevirtual 26, 3) := by decide +kernel
theorem dX1_mayStore_6 : decode cX1_mayStore 6 = .ok (.ifCond .eq 11, 3) := by decide +kernel
theorem dX1_mayStore_9 : decode cX1_mayStore 9 = .ok (.aload_n 0, 1) := by decide +kernel
theorem dX1_mayStore_10 : decode cX1_mayStore 10 = .ok (.iload_n 2, 1) := by decide +kernel
theorem dX1_mayStore_11 : decode cX1_mayStore 11 = .ok (.invokevirtual 30, 3) := by decide +kernel
theorem dX1_mayStore_14 : decode cX1_mayStore 14 = .ok (.ifCond .ne 7, 3) := by decide +kernel
theorem dX1_mayStore_17 : decode cX1_mayStore 17 = .ok (.iconst (-1), 1) := by decide +kernel
theorem dX1_mayStore_18 : decode cX1_mayStore 18 = .ok (.goto 34, 3) := by decide +kernel
theorem dX1_mayStore_21 : decode cX1_mayStore 21 = .ok (.aload_n 0, 1) := by decide +kernel
theorem dX1_mayStore_22 : decode cX1_mayStore 22 = .ok (.getfield 13, 3) := by decide +kernel
theorem dX1_mayStore_25 : decode cX1_mayStore 25 = .ok (.iload_n 1, 1) := by decide +kernel
theorem dX1_mayStore_26 : decode cX1_mayStore 26 = .ok (.iaload, 1) := by decide +kernel
theorem dX1_mayStore_27 : decode cX1_mayStore 27 = .ok (.bipush (-2), 2) := by decide +kernel
theorem dX1_mayStore_29 : decode cX1_mayStore 29 = .ok (.if_icmp .ne 8, 3) := by decide +kernel
theorem dX1_mayStore_32 : decode cX1_mayStore 32 = .ok (.bipush (-2), 2) := by decide +kernel
theorem dX1_mayStore_34 : decode cX1_mayStore 34 = .ok (.goto 18, 3) := by decide +kernel
theorem dX1_mayStore_37 : decode cX1_mayStore 37 = .ok (.aload_n 0, 1) := by decide +kernel
theorem dX1_mayStore_38 : decode cX1_mayStore 38 = .ok (.getfield 16, 3) := by decide +kernel
theorem dX1_mayStore_41 : decode cX1_mayStore 41 = .ok (.iload_n 1, 1) := by decide +kernel
theorem dX1_mayStore_42 : decode cX1_mayStore 42 = .ok (.baload, 1) := by decide +kernel
theorem dX1_mayStore_43 : decode cX1_mayStore 43 = .ok (.ifCond .eq 7, 3) := by decide +kernel
theorem dX1_mayStore_46 : decode cX1_mayStore 46 = .ok (.iconst 0, 1) := by decide +kernel
theorem dX1_mayStore_47 : decode cX1_mayStore 47 = .ok (.goto 5, 3) := by decide +kernel
theorem dX1_mayStore_50 : decode cX1_mayStore 50 = .ok (.bipush (-3), 2) := by decide +kernel
theorem dX1_mayStore_52 : decode cX1_mayStore 52 = .ok (.putfield 37, 3) := by decide +kernel
theorem dX1_mayStore_55 : decode cX1_mayStore 55 = .ok (.aload_n 0, 1) := by decide +kernel
theorem dX1_mayStore_56 : decode cX1_mayStore 56 = .ok (.getfield 37, 3) := by decide +kernel
theorem dX1_mayStore_59 : decode cX1_mayStore 59 = .ok (.ifCond .ne 17, 3) := by decide +kernel
theorem dX1_mayStore_62 : decode cX1_mayStore 62 = .ok (.aload_n 0, 1) := by decide +kernel
theorem dX1_mayStore_63 : decode cX1_mayStore 63 = .ok (.getfield 20, 3) := by decide +kernel
theorem dX1_mayStore_66 : decode cX1_mayStore 66 = .ok (.iload_n 1, 1) := by decide +kernel
theorem dX1_mayStore_67 : decode cX1_mayStore 67 = .ok (.iconst 1, 1) := by decide +kernel
theorem dX1_mayStore_68 : decode cX1_mayStore 68 = .ok (.bastore, 1) := by decide +kernel
theorem dX1_mayStore_69 : decode cX1_mayStore 69 = .ok (.aload_n 0, 1) := by decide +kernel
theorem dX1_mayStore_70 : decode cX1_mayStore 70 = .ok (.getfield 23, 3) := by decide +kernel
theorem dX1_mayStore_73 : decode cX1_mayStore 73 = .ok (.iload_n 1, 1) := by decide +kernel
theorem dX1_mayStore_74 : decode cX1_mayStore 74 = .ok (.iconst 1, 1) := by decide +kernel
theorem dX1_mayStore_75 : decode cX1_mayStore 75 = .ok (.bastore, 1) := by decide +kernel
theorem dX1_mayStore_76 : decode cX1_mayStore 76 = .ok (.aload_n 0, 1) := by decide +kernel
theorem dX1_mayStore_77 : decode cX1_mayStore 77 = .ok (.getfield 37, 3) := by decide +kernel
theorem dX1_mayStore_80 : decode cX1_mayStore 80 = .ok (.ifCond .ne 7, 3) := by decide +kernel
theorem dX1_mayStore_83 : decode cX1_mayStore 83 = .ok (.iconst 1, 1) := by decide +kernel
theorem dX1_mayStore_84 : decode cX1_mayStore 84 = .ok (.goto 4, 3) := by decide +kernel
theorem dX1_mayStore_87 : decode cX1_mayStore 87 = .ok (.iconst 0, 1) := by decide +kernel
theorem dX1_mayStore_88 : decode cX1_mayStore 88 = .ok (.ireturn, 1) := by decide +kernel
end
section
set_option maxRecDepth 100000
abbrev cX1_trade : ByteArray := prog_3_method_12_code
def yX1_trade : MethodName := ⟨RX1, "trade", "(III)I"⟩
theorem dX1_trade_0 : decode cX1_trade 0 = .ok (.aload_n 0, 1) := by decide +kernel
theorem dX1_trade_1 : decode cX1_trade 1 = .ok (.iload_n 1, 1) := by decide +kernel
theorem dX1_trade_2 : decode cX1_trade 2 = .ok (.iload_n 2, 1) := by decide +kernel
theorem dX1_trade_3 : decode cX1_trade 3 = .ok (.invokevirtual 41, 3) := by decide +kernel
theorem dX1_trade_6 : decode cX1_trade 6 = .ok (.ifCond .ne 5, 3) := by decide +kernel
theorem dX1_trade_9 : decode cX1_trade 9 = .ok (.iconst 0, 1) := by decide +kernel
theorem dX1_trade_10 : decode cX1_trade 10 = .ok (.ireturn, 1) := by decide +kernel
theorem dX1_trade_11 : decode cX1_trade 11 = .ok (.aload_n 0, 1) := by decide +kernel
theorem dX1_trade_12 : decode cX1_trade 12 = .ok (.getfield 7, 3) := by decide +kernel
theorem dX1_trade_15 : decode cX1_trade 15 = .ok (.bipush 8, 2) := by decide +kernel
theorem dX1_trade_17 : decode cX1_trade 17 = .ok (.aload_n 0, 1) := by decide +kernel
theorem dX1_trade_18 : decode cX1_trade 18 = .ok (.getfield 13, 3) := by decide +kernel
theorem dX1_trade_21 : decode cX1_trade 21 = .ok (.iload_n 1, 1) := by decide +kernel
theorem dX1_trade_22 : decode cX1_trade 22 = .ok (.iaload, 1) := by decide +kernel
theorem dX1_trade_23 : decode cX1_trade 23 = .ok (.imul, 1) := by decide +kernel
theorem dX1_trade_24 : decode cX1_trade 24 = .ok (.iload_n 2, 1) := by decide +kernel
theorem dX1_trade_25 : decode cX1_trade 25 = .ok (.iadd, 1) := by decide +kernel
theorem dX1_trade_26 : decode cX1_trade 26 = .ok (.iaload, 1) := by decide +kernel
theorem dX1_trade_27 : decode cX1_trade 27 = .ok (.istore 4, 2) := by decide +kernel
theorem dX1_trade_29 : decode cX1_trade 29 = .ok (.aload_n 0, 1) := by decide +kernel
theorem dX1_trade_30 : decode cX1_trade 30 = .ok (.getfield 7, 3) := by decide +kernel
theorem dX1_trade_33 : decode cX1_trade 33 = .ok (.bipush 8, 2) := by decide +kernel
theorem dX1_trade_35 : decode cX1_trade 35 = .ok (.aload_n 0, 1) := by decide +kernel
theorem dX1_trade_36 : decode cX1_trade 36 = .ok (.getfield 13, 3) := by decide +kernel
theorem dX1_trade_39 : decode cX1_trade 39 = .ok (.iload_n 1, 1) := by decide +kernel
theorem dX1_trade_40 : decode cX1_trade 40 = .ok (.iaload, 1) := by decide +kernel
theorem dX1_trade_41 : decode cX1_trade 41 = .ok (.imul, 1) := by decide +kernel
theorem dX1_trade_42 : decode cX1_trade 42 = .ok (.iload_n 2, 1) := by decide +kernel
theorem dX1_trade_43 : decode cX1_trade 43 = .ok (.iadd, 1) := by decide +kernel
theorem dX1_trade_44 : decode cX1_trade 44 = .ok (.iload_n 3, 1) := by decide +kernel
theorem dX1_trade_45 : decode cX1_trade 45 = .ok (.iastore, 1) := by decide +kernel
theorem dX1_trade_46 : decode cX1_trade 46 = .ok (.iload 4, 2) := by decide +kernel
theorem dX1_trade_48 : decode cX1_trade 48 = .ok (.ireturn, 1) := by decide +kernel
abbrev cX1_fault : ByteArray := prog_3_method_13_code
def yX1_fault : MethodName := ⟨RX1, "fault", "()I"⟩
theorem dX1_fault_0 : decode cX1_fault 0 = .ok (.aload_n 0, 1) := by decide +kernel
theorem dX1_fault_1 : decode cX1_fault 1 = .ok (.getfield 37, 3) := by decide +kernel
theorem dX1_fault_4 : decode cX1_fault 4 = .ok (.ireturn, 1) := by decide +kernel
abbrev cX1_word : ByteArray := prog_3_method_14_code
def yX1_word : MethodName := ⟨RX1, "word", "(II)I"⟩
theorem dX1_word_0 : decode cX1_word 0 = .ok (.aload_n 0, 1) := by decide +kernel
theorem dX1_word_1 : decode cX1_word 1 = .ok (.iload_n 1, 1) := by decide +kernel
theorem dX1_word_2 : decode cX1_word 2 = .ok (.invokevirtual 30, 3) := by decide +kernel
theorem dX1_word_5 : decode cX1_word 5 = .ok (.ifCond .eq 25, 3) := by decide +kernel
theorem dX1_word_8 : decode cX1_word 8 = .ok (.aload_n 0, 1) := by decide +kernel
theorem dX1_word_9 : decode cX1_word 9 = .ok (.iload_n 2, 1) := by decide +kernel
theorem dX1_word_10 : decode cX1_word 10 = .ok (.invokevirtual 30, 3) := by decide +kernel
theorem dX1_word_13 : decode cX1_word 13 = .ok (.ifCond .eq 17, 3) := by decide +kernel
theorem dX1_word_16 : decode cX1_word 16 = .ok (.aload_n 0, 1) := by decide +kernel
theorem dX1_word_17 : decode cX1_word 17 = .ok (.getfield 7, 3) := by decide +kernel
theorem dX1_word_20 : decode cX1_word 20 = .ok (.bipush 8, 2) := by decide +kernel
theorem dX1_word_22 : decode cX1_word 22 = .ok (.iload_n 1, 1) := by decide +kernel
theorem dX1_word_23 : decode cX1_word 23 = .ok (.imul, 1) := by decide +kernel
theorem dX1_word_24 : decode cX1_word 24 = .ok (.iload_n 2, 1) := by decide +kernel
theorem dX1_word_25 : decode cX1_word 25 = .ok (.iadd, 1) := by decide +kernel
theorem dX1_word_26 : decode cX1_word 26 = .ok (.iaload, 1) := by decide +kernel
theorem dX1_word_27 : decode cX1_word 27 = .ok (.goto 4, 3) := by decide +kernel
theorem dX1_word_30 : decode cX1_word 30 = .ok (.iconst 0, 1) := by decide +kernel
theorem dX1_word_31 : decode cX1_word 31 = .ok (.ireturn, 1) := by decide +kernel
abbrev cX1_setWord : ByteArray := prog_3_method_15_code
def yX1_setWord : MethodName := ⟨RX1, "setWord", "(III)I"⟩
theorem dX1_setWord_0 : decode cX1_setWord 0 = .ok (.aload_n 0, 1) := by decide +kernel
theorem dX1_setWord_1 : decode cX1_setWord 1 = .ok (.iload_n 1, 1) := by decide +kernel
theorem dX1_setWord_2 : decode cX1_setWord 2 = .ok (.invokevirtual 30, 3) := by decide +kernel
theorem dX1_setWord_5 : decode cX1_setWord 5 = .ok (.ifCond .eq 11, 3) := by decide +kernel
theorem dX1_setWord_8 : decode cX1_setWord 8 = .ok (.aload_n 0, 1) := by decide +kernel
theorem dX1_setWord_9 : decode cX1_setWord 9 = .ok (.iload_n 2, 1) := by decide +kernel
theorem dX1_setWord_10 : decode cX1_setWord 10 = .ok (.invokevirtual 30, 3) := by decide +kernel
theorem dX1_setWord_13 : decode cX1_setWord 13 = .ok (.ifCond .ne 5, 3) := by decide +kernel
theorem dX1_setWord_16 : decode cX1_setWord 16 = .ok (.iconst (-1), 1) := by decide +kernel
theorem dX1_setWord_17 : decode cX1_setWord 17 = .ok (.ireturn, 1) := by decide +kernel
theorem dX1_setWord_18 : decode cX1_setWord 18 = .ok (.aload_n 0, 1) := by decide +kernel
theorem dX1_setWord_19 : decode cX1_setWord 19 = .ok (.getfield 7, 3) := by decide +kernel
theorem dX1_setWord_22 : decode cX1_setWord 22 = .ok (.bipush 8, 2) := by decide +kernel
theorem dX1_setWord_24 : decode cX1_setWord 24 = .ok (.iload_n 1, 1) := by decide +kernel
theorem dX1_setWord_25 : decode cX1_setWord 25 = .ok (.imul, 1) := by decide +kernel
theorem dX1_setWord_26 : decode cX1_setWord 26 = .ok (.iload_n 2, 1) := by decide +kernel
theorem dX1_setWord_27 : decode cX1_setWord 27 = .ok (.iadd, 1) := by decide +kernel
theorem dX1_setWord_28 : decode cX1_setWord 28 = .ok (.iload_n 3, 1) := by decide +kernel
theorem dX1_setWord_29 : decode cX1_setWord 29 = .ok (.iastore, 1) := by decide +kernel
theorem dX1_setWord_30 : decode cX1_setWord 30 = .ok (.iconst 0, 1) := by decide +kernel
theorem dX1_setWord_31 : decode cX1_setWord 31 = .ok (.ireturn, 1) := by decide +kernel
abbrev cX1_copyFrame : ByteArray := prog_3_method_16_code
def yX1_copyFrame : MethodName := ⟨RX1, "copyFrame", "(II)I"⟩
theorem dX1_copyFrame_0 : decode cX1_copyFrame 0 = .ok (.aload_n 0, 1) := by decide +kernel
theorem dX1_copyFrame_1 : decode cX1_copyFrame 1 = .ok (.iload_n 1, 1) := by decide +kernel
theorem dX1_copyFrame_2 : decode cX1_copyFrame 2 = .ok (.invokevirtual 30, 3) := by decide +kernel
theorem dX1_copyFrame_5 : decode cX1_copyFrame 5 = .ok (.ifCond .eq 11, 3) := by decide +kernel
theorem dX1_copyFrame_8 : decode cX1_copyFrame 8 = .ok (.aload_n 0, 1) := by decide +kernel
theorem dX1_copyFrame_9 : decode cX1_copyFrame 9 = .ok (.iload_n 2, 1) := by decide +kernel
theorem dX1_copyFrame_10 : decode cX1_copyFrame 10 = .ok (.invokevirtual 30, 3) := by decide +kernel
theorem dX1_copyFrame_13 : decode cX1_copyFrame 13 = .ok (.ifCond .ne 5, 3) := by decide +kernel
theorem dX1_copyFrame_16 : decode cX1_copyFrame 16 = .ok (.iconst (-1), 1) := by decide +kernel
theorem dX1_copyFrame_17 : decode cX1_copyFrame 17 = .ok (.ireturn, 1) := by decide +kernel
theorem dX1_copyFrame_18 : decode cX1_copyFrame 18 = .ok (.iconst 0, 1) := by decide +kernel
theorem dX1_copyFrame_19 : decode cX1_copyFrame 19 = .ok (.istore_n 3, 1) := by decide +kernel
theorem dX1_copyFrame_20 : decode cX1_copyFrame 20 = .ok (.iconst 0, 1) := by decide +kernel
theorem dX1_copyFrame_21 : decode cX1_copyFrame 21 = .ok (.istore 4, 2) := by decide +kernel
theorem dX1_copyFrame_23 : decode cX1_copyFrame 23 = .ok (.iload 4, 2) := by decide +kernel
theorem dX1_copyFrame_25 : decode cX1_copyFrame 25 = .ok (.bipush 8, 2) := by decide +kernel
theorem dX1_copyFrame_27 : decode cX1_copyFrame 27 = .ok (.if_icmp .ge 63, 3) := by decide +kernel
theorem dX1_copyFrame_30 : decode cX1_copyFrame 30 = .ok (.aload_n 0, 1) := by decide +kernel
theorem dX1_copyFrame_31 : decode cX1_copyFrame 31 = .ok (.getfield 7, 3) := by decide +kernel
theorem dX1_copyFrame_34 : decode cX1_copyFrame 34 = .ok (.bipush 8, 2) := by decide +kernel
theorem dX1_copyFrame_36 : decode cX1_copyFrame 36 = .ok (.iload_n 1, 1) := by decide +kernel
theorem dX1_copyFrame_37 : decode cX1_copyFrame 37 = .ok (.imul, 1) := by decide +kernel
theorem dX1_copyFrame_38 : decode cX1_copyFrame 38 = .ok (.iload 4, 2) := by decide +kernel
theorem dX1_copyFrame_40 : decode cX1_copyFrame 40 = .ok (.iadd, 1) := by decide +kernel
theorem dX1_copyFrame_41 : decode cX1_copyFrame 41 = .ok (.iaload, 1) := by decide +kernel
theorem dX1_copyFrame_42 : decode cX1_copyFrame 42 = .ok (.aload_n 0, 1) := by decide +kernel
theorem dX1_copyFrame_43 : decode cX1_copyFrame 43 = .ok (.getfield 7, 3) := by decide +kernel
theorem dX1_copyFrame_46 : decode cX1_copyFrame 46 = .ok (.bipush 8, 2) := by decide +kernel
theorem dX1_copyFrame_48 : decode cX1_copyFrame 48 = .ok (.iload_n 2, 1) := by decide +kernel
theorem dX1_copyFrame_49 : decode cX1_copyFrame 49 = .ok (.imul, 1) := by decide +kernel
theorem dX1_copyFrame_50 : decode cX1_copyFrame 50 = .ok (.iload 4, 2) := by decide +kernel
theorem dX1_copyFrame_52 : decode cX1_copyFrame 52 = .ok (.iadd, 1) := by decide +kernel
theorem dX1_copyFrame_53 : decode cX1_copyFrame 53 = .ok (.iaload, 1) := by decide +kernel
theorem dX1_copyFrame_54 : decode cX1_copyFrame 54 = .ok (.if_icmp .eq 30, 3) := by decide +kernel
theorem dX1_copyFrame_57 : decode cX1_copyFrame 57 = .ok (.aload_n 0, 1) := by decide +kernel
theorem dX1_copyFrame_58 : decode cX1_copyFrame 58 = .ok (.getfield 7, 3) := by decide +kernel
theorem dX1_copyFrame_61 : decode cX1_copyFrame 61 = .ok (.bipush 8, 2) := by decide +kernel
theorem dX1_copyFrame_63 : decode cX1_copyFrame 63 = .ok (.iload_n 1, 1) := by decide +kernel
theorem dX1_copyFrame_64 : decode cX1_copyFrame 64 = .ok (.imul, 1) := by decide +kernel
theorem dX1_copyFrame_65 : decode cX1_copyFrame 65 = .ok (.iload 4, 2) := by decide +kernel
theorem dX1_copyFrame_67 : decode cX1_copyFrame 67 = .ok (.iadd, 1) := by decide +kernel
theorem dX1_copyFrame_68 : decode cX1_copyFrame 68 = .ok (.aload_n 0, 1) := by decide +kernel
theorem dX1_copyFrame_69 : decode cX1_copyFrame 69 = .ok (.getfield 7, 3) := by decide +kernel
theorem dX1_copyFrame_72 : decode cX1_copyFrame 72 = .ok (.bipush 8, 2) := by decide +kernel
theorem dX1_copyFrame_74 : decode cX1_copyFrame 74 = .ok (.iload_n 2, 1) := by decide +kernel
theorem dX1_copyFrame_75 : decode cX1_copyFrame 75 = .ok (.imul, 1) := by decide +kernel
theorem dX1_copyFrame_76 : decode cX1_copyFrame 76 = .ok (.iload 4, 2) := by decide +kernel
theorem dX1_copyFrame_78 : decode cX1_copyFrame 78 = .ok (.iadd, 1) := by decide +kernel
theorem dX1_copyFrame_79 : decode cX1_copyFrame 79 = .ok (.iaload, 1) := by decide +kernel
theorem dX1_copyFrame_80 : decode cX1_copyFrame 80 = .ok (.iastore, 1) := by decide +kernel
theorem dX1_copyFrame_81 : decode cX1_copyFrame 81 = .ok (.iinc 3 1, 3) := by decide +kernel
theorem dX1_copyFrame_84 : decode cX1_copyFrame 84 = .ok (.iinc 4 1, 3) := by decide +kernel
theorem dX1_copyFrame_87 : decode cX1_copyFrame 87 = .ok (.goto (-64), 3) := by decide +kernel
theorem dX1_copyFrame_90 : decode cX1_copyFrame 90 = .ok (.iload_n 3, 1) := by decide +kernel
theorem dX1_copyFrame_91 : decode cX1_copyFrame 91 = .ok (.ireturn, 1) := by decide +kernel
abbrev cX1_marks : ByteArray := prog_3_method_17_code
def yX1_marks : MethodName := ⟨RX1, "marks", "(I)I"⟩
theorem dX1_marks_0 : decode cX1_marks 0 = .ok (.aload_n 0, 1) := by decide +kernel
theorem dX1_marks_1 : decode cX1_marks 1 = .ok (.iload_n 1, 1) := by decide +kernel
theorem dX1_marks_2 : decode cX1_marks 2 = .ok (.invokevirtual 26, 3) := by decide +kernel
theorem dX1_marks_5 : decode cX1_marks 5 = .ok (.ifCond .eq 35, 3) := by decide +kernel
theorem dX1_marks_8 : decode cX1_marks 8 = .ok (.aload_n 0, 1) := by decide +kernel
theorem dX1_marks_9 : decode cX1_marks 9 = .ok (.getfield 20, 3) := by decide +kernel
theorem dX1_marks_12 : decode cX1_marks 12 = .ok (.iload_n 1, 1) := by decide +kernel
theorem dX1_marks_13 : decode cX1_marks 13 = .ok (.baload, 1) := by decide +kernel
theorem dX1_marks_14 : decode cX1_marks 14 = .ok (.ifCond .eq 7, 3) := by decide +kernel
theorem dX1_marks_17 : decode cX1_marks 17 = .ok (.iconst 1, 1) := by decide +kernel
theorem dX1_marks_18 : decode cX1_marks 18 = .ok (.goto 4, 3) := by decide +kernel
theorem dX1_marks_21 : decode cX1_marks 21 = .ok (.iconst 0, 1) := by decide +kernel
theorem dX1_marks_22 : decode cX1_marks 22 = .ok (.aload_n 0, 1) := by decide +kernel
theorem dX1_marks_23 : decode cX1_marks 23 = .ok (.getfield 23, 3) := by decide +kernel
theorem dX1_marks_26 : decode cX1_marks 26 = .ok (.iload_n 1, 1) := by decide +kernel
theorem dX1_marks_27 : decode cX1_marks 27 = .ok (.baload, 1) := by decide +kernel
theorem dX1_marks_28 : decode cX1_marks 28 = .ok (.ifCond .eq 7, 3) := by decide +kernel
theorem dX1_marks_31 : decode cX1_marks 31 = .ok (.iconst 2, 1) := by decide +kernel
theorem dX1_marks_32 : decode cX1_marks 32 = .ok (.goto 4, 3) := by decide +kernel
theorem dX1_marks_35 : decode cX1_marks 35 = .ok (.iconst 0, 1) := by decide +kernel
theorem dX1_marks_36 : decode cX1_marks 36 = .ok (.iadd, 1) := by decide +kernel
theorem dX1_marks_37 : decode cX1_marks 37 = .ok (.goto 4, 3) := by decide +kernel
theorem dX1_marks_40 : decode cX1_marks 40 = .ok (.iconst (-1), 1) := by decide +kernel
theorem dX1_marks_41 : decode cX1_marks 41 = .ok (.ireturn, 1) := by decide +kernel
abbrev cX1_clearMarks : ByteArray := prog_3_method_18_code
def yX1_clearMarks : MethodName := ⟨RX1, "clearMarks", "(I)I"⟩
theorem dX1_clearMarks_0 : decode cX1_clearMarks 0 = .ok (.aload_n 0, 1) := by decide +kernel
theorem dX1_clearMarks_1 : decode cX1_clearMarks 1 = .ok (.iload_n 1, 1) := by decide +kernel
theorem dX1_clearMarks_2 : decode cX1_clearMarks 2 = .ok (.invokevirtual 45, 3) := by decide +kernel
theorem dX1_clearMarks_5 : decode cX1_clearMarks 5 = .ok (.istore_n 2, 1) := by decide +kernel
theorem dX1_clearMarks_6 : decode cX1_clearMarks 6 = .ok (.aload_n 0, 1) := by decide +kernel
theorem dX1_clearMarks_7 : decode cX1_clearMarks 7 = .ok (.iload_n 1, 1) := by decide +kernel
theorem dX1_clearMarks_8 : decode cX1_clearMarks 8 = .ok (.invokevirtual 26, 3) := by decide +kernel
theorem dX1_clearMarks_11 : decode cX1_clearMarks 11 = .ok (.ifCond .eq 17, 3) := by decide +kernel
theorem dX1_clearMarks_14 : decode cX1_clearMarks 14 = .ok (.aload_n 0, 1) := by decide +kernel
theorem dX1_clearMarks_15 : decode cX1_clearMarks 15 = .ok (.getfield 20, 3) := by decide +kernel
theorem dX1_clearMarks_18 : decode cX1_clearMarks 18 = .ok (.iload_n 1, 1) := by decide +kernel
theorem dX1_clearMarks_19 : decode cX1_clearMarks 19 = .ok (.iconst 0, 1) := by decide +kernel
theorem dX1_clearMarks_20 : decode cX1_clearMarks 20 = .ok (.bastore, 1) := by decide +kernel
theorem dX1_clearMarks_21 : decode cX1_clearMarks 21 = .ok (.aload_n 0, 1) := by decide +kernel
theorem dX1_clearMarks_22 : decode cX1_clearMarks 22 = .ok (.getfield 23, 3) := by decide +kernel
theorem dX1_clearMarks_25 : decode cX1_clearMarks 25 = .ok (.iload_n 1, 1) := by decide +kernel
theorem dX1_clearMarks_26 : decode cX1_clearMarks 26 = .ok (.iconst 0, 1) := by decide +kernel
theorem dX1_clearMarks_27 : decode cX1_clearMarks 27 = .ok (.bastore, 1) := by decide +kernel
theorem dX1_clearMarks_28 : decode cX1_clearMarks 28 = .ok (.iload_n 2, 1) := by decide +kernel
theorem dX1_clearMarks_29 : decode cX1_clearMarks 29 = .ok (.ireturn, 1) := by decide +kernel
abbrev cX1_shown : ByteArray := prog_3_method_19_code
def yX1_shown : MethodName := ⟨RX1, "shown", "(I)I"⟩
theorem dX1_shown_0 : decode cX1_shown 0 = .ok (.aload_n 0, 1) := by decide +kernel
theorem dX1_shown_1 : decode cX1_shown 1 = .ok (.iload_n 1, 1) := by decide +kernel
theorem dX1_shown_2 : decode cX1_shown 2 = .ok (.invokevirtual 30, 3) := by decide +kernel
theorem dX1_shown_5 : decode cX1_shown 5 = .ok (.ifCond .ne 5, 3) := by decide +kernel
theorem dX1_shown_8 : decode cX1_shown 8 = .ok (.iconst (-1), 1) := by decide +kernel
theorem dX1_shown_9 : decode cX1_shown 9 = .ok (.ireturn, 1) := by decide +kernel
theorem dX1_shown_10 : decode cX1_shown 10 = .ok (.iconst 0, 1) := by decide +kernel
theorem dX1_shown_11 : decode cX1_shown 11 = .ok (.istore_n 2, 1) := by decide +kernel
theorem dX1_shown_12 : decode cX1_shown 12 = .ok (.iconst 0, 1) := by decide +kernel
theorem dX1_shown_13 : decode cX1_shown 13 = .ok (.istore_n 3, 1) := by decide +kernel
theorem dX1_shown_14 : decode cX1_shown 14 = .ok (.iload_n 3, 1) := by decide +kernel
theorem dX1_shown_15 : decode cX1_shown 15 = .ok (.bipush 16, 2) := by decide +kernel
theorem dX1_shown_17 : decode cX1_shown 17 = .ok (.if_icmp .ge 22, 3) := by decide +kernel
theorem dX1_shown_20 : decode cX1_shown 20 = .ok (.aload_n 0, 1) := by decide +kernel
theorem dX1_shown_21 : decode cX1_shown 21 = .ok (.getfield 13, 3) := by decide +kernel
theorem dX1_shown_24 : decode cX1_shown 24 = .ok (.iload_n 3, 1) := by decide +kernel
theorem dX1_shown_25 : decode cX1_shown 25 = .ok (.iaload, 1) := by decide +kernel
theorem dX1_shown_26 : decode cX1_shown 26 = .ok (.iload_n 1, 1) := by decide +kernel
theorem dX1_shown_27 : decode cX1_shown 27 = .ok (.if_icmp .ne 6, 3) := by decide +kernel
theorem dX1_shown_30 : decode cX1_shown 30 = .ok (.iinc 2 1, 3) := by decide +kernel
theorem dX1_shown_33 : decode cX1_shown 33 = .ok (.iinc 3 1, 3) := by decide +kernel
theorem dX1_shown_36 : decode cX1_shown 36 = .ok (.goto (-22), 3) := by decide +kernel
theorem dX1_shown_39 : decode cX1_shown 39 = .ok (.iload_n 2, 1) := by decide +kernel
theorem dX1_shown_40 : decode cX1_shown 40 = .ok (.ireturn, 1) := by decide +kernel
abbrev cX1_dirtyPages : ByteArray := prog_3_method_20_code
def yX1_dirtyPages : MethodName := ⟨RX1, "dirtyPages", "()I"⟩
theorem dX1_dirtyPages_0 : decode cX1_dirtyPages 0 = .ok (.iconst 0, 1) := by decide +kernel
theorem dX1_dirtyPages_1 : decode cX1_dirtyPages 1 = .ok (.istore_n 1, 1) := by decide +kernel
theorem dX1_dirtyPages_2 : decode cX1_dirtyPages 2 = .ok (.iconst 0, 1) := by decide +kernel
theorem dX1_dirtyPages_3 : decode cX1_dirtyPages 3 = .ok (.istore_n 2, 1) := by decide +kernel
theorem dX1_dirtyPages_4 : decode cX1_dirtyPages 4 = .ok (.iload_n 2, 1) := by decide +kernel
theorem dX1_dirtyPages_5 : decode cX1_dirtyPages 5 = .ok (.bipush 16, 2) := by decide +kernel
theorem dX1_dirtyPages_7 : decode cX1_dirtyPages 7 = .ok (.if_icmp .ge 21, 3) := by decide +kernel
theorem dX1_dirtyPages_10 : decode cX1_dirtyPages 10 = .ok (.aload_n 0, 1) := by decide +kernel
theorem dX1_dirtyPages_11 : decode cX1_dirtyPages 11 = .ok (.getfield 23, 3) := by decide +kernel
theorem dX1_dirtyPages_14 : decode cX1_dirtyPages 14 = .ok (.iload_n 2, 1) := by decide +kernel
theorem dX1_dirtyPages_15 : decode cX1_dirtyPages 15 = .ok (.baload, 1) := by decide +kernel
theorem dX1_dirtyPages_16 : decode cX1_dirtyPages 16 = .ok (.ifCond .eq 6, 3) := by decide +kernel
theorem dX1_dirtyPages_19 : decode cX1_dirtyPages 19 = .ok (.iinc 1 1, 3) := by decide +kernel
theorem dX1_dirtyPages_22 : decode cX1_dirtyPages 22 = .ok (.iinc 2 1, 3) := by decide +kernel
theorem dX1_dirtyPages_25 : decode cX1_dirtyPages 25 = .ok (.goto (-21), 3) := by decide +kernel
theorem dX1_dirtyPages_28 : decode cX1_dirtyPages 28 = .ok (.iload_n 1, 1) := by decide +kernel
theorem dX1_dirtyPages_29 : decode cX1_dirtyPages 29 = .ok (.ireturn, 1) := by decide +kernel
abbrev cX1_flush : ByteArray := prog_3_method_21_code
def yX1_flush : MethodName := ⟨RX1, "flush", "()V"⟩
theorem dX1_flush_0 : decode cX1_flush 0 = .ok (.return_, 1) := by decide +kernel
abbrev cX1_forget : ByteArray := prog_3_method_22_code
def yX1_forget : MethodName := ⟨RX1, "forget", "(I)I"⟩
theorem dX1_forget_0 : decode cX1_forget 0 = .ok (.aload_n 0, 1) := by decide +kernel
theorem dX1_forget_1 : decode cX1_forget 1 = .ok (.iload_n 1, 1) := by decide +kernel
theorem dX1_forget_2 : decode cX1_forget 2 = .ok (.invokevirtual 26, 3) := by decide +kernel
theorem dX1_forget_5 : decode cX1_forget 5 = .ok (.ifCond .eq 7, 3) := by decide +kernel
theorem dX1_forget_8 : decode cX1_forget 8 = .ok (.iconst 0, 1) := by decide +kernel
theorem dX1_forget_9 : decode cX1_forget 9 = .ok (.goto 4, 3) := by decide +kernel
theorem dX1_forget_12 : decode cX1_forget 12 = .ok (.iconst (-1), 1) := by decide +kernel
theorem dX1_forget_13 : decode cX1_forget 13 = .ok (.ireturn, 1) := by decide +kernel
abbrev cX1_warm : ByteArray := prog_3_method_23_code
def yX1_warm : MethodName := ⟨RX1, "warm", "(I)I"⟩
theorem dX1_warm_0 : decode cX1_warm 0 = .ok (.aload_n 0, 1) := by decide +kernel
theorem dX1_warm_1 : decode cX1_warm 1 = .ok (.iload_n 1, 1) := by decide +kernel
theorem dX1_warm_2 : decode cX1_warm 2 = .ok (.invokevirtual 30, 3) := by decide +kernel
theorem dX1_warm_5 : decode cX1_warm 5 = .ok (.ifCond .eq 7, 3) := by decide +kernel
theorem dX1_warm_8 : decode cX1_warm 8 = .ok (.iconst 0, 1) := by decide +kernel
theorem dX1_warm_9 : decode cX1_warm 9 = .ok (.goto 4, 3) := by decide +kernel
theorem dX1_warm_12 : decode cX1_warm 12 = .ok (.iconst (-1), 1) := by decide +kernel
theorem dX1_warm_13 : decode cX1_warm 13 = .ok (.ireturn, 1) := by decide +kernel
end
section
set_option maxRecDepth 100000
theorem q20 : (Jvm.Cond.initialized "VipCacheModel") ∈ lw_all := lw_g (lw_at lw_m1 2 rfl) rfl
theorem q210 : (Jvm.Cond.instantiable "VipCacheModel" (6 : Nat)) ∈ lw_all := lw_g (lw_at lw_m1 192 rfl) rfl
theorem q212 : (Jvm.Cond.instanceMethod ({ cls := "VipCacheModel", name := "<init>", desc := "()V" } : Jvm.MethodName)) ∈ lw_all := lw_g (lw_at lw_m1 194 rfl) rfl
theorem q213 : (Jvm.Cond.code ({ cls := "VipCacheModel", name := "<init>", desc := "()V" } : Jvm.MethodName) prog_3_method_1_code (2 : Nat) (Option.none : Option Jvm.ClassFile.FieldType)) ∈ lw_all := lw_g (lw_at lw_m1 195 rfl) rfl
theorem q214 : (Jvm.Cond.methodLink "VipCacheModel" (1 : Nat) ({ cls := "java/lang/Object", name := "<init>", desc := "()V" } : Jvm.MethodName)) ∈ lw_all := lw_g (lw_at lw_m1 196 rfl) rfl
theorem q215 : (Jvm.Cond.fieldLink "VipCacheModel" (7 : Nat) "VipCacheModel" "words" "[I") ∈ lw_all := lw_g (lw_at lw_m1 197 rfl) rfl
theorem q216 : (Jvm.Cond.fieldLink "VipCacheModel" (13 : Nat) "VipCacheModel" "frames" "[I") ∈ lw_all := lw_g (lw_at lw_m1 198 rfl) rfl
theorem q217 : (Jvm.Cond.fieldLink "VipCacheModel" (16 : Nat) "VipCacheModel" "writable" "[Z") ∈ lw_all := lw_g (lw_at lw_m1 199 rfl) rfl
theorem q218 : (Jvm.Cond.fieldLink "VipCacheModel" (20 : Nat) "VipCacheModel" "used" "[Z") ∈ lw_all := lw_g (lw_at lw_m1 200 rfl) rfl
theorem q219 : (Jvm.Cond.fieldLink "VipCacheModel" (23 : Nat) "VipCacheModel" "dirty" "[Z") ∈ lw_all := lw_g (lw_at lw_m1 201 rfl) rfl
theorem q220 : (Jvm.Cond.fieldLink "VipCacheModel" (37 : Nat) "VipCacheModel" "fault" "I") ∈ lw_all := lw_g (lw_at lw_m1 202 rfl) rfl
theorem q221 : (Jvm.Cond.laysFinal "VipCacheModel" "VipCacheModel" "words" "[I") ∈ lw_all := lw_g (lw_at lw_m1 203 rfl) rfl
theorem q222 : (Jvm.Cond.soleField "VipCacheModel" "words") ∈ lw_all := lw_g (lw_at lw_m1 204 rfl) rfl
theorem q223 : (Jvm.Cond.laysFinal "VipCacheModel" "VipCacheModel" "frames" "[I") ∈ lw_all := lw_g (lw_at lw_m1 205 rfl) rfl
theorem q224 : (Jvm.Cond.soleField "VipCacheModel" "frames") ∈ lw_all := lw_g (lw_at lw_m1 206 rfl) rfl
theorem q225 : (Jvm.Cond.laysFinal "VipCacheModel" "VipCacheModel" "writable" "[Z") ∈ lw_all := lw_g (lw_at lw_m1 207 rfl) rfl
theorem q226 : (Jvm.Cond.soleField "VipCacheModel" "writable") ∈ lw_all := lw_g (lw_at lw_m1 208 rfl) rfl
theorem q227 : (Jvm.Cond.laysFinal "VipCacheModel" "VipCacheModel" "used" "[Z") ∈ lw_all := lw_g (lw_at lw_m1 209 rfl) rfl
theorem q228 : (Jvm.Cond.soleField "VipCacheModel" "used") ∈ lw_all := lw_g (lw_at lw_m1 210 rfl) rfl
theorem q229 : (Jvm.Cond.laysFinal "VipCacheModel" "VipCacheModel" "dirty" "[Z") ∈ lw_all := lw_g (lw_at lw_m1 211 rfl) rfl
theorem q230 : (Jvm.Cond.soleField "VipCacheModel" "dirty") ∈ lw_all := lw_g (lw_at lw_m1 212 rfl) rfl
theorem q231 : (Jvm.Cond.lays "VipCacheModel" "VipCacheModel" "fault" "I") ∈ lw_all := lw_g (lw_at lw_m1 213 rfl) rfl
theorem q232 : (Jvm.Cond.soleField "VipCacheModel" "fault") ∈ lw_all := lw_g (lw_at lw_m1 214 rfl) rfl
theorem q233 : (Jvm.Cond.superclass "VipCacheModel" "java/lang/Object") ∈ lw_all := lw_g (lw_at lw_m1 215 rfl) rfl
theorem q235 : (Jvm.Cond.instanceMethod ({ cls := "VipCacheModel", name := "map", desc := "(III)I" } : Jvm.MethodName)) ∈ lw_all := lw_g (lw_at lw_m1 217 rfl) rfl
theorem q236 : (Jvm.Cond.selects "VipCacheModel" ({ cls := "VipCacheModel", name := "map", desc := "(III)I" } : Jvm.MethodName) ({ cls := "VipCacheModel", name := "map", desc := "(III)I" } : Jvm.MethodName)) ∈ lw_all := lw_g (lw_at lw_m1 218 rfl) rfl
theorem q237 : (Jvm.Cond.code ({ cls := "VipCacheModel", name := "map", desc := "(III)I" } : Jvm.MethodName) prog_3_method_5_code (5 : Nat) (Option.some Jvm.ClassFile.FieldType.int)) ∈ lw_all := lw_g (lw_at lw_m1 219 rfl) rfl
theorem q238 : (Jvm.Cond.methodLink "VipCacheModel" (26 : Nat) ({ cls := "VipCacheModel", name := "isPage", desc := "(I)Z" } : Jvm.MethodName)) ∈ lw_all := lw_g (lw_at lw_m1 220 rfl) rfl
theorem q239 : (Jvm.Cond.privateMethod ({ cls := "VipCacheModel", name := "isPage", desc := "(I)Z" } : Jvm.MethodName)) ∈ lw_tbl := lw_at lw_m1 221 rfl
theorem q240 : (Jvm.Cond.instanceMethod ({ cls := "VipCacheModel", name := "isPage", desc := "(I)Z" } : Jvm.MethodName)) ∈ lw_all := lw_g (lw_at lw_m1 222 rfl) rfl
theorem q241 : (Jvm.Cond.code ({ cls := "VipCacheModel", name := "isPage", desc := "(I)Z" } : Jvm.MethodName) prog_3_method_2_code (2 : Nat) (Option.some Jvm.ClassFile.FieldType.boolean)) ∈ lw_all := lw_g (lw_at lw_m1 223 rfl) rfl
theorem q242 : (Jvm.Cond.methodLink "VipCacheModel" (30 : Nat) ({ cls := "VipCacheModel", name := "isNumber", desc := "(I)Z" } : Jvm.MethodName)) ∈ lw_all := lw_g (lw_at lw_m1 224 rfl) rfl
theorem q243 : (Jvm.Cond.privateMethod ({ cls := "VipCacheModel", name := "isNumber", desc := "(I)Z" } : Jvm.MethodName)) ∈ lw_tbl := lw_at lw_m1 225 rfl
theorem q244 : (Jvm.Cond.instanceMethod ({ cls := "VipCacheModel", name := "isNumber", desc := "(I)Z" } : Jvm.MethodName)) ∈ lw_all := lw_g (lw_at lw_m1 226 rfl) rfl
theorem q245 : (Jvm.Cond.code ({ cls := "VipCacheModel", name := "isNumber", desc := "(I)Z" } : Jvm.MethodName) prog_3_method_3_code (2 : Nat) (Option.some Jvm.ClassFile.FieldType.boolean)) ∈ lw_all := lw_g (lw_at lw_m1 227 rfl) rfl
theorem q246 : (Jvm.Cond.methodLink "VipCacheModel" (33 : Nat) ({ cls := "VipCacheModel", name := "show", desc := "(IIZ)V" } : Jvm.MethodName)) ∈ lw_all := lw_g (lw_at lw_m1 228 rfl) rfl
theorem q247 : (Jvm.Cond.privateMethod ({ cls := "VipCacheModel", name := "show", desc := "(IIZ)V" } : Jvm.MethodName)) ∈ lw_tbl := lw_at lw_m1 229 rfl
theorem q248 : (Jvm.Cond.instanceMethod ({ cls := "VipCacheModel", name := "show", desc := "(IIZ)V" } : Jvm.MethodName)) ∈ lw_all := lw_g (lw_at lw_m1 230 rfl) rfl
theorem q249 : (Jvm.Cond.code ({ cls := "VipCacheModel", name := "show", desc := "(IIZ)V" } : Jvm.MethodName) prog_3_method_4_code (4 : Nat) (Option.none : Option Jvm.ClassFile.FieldType)) ∈ lw_all := lw_g (lw_at lw_m1 231 rfl) rfl
theorem q251 : (Jvm.Cond.instanceMethod ({ cls := "VipCacheModel", name := "unmap", desc := "(I)I" } : Jvm.MethodName)) ∈ lw_all := lw_g (lw_at lw_m1 233 rfl) rfl
theorem q252 : (Jvm.Cond.selects "VipCacheModel" ({ cls := "VipCacheModel", name := "unmap", desc := "(I)I" } : Jvm.MethodName) ({ cls := "VipCacheModel", name := "unmap", desc := "(I)I" } : Jvm.MethodName)) ∈ lw_all := lw_g (lw_at lw_m1 234 rfl) rfl
theorem q253 : (Jvm.Cond.code ({ cls := "VipCacheModel", name := "unmap", desc := "(I)I" } : Jvm.MethodName) prog_3_method_6_code (3 : Nat) (Option.some Jvm.ClassFile.FieldType.int)) ∈ lw_all := lw_g (lw_at lw_m1 235 rfl) rfl
theorem q255 : (Jvm.Cond.instanceMethod ({ cls := "VipCacheModel", name := "frameOf", desc := "(I)I" } : Jvm.MethodName)) ∈ lw_all := lw_g (lw_at lw_m1 237 rfl) rfl
theorem q256 : (Jvm.Cond.selects "VipCacheModel" ({ cls := "VipCacheModel", name := "frameOf", desc := "(I)I" } : Jvm.MethodName) ({ cls := "VipCacheModel", name := "frameOf", desc := "(I)I" } : Jvm.MethodName)) ∈ lw_all := lw_g (lw_at lw_m1 238 rfl) rfl
theorem q257 : (Jvm.Cond.code ({ cls := "VipCacheModel", name := "frameOf", desc := "(I)I" } : Jvm.MethodName) prog_3_method_7_code (2 : Nat) (Option.some Jvm.ClassFile.FieldType.int)) ∈ lw_all := lw_g (lw_at lw_m1 239 rfl) rfl
theorem q259 : (Jvm.Cond.instanceMethod ({ cls := "VipCacheModel", name := "allow", desc := "(II)I" } : Jvm.MethodName)) ∈ lw_all := lw_g (lw_at lw_m2 1 rfl) rfl
theorem q260 : (Jvm.Cond.selects "VipCacheModel" ({ cls := "VipCacheModel", name := "allow", desc := "(II)I" } : Jvm.MethodName) ({ cls := "VipCacheModel", name := "allow", desc := "(II)I" } : Jvm.MethodName)) ∈ lw_all := lw_g (lw_at lw_m2 2 rfl) rfl
theorem q261 : (Jvm.Cond.code ({ cls := "VipCacheModel", name := "allow", desc := "(II)I" } : Jvm.MethodName) prog_3_method_8_code (4 : Nat) (Option.some Jvm.ClassFile.FieldType.int)) ∈ lw_all := lw_g (lw_at lw_m2 3 rfl) rfl
theorem q263 : (Jvm.Cond.instanceMethod ({ cls := "VipCacheModel", name := "load", desc := "(II)I" } : Jvm.MethodName)) ∈ lw_all := lw_g (lw_at lw_m2 5 rfl) rfl
theorem q264 : (Jvm.Cond.selects "VipCacheModel" ({ cls := "VipCacheModel", name := "load", desc := "(II)I" } : Jvm.MethodName) ({ cls := "VipCacheModel", name := "load", desc := "(II)I" } : Jvm.MethodName)) ∈ lw_all := lw_g (lw_at lw_m2 6 rfl) rfl
theorem q265 : (Jvm.Cond.code ({ cls := "VipCacheModel", name := "load", desc := "(II)I" } : Jvm.MethodName) prog_3_method_9_code (3 : Nat) (Option.some Jvm.ClassFile.FieldType.int)) ∈ lw_all := lw_g (lw_at lw_m2 7 rfl) rfl
theorem q267 : (Jvm.Cond.instanceMethod ({ cls := "VipCacheModel", name := "store", desc := "(III)I" } : Jvm.MethodName)) ∈ lw_all := lw_g (lw_at lw_m2 9 rfl) rfl
theorem q268 : (Jvm.Cond.selects "VipCacheModel" ({ cls := "VipCacheModel", name := "store", desc := "(III)I" } : Jvm.MethodName) ({ cls := "VipCacheModel", name := "store", desc := "(III)I" } : Jvm.MethodName)) ∈ lw_all := lw_g (lw_at lw_m2 10 rfl) rfl
theorem q269 : (Jvm.Cond.code ({ cls := "VipCacheModel", name := "store", desc := "(III)I" } : Jvm.MethodName) prog_3_method_11_code (4 : Nat) (Option.some Jvm.ClassFile.FieldType.int)) ∈ lw_all := lw_g (lw_at lw_m2 11 rfl) rfl
theorem q270 : (Jvm.Cond.methodLink "VipCacheModel" (41 : Nat) ({ cls := "VipCacheModel", name := "mayStore", desc := "(II)Z" } : Jvm.MethodName)) ∈ lw_all := lw_g (lw_at lw_m2 12 rfl) rfl
theorem q271 : (Jvm.Cond.privateMethod ({ cls := "VipCacheModel", name := "mayStore", desc := "(II)Z" } : Jvm.MethodName)) ∈ lw_tbl := lw_at lw_m2 13 rfl
theorem q272 : (Jvm.Cond.instanceMethod ({ cls := "VipCacheModel", name := "mayStore", desc := "(II)Z" } : Jvm.MethodName)) ∈ lw_all := lw_g (lw_at lw_m2 14 rfl) rfl
theorem q273 : (Jvm.Cond.code ({ cls := "VipCacheModel", name := "mayStore", desc := "(II)Z" } : Jvm.MethodName) prog_3_method_10_code (3 : Nat) (Option.some Jvm.ClassFile.FieldType.boolean)) ∈ lw_all := lw_g (lw_at lw_m2 15 rfl) rfl
theorem q275 : (Jvm.Cond.instanceMethod ({ cls := "VipCacheModel", name := "trade", desc := "(III)I" } : Jvm.MethodName)) ∈ lw_all := lw_g (lw_at lw_m2 17 rfl) rfl
theorem q276 : (Jvm.Cond.selects "VipCacheModel" ({ cls := "VipCacheModel", name := "trade", desc := "(III)I" } : Jvm.MethodName) ({ cls := "VipCacheModel", name := "trade", desc := "(III)I" } : Jvm.MethodName)) ∈ lw_all := lw_g (lw_at lw_m2 18 rfl) rfl
theorem q277 : (Jvm.Cond.code ({ cls := "VipCacheModel", name := "trade", desc := "(III)I" } : Jvm.MethodName) prog_3_method_12_code (5 : Nat) (Option.some Jvm.ClassFile.FieldType.int)) ∈ lw_all := lw_g (lw_at lw_m2 19 rfl) rfl
theorem q279 : (Jvm.Cond.instanceMethod ({ cls := "VipCacheModel", name := "fault", desc := "()I" } : Jvm.MethodName)) ∈ lw_all := lw_g (lw_at lw_m2 21 rfl) rfl
theorem q280 : (Jvm.Cond.selects "VipCacheModel" ({ cls := "VipCacheModel", name := "fault", desc := "()I" } : Jvm.MethodName) ({ cls := "VipCacheModel", name := "fault", desc := "()I" } : Jvm.MethodName)) ∈ lw_all := lw_g (lw_at lw_m2 22 rfl) rfl
theorem q281 : (Jvm.Cond.code ({ cls := "VipCacheModel", name := "fault", desc := "()I" } : Jvm.MethodName) prog_3_method_13_code (1 : Nat) (Option.some Jvm.ClassFile.FieldType.int)) ∈ lw_all := lw_g (lw_at lw_m2 23 rfl) rfl
theorem q283 : (Jvm.Cond.instanceMethod ({ cls := "VipCacheModel", name := "word", desc := "(II)I" } : Jvm.MethodName)) ∈ lw_all := lw_g (lw_at lw_m2 25 rfl) rfl
theorem q284 : (Jvm.Cond.selects "VipCacheModel" ({ cls := "VipCacheModel", name := "word", desc := "(II)I" } : Jvm.MethodName) ({ cls := "VipCacheModel", name := "word", desc := "(II)I" } : Jvm.MethodName)) ∈ lw_all := lw_g (lw_at lw_m2 26 rfl) rfl
theorem q285 : (Jvm.Cond.code ({ cls := "VipCacheModel", name := "word", desc := "(II)I" } : Jvm.MethodName) prog_3_method_14_code (3 : Nat) (Option.some Jvm.ClassFile.FieldType.int)) ∈ lw_all := lw_g (lw_at lw_m2 27 rfl) rfl
theorem q287 : (Jvm.Cond.instanceMethod ({ cls := "VipCacheModel", name := "setWord", desc := "(III)I" } : Jvm.MethodName)) ∈ lw_all := lw_g (lw_at lw_m2 29 rfl) rfl
theorem q288 : (Jvm.Cond.selects "VipCacheModel" ({ cls := "VipCacheModel", name := "setWord", desc := "(III)I" } : Jvm.MethodName) ({ cls := "VipCacheModel", name := "setWord", desc := "(III)I" } : Jvm.MethodName)) ∈ lw_all := lw_g (lw_at lw_m2 30 rfl) rfl
theorem q289 : (Jvm.Cond.code ({ cls := "VipCacheModel", name := "setWord", desc := "(III)I" } : Jvm.MethodName) prog_3_method_15_code (4 : Nat) (Option.some Jvm.ClassFile.FieldType.int)) ∈ lw_all := lw_g (lw_at lw_m2 31 rfl) rfl
theorem q291 : (Jvm.Cond.instanceMethod ({ cls := "VipCacheModel", name := "copyFrame", desc := "(II)I" } : Jvm.MethodName)) ∈ lw_all := lw_g (lw_at lw_m2 33 rfl) rfl
theorem q292 : (Jvm.Cond.selects "VipCacheModel" ({ cls := "VipCacheModel", name := "copyFrame", desc := "(II)I" } : Jvm.MethodName) ({ cls := "VipCacheModel", name := "copyFrame", desc := "(II)I" } : Jvm.MethodName)) ∈ lw_all := lw_g (lw_at lw_m2 34 rfl) rfl
theorem q293 : (Jvm.Cond.code ({ cls := "VipCacheModel", name := "copyFrame", desc := "(II)I" } : Jvm.MethodName) prog_3_method_16_code (5 : Nat) (Option.some Jvm.ClassFile.FieldType.int)) ∈ lw_all := lw_g (lw_at lw_m2 35 rfl) rfl
theorem q295 : (Jvm.Cond.instanceMethod ({ cls := "VipCacheModel", name := "marks", desc := "(I)I" } : Jvm.MethodName)) ∈ lw_all := lw_g (lw_at lw_m2 37 rfl) rfl
theorem q296 : (Jvm.Cond.selects "VipCacheModel" ({ cls := "VipCacheModel", name := "marks", desc := "(I)I" } : Jvm.MethodName) ({ cls := "VipCacheModel", name := "marks", desc := "(I)I" } : Jvm.MethodName)) ∈ lw_all := lw_g (lw_at lw_m2 38 rfl) rfl
theorem q297 : (Jvm.Cond.code ({ cls := "VipCacheModel", name := "marks", desc := "(I)I" } : Jvm.MethodName) prog_3_method_17_code (2 : Nat) (Option.some Jvm.ClassFile.FieldType.int)) ∈ lw_all := lw_g (lw_at lw_m2 39 rfl) rfl
theorem q299 : (Jvm.Cond.instanceMethod ({ cls := "VipCacheModel", name := "clearMarks", desc := "(I)I" } : Jvm.MethodName)) ∈ lw_all := lw_g (lw_at lw_m2 41 rfl) rfl
theorem q300 : (Jvm.Cond.selects "VipCacheModel" ({ cls := "VipCacheModel", name := "clearMarks", desc := "(I)I" } : Jvm.MethodName) ({ cls := "VipCacheModel", name := "clearMarks", desc := "(I)I" } : Jvm.MethodName)) ∈ lw_all := lw_g (lw_at lw_m2 42 rfl) rfl
theorem q301 : (Jvm.Cond.code ({ cls := "VipCacheModel", name := "clearMarks", desc := "(I)I" } : Jvm.MethodName) prog_3_method_18_code (3 : Nat) (Option.some Jvm.ClassFile.FieldType.int)) ∈ lw_all := lw_g (lw_at lw_m2 43 rfl) rfl
theorem q302 : (Jvm.Cond.methodLink "VipCacheModel" (45 : Nat) ({ cls := "VipCacheModel", name := "marks", desc := "(I)I" } : Jvm.MethodName)) ∈ lw_all := lw_g (lw_at lw_m2 44 rfl) rfl
theorem q304 : (Jvm.Cond.instanceMethod ({ cls := "VipCacheModel", name := "shown", desc := "(I)I" } : Jvm.MethodName)) ∈ lw_all := lw_g (lw_at lw_m2 46 rfl) rfl
theorem q305 : (Jvm.Cond.selects "VipCacheModel" ({ cls := "VipCacheModel", name := "shown", desc := "(I)I" } : Jvm.MethodName) ({ cls := "VipCacheModel", name := "shown", desc := "(I)I" } : Jvm.MethodName)) ∈ lw_all := lw_g (lw_at lw_m2 47 rfl) rfl
theorem q306 : (Jvm.Cond.code ({ cls := "VipCacheModel", name := "shown", desc := "(I)I" } : Jvm.MethodName) prog_3_method_19_code (4 : Nat) (Option.some Jvm.ClassFile.FieldType.int)) ∈ lw_all := lw_g (lw_at lw_m2 48 rfl) rfl
theorem q308 : (Jvm.Cond.instanceMethod ({ cls := "VipCacheModel", name := "dirtyPages", desc := "()I" } : Jvm.MethodName)) ∈ lw_all := lw_g (lw_at lw_m2 50 rfl) rfl
theorem q309 : (Jvm.Cond.selects "VipCacheModel" ({ cls := "VipCacheModel", name := "dirtyPages", desc := "()I" } : Jvm.MethodName) ({ cls := "VipCacheModel", name := "dirtyPages", desc := "()I" } : Jvm.MethodName)) ∈ lw_all := lw_g (lw_at lw_m2 51 rfl) rfl
theorem q310 : (Jvm.Cond.code ({ cls := "VipCacheModel", name := "dirtyPages", desc := "()I" } : Jvm.MethodName) prog_3_method_20_code (3 : Nat) (Option.some Jvm.ClassFile.FieldType.int)) ∈ lw_all := lw_g (lw_at lw_m2 52 rfl) rfl
theorem q312 : (Jvm.Cond.instanceMethod ({ cls := "VipCacheModel", name := "flush", desc := "()V" } : Jvm.MethodName)) ∈ lw_all := lw_g (lw_at lw_m2 54 rfl) rfl
theorem q313 : (Jvm.Cond.selects "VipCacheModel" ({ cls := "VipCacheModel", name := "flush", desc := "()V" } : Jvm.MethodName) ({ cls := "VipCacheModel", name := "flush", desc := "()V" } : Jvm.MethodName)) ∈ lw_all := lw_g (lw_at lw_m2 55 rfl) rfl
theorem q314 : (Jvm.Cond.code ({ cls := "VipCacheModel", name := "flush", desc := "()V" } : Jvm.MethodName) prog_3_method_21_code (1 : Nat) (Option.none : Option Jvm.ClassFile.FieldType)) ∈ lw_all := lw_g (lw_at lw_m2 56 rfl) rfl
theorem q316 : (Jvm.Cond.instanceMethod ({ cls := "VipCacheModel", name := "forget", desc := "(I)I" } : Jvm.MethodName)) ∈ lw_all := lw_g (lw_at lw_m2 58 rfl) rfl
theorem q317 : (Jvm.Cond.selects "VipCacheModel" ({ cls := "VipCacheModel", name := "forget", desc := "(I)I" } : Jvm.MethodName) ({ cls := "VipCacheModel", name := "forget", desc := "(I)I" } : Jvm.MethodName)) ∈ lw_all := lw_g (lw_at lw_m2 59 rfl) rfl
theorem q318 : (Jvm.Cond.code ({ cls := "VipCacheModel", name := "forget", desc := "(I)I" } : Jvm.MethodName) prog_3_method_22_code (2 : Nat) (Option.some Jvm.ClassFile.FieldType.int)) ∈ lw_all := lw_g (lw_at lw_m2 60 rfl) rfl
theorem q320 : (Jvm.Cond.instanceMethod ({ cls := "VipCacheModel", name := "warm", desc := "(I)I" } : Jvm.MethodName)) ∈ lw_all := lw_g (lw_at lw_m2 62 rfl) rfl
theorem q321 : (Jvm.Cond.selects "VipCacheModel" ({ cls := "VipCacheModel", name := "warm", desc := "(I)I" } : Jvm.MethodName) ({ cls := "VipCacheModel", name := "warm", desc := "(I)I" } : Jvm.MethodName)) ∈ lw_all := lw_g (lw_at lw_m2 63 rfl) rfl
theorem q322 : (Jvm.Cond.code ({ cls := "VipCacheModel", name := "warm", desc := "(I)I" } : Jvm.MethodName) prog_3_method_23_code (2 : Nat) (Option.some Jvm.ClassFile.FieldType.int)) ∈ lw_all := lw_g (lw_at lw_m2 64 rfl) rfl
theorem in_X1 : ∀ w ∈ wsX10, w ∈ lw_all := lw_in wsX10 [221, 223, 225, 227, 229, 231] (by decide +kernel) (by decide +kernel)
def RJ0 : String := "java/lang/Object"
abbrev cJ0_init : ByteArray := object_method_1_code
def yJ0_init : MethodName := ⟨RJ0, "<init>", "()V"⟩
theorem dJ0_init_0 : decode cJ0_init 0 = .ok (.return_, 1) := by decide +kernel
theorem q27 : (Jvm.Cond.instanceMethod ({ cls := "java/lang/Object", name := "<init>", desc := "()V" } : Jvm.MethodName)) ∈ lw_all := lw_g (lw_at lw_m1 9 rfl) rfl
theorem q28 : (Jvm.Cond.code ({ cls := "java/lang/Object", name := "<init>", desc := "()V" } : Jvm.MethodName) object_method_1_code (1 : Nat) (Option.none : Option Jvm.ClassFile.FieldType)) ∈ lw_all := lw_g (lw_at lw_m1 10 rfl) rfl
theorem q78 : (Jvm.Cond.arrayClass Jvm.ClassFile.FieldType.int) ∈ lw_all := lw_g (lw_at lw_m1 60 rfl) rfl
theorem q79 : (Jvm.Cond.arrayClass Jvm.ClassFile.FieldType.boolean) ∈ lw_all := lw_g (lw_at lw_m1 61 rfl) rfl
theorem q18 : (Jvm.Cond.initialized "VipCacheLaw") ∈ lw_all := lw_g (lw_at lw_m1 0 rfl) rfl
theorem q21 : (Jvm.Cond.classLink "VipCacheLaw" (7 : Nat) "VipCache") ∈ lw_all := lw_g (lw_at lw_m1 3 rfl) rfl
theorem q23 : (Jvm.Cond.methodLink "VipCacheLaw" (9 : Nat) ({ cls := "VipCache", name := "<init>", desc := "()V" } : Jvm.MethodName)) ∈ lw_all := lw_g (lw_at lw_m1 5 rfl) rfl
theorem q80 : (Jvm.Cond.methodLink "VipCacheLaw" (13 : Nat) ({ cls := "VipCache", name := "map", desc := "(III)I" } : Jvm.MethodName)) ∈ lw_all := lw_g (lw_at lw_m1 62 rfl) rfl
theorem q96 : (Jvm.Cond.methodLink "VipCacheLaw" (18 : Nat) ({ cls := "VipCache", name := "unmap", desc := "(I)I" } : Jvm.MethodName)) ∈ lw_all := lw_g (lw_at lw_m1 78 rfl) rfl
theorem q100 : (Jvm.Cond.methodLink "VipCacheLaw" (23 : Nat) ({ cls := "VipCache", name := "frameOf", desc := "(I)I" } : Jvm.MethodName)) ∈ lw_all := lw_g (lw_at lw_m1 82 rfl) rfl
theorem q104 : (Jvm.Cond.methodLink "VipCacheLaw" (27 : Nat) ({ cls := "VipCache", name := "allow", desc := "(II)I" } : Jvm.MethodName)) ∈ lw_all := lw_g (lw_at lw_m1 86 rfl) rfl
theorem q108 : (Jvm.Cond.methodLink "VipCacheLaw" (32 : Nat) ({ cls := "VipCache", name := "load", desc := "(II)I" } : Jvm.MethodName)) ∈ lw_all := lw_g (lw_at lw_m1 90 rfl) rfl
theorem q148 : (Jvm.Cond.methodLink "VipCacheLaw" (36 : Nat) ({ cls := "VipCache", name := "store", desc := "(III)I" } : Jvm.MethodName)) ∈ lw_all := lw_g (lw_at lw_m1 130 rfl) rfl
theorem q156 : (Jvm.Cond.methodLink "VipCacheLaw" (40 : Nat) ({ cls := "VipCache", name := "trade", desc := "(III)I" } : Jvm.MethodName)) ∈ lw_all := lw_g (lw_at lw_m1 138 rfl) rfl
theorem q160 : (Jvm.Cond.methodLink "VipCacheLaw" (44 : Nat) ({ cls := "VipCache", name := "fault", desc := "()I" } : Jvm.MethodName)) ∈ lw_all := lw_g (lw_at lw_m1 142 rfl) rfl
theorem q164 : (Jvm.Cond.methodLink "VipCacheLaw" (49 : Nat) ({ cls := "VipCache", name := "word", desc := "(II)I" } : Jvm.MethodName)) ∈ lw_all := lw_g (lw_at lw_m1 146 rfl) rfl
theorem q172 : (Jvm.Cond.methodLink "VipCacheLaw" (53 : Nat) ({ cls := "VipCache", name := "setWord", desc := "(III)I" } : Jvm.MethodName)) ∈ lw_all := lw_g (lw_at lw_m1 154 rfl) rfl
theorem q176 : (Jvm.Cond.methodLink "VipCacheLaw" (57 : Nat) ({ cls := "VipCache", name := "copyFrame", desc := "(II)I" } : Jvm.MethodName)) ∈ lw_all := lw_g (lw_at lw_m1 158 rfl) rfl
theorem q180 : (Jvm.Cond.methodLink "VipCacheLaw" (61 : Nat) ({ cls := "VipCache", name := "marks", desc := "(I)I" } : Jvm.MethodName)) ∈ lw_all := lw_g (lw_at lw_m1 162 rfl) rfl
theorem q184 : (Jvm.Cond.methodLink "VipCacheLaw" (65 : Nat) ({ cls := "VipCache", name := "clearMarks", desc := "(I)I" } : Jvm.MethodName)) ∈ lw_all := lw_g (lw_at lw_m1 166 rfl) rfl
theorem q189 : (Jvm.Cond.methodLink "VipCacheLaw" (69 : Nat) ({ cls := "VipCache", name := "shown", desc := "(I)I" } : Jvm.MethodName)) ∈ lw_all := lw_g (lw_at lw_m1 171 rfl) rfl
theorem q193 : (Jvm.Cond.methodLink "VipCacheLaw" (73 : Nat) ({ cls := "VipCache", name := "dirtyPages", desc := "()I" } : Jvm.MethodName)) ∈ lw_all := lw_g (lw_at lw_m1 175 rfl) rfl
theorem q197 : (Jvm.Cond.methodLink "VipCacheLaw" (77 : Nat) ({ cls := "VipCache", name := "flush", desc := "()V" } : Jvm.MethodName)) ∈ lw_all := lw_g (lw_at lw_m1 179 rfl) rfl
theorem q201 : (Jvm.Cond.methodLink "VipCacheLaw" (81 : Nat) ({ cls := "VipCache", name := "forget", desc := "(I)I" } : Jvm.MethodName)) ∈ lw_all := lw_g (lw_at lw_m1 183 rfl) rfl
theorem q205 : (Jvm.Cond.methodLink "VipCacheLaw" (85 : Nat) ({ cls := "VipCache", name := "warm", desc := "(I)I" } : Jvm.MethodName)) ∈ lw_all := lw_g (lw_at lw_m1 187 rfl) rfl
theorem q209 : (Jvm.Cond.classLink "VipCacheLaw" (10 : Nat) "VipCacheModel") ∈ lw_all := lw_g (lw_at lw_m1 191 rfl) rfl
theorem q211 : (Jvm.Cond.methodLink "VipCacheLaw" (12 : Nat) ({ cls := "VipCacheModel", name := "<init>", desc := "()V" } : Jvm.MethodName)) ∈ lw_all := lw_g (lw_at lw_m1 193 rfl) rfl
theorem q234 : (Jvm.Cond.methodLink "VipCacheLaw" (17 : Nat) ({ cls := "VipCacheModel", name := "map", desc := "(III)I" } : Jvm.MethodName)) ∈ lw_all := lw_g (lw_at lw_m1 216 rfl) rfl
theorem q250 : (Jvm.Cond.methodLink "VipCacheLaw" (22 : Nat) ({ cls := "VipCacheModel", name := "unmap", desc := "(I)I" } : Jvm.MethodName)) ∈ lw_all := lw_g (lw_at lw_m1 232 rfl) rfl
theorem q254 : (Jvm.Cond.methodLink "VipCacheLaw" (26 : Nat) ({ cls := "VipCacheModel", name := "frameOf", desc := "(I)I" } : Jvm.MethodName)) ∈ lw_all := lw_g (lw_at lw_m1 236 rfl) rfl
theorem q258 : (Jvm.Cond.methodLink "VipCacheLaw" (31 : Nat) ({ cls := "VipCacheModel", name := "allow", desc := "(II)I" } : Jvm.MethodName)) ∈ lw_all := lw_g (lw_at lw_m2 0 rfl) rfl
theorem q262 : (Jvm.Cond.methodLink "VipCacheLaw" (35 : Nat) ({ cls := "VipCacheModel", name := "load", desc := "(II)I" } : Jvm.MethodName)) ∈ lw_all := lw_g (lw_at lw_m2 4 rfl) rfl
theorem q266 : (Jvm.Cond.methodLink "VipCacheLaw" (39 : Nat) ({ cls := "VipCacheModel", name := "store", desc := "(III)I" } : Jvm.MethodName)) ∈ lw_all := lw_g (lw_at lw_m2 8 rfl) rfl
theorem q274 : (Jvm.Cond.methodLink "VipCacheLaw" (43 : Nat) ({ cls := "VipCacheModel", name := "trade", desc := "(III)I" } : Jvm.MethodName)) ∈ lw_all := lw_g (lw_at lw_m2 16 rfl) rfl
theorem q278 : (Jvm.Cond.methodLink "VipCacheLaw" (48 : Nat) ({ cls := "VipCacheModel", name := "fault", desc := "()I" } : Jvm.MethodName)) ∈ lw_all := lw_g (lw_at lw_m2 20 rfl) rfl
theorem q282 : (Jvm.Cond.methodLink "VipCacheLaw" (52 : Nat) ({ cls := "VipCacheModel", name := "word", desc := "(II)I" } : Jvm.MethodName)) ∈ lw_all := lw_g (lw_at lw_m2 24 rfl) rfl
theorem q286 : (Jvm.Cond.methodLink "VipCacheLaw" (56 : Nat) ({ cls := "VipCacheModel", name := "setWord", desc := "(III)I" } : Jvm.MethodName)) ∈ lw_all := lw_g (lw_at lw_m2 28 rfl) rfl
theorem q290 : (Jvm.Cond.methodLink "VipCacheLaw" (60 : Nat) ({ cls := "VipCacheModel", name := "copyFrame", desc := "(II)I" } : Jvm.MethodName)) ∈ lw_all := lw_g (lw_at lw_m2 32 rfl) rfl
theorem q294 : (Jvm.Cond.methodLink "VipCacheLaw" (64 : Nat) ({ cls := "VipCacheModel", name := "marks", desc := "(I)I" } : Jvm.MethodName)) ∈ lw_all := lw_g (lw_at lw_m2 36 rfl) rfl
theorem q298 : (Jvm.Cond.methodLink "VipCacheLaw" (68 : Nat) ({ cls := "VipCacheModel", name := "clearMarks", desc := "(I)I" } : Jvm.MethodName)) ∈ lw_all := lw_g (lw_at lw_m2 40 rfl) rfl
theorem q303 : (Jvm.Cond.methodLink "VipCacheLaw" (72 : Nat) ({ cls := "VipCacheModel", name := "shown", desc := "(I)I" } : Jvm.MethodName)) ∈ lw_all := lw_g (lw_at lw_m2 45 rfl) rfl
theorem q307 : (Jvm.Cond.methodLink "VipCacheLaw" (76 : Nat) ({ cls := "VipCacheModel", name := "dirtyPages", desc := "()I" } : Jvm.MethodName)) ∈ lw_all := lw_g (lw_at lw_m2 49 rfl) rfl
theorem q311 : (Jvm.Cond.methodLink "VipCacheLaw" (80 : Nat) ({ cls := "VipCacheModel", name := "flush", desc := "()V" } : Jvm.MethodName)) ∈ lw_all := lw_g (lw_at lw_m2 53 rfl) rfl
theorem q315 : (Jvm.Cond.methodLink "VipCacheLaw" (84 : Nat) ({ cls := "VipCacheModel", name := "forget", desc := "(I)I" } : Jvm.MethodName)) ∈ lw_all := lw_g (lw_at lw_m2 57 rfl) rfl
theorem q319 : (Jvm.Cond.methodLink "VipCacheLaw" (88 : Nat) ({ cls := "VipCacheModel", name := "warm", desc := "(I)I" } : Jvm.MethodName)) ∈ lw_all := lw_g (lw_at lw_m2 61 rfl) rfl
end
section
/-! the law's own entry -/
set_option maxRecDepth 100000
abbrev cL_law : ByteArray := code
theorem dL_law_0 : decode cL_law 0 = .ok (.new 7, 3) := by decide +kernel
theorem dL_law_3 : decode cL_law 3 = .ok (.dup, 1) := by decide +kernel
theorem dL_law_4 : decode cL_law 4 = .ok (.invokespecial 9, 3) := by decide +kernel
theorem dL_law_7 : decode cL_law 7 = .ok (.astore_n 1, 1) := by decide +kernel
theorem dL_law_8 : decode cL_law 8 = .ok (.new 10, 3) := by decide +kernel
theorem dL_law_11 : decode cL_law 11 = .ok (.dup, 1) := by decide +kernel
theorem dL_law_12 : decode cL_law 12 = .ok (.invokespecial 12, 3) := by decide +kernel
theorem dL_law_15 : decode cL_law 15 = .ok (.astore_n 2, 1) := by decide +kernel
theorem dL_law_16 : decode cL_law 16 = .ok (.iconst 0, 1) := by decide +kernel
theorem dL_law_17 : decode cL_law 17 = .ok (.istore_n 3, 1) := by decide +kernel
theorem dL_law_18 : decode cL_law 18 = .ok (.iload_n 3, 1) := by decide +kernel
theorem dL_law_19 : decode cL_law 19 = .ok (.aload_n 0, 1) := by decide +kernel
theorem dL_law_20 : decode cL_law 20 = .ok (.arraylength, 1) := by decide +kernel
theorem dL_law_21 : decode cL_law 21 = .ok (.iconst 4, 1) := by decide +kernel
theorem dL_law_22 : decode cL_law 22 = .ok (.isub, 1) := by decide +kernel
theorem dL_law_23 : decode cL_law 23 = .ok (.if_icmp .gt 605, 3) := by decide +kernel
theorem dL_law_26 : decode cL_law 26 = .ok (.aload_n 0, 1) := by decide +kernel
theorem dL_law_27 : decode cL_law 27 = .ok (.iload_n 3, 1) := by decide +kernel
theorem dL_law_28 : decode cL_law 28 = .ok (.iaload, 1) := by decide +kernel
theorem dL_law_29 : decode cL_law 29 = .ok (.bipush 31, 2) := by decide +kernel
theorem dL_law_31 : decode cL_law 31 = .ok (.iand, 1) := by decide +kernel
theorem dL_law_32 : decode cL_law 32 = .ok (.tableswitch 590 0 17 #[88, 131, 154, 177, 210, 243, 286, 329, 342, 375, 418, 451, 474, 497, 520, 533, 544, 567], 88) := by decide +kernel
theorem dL_law_120 : decode cL_law 120 = .ok (.aload_n 1, 1) := by decide +kernel
theorem dL_law_121 : decode cL_law 121 = .ok (.aload_n 0, 1) := by decide +kernel
theorem dL_law_122 : decode cL_law 122 = .ok (.iload_n 3, 1) := by decide +kernel
theorem dL_law_123 : decode cL_law 123 = .ok (.iconst 1, 1) := by decide +kernel
theorem dL_law_124 : decode cL_law 124 = .ok (.iadd, 1) := by decide +kernel
theorem dL_law_125 : decode cL_law 125 = .ok (.iaload, 1) := by decide +kernel
theorem dL_law_126 : decode cL_law 126 = .ok (.aload_n 0, 1) := by decide +kernel
theorem dL_law_127 : decode cL_law 127 = .ok (.iload_n 3, 1) := by decide +kernel
theorem dL_law_128 : decode cL_law 128 = .ok (.iconst 2, 1) := by decide +kernel
theorem dL_law_129 : decode cL_law 129 = .ok (.iadd, 1) := by decide +kernel
theorem dL_law_130 : decode cL_law 130 = .ok (.iaload, 1) := by decide +kernel
theorem dL_law_131 : decode cL_law 131 = .ok (.aload_n 0, 1) := by decide +kernel
theorem dL_law_132 : decode cL_law 132 = .ok (.iload_n 3, 1) := by decide +kernel
theorem dL_law_133 : decode cL_law 133 = .ok (.iconst 3, 1) := by decide +kernel
theorem dL_law_134 : decode cL_law 134 = .ok (.iadd, 1) := by decide +kernel
theorem dL_law_135 : decode cL_law 135 = .ok (.iaload, 1) := by decide +kernel
theorem dL_law_136 : decode cL_law 136 = .ok (.invokevirtual 13, 3) := by decide +kernel
theorem dL_law_139 : decode cL_law 139 = .ok (.aload_n 2, 1) := by decide +kernel
theorem dL_law_140 : decode cL_law 140 = .ok (.aload_n 0, 1) := by decide +kernel
theorem dL_law_141 : decode cL_law 141 = .ok (.iload_n 3, 1) := by decide +kernel
theorem dL_law_142 : decode cL_law 142 = .ok (.iconst 1, 1) := by decide +kernel
theorem dL_law_143 : decode cL_law 143 = .ok (.iadd, 1) := by decide +kernel
theorem dL_law_144 : decode cL_law 144 = .ok (.iaload, 1) := by decide +kernel
theorem dL_law_145 : decode cL_law 145 = .ok (.aload_n 0, 1) := by decide +kernel
theorem dL_law_146 : decode cL_law 146 = .ok (.iload_n 3, 1) := by decide +kernel
theorem dL_law_147 : decode cL_law 147 = .ok (.iconst 2, 1) := by decide +kernel
theorem dL_law_148 : decode cL_law 148 = .ok (.iadd, 1) := by decide +kernel
theorem dL_law_149 : decode cL_law 149 = .ok (.iaload, 1) := by decide +kernel
theorem dL_law_150 : decode cL_law 150 = .ok (.aload_n 0, 1) := by decide +kernel
theorem dL_law_151 : decode cL_law 151 = .ok (.iload_n 3, 1) := by decide +kernel
theorem dL_law_152 : decode cL_law 152 = .ok (.iconst 3, 1) := by decide +kernel
theorem dL_law_153 : decode cL_law 153 = .ok (.iadd, 1) := by decide +kernel
theorem dL_law_154 : decode cL_law 154 = .ok (.iaload, 1) := by decide +kernel
theorem dL_law_155 : decode cL_law 155 = .ok (.invokevirtual 17, 3) := by decide +kernel
theorem dL_law_158 : decode cL_law 158 = .ok (.if_icmp .eq 464, 3) := by decide +kernel
theorem dL_law_161 : decode cL_law 161 = .ok (.iconst 0, 1) := by decide +kernel
theorem dL_law_162 : decode cL_law 162 = .ok (.ireturn, 1) := by decide +kernel
theorem dL_law_163 : decode cL_law 163 = .ok (.aload_n 1, 1) := by decide +kernel
theorem dL_law_164 : decode cL_law 164 = .ok (.aload_n 0, 1) := by decide +kernel
theorem dL_law_165 : decode cL_law 165 = .ok (.iload_n 3, 1) := by decide +kernel
theorem dL_law_166 : decode cL_law 166 = .ok (.iconst 1, 1) := by decide +kernel
theorem dL_law_167 : decode cL_law 167 = .ok (.iadd, 1) := by decide +kernel
theorem dL_law_168 : decode cL_law 168 = .ok (.iaload, 1) := by decide +kernel
theorem dL_law_169 : decode cL_law 169 = .ok (.invokevirtual 18, 3) := by decide +kernel
theorem dL_law_172 : decode cL_law 172 = .ok (.aload_n 2, 1) := by decide +kernel
theorem dL_law_173 : decode cL_law 173 = .ok (.aload_n 0, 1) := by decide +kernel
theorem dL_law_174 : decode cL_law 174 = .ok (.iload_n 3, 1) := by decide +kernel
theorem dL_law_175 : decode cL_law 175 = .ok (.iconst 1, 1) := by decide +kernel
theorem dL_law_176 : decode cL_law 176 = .ok (.iadd, 1) := by decide +kernel
theorem dL_law_177 : decode cL_law 177 = .ok (.iaload, 1) := by decide +kernel
theorem dL_law_178 : decode cL_law 178 = .ok (.invokevirtual 22, 3) := by decide +kernel
theorem dL_law_181 : decode cL_law 181 = .ok (.if_icmp .eq 441, 3) := by decide +kernel
theorem dL_law_184 : decode cL_law 184 = .ok (.iconst 0, 1) := by decide +kernel
theorem dL_law_185 : decode cL_law 185 = .ok (.ireturn, 1) := by decide +kernel
theorem dL_law_186 : decode cL_law 186 = .ok (.aload_n 1, 1) := by decide +kernel
theorem dL_law_187 : decode cL_law 187 = .ok (.aload_n 0, 1) := by decide +kernel
theorem dL_law_188 : decode cL_law 188 = .ok (.iload_n 3, 1) := by decide +kernel
theorem dL_law_189 : decode cL_law 189 = .ok (.iconst 1, 1) := by decide +kernel
theorem dL_law_190 : decode cL_law 190 = .ok (.iadd, 1) := by decide +kernel
theorem dL_law_191 : decode cL_law 191 = .ok (.iaload, 1) := by decide +kernel
theorem dL_law_192 : decode cL_law 192 = .ok (.invokevirtual 23, 3) := by decide +kernel
theorem dL_law_195 : decode cL_law 195 = .ok (.aload_n 2, 1) := by decide +kernel
theorem dL_law_196 : decode cL_law 196 = .ok (.aload_n 0, 1) := by decide +kernel
theorem dL_law_197 : decode cL_law 197 = .ok (.iload_n 3, 1) := by decide +kernel
theorem dL_law_198 : decode cL_law 198 = .ok (.iconst 1, 1) := by decide +kernel
theorem dL_law_199 : decode cL_law 199 = .ok (.iadd, 1) := by decide +kernel
theorem dL_law_200 : decode cL_law 200 = .ok (.iaload, 1) := by decide +kernel
theorem dL_law_201 : decode cL_law 201 = .ok (.invokevirtual 26, 3) := by decide +kernel
theorem dL_law_204 : decode cL_law 204 = .ok (.if_icmp .eq 418, 3) := by decide +kernel
theorem dL_law_207 : decode cL_law 207 = .ok (.iconst 0, 1) := by decide +kernel
theorem dL_law_208 : decode cL_law 208 = .ok (.ireturn, 1) := by decide +kernel
theorem dL_law_209 : decode cL_law 209 = .ok (.aload_n 1, 1) := by decide +kernel
theorem dL_law_210 : decode cL_law 210 = .ok (.aload_n 0, 1) := by decide +kernel
theorem dL_law_211 : decode cL_law 211 = .ok (.iload_n 3, 1) := by decide +kernel
theorem dL_law_212 : decode cL_law 212 = .ok (.iconst 1, 1) := by decide +kernel
theorem dL_law_213 : decode cL_law 213 = .ok (.iadd, 1) := by decide +kernel
theorem dL_law_214 : decode cL_law 214 = .ok (.iaload, 1) := by decide +kernel
theorem dL_law_215 : decode cL_law 215 = .ok (.aload_n 0, 1) := by decide +kernel
theorem dL_law_216 : decode cL_law 216 = .ok (.iload_n 3, 1) := by decide +kernel
theorem dL_law_217 : decode cL_law 217 = .ok (.iconst 2, 1) := by decide +kernel
theorem dL_law_218 : decode cL_law 218 = .ok (.iadd, 1) := by decide +kernel
theorem dL_law_219 : decode cL_law 219 = .ok (.iaload, 1) := by decide +kernel
theorem dL_law_220 : decode cL_law 220 = .ok (.invokevirtual 27, 3) := by decide +kernel
theorem dL_law_223 : decode cL_law 223 = .ok (.aload_n 2, 1) := by decide +kernel
theorem dL_law_224 : decode cL_law 224 = .ok (.aload_n 0, 1) := by decide +kernel
theorem dL_law_225 : decode cL_law 225 = .ok (.iload_n 3, 1) := by decide +kernel
theorem dL_law_226 : decode cL_law 226 = .ok (.iconst 1, 1) := by decide +kernel
theorem dL_law_227 : decode cL_law 227 = .ok (.iadd, 1) := by decide +kernel
theorem dL_law_228 : decode cL_law 228 = .ok (.iaload, 1) := by decide +kernel
theorem dL_law_229 : decode cL_law 229 = .ok (.aload_n 0, 1) := by decide +kernel
theorem dL_law_230 : decode cL_law 230 = .ok (.iload_n 3, 1) := by decide +kernel
theorem dL_law_231 : decode cL_law 231 = .ok (.iconst 2, 1) := by decide +kernel
theorem dL_law_232 : decode cL_law 232 = .ok (.iadd, 1) := by decide +kernel
theorem dL_law_233 : decode cL_law 233 = .ok (.iaload, 1) := by decide +kernel
theorem dL_law_234 : decode cL_law 234 = .ok (.invokevirtual 31, 3) := by decide +kernel
theorem dL_law_237 : decode cL_law 237 = .ok (.if_icmp .eq 385, 3) := by decide +kernel
theorem dL_law_240 : decode cL_law 240 = .ok (.iconst 0, 1) := by decide +kernel
theorem dL_law_241 : decode cL_law 241 = .ok (.ireturn, 1) := by decide +kernel
theorem dL_law_242 : decode cL_law 242 = .ok (.aload_n 1, 1) := by decide +kernel
theorem dL_law_243 : decode cL_law 243 = .ok (.aload_n 0, 1) := by decide +kernel
theorem dL_law_244 : decode cL_law 244 = .ok (.iload_n 3, 1) := by decide +kernel
theorem dL_law_245 : decode cL_law 245 = .ok (.iconst 1, 1) := by decide +kernel
theorem dL_law_246 : decode cL_law 246 = .ok (.iadd, 1) := by decide +kernel
theorem dL_law_247 : decode cL_law 247 = .ok (.iaload, 1) := by decide +kernel
theorem dL_law_248 : decode cL_law 248 = .ok (.aload_n 0, 1) := by decide +kernel
theorem dL_law_249 : decode cL_law 249 = .ok (.iload_n 3, 1) := by decide +kernel
theorem dL_law_250 : decode cL_law 250 = .ok (.iconst 2, 1) := by decide +kernel
theorem dL_law_251 : decode cL_law 251 = .ok (.iadd, 1) := by decide +kernel
theorem dL_law_252 : decode cL_law 252 = .ok (.iaload, 1) := by decide +kernel
theorem dL_law_253 : decode cL_law 253 = .ok (.invokevirtual 32, 3) := by decide +kernel
theorem dL_law_256 : decode cL_law 256 = .ok (.aload_n 2, 1) := by decide +kernel
theorem dL_law_257 : decode cL_law 257 = .ok (.aload_n 0, 1) := by decide +kernel
theorem dL_law_258 : decode cL_law 258 = .ok (.iload_n 3, 1) := by decide +kernel
theorem dL_law_259 : decode cL_law 259 = .ok (.iconst 1, 1) := by decide +kernel
theorem dL_law_260 : decode cL_law 260 = .ok (.iadd, 1) := by decide +kernel
theorem dL_law_261 : decode cL_law 261 = .ok (.iaload, 1) := by decide +kernel
theorem dL_law_262 : decode cL_law 262 = .ok (.aload_n 0, 1) := by decide +kernel
theorem dL_law_263 : decode cL_law 263 = .ok (.iload_n 3, 1) := by decide +kernel
theorem dL_law_264 : decode cL_law 264 = .ok (.iconst 2, 1) := by decide +kernel
theorem dL_law_265 : decode cL_law 265 = .ok (.iadd, 1) := by decide +kernel
theorem dL_law_266 : decode cL_law 266 = .ok (.iaload, 1) := by decide +kernel
theorem dL_law_267 : decode cL_law 267 = .ok (.invokevirtual 35, 3) := by decide +kernel
theorem dL_law_270 : decode cL_law 270 = .ok (.if_icmp .eq 352, 3) := by decide +kernel
theorem dL_law_273 : decode cL_law 273 = .ok (.iconst 0, 1) := by decide +kernel
theorem dL_law_274 : decode cL_law 274 = .ok (.ireturn, 1) := by decide +kernel
theorem dL_law_275 : decode cL_law 275 = .ok (.aload_n 1, 1) := by decide +kernel
theorem dL_law_276 : decode cL_law 276 = .ok (.aload_n 0, 1) := by decide +kernel
theorem dL_law_277 : decode cL_law 277 = .ok (.iload_n 3, 1) := by decide +kernel
theorem dL_law_278 : decode cL_law 278 = .ok (.iconst 1, 1) := by decide +kernel
theorem dL_law_279 : decode cL_law 279 = .ok (.iadd, 1) := by decide +kernel
theorem dL_law_280 : decode cL_law 280 = .ok (.iaload, 1) := by decide +kernel
theorem dL_law_281 : decode cL_law 281 = .ok (.aload_n 0, 1) := by decide +kernel
theorem dL_law_282 : decode cL_law 282 = .ok (.iload_n 3, 1) := by decide +kernel
theorem dL_law_283 : decode cL_law 283 = .ok (.iconst 2, 1) := by decide +kernel
theorem dL_law_284 : decode cL_law 284 = .ok (.iadd, 1) := by decide +kernel
theorem dL_law_285 : decode cL_law 285 = .ok (.iaload, 1) := by decide +kernel
theorem dL_law_286 : decode cL_law 286 = .ok (.aload_n 0, 1) := by decide +kernel
theorem dL_law_287 : decode cL_law 287 = .ok (.iload_n 3, 1) := by decide +kernel
theorem dL_law_288 : decode cL_law 288 = .ok (.iconst 3, 1) := by decide +kernel
theorem dL_law_289 : decode cL_law 289 = .ok (.iadd, 1) := by decide +kernel
theorem dL_law_290 : decode cL_law 290 = .ok (.iaload, 1) := by decide +kernel
theorem dL_law_291 : decode cL_law 291 = .ok (.invokevirtual 36, 3) := by decide +kernel
theorem dL_law_294 : decode cL_law 294 = .ok (.aload_n 2, 1) := by decide +kernel
theorem dL_law_295 : decode cL_law 295 = .ok (.aload_n 0, 1) := by decide +kernel
theorem dL_law_296 : decode cL_law 296 = .ok (.iload_n 3, 1) := by decide +kernel
theorem dL_law_297 : decode cL_law 297 = .ok (.iconst 1, 1) := by decide +kernel
theorem dL_law_298 : decode cL_law 298 = .ok (.iadd, 1) := by decide +kernel
theorem dL_law_299 : decode cL_law 299 = .ok (.iaload, 1) := by decide +kernel
theorem dL_law_300 : decode cL_law 300 = .ok (.aload_n 0, 1) := by decide +kernel
theorem dL_law_301 : decode cL_law 301 = .ok (.iload_n 3, 1) := by decide +kernel
theorem dL_law_302 : decode cL_law 302 = .ok (.iconst 2, 1) := by decide +kernel
theorem dL_law_303 : decode cL_law 303 = .ok (.iadd, 1) := by decide +kernel
theorem dL_law_304 : decode cL_law 304 = .ok (.iaload, 1) := by decide +kernel
theorem dL_law_305 : decode cL_law 305 = .ok (.aload_n 0, 1) := by decide +kernel
theorem dL_law_306 : decode cL_law 306 = .ok (.iload_n 3, 1) := by decide +kernel
theorem dL_law_307 : decode cL_law 307 = .ok (.iconst 3, 1) := by decide +kernel
theorem dL_law_308 : decode cL_law 308 = .ok (.iadd, 1) := by decide +kernel
theorem dL_law_309 : decode cL_law 309 = .ok (.iaload, 1) := by decide +kernel
theorem dL_law_310 : decode cL_law 310 = .ok (.invokevirtual 39, 3) := by decide +kernel
theorem dL_law_313 : decode cL_law 313 = .ok (.if_icmp .eq 309, 3) := by decide +kernel
theorem dL_law_316 : decode cL_law 316 = .ok (.iconst 0, 1) := by decide +kernel
theorem dL_law_317 : decode cL_law 317 = .ok (.ireturn, 1) := by decide +kernel
theorem dL_law_318 : decode cL_law 318 = .ok (.aload_n 1, 1) := by decide +kernel
theorem dL_law_319 : decode cL_law 319 = .ok (.aload_n 0, 1) := by decide +kernel
theorem dL_law_320 : decode cL_law 320 = .ok (.iload_n 3, 1) := by decide +kernel
theorem dL_law_321 : decode cL_law 321 = .ok (.iconst 1, 1) := by decide +kernel
theorem dL_law_322 : decode cL_law 322 = .ok (.iadd, 1) := by decide +kernel
theorem dL_law_323 : decode cL_law 323 = .ok (.iaload, 1) := by decide +kernel
theorem dL_law_324 : decode cL_law 324 = .ok (.aload_n 0, 1) := by decide +kernel
theorem dL_law_325 : decode cL_law 325 = .ok (.iload_n 3, 1) := by decide +kernel
theorem dL_law_326 : decode cL_law 326 = .ok (.iconst 2, 1) := by decide +kernel
theorem dL_law_327 : decode cL_law 327 = .ok (.iadd, 1) := by decide +kernel
theorem dL_law_328 : decode cL_law 328 = .ok (.iaload, 1) := by decide +kernel
theorem dL_law_329 : decode cL_law 329 = .ok (.aload_n 0, 1) := by decide +kernel
theorem dL_law_330 : decode cL_law 330 = .ok (.iload_n 3, 1) := by decide +kernel
theorem dL_law_331 : decode cL_law 331 = .ok (.iconst 3, 1) := by decide +kernel
theorem dL_law_332 : decode cL_law 332 = .ok (.iadd, 1) := by decide +kernel
theorem dL_law_333 : decode cL_law 333 = .ok (.iaload, 1) := by decide +kernel
theorem dL_law_334 : decode cL_law 334 = .ok (.invokevirtual 40, 3) := by decide +kernel
theorem dL_law_337 : decode cL_law 337 = .ok (.aload_n 2, 1) := by decide +kernel
theorem dL_law_338 : decode cL_law 338 = .ok (.aload_n 0, 1) := by decide +kernel
theorem dL_law_339 : decode cL_law 339 = .ok (.iload_n 3, 1) := by decide +kernel
theorem dL_law_340 : decode cL_law 340 = .ok (.iconst 1, 1) := by decide +kernel
theorem dL_law_341 : decode cL_law 341 = .ok (.iadd, 1) := by decide +kernel
theorem dL_law_342 : decode cL_law 342 = .ok (.iaload, 1) := by decide +kernel
theorem dL_law_343 : decode cL_law 343 = .ok (.aload_n 0, 1) := by decide +kernel
theorem dL_law_344 : decode cL_law 344 = .ok (.iload_n 3, 1) := by decide +kernel
theorem dL_law_345 : decode cL_law 345 = .ok (.iconst 2, 1) := by decide +kernel
end
section
set_option maxRecDepth 100000
theorem dL_law_346 : decode cL_law 346 = .ok (.iadd, 1) := by decide +kernel
theorem dL_law_347 : decode cL_law 347 = .ok (.iaload, 1) := by decide +kernel
theorem dL_law_348 : decode cL_law 348 = .ok (.aload_n 0, 1) := by decide +kernel
theorem dL_law_349 : decode cL_law 349 = .ok (.iload_n 3, 1) := by decide +kernel
theorem dL_law_350 : decode cL_law 350 = .ok (.iconst 3, 1) := by decide +kernel
theorem dL_law_351 : decode cL_law 351 = .ok (.iadd, 1) := by decide +kernel
theorem dL_law_352 : decode cL_law 352 = .ok (.iaload, 1) := by decide +kernel
theorem dL_law_353 : decode cL_law 353 = .ok (.invokevirtual 43, 3) := by decide +kernel
theorem dL_law_356 : decode cL_law 356 = .ok (.if_icmp .eq 266, 3) := by decide +kernel
theorem dL_law_359 : decode cL_law 359 = .ok (.iconst 0, 1) := by decide +kernel
theorem dL_law_360 : decode cL_law 360 = .ok (.ireturn, 1) := by decide +kernel
theorem dL_law_361 : decode cL_law 361 = .ok (.aload_n 1, 1) := by decide +kernel
theorem dL_law_362 : decode cL_law 362 = .ok (.invokevirtual 44, 3) := by decide +kernel
theorem dL_law_365 : decode cL_law 365 = .ok (.aload_n 2, 1) := by decide +kernel
theorem dL_law_366 : decode cL_law 366 = .ok (.invokevirtual 48, 3) := by decide +kernel
theorem dL_law_369 : decode cL_law 369 = .ok (.if_icmp .eq 253, 3) := by decide +kernel
theorem dL_law_372 : decode cL_law 372 = .ok (.iconst 0, 1) := by decide +kernel
theorem dL_law_373 : decode cL_law 373 = .ok (.ireturn, 1) := by decide +kernel
theorem dL_law_374 : decode cL_law 374 = .ok (.aload_n 1, 1) := by decide +kernel
theorem dL_law_375 : decode cL_law 375 = .ok (.aload_n 0, 1) := by decide +kernel
theorem dL_law_376 : decode cL_law 376 = .ok (.iload_n 3, 1) := by decide +kernel
theorem dL_law_377 : decode cL_law 377 = .ok (.iconst 1, 1) := by decide +kernel
theorem dL_law_378 : decode cL_law 378 = .ok (.iadd, 1) := by decide +kernel
theorem dL_law_379 : decode cL_law 379 = .ok (.iaload, 1) := by decide +kernel
theorem dL_law_380 : decode cL_law 380 = .ok (.aload_n 0, 1) := by decide +kernel
theorem dL_law_381 : decode cL_law 381 = .ok (.iload_n 3, 1) := by decide +kernel
theorem dL_law_382 : decode cL_law 382 = .ok (.iconst 2, 1) := by decide +kernel
theorem dL_law_383 : decode cL_law 383 = .ok (.iadd, 1) := by decide +kernel
theorem dL_law_384 : decode cL_law 384 = .ok (.iaload, 1) := by decide +kernel
theorem dL_law_385 : decode cL_law 385 = .ok (.invokevirtual 49, 3) := by decide +kernel
theorem dL_law_388 : decode cL_law 388 = .ok (.aload_n 2, 1) := by decide +kernel
theorem dL_law_389 : decode cL_law 389 = .ok (.aload_n 0, 1) := by decide +kernel
theorem dL_law_390 : decode cL_law 390 = .ok (.iload_n 3, 1) := by decide +kernel
theorem dL_law_391 : decode cL_law 391 = .ok (.iconst 1, 1) := by decide +kernel
theorem dL_law_392 : decode cL_law 392 = .ok (.iadd, 1) := by decide +kernel
theorem dL_law_393 : decode cL_law 393 = .ok (.iaload, 1) := by decide +kernel
theorem dL_law_394 : decode cL_law 394 = .ok (.aload_n 0, 1) := by decide +kernel
theorem dL_law_395 : decode cL_law 395 = .ok (.iload_n 3, 1) := by decide +kernel
theorem dL_law_396 : decode cL_law 396 = .ok (.iconst 2, 1) := by decide +kernel
theorem dL_law_397 : decode cL_law 397 = .ok (.iadd, 1) := by decide +kernel
theorem dL_law_398 : decode cL_law 398 = .ok (.iaload, 1) := by decide +kernel
theorem dL_law_399 : decode cL_law 399 = .ok (.invokevirtual 52, 3) := by decide +kernel
theorem dL_law_402 : decode cL_law 402 = .ok (.if_icmp .eq 220, 3) := by decide +kernel
theorem dL_law_405 : decode cL_law 405 = .ok (.iconst 0, 1) := by decide +kernel
theorem dL_law_406 : decode cL_law 406 = .ok (.ireturn, 1) := by decide +kernel
theorem dL_law_407 : decode cL_law 407 = .ok (.aload_n 1, 1) := by decide +kernel
theorem dL_law_408 : decode cL_law 408 = .ok (.aload_n 0, 1) := by decide +kernel
theorem dL_law_409 : decode cL_law 409 = .ok (.iload_n 3, 1) := by decide +kernel
theorem dL_law_410 : decode cL_law 410 = .ok (.iconst 1, 1) := by decide +kernel
theorem dL_law_411 : decode cL_law 411 = .ok (.iadd, 1) := by decide +kernel
theorem dL_law_412 : decode cL_law 412 = .ok (.iaload, 1) := by decide +kernel
theorem dL_law_413 : decode cL_law 413 = .ok (.aload_n 0, 1) := by decide +kernel
theorem dL_law_414 : decode cL_law 414 = .ok (.iload_n 3, 1) := by decide +kernel
theorem dL_law_415 : decode cL_law 415 = .ok (.iconst 2, 1) := by decide +kernel
theorem dL_law_416 : decode cL_law 416 = .ok (.iadd, 1) := by decide +kernel
theorem dL_law_417 : decode cL_law 417 = .ok (.iaload, 1) := by decide +kernel
theorem dL_law_418 : decode cL_law 418 = .ok (.aload_n 0, 1) := by decide +kernel
theorem dL_law_419 : decode cL_law 419 = .ok (.iload_n 3, 1) := by decide +kernel
theorem dL_law_420 : decode cL_law 420 = .ok (.iconst 3, 1) := by decide +kernel
theorem dL_law_421 : decode cL_law 421 = .ok (.iadd, 1) := by decide +kernel
theorem dL_law_422 : decode cL_law 422 = .ok (.iaload, 1) := by decide +kernel
theorem dL_law_423 : decode cL_law 423 = .ok (.invokevirtual 53, 3) := by decide +kernel
theorem dL_law_426 : decode cL_law 426 = .ok (.aload_n 2, 1) := by decide +kernel
theorem dL_law_427 : decode cL_law 427 = .ok (.aload_n 0, 1) := by decide +kernel
theorem dL_law_428 : decode cL_law 428 = .ok (.iload_n 3, 1) := by decide +kernel
theorem dL_law_429 : decode cL_law 429 = .ok (.iconst 1, 1) := by decide +kernel
theorem dL_law_430 : decode cL_law 430 = .ok (.iadd, 1) := by decide +kernel
theorem dL_law_431 : decode cL_law 431 = .ok (.iaload, 1) := by decide +kernel
theorem dL_law_432 : decode cL_law 432 = .ok (.aload_n 0, 1) := by decide +kernel
theorem dL_law_433 : decode cL_law 433 = .ok (.iload_n 3, 1) := by decide +kernel
theorem dL_law_434 : decode cL_law 434 = .ok (.iconst 2, 1) := by decide +kernel
theorem dL_law_435 : decode cL_law 435 = .ok (.iadd, 1) := by decide +kernel
theorem dL_law_436 : decode cL_law 436 = .ok (.iaload, 1) := by decide +kernel
theorem dL_law_437 : decode cL_law 437 = .ok (.aload_n 0, 1) := by decide +kernel
theorem dL_law_438 : decode cL_law 438 = .ok (.iload_n 3, 1) := by decide +kernel
theorem dL_law_439 : decode cL_law 439 = .ok (.iconst 3, 1) := by decide +kernel
theorem dL_law_440 : decode cL_law 440 = .ok (.iadd, 1) := by decide +kernel
theorem dL_law_441 : decode cL_law 441 = .ok (.iaload, 1) := by decide +kernel
theorem dL_law_442 : decode cL_law 442 = .ok (.invokevirtual 56, 3) := by decide +kernel
theorem dL_law_445 : decode cL_law 445 = .ok (.if_icmp .eq 177, 3) := by decide +kernel
theorem dL_law_448 : decode cL_law 448 = .ok (.iconst 0, 1) := by decide +kernel
theorem dL_law_449 : decode cL_law 449 = .ok (.ireturn, 1) := by decide +kernel
theorem dL_law_450 : decode cL_law 450 = .ok (.aload_n 1, 1) := by decide +kernel
theorem dL_law_451 : decode cL_law 451 = .ok (.aload_n 0, 1) := by decide +kernel
theorem dL_law_452 : decode cL_law 452 = .ok (.iload_n 3, 1) := by decide +kernel
theorem dL_law_453 : decode cL_law 453 = .ok (.iconst 1, 1) := by decide +kernel
theorem dL_law_454 : decode cL_law 454 = .ok (.iadd, 1) := by decide +kernel
theorem dL_law_455 : decode cL_law 455 = .ok (.iaload, 1) := by decide +kernel
theorem dL_law_456 : decode cL_law 456 = .ok (.aload_n 0, 1) := by decide +kernel
theorem dL_law_457 : decode cL_law 457 = .ok (.iload_n 3, 1) := by decide +kernel
theorem dL_law_458 : decode cL_law 458 = .ok (.iconst 2, 1) := by decide +kernel
theorem dL_law_459 : decode cL_law 459 = .ok (.iadd, 1) := by decide +kernel
theorem dL_law_460 : decode cL_law 460 = .ok (.iaload, 1) := by decide +kernel
theorem dL_law_461 : decode cL_law 461 = .ok (.invokevirtual 57, 3) := by decide +kernel
theorem dL_law_464 : decode cL_law 464 = .ok (.aload_n 2, 1) := by decide +kernel
theorem dL_law_465 : decode cL_law 465 = .ok (.aload_n 0, 1) := by decide +kernel
theorem dL_law_466 : decode cL_law 466 = .ok (.iload_n 3, 1) := by decide +kernel
theorem dL_law_467 : decode cL_law 467 = .ok (.iconst 1, 1) := by decide +kernel
theorem dL_law_468 : decode cL_law 468 = .ok (.iadd, 1) := by decide +kernel
theorem dL_law_469 : decode cL_law 469 = .ok (.iaload, 1) := by decide +kernel
theorem dL_law_470 : decode cL_law 470 = .ok (.aload_n 0, 1) := by decide +kernel
theorem dL_law_471 : decode cL_law 471 = .ok (.iload_n 3, 1) := by decide +kernel
theorem dL_law_472 : decode cL_law 472 = .ok (.iconst 2, 1) := by decide +kernel
theorem dL_law_473 : decode cL_law 473 = .ok (.iadd, 1) := by decide +kernel
theorem dL_law_474 : decode cL_law 474 = .ok (.iaload, 1) := by decide +kernel
theorem dL_law_475 : decode cL_law 475 = .ok (.invokevirtual 60, 3) := by decide +kernel
theorem dL_law_478 : decode cL_law 478 = .ok (.if_icmp .eq 144, 3) := by decide +kernel
theorem dL_law_481 : decode cL_law 481 = .ok (.iconst 0, 1) := by decide +kernel
theorem dL_law_482 : decode cL_law 482 = .ok (.ireturn, 1) := by decide +kernel
theorem dL_law_483 : decode cL_law 483 = .ok (.aload_n 1, 1) := by decide +kernel
theorem dL_law_484 : decode cL_law 484 = .ok (.aload_n 0, 1) := by decide +kernel
theorem dL_law_485 : decode cL_law 485 = .ok (.iload_n 3, 1) := by decide +kernel
theorem dL_law_486 : decode cL_law 486 = .ok (.iconst 1, 1) := by decide +kernel
theorem dL_law_487 : decode cL_law 487 = .ok (.iadd, 1) := by decide +kernel
theorem dL_law_488 : decode cL_law 488 = .ok (.iaload, 1) := by decide +kernel
theorem dL_law_489 : decode cL_law 489 = .ok (.invokevirtual 61, 3) := by decide +kernel
theorem dL_law_492 : decode cL_law 492 = .ok (.aload_n 2, 1) := by decide +kernel
theorem dL_law_493 : decode cL_law 493 = .ok (.aload_n 0, 1) := by decide +kernel
theorem dL_law_494 : decode cL_law 494 = .ok (.iload_n 3, 1) := by decide +kernel
theorem dL_law_495 : decode cL_law 495 = .ok (.iconst 1, 1) := by decide +kernel
theorem dL_law_496 : decode cL_law 496 = .ok (.iadd, 1) := by decide +kernel
theorem dL_law_497 : decode cL_law 497 = .ok (.iaload, 1) := by decide +kernel
theorem dL_law_498 : decode cL_law 498 = .ok (.invokevirtual 64, 3) := by decide +kernel
theorem dL_law_501 : decode cL_law 501 = .ok (.if_icmp .eq 121, 3) := by decide +kernel
theorem dL_law_504 : decode cL_law 504 = .ok (.iconst 0, 1) := by decide +kernel
theorem dL_law_505 : decode cL_law 505 = .ok (.ireturn, 1) := by decide +kernel
theorem dL_law_506 : decode cL_law 506 = .ok (.aload_n 1, 1) := by decide +kernel
theorem dL_law_507 : decode cL_law 507 = .ok (.aload_n 0, 1) := by decide +kernel
theorem dL_law_508 : decode cL_law 508 = .ok (.iload_n 3, 1) := by decide +kernel
theorem dL_law_509 : decode cL_law 509 = .ok (.iconst 1, 1) := by decide +kernel
theorem dL_law_510 : decode cL_law 510 = .ok (.iadd, 1) := by decide +kernel
theorem dL_law_511 : decode cL_law 511 = .ok (.iaload, 1) := by decide +kernel
theorem dL_law_512 : decode cL_law 512 = .ok (.invokevirtual 65, 3) := by decide +kernel
theorem dL_law_515 : decode cL_law 515 = .ok (.aload_n 2, 1) := by decide +kernel
theorem dL_law_516 : decode cL_law 516 = .ok (.aload_n 0, 1) := by decide +kernel
theorem dL_law_517 : decode cL_law 517 = .ok (.iload_n 3, 1) := by decide +kernel
theorem dL_law_518 : decode cL_law 518 = .ok (.iconst 1, 1) := by decide +kernel
theorem dL_law_519 : decode cL_law 519 = .ok (.iadd, 1) := by decide +kernel
theorem dL_law_520 : decode cL_law 520 = .ok (.iaload, 1) := by decide +kernel
theorem dL_law_521 : decode cL_law 521 = .ok (.invokevirtual 68, 3) := by decide +kernel
theorem dL_law_524 : decode cL_law 524 = .ok (.if_icmp .eq 98, 3) := by decide +kernel
theorem dL_law_527 : decode cL_law 527 = .ok (.iconst 0, 1) := by decide +kernel
theorem dL_law_528 : decode cL_law 528 = .ok (.ireturn, 1) := by decide +kernel
theorem dL_law_529 : decode cL_law 529 = .ok (.aload_n 1, 1) := by decide +kernel
theorem dL_law_530 : decode cL_law 530 = .ok (.aload_n 0, 1) := by decide +kernel
theorem dL_law_531 : decode cL_law 531 = .ok (.iload_n 3, 1) := by decide +kernel
theorem dL_law_532 : decode cL_law 532 = .ok (.iconst 1, 1) := by decide +kernel
theorem dL_law_533 : decode cL_law 533 = .ok (.iadd, 1) := by decide +kernel
theorem dL_law_534 : decode cL_law 534 = .ok (.iaload, 1) := by decide +kernel
theorem dL_law_535 : decode cL_law 535 = .ok (.invokevirtual 69, 3) := by decide +kernel
theorem dL_law_538 : decode cL_law 538 = .ok (.aload_n 2, 1) := by decide +kernel
theorem dL_law_539 : decode cL_law 539 = .ok (.aload_n 0, 1) := by decide +kernel
theorem dL_law_540 : decode cL_law 540 = .ok (.iload_n 3, 1) := by decide +kernel
theorem dL_law_541 : decode cL_law 541 = .ok (.iconst 1, 1) := by decide +kernel
theorem dL_law_542 : decode cL_law 542 = .ok (.iadd, 1) := by decide +kernel
theorem dL_law_543 : decode cL_law 543 = .ok (.iaload, 1) := by decide +kernel
theorem dL_law_544 : decode cL_law 544 = .ok (.invokevirtual 72, 3) := by decide +kernel
theorem dL_law_547 : decode cL_law 547 = .ok (.if_icmp .eq 75, 3) := by decide +kernel
theorem dL_law_550 : decode cL_law 550 = .ok (.iconst 0, 1) := by decide +kernel
theorem dL_law_551 : decode cL_law 551 = .ok (.ireturn, 1) := by decide +kernel
theorem dL_law_552 : decode cL_law 552 = .ok (.aload_n 1, 1) := by decide +kernel
theorem dL_law_553 : decode cL_law 553 = .ok (.invokevirtual 73, 3) := by decide +kernel
theorem dL_law_556 : decode cL_law 556 = .ok (.aload_n 2, 1) := by decide +kernel
theorem dL_law_557 : decode cL_law 557 = .ok (.invokevirtual 76, 3) := by decide +kernel
theorem dL_law_560 : decode cL_law 560 = .ok (.if_icmp .eq 62, 3) := by decide +kernel
theorem dL_law_563 : decode cL_law 563 = .ok (.iconst 0, 1) := by decide +kernel
theorem dL_law_564 : decode cL_law 564 = .ok (.ireturn, 1) := by decide +kernel
theorem dL_law_565 : decode cL_law 565 = .ok (.aload_n 1, 1) := by decide +kernel
theorem dL_law_566 : decode cL_law 566 = .ok (.invokevirtual 77, 3) := by decide +kernel
theorem dL_law_569 : decode cL_law 569 = .ok (.aload_n 2, 1) := by decide +kernel
theorem dL_law_570 : decode cL_law 570 = .ok (.invokevirtual 80, 3) := by decide +kernel
theorem dL_law_573 : decode cL_law 573 = .ok (.goto 49, 3) := by decide +kernel
theorem dL_law_576 : decode cL_law 576 = .ok (.aload_n 1, 1) := by decide +kernel
theorem dL_law_577 : decode cL_law 577 = .ok (.aload_n 0, 1) := by decide +kernel
theorem dL_law_578 : decode cL_law 578 = .ok (.iload_n 3, 1) := by decide +kernel
theorem dL_law_579 : decode cL_law 579 = .ok (.iconst 1, 1) := by decide +kernel
theorem dL_law_580 : decode cL_law 580 = .ok (.iadd, 1) := by decide +kernel
theorem dL_law_581 : decode cL_law 581 = .ok (.iaload, 1) := by decide +kernel
theorem dL_law_582 : decode cL_law 582 = .ok (.invokevirtual 81, 3) := by decide +kernel
theorem dL_law_585 : decode cL_law 585 = .ok (.aload_n 2, 1) := by decide +kernel
theorem dL_law_586 : decode cL_law 586 = .ok (.aload_n 0, 1) := by decide +kernel
theorem dL_law_587 : decode cL_law 587 = .ok (.iload_n 3, 1) := by decide +kernel
theorem dL_law_588 : decode cL_law 588 = .ok (.iconst 1, 1) := by decide +kernel
theorem dL_law_589 : decode cL_law 589 = .ok (.iadd, 1) := by decide +kernel
theorem dL_law_590 : decode cL_law 590 = .ok (.iaload, 1) := by decide +kernel
theorem dL_law_591 : decode cL_law 591 = .ok (.invokevirtual 84, 3) := by decide +kernel
theorem dL_law_594 : decode cL_law 594 = .ok (.if_icmp .eq 28, 3) := by decide +kernel
theorem dL_law_597 : decode cL_law 597 = .ok (.iconst 0, 1) := by decide +kernel
theorem dL_law_598 : decode cL_law 598 = .ok (.ireturn, 1) := by decide +kernel
theorem dL_law_599 : decode cL_law 599 = .ok (.aload_n 1, 1) := by decide +kernel
theorem dL_law_600 : decode cL_law 600 = .ok (.aload_n 0, 1) := by decide +kernel
theorem dL_law_601 : decode cL_law 601 = .ok (.iload_n 3, 1) := by decide +kernel
theorem dL_law_602 : decode cL_law 602 = .ok (.iconst 1, 1) := by decide +kernel
theorem dL_law_603 : decode cL_law 603 = .ok (.iadd, 1) := by decide +kernel
theorem dL_law_604 : decode cL_law 604 = .ok (.iaload, 1) := by decide +kernel
theorem dL_law_605 : decode cL_law 605 = .ok (.invokevirtual 85, 3) := by decide +kernel
theorem dL_law_608 : decode cL_law 608 = .ok (.aload_n 2, 1) := by decide +kernel
theorem dL_law_609 : decode cL_law 609 = .ok (.aload_n 0, 1) := by decide +kernel
theorem dL_law_610 : decode cL_law 610 = .ok (.iload_n 3, 1) := by decide +kernel
theorem dL_law_611 : decode cL_law 611 = .ok (.iconst 1, 1) := by decide +kernel
theorem dL_law_612 : decode cL_law 612 = .ok (.iadd, 1) := by decide +kernel
theorem dL_law_613 : decode cL_law 613 = .ok (.iaload, 1) := by decide +kernel
theorem dL_law_614 : decode cL_law 614 = .ok (.invokevirtual 88, 3) := by decide +kernel
theorem dL_law_617 : decode cL_law 617 = .ok (.if_icmp .eq 5, 3) := by decide +kernel
theorem dL_law_620 : decode cL_law 620 = .ok (.iconst 0, 1) := by decide +kernel
theorem dL_law_621 : decode cL_law 621 = .ok (.ireturn, 1) := by decide +kernel
theorem dL_law_622 : decode cL_law 622 = .ok (.iinc 3 4, 3) := by decide +kernel
theorem dL_law_625 : decode cL_law 625 = .ok (.goto (-607), 3) := by decide +kernel
theorem dL_law_628 : decode cL_law 628 = .ok (.iconst 1, 1) := by decide +kernel
theorem dL_law_629 : decode cL_law 629 = .ok (.ireturn, 1) := by decide +kernel
end
section
set_option maxRecDepth 100000
/-! THE WORLDS: an object's state is a table: field number, index, value -/
abbrev ca_St : Type := Nat → Nat → Int32
/-- one place written -/
def ca_wr (S : ca_St) (k i : Nat) (x : Int32) : ca_St := fun j => cond (Nat.beq j k) (upd (S k) i x) (S j)
/-- n places copied -/
def ca_cp (S : ca_St) (kd d ks s n : Nat) : ca_St := fun j => cond (Nat.beq j kd) (fun i => if d ≤ i ∧ i < d + n then S ks (s + (i - d)) else S kd i) (S j)
abbrev ca_r (f n : Nat) : Room := { frames := f, cells := 0, slots := 0, locals := n }
abbrev ca_cl : List vw_C := [(RX0, TX0, 16), (RX1, TX1, 6)]
def ca_X (h : Nat) (a : Nat → Nat) (d : Nat → ClassId) (S : ca_St) : va_W := [(h, .inr (0, [.ref (a 0), .ref (a 1), .ref (a 2), .ref (a 3), .ref (a 4), .int (S 5 0), .ref (a 6), .ref (a 7), .ref (a 8), .ref (a 9), .ref (a 10), .ref (a 11), .ref (a 12), .ref (a 13), .ref (a 14), .int (S 15 0)])), (a 0, .inl (d 0, 64, .inl (S 0))), (a 1, .inl (d 1, 16, .inl (S 1))), (a 2, .inl (d 2, 16, .inl (S 2))), (a 3, .inl (d 3, 16, .inl (S 3))), (a 4, .inl (d 4, 16, .inl (S 4))), (a 6, .inl (d 6, 16, .inl (S 6))), (a 7, .inl (d 7, 16, .inl (S 7))), (a 8, .inl (d 8, 16, .inl (S 8))), (a 9, .inl (d 9, 64, .inl (S 9))), (a 10, .inl (d 10, 4, .inl (S 10))), (a 11, .inl (d 11, 4, .inl (S 11))), (a 12, .inl (d 12, 4, .inl (S 12))), (a 13, .inl (d 13, 4, .inl (S 13))), (a 14, .inl (d 14, 4, .inl (S 14)))]
def ca_TX (d : Nat → ClassId) : List (ClassId × FieldType) := [(d 0, .int), (d 1, .int), (d 2, .boolean), (d 3, .boolean), (d 4, .boolean), (d 6, .int), (d 7, .boolean), (d 8, .int), (d 9, .int), (d 10, .int), (d 11, .int), (d 12, .boolean), (d 13, .boolean), (d 14, .int)]
def ca_M (h : Nat) (a : Nat → Nat) (d : Nat → ClassId) (S : ca_St) : va_W := [(h, .inr (1, [.ref (a 0), .ref (a 1), .ref (a 2), .ref (a 3), .ref (a 4), .int (S 5 0)])), (a 0, .inl (d 0, 64, .inl (S 0))), (a 1, .inl (d 1, 16, .inl (S 1))), (a 2, .inl (d 2, 16, .inl (S 2))), (a 3, .inl (d 3, 16, .inl (S 3))), (a 4, .inl (d 4, 16, .inl (S 4)))]
def ca_TM (d : Nat → ClassId) : List (ClassId × FieldType) := [(d 0, .int), (d 1, .int), (d 2, .boolean), (d 3, .boolean), (d 4, .boolean)]
/-- an object's world stands in the heap H: classes, cells, apart, nothing else changed since the method's start -/
def ca_I (D : va_G) (w : ca_St → va_W) (ty : List (ClassId × FieldType)) (A : Nat → Prop) (s : State) (H : Heap) (locs : List Loc) (S : ca_St) : Prop := va_K D ca_cl ty s ∧ va_P D ca_cl (w S) H ∧ va_D A (w S) ∧ va_S A s.heap H locs ∧ ∀ q : Nat, s.heap.size ≤ q → A q
/-- the contract of a method with an int (boolean) answer / without: the object's whole world in and out -/
def ca_Met (l : Launch) (y : MethodName) (cc : ByteArray) (n : Nat) (ret : Option FieldType) (rm : Room) (D : va_G) (w : ca_St → va_W) (ty : List (ClassId × FieldType)) (av : List Value) (S : ca_St) (post : Int32 → ca_St → Prop) : Prop := ∀ sz : Nat, Met l y (ws_ y cc n ret) rm (va_Pc av (fun U => U.heap.size = sz ∧ va_P D ca_cl (w S) U.heap ∧ va_K D ca_cl ty U ∧ va_D (fun _ => True) (w S))) (va_Qi post (fun S' t => va_P D ca_cl (w S') t.heap ∧ va_K D ca_cl ty t ∧ va_D (va_A (w S) sz) (w S')) (va_A (w S) sz)) 0 0 (va_A (w S) sz)
def ca_MeV (l : Launch) (y : MethodName) (cc : ByteArray) (n : Nat) (rm : Room) (D : va_G) (w : ca_St → va_W) (ty : List (ClassId × FieldType)) (av : List Value) (S : ca_St) (post : ca_St → Prop) : Prop := ∀ sz : Nat, Met l y (ws_ y cc n none) rm (va_Pc av (fun U => U.heap.size = sz ∧ va_P D ca_cl (w S) U.heap ∧ va_K D ca_cl ty U ∧ va_D (fun _ => True) (w S))) (va_Qv post (fun S' t => va_P D ca_cl (w S') t.heap ∧ va_K D ca_cl ty t ∧ va_D (va_A (w S) sz) (w S')) (va_A (w S) sz)) 0 0 (va_A (w S) sz)
def ca_G (D : va_G) (w : ca_St → va_W) (ty : List (ClassId × FieldType)) (post : Int32 → ca_St → Prop) (A : Nat → Prop) (below : List Frame) (args : Array Value) (s : State) : State → Prop := MQ below (va_Qi post (fun S' t => va_P D ca_cl (w S') t.heap ∧ va_K D ca_cl ty t ∧ va_D A (w S')) A) args s 0 0 A
def ca_GV (D : va_G) (w : ca_St → va_W) (ty : List (ClassId × FieldType)) (post : ca_St → Prop) (A : Nat → Prop) (below : List Frame) (args : Array Value) (s : State) : State → Prop := MQ below (va_Qv post (fun S' t => va_P D ca_cl (w S') t.heap ∧ va_K D ca_cl ty t ∧ va_D A (w S')) A) args s 0 0 A
/-- what a method's walk knows from its start on -/
def ca_C (p : Program) (m : MethodId) (meth : Method) (c : Code) (cc : ByteArray) (n : Nat) (ret : Option FieldType) (own : String) (s : State) (args : Array Value) : Prop := p.tables.exec = Jvm.exec ∧ c.code = cc ∧ meth.sig.returnType = ret ∧ meth.locks = false ∧ (∀ w ∈ lw_all, w.before args s = true) ∧ s.vm.findClass own = some m.cls ∧ c.maxLocals = n
theorem ca_start {l : Launch} {y : MethodName} {cc : ByteArray} {n : Nat} {ret : Option FieldType} {rm : Room} {D : va_G} {w : ca_St → va_W} {ty : List (ClassId × FieldType)} {av : List Value} {S : ca_St} {post : Int32 → ca_St → Prop} (hy : plainName y.cls = true) (hn : (lg_sl av).length ≤ n)
    (body : ∀ (p : Program) (e : Env) (s : State) (m : MethodId) (args : Array Value) (below : List Frame) (meth : Method) (c : Code) (A : Nat → Prop) (ls : Array Slot), ca_C p m meth c cc n ret y.cls s args → ca_I D w ty A s s.heap [] S → lv_has ls n (lv_args 0 av) → W p l e rm s m args below meth c s.heap [] 0 0 (ca_G D w ty post A below args s) (F0 m 0 ls [])) : ca_Met l y cc n ret rm D w ty av S post := by
  intro sz
  refine Met.ofW (cc := cc) (maxL := n) (ret := ret) hy rfl ?_
  intro p e s m args below meth c s₁ B hml hv
  obtain ⟨rfl, hsz, hP, hK, hD0⟩ := hv
  have hts := atoms_spec (ws := ws_ y cc n ret) B.pre
  have hts : ∀ w ∈ lw_all, w.before _ s = true := fun w h => hts w (List.mem_cons_of_mem _ h)
  have hown : s.vm.findClass y.cls = some m.cls := findClass_of_methodNamed B.named
  subst hsz
  have hl := lv_entry av (n := n) hn
  rw [lg_entry_eq]
  exact body p e s m _ below meth c _ _ ⟨B.exec, B.bytes, B.returns, B.notSynchronized, hts, hown, hml⟩ ⟨hK, hP, hD0.self (sz := s.heap.size), va_S.rf, fun q h => Or.inr h⟩ hl
theorem ca_startV {l : Launch} {y : MethodName} {cc : ByteArray} {n : Nat} {rm : Room} {D : va_G} {w : ca_St → va_W} {ty : List (ClassId × FieldType)} {av : List Value} {S : ca_St} {post : ca_St → Prop} (hy : plainName y.cls = true) (hn : (lg_sl av).length ≤ n)
    (body : ∀ (p : Program) (e : Env) (s : State) (m : MethodId) (args : Array Value) (below : List Frame) (meth : Method) (c : Code) (A : Nat → Prop) (ls : Array Slot), ca_C p m meth c cc n none y.cls s args → ca_I D w ty A s s.heap [] S → lv_has ls n (lv_args 0 av) → W p l e rm s m args below meth c s.heap [] 0 0 (ca_GV D w ty post A below args s) (F0 m 0 ls [])) : ca_MeV l y cc n rm D w ty av S post := by
  intro sz
  refine Met.ofW (cc := cc) (maxL := n) (ret := none) hy rfl ?_
  intro p e s m args below meth c s₁ B hml hv
  obtain ⟨rfl, hsz, hP, hK, hD0⟩ := hv
  have hts := atoms_spec (ws := ws_ y cc n none) B.pre
  have hts : ∀ w ∈ lw_all, w.before _ s = true := fun w h => hts w (List.mem_cons_of_mem _ h)
  have hown : s.vm.findClass y.cls = some m.cls := findClass_of_methodNamed B.named
  subst hsz
  have hl := lv_entry av (n := n) hn
  rw [lg_entry_eq]
  exact body p e s m _ below meth c _ _ ⟨B.exec, B.bytes, B.returns, B.notSynchronized, hts, hown, hml⟩ ⟨hK, hP, hD0.self (sz := s.heap.size), va_S.rf, fun q h => Or.inr h⟩ hl
section CAB
variable {p : Program} {l : Launch} {e : Env} {R : Room} {s : State} {m : MethodId} {args : Array Value} {below : List Frame} {meth : Method} {c : Code} {H : Heap} {locs : List Loc} {cells slots : Nat} {Q : State → Prop} {cc : ByteArray} {pc : Nat} {ls : Array Slot} {rest : List Value} {D : va_G} {w : ca_St → va_W} {ty : List (ClassId × FieldType)} {A : Nat → Prop} {S : ca_St} {h : Nat} {a : Nat → Nat} {d : Nat → ClassId}
theorem ca_top {x y : Int32} (hxy : x = y) (kk : W p l e R s m args below meth c H locs cells slots Q (F0 m pc ls (.int y :: rest))) : W p l e R s m args below meth c H locs cells slots Q (F0 m pc ls (.int x :: rest)) := by
  rw [hxy]; exact kk
theorem ca_topN {x y : Nat} (hxy : x = y) (kk : W p l e R s m args below meth c H locs cells slots Q (F0 m pc ls (.int (nI y) :: rest))) : W p l e R s m args below meth c H locs cells slots Q (F0 m pc ls (.int (nI x) :: rest)) := by
  rw [hxy]; exact kk
theorem ca_addN (hx : p.tables.exec = Jvm.exec) (hb : c.code = cc) {i j : Nat} (hdg : decode cc pc = .ok (.iadd, 1)) (kk : W p l e R s m args below meth c H locs cells slots Q (F0 m (pc + 1) ls (.int (nI (i + j)) :: rest))) : W p l e R s m args below meth c H locs cells slots Q (F0 m pc ls (.int (nI j) :: .int (nI i) :: rest)) := by
  refine lv_iadd hx hb hdg ?_
  rw [nI_add]; exact kk
theorem ca_mulN (hx : p.tables.exec = Jvm.exec) (hb : c.code = cc) {i j : Nat} (hdg : decode cc pc = .ok (.imul, 1)) (kk : W p l e R s m args below meth c H locs cells slots Q (F0 m (pc + 1) ls (.int (nI (i * j)) :: rest))) : W p l e R s m args below meth c H locs cells slots Q (F0 m pc ls (.int (nI j) :: .int (nI i) :: rest)) := by
  refine lv_imul hx hb hdg ?_
  rw [pk_mul]; exact kk
theorem ca_shrN (hx : p.tables.exec = Jvm.exec) (hb : c.code = cc) {i : Nat} (hi : i < 2 ^ 31) (hdg : decode cc pc = .ok (.ishr, 1)) (kk : W p l e R s m args below meth c H locs cells slots Q (F0 m (pc + 1) ls (.int (nI (i / 4)) :: rest))) : W p l e R s m args below meth c H locs cells slots Q (F0 m pc ls (.int (nI 2) :: .int (nI i) :: rest)) := by
  refine lv_ishr hx hb hdg ?_
  rw [pk_shrN hi (nI 2 &&& 31) 2 (by decide +kernel)]; exact kk
theorem ca_and3 (hx : p.tables.exec = Jvm.exec) (hb : c.code = cc) {i : Nat} (hi : i < 2 ^ 32) (hdg : decode cc pc = .ok (.iand, 1)) (kk : W p l e R s m args below meth c H locs cells slots Q (F0 m (pc + 1) ls (.int (nI (i % 4)) :: rest))) : W p l e R s m args below meth c H locs cells slots Q (F0 m pc ls (.int (nI 3) :: .int (nI i) :: rest)) := by
  refine lv_iand hx hb hdg ?_
  rw [pk_andN hi (m := nI 3) 2 (by decide +kernel)]; exact kk
theorem ca_and1 (hx : p.tables.exec = Jvm.exec) (hb : c.code = cc) {i : Nat} (hi : i < 2 ^ 32) (hdg : decode cc pc = .ok (.iand, 1)) (kk : W p l e R s m args below meth c H locs cells slots Q (F0 m (pc + 1) ls (.int (nI (i % 2)) :: rest))) : W p l e R s m args below meth c H locs cells slots Q (F0 m pc ls (.int (nI 1) :: .int (nI i) :: rest)) := by
  refine lv_iand hx hb hdg ?_
  rw [pk_andN hi (m := nI 1) 1 (by decide +kernel)]; exact kk
/-- a loop's test i >= n, over numbers -/
theorem ca_geN (hx : p.tables.exec = Jvm.exec) (hb : c.code = cc) {i n : Nat} {off : Int} {tgt : Nat} (hi : i < 2 ^ 31) (hn : n < 2 ^ 31) (hdg : decode cc pc = .ok (.if_icmp .ge off, 3)) (ht : (pc : Int) + off = (tgt : Int))
    (kt : n ≤ i → W p l e R s m args below meth c H locs cells slots Q (F0 m tgt ls rest)) (kf : i < n → W p l e R s m args below meth c H locs cells slots Q (F0 m (pc + 3) ls rest)) : W p l e R s m args below meth c H locs cells slots Q (F0 m pc ls (.int (nI n) :: .int (nI i) :: rest)) :=
  lv_icmp_ge hx hb hdg ht (fun h => kt ((nI_leI hn hi).mp h)) (fun h => kf (Nat.lt_of_not_le (fun q => h ((nI_leI hn hi).mpr q))))
theorem ca_iret {n : Nat} {own : String} {post : Int32 → ca_St → Prop} {v : Int32} {S' : ca_St} (C : ca_C p m meth c cc n (some .int) own s args) (X : ca_I D w ty A s H locs S') (hp : post v S') (hdg : decode cc pc = .ok (.ireturn, 1)) : W p l e R s m args below meth c H locs 0 0 (ca_G D w ty post A below args s) (F0 m pc ls [.int v]) :=
  W.iret (v := v) C.1 C.2.1 C.2.2.1 (fun t ht hW => ⟨⟨v, S', rfl, hp, by rw [ht]; exact X.2.1, va_K.moved hW.alike X.1, X.2.2.1⟩, X.2.2.2.1.F ht⟩) X.2.2.2.1.2.2 hdg C.2.2.2.1
theorem ca_zret {n : Nat} {own : String} {post : Int32 → ca_St → Prop} {v : Int32} {S' : ca_St} (C : ca_C p m meth c cc n (some .boolean) own s args) (X : ca_I D w ty A s H locs S') (hv : narrow .boolean (.int v) = .int v) (hp : post v S') (hdg : decode cc pc = .ok (.ireturn, 1)) : W p l e R s m args below meth c H locs 0 0 (ca_G D w ty post A below args s) (F0 m pc ls [.int v]) :=
  W.zret (v := v) C.1 C.2.1 C.2.2.1 hv (fun t ht hW => ⟨⟨v, S', rfl, hp, by rw [ht]; exact X.2.1, va_K.moved hW.alike X.1, X.2.2.1⟩, X.2.2.2.1.F ht⟩) X.2.2.2.1.2.2 hdg C.2.2.2.1
theorem ca_vret {n : Nat} {own : String} {post : ca_St → Prop} {S' : ca_St} (C : ca_C p m meth c cc n none own s args) (X : ca_I D w ty A s H locs S') (hp : post S') (hdg : decode cc pc = .ok (.return_, 1)) : W p l e R s m args below meth c H locs 0 0 (ca_GV D w ty post A below args s) (F0 m pc ls []) :=
  W.vret C.1 C.2.1 C.2.2.1 (fun t ht hW => ⟨⟨S', rfl, hp, by rw [ht]; exact X.2.1, va_K.moved hW.alike X.1, X.2.2.1⟩, X.2.2.2.1.F ht⟩) X.2.2.2.1.2.2 hdg C.2.2.2.1
theorem ca_free (X : ca_I D w ty A s H locs S) : ∀ q, va_A (w S) H.size q → A q := by
  intro q hq
  rcases hq with ⟨k, e, hk⟩ | hq
  · exact X.2.2.1.2 k (q, e) hk
  · exact X.2.2.2.2 q (Nat.le_trans X.2.2.2.1.1 hq)
/-- the receiver: the first cell of the world, an object of the class C -/
def ca_rc (w : ca_St → va_W) (C : String) (b : Nat) : Prop := ∀ S : ca_St, ∃ (ci : Nat) (q : vw_C) (fs : List Value), ca_cl[ci]? = some q ∧ q.1 = C ∧ (w S)[0]? = some (b, .inr (ci, fs))
theorem ca_rcX : ca_rc (ca_X h a d) RX0 h := fun _ => ⟨0, _, _, rfl, rfl, rfl⟩
theorem ca_rcM : ca_rc (ca_M h a d) RX1 h := fun _ => ⟨1, _, _, rfl, rfl, rfl⟩
theorem ca_recv {C : String} {b : Nat} (hrc : ca_rc w C b) (X : ca_I D w ty A s H locs S) : ∃ cell : Cell, H[b]? = some cell ∧ cell.vm.isStatics = false ∧ s.vm.findClass C = some cell.cls := by
  obtain ⟨ci, q, fs, h1, h2, h3⟩ := hrc S
  rw [← h2]
  exact va_recv X.1 X.2.1 h1 h3
theorem ca_calli {nL maxL n index : Nat} {ret ret2 : Option FieldType} {own C : String} {y : MethodName} {bytes : ByteArray} {rm : Room} {b : Nat} {As : List Value} {post : Int32 → ca_St → Prop} {st0 : List Value} (hC : ca_C p m meth c cc nL ret2 own s args) (hM : ca_Met l y bytes maxL ret rm D w ty (.ref b :: As) S post) (cw : CallW R s args own C index y bytes maxL ret (ws_ y bytes maxL ret) rm 0 0 n) (hrc : ca_rc w C b) (X : ca_I D w ty A s H locs S) (hn : As.length = n) (hsize : ls.size = nL) (hstack : st0 = As.reverse ++ .ref b :: rest) (hroom : (rest.map fun v => v.category).sum ≤ 8) (hdg : decode cc pc = .ok (.invokevirtual index, 3)) (hf : cells ≤ R.cells ∧ slots ≤ R.slots)
    (kk : ∀ (r : Int32) (S' : ca_St) (H1 : Heap) (locs1 : List Loc), post r S' → ca_I D w ty A s H1 locs1 S' → W p l e R s m args below meth c H1 locs1 cells slots Q (F0 m (pc + 3) ls (.int r :: rest))) : W p l e R s m args below meth c H locs cells slots Q (F0 m pc ls st0) := by
  obtain ⟨hx, hb, -, -, hts, hown, hml⟩ := hC
  have hF := ca_free X
  refine va_calli (va_runV (As := As) (rest := rest) ⟨hx, hb, hml, hown, hts⟩ (hM H.size) cw ⟨fun a U g mk q => by obtain ⟨q0, q1, qP, qK, qD⟩ := q; exact ⟨q0, q1, qP, va_K.moved (u := U) (U := U.calling g mk a) (Vm.Alike.refl U.vm) qK, qD⟩, ca_recv hrc X, fun U hU hW => ⟨rfl, by rw [hU], by rw [hU]; exact X.2.1, va_K.moved hW.alike X.1, X.2.2.1.weaken (fun _ _ _ _ => trivial)⟩⟩ rfl hn hsize hstack (lv_room hroom) hdg hf) X.2.2.2.1 (fun q _ h => hF q h) hF (fun r u t H1 locs1 ht hvm hp hB hz hk hS => ?_)
  obtain ⟨hP1, hK1, hD1⟩ := hB
  rw [ht] at hP1
  exact kk r u H1 locs1 hp ⟨X.1, hP1, hD1.weaken (fun k q _ h => hF q.1 h), hS, X.2.2.2.2⟩
theorem ca_callv {nL maxL n index : Nat} {ret2 : Option FieldType} {own C : String} {y : MethodName} {bytes : ByteArray} {rm : Room} {b : Nat} {As : List Value} {post : ca_St → Prop} {st0 : List Value} (hC : ca_C p m meth c cc nL ret2 own s args) (hM : ca_MeV l y bytes maxL rm D w ty (.ref b :: As) S post) (cw : CallW R s args own C index y bytes maxL none (ws_ y bytes maxL none) rm 0 0 n) (hrc : ca_rc w C b) (X : ca_I D w ty A s H locs S) (hn : As.length = n) (hsize : ls.size = nL) (hstack : st0 = As.reverse ++ .ref b :: rest) (hroom : (rest.map fun v => v.category).sum ≤ 8) (hdg : decode cc pc = .ok (.invokevirtual index, 3)) (hf : cells ≤ R.cells ∧ slots ≤ R.slots)
    (kk : ∀ (S' : ca_St) (H1 : Heap) (locs1 : List Loc), post S' → ca_I D w ty A s H1 locs1 S' → W p l e R s m args below meth c H1 locs1 cells slots Q (F0 m (pc + 3) ls rest)) : W p l e R s m args below meth c H locs cells slots Q (F0 m pc ls st0) := by
  obtain ⟨hx, hb, -, -, hts, hown, hml⟩ := hC
  have hF := ca_free X
  refine va_callv (va_runV (As := As) (rest := rest) ⟨hx, hb, hml, hown, hts⟩ (hM H.size) cw ⟨fun a U g mk q => by obtain ⟨q0, q1, qP, qK, qD⟩ := q; exact ⟨q0, q1, qP, va_K.moved (u := U) (U := U.calling g mk a) (Vm.Alike.refl U.vm) qK, qD⟩, ca_recv hrc X, fun U hU hW => ⟨rfl, by rw [hU], by rw [hU]; exact X.2.1, va_K.moved hW.alike X.1, X.2.2.1.weaken (fun _ _ _ _ => trivial)⟩⟩ rfl hn hsize hstack (lv_room hroom) hdg hf) X.2.2.2.1 (fun q _ h => hF q h) hF (fun u t H1 locs1 ht hvm hp hB hz hk hS => ?_)
  obtain ⟨hP1, hK1, hD1⟩ := hB
  rw [ht] at hP1
  exact kk u H1 locs1 hp ⟨X.1, hP1, hD1.weaken (fun k q _ h => hF q.1 h), hS, X.2.2.2.2⟩
variable {nL : Nat} {ret : Option FieldType} {own : String}
theorem ca_gX0 (hC : ca_C p m meth c cc nL ret own s args) (ho : own = RX0) (X : ca_I D (ca_X h a d) (ca_TX d) A s H locs S) (hdg : decode cc pc = .ok (.getfield 7, 3)) (kk : W p l e R s m args below meth c H locs cells slots Q (F0 m (pc + 3) ls (.ref (a 0) :: rest))) : W p l e R s m args below meth c H locs cells slots Q (F0 m pc ls (.ref h :: rest)) := by
  subst ho
  exact va_get (D := D) (ci := 0) (v := .ref (a 0)) (C := RX0) (T := TX0) (N := 16) hC.1 hC.2.1 hC.2.2.2.2.1 in_X0 hC.2.2.2.2.2.1 X.1 X.2.1 0 rfl rfl 0 (by decide) (hC.2.2.2.2.1 _ q29) (fun _ h9 => h9) rfl hdg kk
theorem ca_lX0 {j : Nat} {v : Int32} (hC : ca_C p m meth c cc nL ret own s args) (X : ca_I D (ca_X h a d) (ca_TX d) A s H locs S) (hj : j < 64) (hv : S 0 j = v) (hdg : decode cc pc = .ok (.iaload, 1)) (kk : W p l e R s m args below meth c H locs cells slots Q (F0 m (pc + 1) ls (.int v :: rest))) : W p l e R s m args below meth c H locs cells slots Q (F0 m pc ls (.int (nI j) :: .ref (a 0) :: rest)) := by
  refine va_iald hC.1 hC.2.1 X.1 X.2.1 1 0 rfl rfl (vp_in_nI hj (by decide)) hdg ?_
  rw [nI_clamp (by omega), hv]; exact kk
theorem ca_sX0 {j : Nat} {x : Int32} (hC : ca_C p m meth c cc nL ret own s args) (X : ca_I D (ca_X h a d) (ca_TX d) A s H locs S) (hj : j < 64) (hdg : decode cc pc = .ok (.iastore, 1)) (kk : ∀ (H1 : Heap) (locs1 : List Loc), ca_I D (ca_X h a d) (ca_TX d) A s H1 locs1 (ca_wr S 0 j x) → W p l e R s m args below meth c H1 locs1 cells slots Q (F0 m (pc + 1) ls rest)) : W p l e R s m args below meth c H locs cells slots Q (F0 m pc ls (.int x :: .int (nI j) :: .ref (a 0) :: rest)) := by
  refine va_iast hC.1 hC.2.1 X.1 X.2.1 X.2.2.1 X.2.2.2.1 1 0 rfl rfl (vp_in_nI hj (by decide)) hdg (fun H1 locs1 hP hD hS => ?_)
  rw [nI_clamp (by omega)] at hP hD
  exact kk H1 locs1 ⟨X.1, hP, hD, hS, X.2.2.2.2⟩
theorem ca_gX1 (hC : ca_C p m meth c cc nL ret own s args) (ho : own = RX0) (X : ca_I D (ca_X h a d) (ca_TX d) A s H locs S) (hdg : decode cc pc = .ok (.getfield 13, 3)) (kk : W p l e R s m args below meth c H locs cells slots Q (F0 m (pc + 3) ls (.ref (a 1) :: rest))) : W p l e R s m args below meth c H locs cells slots Q (F0 m pc ls (.ref h :: rest)) := by
  subst ho
  exact va_get (D := D) (ci := 0) (v := .ref (a 1)) (C := RX0) (T := TX0) (N := 16) hC.1 hC.2.1 hC.2.2.2.2.1 in_X0 hC.2.2.2.2.2.1 X.1 X.2.1 0 rfl rfl 1 (by decide) (hC.2.2.2.2.1 _ q30) (fun _ h9 => h9) rfl hdg kk
theorem ca_lX1 {j : Nat} {v : Int32} (hC : ca_C p m meth c cc nL ret own s args) (X : ca_I D (ca_X h a d) (ca_TX d) A s H locs S) (hj : j < 16) (hv : S 1 j = v) (hdg : decode cc pc = .ok (.iaload, 1)) (kk : W p l e R s m args below meth c H locs cells slots Q (F0 m (pc + 1) ls (.int v :: rest))) : W p l e R s m args below meth c H locs cells slots Q (F0 m pc ls (.int (nI j) :: .ref (a 1) :: rest)) := by
  refine va_iald hC.1 hC.2.1 X.1 X.2.1 2 1 rfl rfl (vp_in_nI hj (by decide)) hdg ?_
  rw [nI_clamp (by omega), hv]; exact kk
theorem ca_sX1 {j : Nat} {x : Int32} (hC : ca_C p m meth c cc nL ret own s args) (X : ca_I D (ca_X h a d) (ca_TX d) A s H locs S) (hj : j < 16) (hdg : decode cc pc = .ok (.iastore, 1)) (kk : ∀ (H1 : Heap) (locs1 : List Loc), ca_I D (ca_X h a d) (ca_TX d) A s H1 locs1 (ca_wr S 1 j x) → W p l e R s m args below meth c H1 locs1 cells slots Q (F0 m (pc + 1) ls rest)) : W p l e R s m args below meth c H locs cells slots Q (F0 m pc ls (.int x :: .int (nI j) :: .ref (a 1) :: rest)) := by
  refine va_iast hC.1 hC.2.1 X.1 X.2.1 X.2.2.1 X.2.2.2.1 2 1 rfl rfl (vp_in_nI hj (by decide)) hdg (fun H1 locs1 hP hD hS => ?_)
  rw [nI_clamp (by omega)] at hP hD
  exact kk H1 locs1 ⟨X.1, hP, hD, hS, X.2.2.2.2⟩
theorem ca_gX2 (hC : ca_C p m meth c cc nL ret own s args) (ho : own = RX0) (X : ca_I D (ca_X h a d) (ca_TX d) A s H locs S) (hdg : decode cc pc = .ok (.getfield 16, 3)) (kk : W p l e R s m args below meth c H locs cells slots Q (F0 m (pc + 3) ls (.ref (a 2) :: rest))) : W p l e R s m args below meth c H locs cells slots Q (F0 m pc ls (.ref h :: rest)) := by
  subst ho
  exact va_get (D := D) (ci := 0) (v := .ref (a 2)) (C := RX0) (T := TX0) (N := 16) hC.1 hC.2.1 hC.2.2.2.2.1 in_X0 hC.2.2.2.2.2.1 X.1 X.2.1 0 rfl rfl 2 (by decide) (hC.2.2.2.2.1 _ q31) (fun _ h9 => h9) rfl hdg kk
theorem ca_lX2 {j : Nat} {v : Int32} (hC : ca_C p m meth c cc nL ret own s args) (X : ca_I D (ca_X h a d) (ca_TX d) A s H locs S) (hj : j < 16) (hv : S 2 j = v) (hdg : decode cc pc = .ok (.baload, 1)) (kk : W p l e R s m args below meth c H locs cells slots Q (F0 m (pc + 1) ls (.int v :: rest))) : W p l e R s m args below meth c H locs cells slots Q (F0 m pc ls (.int (nI j) :: .ref (a 2) :: rest)) := by
  refine va_zald hC.1 hC.2.1 X.1 X.2.1 3 2 rfl rfl (vp_in_nI hj (by decide)) hdg ?_
  rw [nI_clamp (by omega), hv]; exact kk
theorem ca_sX2 {j : Nat} {x : Int32} {y : Int32} (hy : vp_nar .boolean x = y) (hC : ca_C p m meth c cc nL ret own s args) (X : ca_I D (ca_X h a d) (ca_TX d) A s H locs S) (hj : j < 16) (hdg : decode cc pc = .ok (.bastore, 1)) (kk : ∀ (H1 : Heap) (locs1 : List Loc), ca_I D (ca_X h a d) (ca_TX d) A s H1 locs1 (ca_wr S 2 j y) → W p l e R s m args below meth c H1 locs1 cells slots Q (F0 m (pc + 1) ls rest)) : W p l e R s m args below meth c H locs cells slots Q (F0 m pc ls (.int x :: .int (nI j) :: .ref (a 2) :: rest)) := by
  subst hy
  refine va_zast hC.1 hC.2.1 X.1 X.2.1 X.2.2.1 X.2.2.2.1 3 2 rfl rfl (vp_in_nI hj (by decide)) hdg (fun H1 locs1 hP hD hS => ?_)
  rw [nI_clamp (by omega)] at hP hD
  exact kk H1 locs1 ⟨X.1, hP, hD, hS, X.2.2.2.2⟩
theorem ca_gX3 (hC : ca_C p m meth c cc nL ret own s args) (ho : own = RX0) (X : ca_I D (ca_X h a d) (ca_TX d) A s H locs S) (hdg : decode cc pc = .ok (.getfield 20, 3)) (kk : W p l e R s m args below meth c H locs cells slots Q (F0 m (pc + 3) ls (.ref (a 3) :: rest))) : W p l e R s m args below meth c H locs cells slots Q (F0 m pc ls (.ref h :: rest)) := by
  subst ho
  exact va_get (D := D) (ci := 0) (v := .ref (a 3)) (C := RX0) (T := TX0) (N := 16) hC.1 hC.2.1 hC.2.2.2.2.1 in_X0 hC.2.2.2.2.2.1 X.1 X.2.1 0 rfl rfl 3 (by decide) (hC.2.2.2.2.1 _ q32) (fun _ h9 => h9) rfl hdg kk
theorem ca_lX3 {j : Nat} {v : Int32} (hC : ca_C p m meth c cc nL ret own s args) (X : ca_I D (ca_X h a d) (ca_TX d) A s H locs S) (hj : j < 16) (hv : S 3 j = v) (hdg : decode cc pc = .ok (.baload, 1)) (kk : W p l e R s m args below meth c H locs cells slots Q (F0 m (pc + 1) ls (.int v :: rest))) : W p l e R s m args below meth c H locs cells slots Q (F0 m pc ls (.int (nI j) :: .ref (a 3) :: rest)) := by
  refine va_zald hC.1 hC.2.1 X.1 X.2.1 4 3 rfl rfl (vp_in_nI hj (by decide)) hdg ?_
  rw [nI_clamp (by omega), hv]; exact kk
theorem ca_sX3 {j : Nat} {x : Int32} {y : Int32} (hy : vp_nar .boolean x = y) (hC : ca_C p m meth c cc nL ret own s args) (X : ca_I D (ca_X h a d) (ca_TX d) A s H locs S) (hj : j < 16) (hdg : decode cc pc = .ok (.bastore, 1)) (kk : ∀ (H1 : Heap) (locs1 : List Loc), ca_I D (ca_X h a d) (ca_TX d) A s H1 locs1 (ca_wr S 3 j y) → W p l e R s m args below meth c H1 locs1 cells slots Q (F0 m (pc + 1) ls rest)) : W p l e R s m args below meth c H locs cells slots Q (F0 m pc ls (.int x :: .int (nI j) :: .ref (a 3) :: rest)) := by
  subst hy
  refine va_zast hC.1 hC.2.1 X.1 X.2.1 X.2.2.1 X.2.2.2.1 4 3 rfl rfl (vp_in_nI hj (by decide)) hdg (fun H1 locs1 hP hD hS => ?_)
  rw [nI_clamp (by omega)] at hP hD
  exact kk H1 locs1 ⟨X.1, hP, hD, hS, X.2.2.2.2⟩
theorem ca_gX4 (hC : ca_C p m meth c cc nL ret own s args) (ho : own = RX0) (X : ca_I D (ca_X h a d) (ca_TX d) A s H locs S) (hdg : decode cc pc = .ok (.getfield 23, 3)) (kk : W p l e R s m args below meth c H locs cells slots Q (F0 m (pc + 3) ls (.ref (a 4) :: rest))) : W p l e R s m args below meth c H locs cells slots Q (F0 m pc ls (.ref h :: rest)) := by
  subst ho
  exact va_get (D := D) (ci := 0) (v := .ref (a 4)) (C := RX0) (T := TX0) (N := 16) hC.1 hC.2.1 hC.2.2.2.2.1 in_X0 hC.2.2.2.2.2.1 X.1 X.2.1 0 rfl rfl 4 (by decide) (hC.2.2.2.2.1 _ q33) (fun _ h9 => h9) rfl hdg kk
theorem ca_lX4 {j : Nat} {v : Int32} (hC : ca_C p m meth c cc nL ret own s args) (X : ca_I D (ca_X h a d) (ca_TX d) A s H locs S) (hj : j < 16) (hv : S 4 j = v) (hdg : decode cc pc = .ok (.baload, 1)) (kk : W p l e R s m args below meth c H locs cells slots Q (F0 m (pc + 1) ls (.int v :: rest))) : W p l e R s m args below meth c H locs cells slots Q (F0 m pc ls (.int (nI j) :: .ref (a 4) :: rest)) := by
  refine va_zald hC.1 hC.2.1 X.1 X.2.1 5 4 rfl rfl (vp_in_nI hj (by decide)) hdg ?_
  rw [nI_clamp (by omega), hv]; exact kk
theorem ca_sX4 {j : Nat} {x : Int32} {y : Int32} (hy : vp_nar .boolean x = y) (hC : ca_C p m meth c cc nL ret own s args) (X : ca_I D (ca_X h a d) (ca_TX d) A s H locs S) (hj : j < 16) (hdg : decode cc pc = .ok (.bastore, 1)) (kk : ∀ (H1 : Heap) (locs1 : List Loc), ca_I D (ca_X h a d) (ca_TX d) A s H1 locs1 (ca_wr S 4 j y) → W p l e R s m args below meth c H1 locs1 cells slots Q (F0 m (pc + 1) ls rest)) : W p l e R s m args below meth c H locs cells slots Q (F0 m pc ls (.int x :: .int (nI j) :: .ref (a 4) :: rest)) := by
  subst hy
  refine va_zast hC.1 hC.2.1 X.1 X.2.1 X.2.2.1 X.2.2.2.1 5 4 rfl rfl (vp_in_nI hj (by decide)) hdg (fun H1 locs1 hP hD hS => ?_)
  rw [nI_clamp (by omega)] at hP hD
  exact kk H1 locs1 ⟨X.1, hP, hD, hS, X.2.2.2.2⟩
theorem ca_gX5 {v : Int32} (hC : ca_C p m meth c cc nL ret own s args) (ho : own = RX0) (X : ca_I D (ca_X h a d) (ca_TX d) A s H locs S) (hv : S 5 0 = v) (hdg : decode cc pc = .ok (.getfield 64, 3)) (kk : W p l e R s m args below meth c H locs cells slots Q (F0 m (pc + 3) ls (.int v :: rest))) : W p l e R s m args below meth c H locs cells slots Q (F0 m pc ls (.ref h :: rest)) := by
  subst ho
  subst hv
  exact va_get (D := D) (ci := 0) (v := .int (S 5 0)) (C := RX0) (T := TX0) (N := 16) hC.1 hC.2.1 hC.2.2.2.2.1 in_X0 hC.2.2.2.2.2.1 X.1 X.2.1 0 rfl rfl 5 (by decide) (hC.2.2.2.2.1 _ q34) (fun _ h9 => h9) rfl hdg kk
theorem ca_pX5 {x : Int32} (hC : ca_C p m meth c cc nL ret own s args) (ho : own = RX0) (X : ca_I D (ca_X h a d) (ca_TX d) A s H locs S) (hdg : decode cc pc = .ok (.putfield 64, 3)) (kk : ∀ (H1 : Heap) (locs1 : List Loc), ca_I D (ca_X h a d) (ca_TX d) A s H1 locs1 (ca_wr S 5 0 x) → W p l e R s m args below meth c H1 locs1 cells slots Q (F0 m (pc + 3) ls rest)) : W p l e R s m args below meth c H locs cells slots Q (F0 m pc ls (.int x :: .ref h :: rest)) := by
  subst ho
  exact va_put (D := D) (ci := 0) (v := .int x) (ty := .int) (C := RX0) (T := TX0) (N := 16) hC.1 hC.2.1 hC.2.2.2.2.1 in_X0 tyX0 tyX0_ok nmX0 hC.2.2.2.2.2.1 X.1 X.2.1 X.2.2.1 X.2.2.2.1 0 rfl rfl 5 (by decide) (hC.2.2.2.2.1 _ q34) (fun _ h9 => h9) rfl (by decide +kernel) rfl rfl (Nat.le_of_ble_eq_true rfl) hdg (fun H1 locs1 hP hD hS => kk H1 locs1 ⟨X.1, hP, hD, hS, X.2.2.2.2⟩)
theorem ca_gX6 (hC : ca_C p m meth c cc nL ret own s args) (ho : own = RX0) (X : ca_I D (ca_X h a d) (ca_TX d) A s H locs S) (hdg : decode cc pc = .ok (.getfield 26, 3)) (kk : W p l e R s m args below meth c H locs cells slots Q (F0 m (pc + 3) ls (.ref (a 6) :: rest))) : W p l e R s m args below meth c H locs cells slots Q (F0 m pc ls (.ref h :: rest)) := by
  subst ho
  exact va_get (D := D) (ci := 0) (v := .ref (a 6)) (C := RX0) (T := TX0) (N := 16) hC.1 hC.2.1 hC.2.2.2.2.1 in_X0 hC.2.2.2.2.2.1 X.1 X.2.1 0 rfl rfl 6 (by decide) (hC.2.2.2.2.1 _ q35) (fun _ h9 => h9) rfl hdg kk
theorem ca_lX6 {j : Nat} {v : Int32} (hC : ca_C p m meth c cc nL ret own s args) (X : ca_I D (ca_X h a d) (ca_TX d) A s H locs S) (hj : j < 16) (hv : S 6 j = v) (hdg : decode cc pc = .ok (.iaload, 1)) (kk : W p l e R s m args below meth c H locs cells slots Q (F0 m (pc + 1) ls (.int v :: rest))) : W p l e R s m args below meth c H locs cells slots Q (F0 m pc ls (.int (nI j) :: .ref (a 6) :: rest)) := by
  refine va_iald hC.1 hC.2.1 X.1 X.2.1 6 5 rfl rfl (vp_in_nI hj (by decide)) hdg ?_
  rw [nI_clamp (by omega), hv]; exact kk
theorem ca_sX6 {j : Nat} {x : Int32} (hC : ca_C p m meth c cc nL ret own s args) (X : ca_I D (ca_X h a d) (ca_TX d) A s H locs S) (hj : j < 16) (hdg : decode cc pc = .ok (.iastore, 1)) (kk : ∀ (H1 : Heap) (locs1 : List Loc), ca_I D (ca_X h a d) (ca_TX d) A s H1 locs1 (ca_wr S 6 j x) → W p l e R s m args below meth c H1 locs1 cells slots Q (F0 m (pc + 1) ls rest)) : W p l e R s m args below meth c H locs cells slots Q (F0 m pc ls (.int x :: .int (nI j) :: .ref (a 6) :: rest)) := by
  refine va_iast hC.1 hC.2.1 X.1 X.2.1 X.2.2.1 X.2.2.2.1 6 5 rfl rfl (vp_in_nI hj (by decide)) hdg (fun H1 locs1 hP hD hS => ?_)
  rw [nI_clamp (by omega)] at hP hD
  exact kk H1 locs1 ⟨X.1, hP, hD, hS, X.2.2.2.2⟩
theorem ca_gX7 (hC : ca_C p m meth c cc nL ret own s args) (ho : own = RX0) (X : ca_I D (ca_X h a d) (ca_TX d) A s H locs S) (hdg : decode cc pc = .ok (.getfield 29, 3)) (kk : W p l e R s m args below meth c H locs cells slots Q (F0 m (pc + 3) ls (.ref (a 7) :: rest))) : W p l e R s m args below meth c H locs cells slots Q (F0 m pc ls (.ref h :: rest)) := by
  subst ho
  exact va_get (D := D) (ci := 0) (v := .ref (a 7)) (C := RX0) (T := TX0) (N := 16) hC.1 hC.2.1 hC.2.2.2.2.1 in_X0 hC.2.2.2.2.2.1 X.1 X.2.1 0 rfl rfl 7 (by decide) (hC.2.2.2.2.1 _ q36) (fun _ h9 => h9) rfl hdg kk
theorem ca_lX7 {j : Nat} {v : Int32} (hC : ca_C p m meth c cc nL ret own s args) (X : ca_I D (ca_X h a d) (ca_TX d) A s H locs S) (hj : j < 16) (hv : S 7 j = v) (hdg : decode cc pc = .ok (.baload, 1)) (kk : W p l e R s m args below meth c H locs cells slots Q (F0 m (pc + 1) ls (.int v :: rest))) : W p l e R s m args below meth c H locs cells slots Q (F0 m pc ls (.int (nI j) :: .ref (a 7) :: rest)) := by
  refine va_zald hC.1 hC.2.1 X.1 X.2.1 7 6 rfl rfl (vp_in_nI hj (by decide)) hdg ?_
  rw [nI_clamp (by omega), hv]; exact kk
theorem ca_sX7 {j : Nat} {x : Int32} {y : Int32} (hy : vp_nar .boolean x = y) (hC : ca_C p m meth c cc nL ret own s args) (X : ca_I D (ca_X h a d) (ca_TX d) A s H locs S) (hj : j < 16) (hdg : decode cc pc = .ok (.bastore, 1)) (kk : ∀ (H1 : Heap) (locs1 : List Loc), ca_I D (ca_X h a d) (ca_TX d) A s H1 locs1 (ca_wr S 7 j y) → W p l e R s m args below meth c H1 locs1 cells slots Q (F0 m (pc + 1) ls rest)) : W p l e R s m args below meth c H locs cells slots Q (F0 m pc ls (.int x :: .int (nI j) :: .ref (a 7) :: rest)) := by
  subst hy
  refine va_zast hC.1 hC.2.1 X.1 X.2.1 X.2.2.1 X.2.2.2.1 7 6 rfl rfl (vp_in_nI hj (by decide)) hdg (fun H1 locs1 hP hD hS => ?_)
  rw [nI_clamp (by omega)] at hP hD
  exact kk H1 locs1 ⟨X.1, hP, hD, hS, X.2.2.2.2⟩
theorem ca_gX8 (hC : ca_C p m meth c cc nL ret own s args) (ho : own = RX0) (X : ca_I D (ca_X h a d) (ca_TX d) A s H locs S) (hdg : decode cc pc = .ok (.getfield 32, 3)) (kk : W p l e R s m args below meth c H locs cells slots Q (F0 m (pc + 3) ls (.ref (a 8) :: rest))) : W p l e R s m args below meth c H locs cells slots Q (F0 m pc ls (.ref h :: rest)) := by
  subst ho
  exact va_get (D := D) (ci := 0) (v := .ref (a 8)) (C := RX0) (T := TX0) (N := 16) hC.1 hC.2.1 hC.2.2.2.2.1 in_X0 hC.2.2.2.2.2.1 X.1 X.2.1 0 rfl rfl 8 (by decide) (hC.2.2.2.2.1 _ q37) (fun _ h9 => h9) rfl hdg kk
theorem ca_lX8 {j : Nat} {v : Int32} (hC : ca_C p m meth c cc nL ret own s args) (X : ca_I D (ca_X h a d) (ca_TX d) A s H locs S) (hj : j < 16) (hv : S 8 j = v) (hdg : decode cc pc = .ok (.iaload, 1)) (kk : W p l e R s m args below meth c H locs cells slots Q (F0 m (pc + 1) ls (.int v :: rest))) : W p l e R s m args below meth c H locs cells slots Q (F0 m pc ls (.int (nI j) :: .ref (a 8) :: rest)) := by
  refine va_iald hC.1 hC.2.1 X.1 X.2.1 8 7 rfl rfl (vp_in_nI hj (by decide)) hdg ?_
  rw [nI_clamp (by omega), hv]; exact kk
theorem ca_sX8 {j : Nat} {x : Int32} (hC : ca_C p m meth c cc nL ret own s args) (X : ca_I D (ca_X h a d) (ca_TX d) A s H locs S) (hj : j < 16) (hdg : decode cc pc = .ok (.iastore, 1)) (kk : ∀ (H1 : Heap) (locs1 : List Loc), ca_I D (ca_X h a d) (ca_TX d) A s H1 locs1 (ca_wr S 8 j x) → W p l e R s m args below meth c H1 locs1 cells slots Q (F0 m (pc + 1) ls rest)) : W p l e R s m args below meth c H locs cells slots Q (F0 m pc ls (.int x :: .int (nI j) :: .ref (a 8) :: rest)) := by
  refine va_iast hC.1 hC.2.1 X.1 X.2.1 X.2.2.1 X.2.2.2.1 8 7 rfl rfl (vp_in_nI hj (by decide)) hdg (fun H1 locs1 hP hD hS => ?_)
  rw [nI_clamp (by omega)] at hP hD
  exact kk H1 locs1 ⟨X.1, hP, hD, hS, X.2.2.2.2⟩
theorem ca_gX9 (hC : ca_C p m meth c cc nL ret own s args) (ho : own = RX0) (X : ca_I D (ca_X h a d) (ca_TX d) A s H locs S) (hdg : decode cc pc = .ok (.getfield 35, 3)) (kk : W p l e R s m args below meth c H locs cells slots Q (F0 m (pc + 3) ls (.ref (a 9) :: rest))) : W p l e R s m args below meth c H locs cells slots Q (F0 m pc ls (.ref h :: rest)) := by
  subst ho
  exact va_get (D := D) (ci := 0) (v := .ref (a 9)) (C := RX0) (T := TX0) (N := 16) hC.1 hC.2.1 hC.2.2.2.2.1 in_X0 hC.2.2.2.2.2.1 X.1 X.2.1 0 rfl rfl 9 (by decide) (hC.2.2.2.2.1 _ q38) (fun _ h9 => h9) rfl hdg kk
theorem ca_lX9 {j : Nat} {v : Int32} (hC : ca_C p m meth c cc nL ret own s args) (X : ca_I D (ca_X h a d) (ca_TX d) A s H locs S) (hj : j < 64) (hv : S 9 j = v) (hdg : decode cc pc = .ok (.iaload, 1)) (kk : W p l e R s m args below meth c H locs cells slots Q (F0 m (pc + 1) ls (.int v :: rest))) : W p l e R s m args below meth c H locs cells slots Q (F0 m pc ls (.int (nI j) :: .ref (a 9) :: rest)) := by
  refine va_iald hC.1 hC.2.1 X.1 X.2.1 9 8 rfl rfl (vp_in_nI hj (by decide)) hdg ?_
  rw [nI_clamp (by omega), hv]; exact kk
theorem ca_sX9 {j : Nat} {x : Int32} (hC : ca_C p m meth c cc nL ret own s args) (X : ca_I D (ca_X h a d) (ca_TX d) A s H locs S) (hj : j < 64) (hdg : decode cc pc = .ok (.iastore, 1)) (kk : ∀ (H1 : Heap) (locs1 : List Loc), ca_I D (ca_X h a d) (ca_TX d) A s H1 locs1 (ca_wr S 9 j x) → W p l e R s m args below meth c H1 locs1 cells slots Q (F0 m (pc + 1) ls rest)) : W p l e R s m args below meth c H locs cells slots Q (F0 m pc ls (.int x :: .int (nI j) :: .ref (a 9) :: rest)) := by
  refine va_iast hC.1 hC.2.1 X.1 X.2.1 X.2.2.1 X.2.2.2.1 9 8 rfl rfl (vp_in_nI hj (by decide)) hdg (fun H1 locs1 hP hD hS => ?_)
  rw [nI_clamp (by omega)] at hP hD
  exact kk H1 locs1 ⟨X.1, hP, hD, hS, X.2.2.2.2⟩
theorem ca_gX10 (hC : ca_C p m meth c cc nL ret own s args) (ho : own = RX0) (X : ca_I D (ca_X h a d) (ca_TX d) A s H locs S) (hdg : decode cc pc = .ok (.getfield 38, 3)) (kk : W p l e R s m args below meth c H locs cells slots Q (F0 m (pc + 3) ls (.ref (a 10) :: rest))) : W p l e R s m args below meth c H locs cells slots Q (F0 m pc ls (.ref h :: rest)) := by
  subst ho
  exact va_get (D := D) (ci := 0) (v := .ref (a 10)) (C := RX0) (T := TX0) (N := 16) hC.1 hC.2.1 hC.2.2.2.2.1 in_X0 hC.2.2.2.2.2.1 X.1 X.2.1 0 rfl rfl 10 (by decide) (hC.2.2.2.2.1 _ q39) (fun _ h9 => h9) rfl hdg kk
theorem ca_lX10 {j : Nat} {v : Int32} (hC : ca_C p m meth c cc nL ret own s args) (X : ca_I D (ca_X h a d) (ca_TX d) A s H locs S) (hj : j < 4) (hv : S 10 j = v) (hdg : decode cc pc = .ok (.iaload, 1)) (kk : W p l e R s m args below meth c H locs cells slots Q (F0 m (pc + 1) ls (.int v :: rest))) : W p l e R s m args below meth c H locs cells slots Q (F0 m pc ls (.int (nI j) :: .ref (a 10) :: rest)) := by
  refine va_iald hC.1 hC.2.1 X.1 X.2.1 10 9 rfl rfl (vp_in_nI hj (by decide)) hdg ?_
  rw [nI_clamp (by omega), hv]; exact kk
theorem ca_sX10 {j : Nat} {x : Int32} (hC : ca_C p m meth c cc nL ret own s args) (X : ca_I D (ca_X h a d) (ca_TX d) A s H locs S) (hj : j < 4) (hdg : decode cc pc = .ok (.iastore, 1)) (kk : ∀ (H1 : Heap) (locs1 : List Loc), ca_I D (ca_X h a d) (ca_TX d) A s H1 locs1 (ca_wr S 10 j x) → W p l e R s m args below meth c H1 locs1 cells slots Q (F0 m (pc + 1) ls rest)) : W p l e R s m args below meth c H locs cells slots Q (F0 m pc ls (.int x :: .int (nI j) :: .ref (a 10) :: rest)) := by
  refine va_iast hC.1 hC.2.1 X.1 X.2.1 X.2.2.1 X.2.2.2.1 10 9 rfl rfl (vp_in_nI hj (by decide)) hdg (fun H1 locs1 hP hD hS => ?_)
  rw [nI_clamp (by omega)] at hP hD
  exact kk H1 locs1 ⟨X.1, hP, hD, hS, X.2.2.2.2⟩
theorem ca_gX11 (hC : ca_C p m meth c cc nL ret own s args) (ho : own = RX0) (X : ca_I D (ca_X h a d) (ca_TX d) A s H locs S) (hdg : decode cc pc = .ok (.getfield 41, 3)) (kk : W p l e R s m args below meth c H locs cells slots Q (F0 m (pc + 3) ls (.ref (a 11) :: rest))) : W p l e R s m args below meth c H locs cells slots Q (F0 m pc ls (.ref h :: rest)) := by
  subst ho
  exact va_get (D := D) (ci := 0) (v := .ref (a 11)) (C := RX0) (T := TX0) (N := 16) hC.1 hC.2.1 hC.2.2.2.2.1 in_X0 hC.2.2.2.2.2.1 X.1 X.2.1 0 rfl rfl 11 (by decide) (hC.2.2.2.2.1 _ q40) (fun _ h9 => h9) rfl hdg kk
theorem ca_lX11 {j : Nat} {v : Int32} (hC : ca_C p m meth c cc nL ret own s args) (X : ca_I D (ca_X h a d) (ca_TX d) A s H locs S) (hj : j < 4) (hv : S 11 j = v) (hdg : decode cc pc = .ok (.iaload, 1)) (kk : W p l e R s m args below meth c H locs cells slots Q (F0 m (pc + 1) ls (.int v :: rest))) : W p l e R s m args below meth c H locs cells slots Q (F0 m pc ls (.int (nI j) :: .ref (a 11) :: rest)) := by
  refine va_iald hC.1 hC.2.1 X.1 X.2.1 11 10 rfl rfl (vp_in_nI hj (by decide)) hdg ?_
  rw [nI_clamp (by omega), hv]; exact kk
theorem ca_sX11 {j : Nat} {x : Int32} (hC : ca_C p m meth c cc nL ret own s args) (X : ca_I D (ca_X h a d) (ca_TX d) A s H locs S) (hj : j < 4) (hdg : decode cc pc = .ok (.iastore, 1)) (kk : ∀ (H1 : Heap) (locs1 : List Loc), ca_I D (ca_X h a d) (ca_TX d) A s H1 locs1 (ca_wr S 11 j x) → W p l e R s m args below meth c H1 locs1 cells slots Q (F0 m (pc + 1) ls rest)) : W p l e R s m args below meth c H locs cells slots Q (F0 m pc ls (.int x :: .int (nI j) :: .ref (a 11) :: rest)) := by
  refine va_iast hC.1 hC.2.1 X.1 X.2.1 X.2.2.1 X.2.2.2.1 11 10 rfl rfl (vp_in_nI hj (by decide)) hdg (fun H1 locs1 hP hD hS => ?_)
  rw [nI_clamp (by omega)] at hP hD
  exact kk H1 locs1 ⟨X.1, hP, hD, hS, X.2.2.2.2⟩
theorem ca_gX12 (hC : ca_C p m meth c cc nL ret own s args) (ho : own = RX0) (X : ca_I D (ca_X h a d) (ca_TX d) A s H locs S) (hdg : decode cc pc = .ok (.getfield 44, 3)) (kk : W p l e R s m args below meth c H locs cells slots Q (F0 m (pc + 3) ls (.ref (a 12) :: rest))) : W p l e R s m args below meth c H locs cells slots Q (F0 m pc ls (.ref h :: rest)) := by
  subst ho
  exact va_get (D := D) (ci := 0) (v := .ref (a 12)) (C := RX0) (T := TX0) (N := 16) hC.1 hC.2.1 hC.2.2.2.2.1 in_X0 hC.2.2.2.2.2.1 X.1 X.2.1 0 rfl rfl 12 (by decide) (hC.2.2.2.2.1 _ q41) (fun _ h9 => h9) rfl hdg kk
theorem ca_lX12 {j : Nat} {v : Int32} (hC : ca_C p m meth c cc nL ret own s args) (X : ca_I D (ca_X h a d) (ca_TX d) A s H locs S) (hj : j < 4) (hv : S 12 j = v) (hdg : decode cc pc = .ok (.baload, 1)) (kk : W p l e R s m args below meth c H locs cells slots Q (F0 m (pc + 1) ls (.int v :: rest))) : W p l e R s m args below meth c H locs cells slots Q (F0 m pc ls (.int (nI j) :: .ref (a 12) :: rest)) := by
  refine va_zald hC.1 hC.2.1 X.1 X.2.1 12 11 rfl rfl (vp_in_nI hj (by decide)) hdg ?_
  rw [nI_clamp (by omega), hv]; exact kk
theorem ca_sX12 {j : Nat} {x : Int32} {y : Int32} (hy : vp_nar .boolean x = y) (hC : ca_C p m meth c cc nL ret own s args) (X : ca_I D (ca_X h a d) (ca_TX d) A s H locs S) (hj : j < 4) (hdg : decode cc pc = .ok (.bastore, 1)) (kk : ∀ (H1 : Heap) (locs1 : List Loc), ca_I D (ca_X h a d) (ca_TX d) A s H1 locs1 (ca_wr S 12 j y) → W p l e R s m args below meth c H1 locs1 cells slots Q (F0 m (pc + 1) ls rest)) : W p l e R s m args below meth c H locs cells slots Q (F0 m pc ls (.int x :: .int (nI j) :: .ref (a 12) :: rest)) := by
  subst hy
  refine va_zast hC.1 hC.2.1 X.1 X.2.1 X.2.2.1 X.2.2.2.1 12 11 rfl rfl (vp_in_nI hj (by decide)) hdg (fun H1 locs1 hP hD hS => ?_)
  rw [nI_clamp (by omega)] at hP hD
  exact kk H1 locs1 ⟨X.1, hP, hD, hS, X.2.2.2.2⟩
theorem ca_gX13 (hC : ca_C p m meth c cc nL ret own s args) (ho : own = RX0) (X : ca_I D (ca_X h a d) (ca_TX d) A s H locs S) (hdg : decode cc pc = .ok (.getfield 47, 3)) (kk : W p l e R s m args below meth c H locs cells slots Q (F0 m (pc + 3) ls (.ref (a 13) :: rest))) : W p l e R s m args below meth c H locs cells slots Q (F0 m pc ls (.ref h :: rest)) := by
  subst ho
  exact va_get (D := D) (ci := 0) (v := .ref (a 13)) (C := RX0) (T := TX0) (N := 16) hC.1 hC.2.1 hC.2.2.2.2.1 in_X0 hC.2.2.2.2.2.1 X.1 X.2.1 0 rfl rfl 13 (by decide) (hC.2.2.2.2.1 _ q42) (fun _ h9 => h9) rfl hdg kk
theorem ca_lX13 {j : Nat} {v : Int32} (hC : ca_C p m meth c cc nL ret own s args) (X : ca_I D (ca_X h a d) (ca_TX d) A s H locs S) (hj : j < 4) (hv : S 13 j = v) (hdg : decode cc pc = .ok (.baload, 1)) (kk : W p l e R s m args below meth c H locs cells slots Q (F0 m (pc + 1) ls (.int v :: rest))) : W p l e R s m args below meth c H locs cells slots Q (F0 m pc ls (.int (nI j) :: .ref (a 13) :: rest)) := by
  refine va_zald hC.1 hC.2.1 X.1 X.2.1 13 12 rfl rfl (vp_in_nI hj (by decide)) hdg ?_
  rw [nI_clamp (by omega), hv]; exact kk
theorem ca_sX13 {j : Nat} {x : Int32} {y : Int32} (hy : vp_nar .boolean x = y) (hC : ca_C p m meth c cc nL ret own s args) (X : ca_I D (ca_X h a d) (ca_TX d) A s H locs S) (hj : j < 4) (hdg : decode cc pc = .ok (.bastore, 1)) (kk : ∀ (H1 : Heap) (locs1 : List Loc), ca_I D (ca_X h a d) (ca_TX d) A s H1 locs1 (ca_wr S 13 j y) → W p l e R s m args below meth c H1 locs1 cells slots Q (F0 m (pc + 1) ls rest)) : W p l e R s m args below meth c H locs cells slots Q (F0 m pc ls (.int x :: .int (nI j) :: .ref (a 13) :: rest)) := by
  subst hy
  refine va_zast hC.1 hC.2.1 X.1 X.2.1 X.2.2.1 X.2.2.2.1 13 12 rfl rfl (vp_in_nI hj (by decide)) hdg (fun H1 locs1 hP hD hS => ?_)
  rw [nI_clamp (by omega)] at hP hD
  exact kk H1 locs1 ⟨X.1, hP, hD, hS, X.2.2.2.2⟩
theorem ca_gX14 (hC : ca_C p m meth c cc nL ret own s args) (ho : own = RX0) (X : ca_I D (ca_X h a d) (ca_TX d) A s H locs S) (hdg : decode cc pc = .ok (.getfield 50, 3)) (kk : W p l e R s m args below meth c H locs cells slots Q (F0 m (pc + 3) ls (.ref (a 14) :: rest))) : W p l e R s m args below meth c H locs cells slots Q (F0 m pc ls (.ref h :: rest)) := by
  subst ho
  exact va_get (D := D) (ci := 0) (v := .ref (a 14)) (C := RX0) (T := TX0) (N := 16) hC.1 hC.2.1 hC.2.2.2.2.1 in_X0 hC.2.2.2.2.2.1 X.1 X.2.1 0 rfl rfl 14 (by decide) (hC.2.2.2.2.1 _ q43) (fun _ h9 => h9) rfl hdg kk
theorem ca_lX14 {j : Nat} {v : Int32} (hC : ca_C p m meth c cc nL ret own s args) (X : ca_I D (ca_X h a d) (ca_TX d) A s H locs S) (hj : j < 4) (hv : S 14 j = v) (hdg : decode cc pc = .ok (.iaload, 1)) (kk : W p l e R s m args below meth c H locs cells slots Q (F0 m (pc + 1) ls (.int v :: rest))) : W p l e R s m args below meth c H locs cells slots Q (F0 m pc ls (.int (nI j) :: .ref (a 14) :: rest)) := by
  refine va_iald hC.1 hC.2.1 X.1 X.2.1 14 13 rfl rfl (vp_in_nI hj (by decide)) hdg ?_
  rw [nI_clamp (by omega), hv]; exact kk
theorem ca_sX14 {j : Nat} {x : Int32} (hC : ca_C p m meth c cc nL ret own s args) (X : ca_I D (ca_X h a d) (ca_TX d) A s H locs S) (hj : j < 4) (hdg : decode cc pc = .ok (.iastore, 1)) (kk : ∀ (H1 : Heap) (locs1 : List Loc), ca_I D (ca_X h a d) (ca_TX d) A s H1 locs1 (ca_wr S 14 j x) → W p l e R s m args below meth c H1 locs1 cells slots Q (F0 m (pc + 1) ls rest)) : W p l e R s m args below meth c H locs cells slots Q (F0 m pc ls (.int x :: .int (nI j) :: .ref (a 14) :: rest)) := by
  refine va_iast hC.1 hC.2.1 X.1 X.2.1 X.2.2.1 X.2.2.2.1 14 13 rfl rfl (vp_in_nI hj (by decide)) hdg (fun H1 locs1 hP hD hS => ?_)
  rw [nI_clamp (by omega)] at hP hD
  exact kk H1 locs1 ⟨X.1, hP, hD, hS, X.2.2.2.2⟩
theorem ca_gX15 {v : Int32} (hC : ca_C p m meth c cc nL ret own s args) (ho : own = RX0) (X : ca_I D (ca_X h a d) (ca_TX d) A s H locs S) (hv : S 15 0 = v) (hdg : decode cc pc = .ok (.getfield 92, 3)) (kk : W p l e R s m args below meth c H locs cells slots Q (F0 m (pc + 3) ls (.int v :: rest))) : W p l e R s m args below meth c H locs cells slots Q (F0 m pc ls (.ref h :: rest)) := by
  subst ho
  subst hv
  exact va_get (D := D) (ci := 0) (v := .int (S 15 0)) (C := RX0) (T := TX0) (N := 16) hC.1 hC.2.1 hC.2.2.2.2.1 in_X0 hC.2.2.2.2.2.1 X.1 X.2.1 0 rfl rfl 15 (by decide) (hC.2.2.2.2.1 _ q44) (fun _ h9 => h9) rfl hdg kk
theorem ca_pX15 {x : Int32} (hC : ca_C p m meth c cc nL ret own s args) (ho : own = RX0) (X : ca_I D (ca_X h a d) (ca_TX d) A s H locs S) (hdg : decode cc pc = .ok (.putfield 92, 3)) (kk : ∀ (H1 : Heap) (locs1 : List Loc), ca_I D (ca_X h a d) (ca_TX d) A s H1 locs1 (ca_wr S 15 0 x) → W p l e R s m args below meth c H1 locs1 cells slots Q (F0 m (pc + 3) ls rest)) : W p l e R s m args below meth c H locs cells slots Q (F0 m pc ls (.int x :: .ref h :: rest)) := by
  subst ho
  exact va_put (D := D) (ci := 0) (v := .int x) (ty := .int) (C := RX0) (T := TX0) (N := 16) hC.1 hC.2.1 hC.2.2.2.2.1 in_X0 tyX0 tyX0_ok nmX0 hC.2.2.2.2.2.1 X.1 X.2.1 X.2.2.1 X.2.2.2.1 0 rfl rfl 15 (by decide) (hC.2.2.2.2.1 _ q44) (fun _ h9 => h9) rfl (by decide +kernel) rfl rfl (Nat.le_of_ble_eq_true rfl) hdg (fun H1 locs1 hP hD hS => kk H1 locs1 ⟨X.1, hP, hD, hS, X.2.2.2.2⟩)
theorem ca_gM0 (hC : ca_C p m meth c cc nL ret own s args) (ho : own = RX1) (X : ca_I D (ca_M h a d) (ca_TM d) A s H locs S) (hdg : decode cc pc = .ok (.getfield 7, 3)) (kk : W p l e R s m args below meth c H locs cells slots Q (F0 m (pc + 3) ls (.ref (a 0) :: rest))) : W p l e R s m args below meth c H locs cells slots Q (F0 m pc ls (.ref h :: rest)) := by
  subst ho
  exact va_get (D := D) (ci := 1) (v := .ref (a 0)) (C := RX1) (T := TX1) (N := 6) hC.1 hC.2.1 hC.2.2.2.2.1 in_X1 hC.2.2.2.2.2.1 X.1 X.2.1 0 rfl rfl 0 (by decide) (hC.2.2.2.2.1 _ q215) (fun _ h9 => h9) rfl hdg kk
theorem ca_lM0 {j : Nat} {v : Int32} (hC : ca_C p m meth c cc nL ret own s args) (X : ca_I D (ca_M h a d) (ca_TM d) A s H locs S) (hj : j < 64) (hv : S 0 j = v) (hdg : decode cc pc = .ok (.iaload, 1)) (kk : W p l e R s m args below meth c H locs cells slots Q (F0 m (pc + 1) ls (.int v :: rest))) : W p l e R s m args below meth c H locs cells slots Q (F0 m pc ls (.int (nI j) :: .ref (a 0) :: rest)) := by
  refine va_iald hC.1 hC.2.1 X.1 X.2.1 1 0 rfl rfl (vp_in_nI hj (by decide)) hdg ?_
  rw [nI_clamp (by omega), hv]; exact kk
theorem ca_sM0 {j : Nat} {x : Int32} (hC : ca_C p m meth c cc nL ret own s args) (X : ca_I D (ca_M h a d) (ca_TM d) A s H locs S) (hj : j < 64) (hdg : decode cc pc = .ok (.iastore, 1)) (kk : ∀ (H1 : Heap) (locs1 : List Loc), ca_I D (ca_M h a d) (ca_TM d) A s H1 locs1 (ca_wr S 0 j x) → W p l e R s m args below meth c H1 locs1 cells slots Q (F0 m (pc + 1) ls rest)) : W p l e R s m args below meth c H locs cells slots Q (F0 m pc ls (.int x :: .int (nI j) :: .ref (a 0) :: rest)) := by
  refine va_iast hC.1 hC.2.1 X.1 X.2.1 X.2.2.1 X.2.2.2.1 1 0 rfl rfl (vp_in_nI hj (by decide)) hdg (fun H1 locs1 hP hD hS => ?_)
  rw [nI_clamp (by omega)] at hP hD
  exact kk H1 locs1 ⟨X.1, hP, hD, hS, X.2.2.2.2⟩
theorem ca_gM1 (hC : ca_C p m meth c cc nL ret own s args) (ho : own = RX1) (X : ca_I D (ca_M h a d) (ca_TM d) A s H locs S) (hdg : decode cc pc = .ok (.getfield 13, 3)) (kk : W p l e R s m args below meth c H locs cells slots Q (F0 m (pc + 3) ls (.ref (a 1) :: rest))) : W p l e R s m args below meth c H locs cells slots Q (F0 m pc ls (.ref h :: rest)) := by
  subst ho
  exact va_get (D := D) (ci := 1) (v := .ref (a 1)) (C := RX1) (T := TX1) (N := 6) hC.1 hC.2.1 hC.2.2.2.2.1 in_X1 hC.2.2.2.2.2.1 X.1 X.2.1 0 rfl rfl 1 (by decide) (hC.2.2.2.2.1 _ q216) (fun _ h9 => h9) rfl hdg kk
theorem ca_lM1 {j : Nat} {v : Int32} (hC : ca_C p m meth c cc nL ret own s args) (X : ca_I D (ca_M h a d) (ca_TM d) A s H locs S) (hj : j < 16) (hv : S 1 j = v) (hdg : decode cc pc = .ok (.iaload, 1)) (kk : W p l e R s m args below meth c H locs cells slots Q (F0 m (pc + 1) ls (.int v :: rest))) : W p l e R s m args below meth c H locs cells slots Q (F0 m pc ls (.int (nI j) :: .ref (a 1) :: rest)) := by
  refine va_iald hC.1 hC.2.1 X.1 X.2.1 2 1 rfl rfl (vp_in_nI hj (by decide)) hdg ?_
  rw [nI_clamp (by omega), hv]; exact kk
theorem ca_sM1 {j : Nat} {x : Int32} (hC : ca_C p m meth c cc nL ret own s args) (X : ca_I D (ca_M h a d) (ca_TM d) A s H locs S) (hj : j < 16) (hdg : decode cc pc = .ok (.iastore, 1)) (kk : ∀ (H1 : Heap) (locs1 : List Loc), ca_I D (ca_M h a d) (ca_TM d) A s H1 locs1 (ca_wr S 1 j x) → W p l e R s m args below meth c H1 locs1 cells slots Q (F0 m (pc + 1) ls rest)) : W p l e R s m args below meth c H locs cells slots Q (F0 m pc ls (.int x :: .int (nI j) :: .ref (a 1) :: rest)) := by
  refine va_iast hC.1 hC.2.1 X.1 X.2.1 X.2.2.1 X.2.2.2.1 2 1 rfl rfl (vp_in_nI hj (by decide)) hdg (fun H1 locs1 hP hD hS => ?_)
  rw [nI_clamp (by omega)] at hP hD
  exact kk H1 locs1 ⟨X.1, hP, hD, hS, X.2.2.2.2⟩
theorem ca_gM2 (hC : ca_C p m meth c cc nL ret own s args) (ho : own = RX1) (X : ca_I D (ca_M h a d) (ca_TM d) A s H locs S) (hdg : decode cc pc = .ok (.getfield 16, 3)) (kk : W p l e R s m args below meth c H locs cells slots Q (F0 m (pc + 3) ls (.ref (a 2) :: rest))) : W p l e R s m args below meth c H locs cells slots Q (F0 m pc ls (.ref h :: rest)) := by
  subst ho
  exact va_get (D := D) (ci := 1) (v := .ref (a 2)) (C := RX1) (T := TX1) (N := 6) hC.1 hC.2.1 hC.2.2.2.2.1 in_X1 hC.2.2.2.2.2.1 X.1 X.2.1 0 rfl rfl 2 (by decide) (hC.2.2.2.2.1 _ q217) (fun _ h9 => h9) rfl hdg kk
theorem ca_lM2 {j : Nat} {v : Int32} (hC : ca_C p m meth c cc nL ret own s args) (X : ca_I D (ca_M h a d) (ca_TM d) A s H locs S) (hj : j < 16) (hv : S 2 j = v) (hdg : decode cc pc = .ok (.baload, 1)) (kk : W p l e R s m args below meth c H locs cells slots Q (F0 m (pc + 1) ls (.int v :: rest))) : W p l e R s m args below meth c H locs cells slots Q (F0 m pc ls (.int (nI j) :: .ref (a 2) :: rest)) := by
  refine va_zald hC.1 hC.2.1 X.1 X.2.1 3 2 rfl rfl (vp_in_nI hj (by decide)) hdg ?_
  rw [nI_clamp (by omega), hv]; exact kk
theorem ca_sM2 {j : Nat} {x : Int32} {y : Int32} (hy : vp_nar .boolean x = y) (hC : ca_C p m meth c cc nL ret own s args) (X : ca_I D (ca_M h a d) (ca_TM d) A s H locs S) (hj : j < 16) (hdg : decode cc pc = .ok (.bastore, 1)) (kk : ∀ (H1 : Heap) (locs1 : List Loc), ca_I D (ca_M h a d) (ca_TM d) A s H1 locs1 (ca_wr S 2 j y) → W p l e R s m args below meth c H1 locs1 cells slots Q (F0 m (pc + 1) ls rest)) : W p l e R s m args below meth c H locs cells slots Q (F0 m pc ls (.int x :: .int (nI j) :: .ref (a 2) :: rest)) := by
  subst hy
  refine va_zast hC.1 hC.2.1 X.1 X.2.1 X.2.2.1 X.2.2.2.1 3 2 rfl rfl (vp_in_nI hj (by decide)) hdg (fun H1 locs1 hP hD hS => ?_)
  rw [nI_clamp (by omega)] at hP hD
  exact kk H1 locs1 ⟨X.1, hP, hD, hS, X.2.2.2.2⟩
theorem ca_gM3 (hC : ca_C p m meth c cc nL ret own s args) (ho : own = RX1) (X : ca_I D (ca_M h a d) (ca_TM d) A s H locs S) (hdg : decode cc pc = .ok (.getfield 20, 3)) (kk : W p l e R s m args below meth c H locs cells slots Q (F0 m (pc + 3) ls (.ref (a 3) :: rest))) : W p l e R s m args below meth c H locs cells slots Q (F0 m pc ls (.ref h :: rest)) := by
  subst ho
  exact va_get (D := D) (ci := 1) (v := .ref (a 3)) (C := RX1) (T := TX1) (N := 6) hC.1 hC.2.1 hC.2.2.2.2.1 in_X1 hC.2.2.2.2.2.1 X.1 X.2.1 0 rfl rfl 3 (by decide) (hC.2.2.2.2.1 _ q218) (fun _ h9 => h9) rfl hdg kk
theorem ca_lM3 {j : Nat} {v : Int32} (hC : ca_C p m meth c cc nL ret own s args) (X : ca_I D (ca_M h a d) (ca_TM d) A s H locs S) (hj : j < 16) (hv : S 3 j = v) (hdg : decode cc pc = .ok (.baload, 1)) (kk : W p l e R s m args below meth c H locs cells slots Q (F0 m (pc + 1) ls (.int v :: rest))) : W p l e R s m args below meth c H locs cells slots Q (F0 m pc ls (.int (nI j) :: .ref (a 3) :: rest)) := by
  refine va_zald hC.1 hC.2.1 X.1 X.2.1 4 3 rfl rfl (vp_in_nI hj (by decide)) hdg ?_
  rw [nI_clamp (by omega), hv]; exact kk
theorem ca_sM3 {j : Nat} {x : Int32} {y : Int32} (hy : vp_nar .boolean x = y) (hC : ca_C p m meth c cc nL ret own s args) (X : ca_I D (ca_M h a d) (ca_TM d) A s H locs S) (hj : j < 16) (hdg : decode cc pc = .ok (.bastore, 1)) (kk : ∀ (H1 : Heap) (locs1 : List Loc), ca_I D (ca_M h a d) (ca_TM d) A s H1 locs1 (ca_wr S 3 j y) → W p l e R s m args below meth c H1 locs1 cells slots Q (F0 m (pc + 1) ls rest)) : W p l e R s m args below meth c H locs cells slots Q (F0 m pc ls (.int x :: .int (nI j) :: .ref (a 3) :: rest)) := by
  subst hy
  refine va_zast hC.1 hC.2.1 X.1 X.2.1 X.2.2.1 X.2.2.2.1 4 3 rfl rfl (vp_in_nI hj (by decide)) hdg (fun H1 locs1 hP hD hS => ?_)
  rw [nI_clamp (by omega)] at hP hD
  exact kk H1 locs1 ⟨X.1, hP, hD, hS, X.2.2.2.2⟩
theorem ca_gM4 (hC : ca_C p m meth c cc nL ret own s args) (ho : own = RX1) (X : ca_I D (ca_M h a d) (ca_TM d) A s H locs S) (hdg : decode cc pc = .ok (.getfield 23, 3)) (kk : W p l e R s m args below meth c H locs cells slots Q (F0 m (pc + 3) ls (.ref (a 4) :: rest))) : W p l e R s m args below meth c H locs cells slots Q (F0 m pc ls (.ref h :: rest)) := by
  subst ho
  exact va_get (D := D) (ci := 1) (v := .ref (a 4)) (C := RX1) (T := TX1) (N := 6) hC.1 hC.2.1 hC.2.2.2.2.1 in_X1 hC.2.2.2.2.2.1 X.1 X.2.1 0 rfl rfl 4 (by decide) (hC.2.2.2.2.1 _ q219) (fun _ h9 => h9) rfl hdg kk
theorem ca_lM4 {j : Nat} {v : Int32} (hC : ca_C p m meth c cc nL ret own s args) (X : ca_I D (ca_M h a d) (ca_TM d) A s H locs S) (hj : j < 16) (hv : S 4 j = v) (hdg : decode cc pc = .ok (.baload, 1)) (kk : W p l e R s m args below meth c H locs cells slots Q (F0 m (pc + 1) ls (.int v :: rest))) : W p l e R s m args below meth c H locs cells slots Q (F0 m pc ls (.int (nI j) :: .ref (a 4) :: rest)) := by
  refine va_zald hC.1 hC.2.1 X.1 X.2.1 5 4 rfl rfl (vp_in_nI hj (by decide)) hdg ?_
  rw [nI_clamp (by omega), hv]; exact kk
theorem ca_sM4 {j : Nat} {x : Int32} {y : Int32} (hy : vp_nar .boolean x = y) (hC : ca_C p m meth c cc nL ret own s args) (X : ca_I D (ca_M h a d) (ca_TM d) A s H locs S) (hj : j < 16) (hdg : decode cc pc = .ok (.bastore, 1)) (kk : ∀ (H1 : Heap) (locs1 : List Loc), ca_I D (ca_M h a d) (ca_TM d) A s H1 locs1 (ca_wr S 4 j y) → W p l e R s m args below meth c H1 locs1 cells slots Q (F0 m (pc + 1) ls rest)) : W p l e R s m args below meth c H locs cells slots Q (F0 m pc ls (.int x :: .int (nI j) :: .ref (a 4) :: rest)) := by
  subst hy
  refine va_zast hC.1 hC.2.1 X.1 X.2.1 X.2.2.1 X.2.2.2.1 5 4 rfl rfl (vp_in_nI hj (by decide)) hdg (fun H1 locs1 hP hD hS => ?_)
  rw [nI_clamp (by omega)] at hP hD
  exact kk H1 locs1 ⟨X.1, hP, hD, hS, X.2.2.2.2⟩
theorem ca_gM5 {v : Int32} (hC : ca_C p m meth c cc nL ret own s args) (ho : own = RX1) (X : ca_I D (ca_M h a d) (ca_TM d) A s H locs S) (hv : S 5 0 = v) (hdg : decode cc pc = .ok (.getfield 37, 3)) (kk : W p l e R s m args below meth c H locs cells slots Q (F0 m (pc + 3) ls (.int v :: rest))) : W p l e R s m args below meth c H locs cells slots Q (F0 m pc ls (.ref h :: rest)) := by
  subst ho
  subst hv
  exact va_get (D := D) (ci := 1) (v := .int (S 5 0)) (C := RX1) (T := TX1) (N := 6) hC.1 hC.2.1 hC.2.2.2.2.1 in_X1 hC.2.2.2.2.2.1 X.1 X.2.1 0 rfl rfl 5 (by decide) (hC.2.2.2.2.1 _ q220) (fun _ h9 => h9) rfl hdg kk
theorem ca_pM5 {x : Int32} (hC : ca_C p m meth c cc nL ret own s args) (ho : own = RX1) (X : ca_I D (ca_M h a d) (ca_TM d) A s H locs S) (hdg : decode cc pc = .ok (.putfield 37, 3)) (kk : ∀ (H1 : Heap) (locs1 : List Loc), ca_I D (ca_M h a d) (ca_TM d) A s H1 locs1 (ca_wr S 5 0 x) → W p l e R s m args below meth c H1 locs1 cells slots Q (F0 m (pc + 3) ls rest)) : W p l e R s m args below meth c H locs cells slots Q (F0 m pc ls (.int x :: .ref h :: rest)) := by
  subst ho
  exact va_put (D := D) (ci := 1) (v := .int x) (ty := .int) (C := RX1) (T := TX1) (N := 6) hC.1 hC.2.1 hC.2.2.2.2.1 in_X1 tyX1 tyX1_ok nmX1 hC.2.2.2.2.2.1 X.1 X.2.1 X.2.2.1 X.2.2.2.1 0 rfl rfl 5 (by decide) (hC.2.2.2.2.1 _ q220) (fun _ h9 => h9) rfl (by decide +kernel) rfl rfl (Nat.le_of_ble_eq_true rfl) hdg (fun H1 locs1 hP hD hS => kk H1 locs1 ⟨X.1, hP, hD, hS, X.2.2.2.2⟩)
end CAB
end
section
set_option maxRecDepth 100000
/-! WHAT THE METHODS DO, over tables -/
theorem ca_n0 : vp_nar .boolean 0 = 0 := by decide +kernel
theorem ca_n1 : vp_nar .boolean 1 = 1 := by decide +kernel
theorem ca_z0 : narrow .boolean (.int 0) = .int 0 := by decide +kernel
theorem ca_z1 : narrow .boolean (.int 1) = .int 1 := by decide +kernel
theorem ca_inc (k : Nat) : nI k + Int32.ofInt 1 = nI (k + 1) := nI_1 k
theorem ca_incV (x : Int32) : x + Int32.ofInt 1 = x + 1 := rfl
theorem ca_ge0 {k : Nat} (h : k < 2 ^ 31) : (0 : Int32) ≤ nI k := nI_pos' h
theorem ca_nlt0 {k : Nat} (h : k < 2 ^ 31) : ¬ nI k < 0 := nI_pos h
theorem ca_m1 : ((-1 : Int32) < 0) := by decide +kernel
theorem ca_m2 : ((-2 : Int32) < 0) := by decide +kernel
theorem ca_m3 : ((-3 : Int32) < 0) := by decide +kernel
theorem ca_nge {x : Int32} (h : x < 0) : ¬ (0 : Int32) ≤ x := by
  rw [Int32.lt_iff_toInt_lt] at h
  rw [Int32.le_iff_toInt_le]
  omega
theorem ca_lt0 {x : Int32} (h : ¬ (0 : Int32) ≤ x) : x < 0 := by
  rw [Int32.le_iff_toInt_le] at h
  rw [Int32.lt_iff_toInt_lt]
  omega
theorem ca_ge {x : Int32} (h : ¬ x < 0) : (0 : Int32) ≤ x := by
  rw [Int32.lt_iff_toInt_lt] at h
  rw [Int32.le_iff_toInt_le]
  omega
theorem ca_nlt {x : Int32} (h : (0 : Int32) ≤ x) : ¬ x < 0 := by
  rw [Int32.le_iff_toInt_le] at h
  rw [Int32.lt_iff_toInt_lt]
  omega
theorem ca_wr_at (S : ca_St) (k i : Nat) (x : Int32) (k' i' : Nat) : ca_wr S k i x k' i' = if k' = k ∧ i' = i then x else S k' i' := by
  unfold ca_wr
  by_cases h : k' = k
  · subst h
    simp [upd]
  · have : Nat.beq k' k = false := by
      cases hb : Nat.beq k' k with
      | false => rfl
      | true => exact absurd (Nat.eq_of_beq_eq_true hb) h
    simp [this, h]
theorem ca_cp_at (S : ca_St) (kd d ks s n k i : Nat) : ca_cp S kd d ks s n k i = if k = kd ∧ d ≤ i ∧ i < d + n then S ks (s + (i - d)) else S k i := by
  unfold ca_cp
  by_cases h : k = kd
  · subst h
    simp
  · have : Nat.beq k kd = false := by
      cases hb : Nat.beq k kd with
      | false => rfl
      | true => exact absurd (Nat.eq_of_beq_eq_true hb) h
    simp [this, h]
theorem ca_cp_0 (S : ca_St) (kd d ks s : Nat) : ca_cp S kd d ks s 0 = S := by
  funext k i
  rw [ca_cp_at, if_neg (by omega)]
theorem ca_cp_s (S : ca_St) (kd d ks s n : Nat) : ca_wr (ca_cp S kd d ks s n) kd (d + n) (S ks (s + n)) = ca_cp S kd d ks s (n + 1) := by
  funext k i
  rw [ca_wr_at, ca_cp_at, ca_cp_at]
  by_cases hk : k = kd
  · by_cases hi : i = d + n
    · rw [if_pos ⟨hk, hi⟩, if_pos ⟨hk, by omega, by omega⟩]
      congr 1
      omega
    · rw [if_neg (by omega)]
      by_cases h2 : d ≤ i ∧ i < d + n
      · rw [if_pos ⟨hk, h2⟩, if_pos ⟨hk, by omega, by omega⟩]
      · rw [if_neg (by omega), if_neg (by omega)]
  · rw [if_neg (by omega), if_neg (by omega), if_neg (by omega)]
theorem ca_cp_o {S : ca_St} {kd d ks s n k i : Nat} (h : ¬ (d ≤ i ∧ i < d + n)) : ca_cp S kd d ks s n k i = S k i := by
  rw [ca_cp_at, if_neg (by omega)]
theorem ca_cp_e {S : ca_St} {kd d ks s n : Nat} (h : S kd (d + n) = S ks (s + n)) : ca_cp S kd d ks s n = ca_cp S kd d ks s (n + 1) := by
  funext k i
  rw [ca_cp_at, ca_cp_at]
  by_cases hk : k = kd
  · by_cases hi : i = d + n
    · rw [if_neg (by omega), if_pos ⟨hk, by omega, by omega⟩, hk, hi, h]
      congr 1
      omega
    · by_cases h2 : d ≤ i ∧ i < d + n
      · rw [if_pos ⟨hk, h2⟩, if_pos ⟨hk, by omega, by omega⟩]
      · rw [if_neg (by omega), if_neg (by omega)]
  · rw [if_neg (by omega), if_neg (by omega)]
/-- a check of an argument: 0 for good; 1 for good -/
def ca_P0 (P : Prop) (S : ca_St) (r : Int32) (S' : ca_St) : Prop := S' = S ∧ ((r = 0 ∧ P) ∨ (r = 1 ∧ ¬ P))
def ca_P1 (P : Prop) (S : ca_St) (r : Int32) (S' : ca_St) : Prop := S' = S ∧ ((r = 1 ∧ P) ∨ (r = 0 ∧ ¬ P))
def ca_EO (v : Int32) (S : ca_St) (r : Int32) (S' : ca_St) : Prop := S' = S ∧ (r = -1 ∨ ∃ q : Nat, q < 4 ∧ r = nI q ∧ S 10 q = v)
def ca_OE (S : ca_St) (r : Int32) (S' : ca_St) : Prop := S' = S ∧ ∃ q : Nat, q < 4 ∧ r = nI q
def ca_pg (v : Int32) : Prop := ∃ j : Nat, j < 16 ∧ v = nI j
def ca_e8 (v : Int32) : Prop := ∃ j : Nat, j < 8 ∧ v = nI j
theorem ca_rng {v : Int32} {n : Nat} (hn : n < 2 ^ 31) (h0 : ¬ v < 0) (h : v.toInt < n) : ∃ j : Nat, j < n ∧ v = nI j := by
  obtain ⟨j, hj, e⟩ := nI_of h0
  refine ⟨j, ?_, e⟩
  rw [e, nI_toInt hj] at h
  omega
theorem ca_toInt16 : (nI 16 : Int32).toInt = 16 := by decide +kernel
theorem ca_toInt15 : (nI 15 : Int32).toInt = 15 := by decide +kernel
theorem ca_toInt7 : (nI 7 : Int32).toInt = 7 := by decide +kernel
theorem ca_pg_lt {v : Int32} (h0 : ¬ v < 0) (h : v < nI 16) : ca_pg v := ca_rng (by decide) h0 (by
  rw [Int32.lt_iff_toInt_lt, ca_toInt16] at h; omega)
theorem ca_pg_ngt {v : Int32} (h0 : ¬ v < 0) (h : ¬ nI 15 < v) : ca_pg v := ca_rng (by decide) h0 (by
  rw [Int32.lt_iff_toInt_lt, ca_toInt15] at h; omega)
theorem ca_e8_le {v : Int32} (h0 : ¬ v < 0) (h : v ≤ nI 7) : ca_e8 v := ca_rng (by decide) h0 (by
  rw [Int32.le_iff_toInt_le, ca_toInt7] at h; omega)
theorem ca_e8_ngt {v : Int32} (h0 : ¬ v < 0) (h : ¬ nI 7 < v) : ca_e8 v := ca_rng (by decide) h0 (by
  rw [Int32.lt_iff_toInt_lt, ca_toInt7] at h; omega)
theorem ca_pg_neg {v : Int32} (h0 : v < 0) : ¬ ca_pg v := by
  rintro ⟨j, hj, rfl⟩
  exact nI_pos (by omega) h0
theorem ca_e8_neg {v : Int32} (h0 : v < 0) : ¬ ca_e8 v := by
  rintro ⟨j, hj, rfl⟩
  exact nI_pos (by omega) h0
theorem ca_pg_nlt {v : Int32} (h : ¬ v < nI 16) : ¬ ca_pg v := by
  rintro ⟨j, hj, rfl⟩
  exact h (nI_lt hj (by decide))
theorem ca_pg_gt {v : Int32} (h : nI 15 < v) : ¬ ca_pg v := by
  rintro ⟨j, hj, rfl⟩
  exact nI_nlt (by omega) (by decide) h
theorem ca_e8_nle {v : Int32} (h : ¬ v ≤ nI 7) : ¬ ca_e8 v := by
  rintro ⟨j, hj, rfl⟩
  exact h (nI_le (by omega) (by decide))
theorem ca_e8_gt {v : Int32} (h : nI 7 < v) : ¬ ca_e8 v := by
  rintro ⟨j, hj, rfl⟩
  exact nI_nlt (by omega) (by decide) h
/-! helpers of VipCache -/
def ca_tick (S : ca_St) : ca_St := ca_wr S 5 0 (S 5 0 + 1)
def ca_stp (S : ca_St) (q : Nat) : ca_St := ca_wr S 8 q (S 5 0)
def ca_es (S : ca_St) (q : Nat) : ca_St := ca_wr S 14 q (S 5 0)
/-- shoot: entries of the page v dropped, n of them looked at -/
def ca_sh (v : Int32) (S : ca_St) : Nat → ca_St
  | 0 => S
  | n + 1 => if ca_sh v S n 10 n = v then ca_wr (ca_sh v S n) 10 n (-1) else ca_sh v S n
theorem ca_sh_t {v : Int32} {S : ca_St} {n : Nat} (h : ca_sh v S n 10 n = v) : ca_wr (ca_sh v S n) 10 n (-1) = ca_sh v S (n + 1) := by
  show _ = (if ca_sh v S n 10 n = v then ca_wr (ca_sh v S n) 10 n (-1) else ca_sh v S n)
  rw [if_pos h]
theorem ca_sh_f {v : Int32} {S : ca_St} {n : Nat} (h : ¬ ca_sh v S n 10 n = v) : ca_sh v S n = ca_sh v S (n + 1) := by
  show _ = (if ca_sh v S n 10 n = v then ca_wr (ca_sh v S n) 10 n (-1) else ca_sh v S n)
  rw [if_neg h]
/-- writeBack -/
def ca_wb (S : ca_St) (j : Nat) : ca_St := if S 6 j < 0 ∨ S 7 j = 0 then S else ca_wr (ca_cp S 0 ((S 6 j).toNatClampNeg * 4) 9 (j * 4) 4) 7 j 0
theorem ca_wb_n {S : ca_St} {j : Nat} (h : S 6 j < 0) : S = ca_wb S j := (if_pos (Or.inl h)).symm
theorem ca_wb_c {S : ca_St} {j : Nat} (h : S 7 j = 0) : S = ca_wb S j := (if_pos (Or.inr h)).symm
theorem ca_wb_w {S : ca_St} {j t : Nat} (ht : t < 16) (h : S 6 j = nI t) (h7 : ¬ S 7 j = 0) : ca_wr (ca_cp S 0 (t * 4) 9 (j * 4) 4) 7 j 0 = ca_wb S j := by
  have hn : ¬ (S 6 j < 0 ∨ S 7 j = 0) := by
    rintro (q | q)
    · rw [h] at q
      exact nI_pos (by omega) q
    · exact h7 q
  rw [ca_wb, if_neg hn, h, nI_clamp (by omega)]
def ca_dr (S : ca_St) (j : Nat) : ca_St := ca_wr (ca_wb S j) 6 j (-1)
theorem ca_wb6 (S : ca_St) (j : Nat) : ca_wb S j 6 = S 6 := by
  unfold ca_wb
  split <;> rfl
/-- the names of the lines -/
def ca_N (f : Nat → Int32) : Prop := ∀ i : Nat, i < 16 → f i = -1 ∨ ∃ t : Nat, t < 16 ∧ f i = nI t ∧ t % 2 = i / 2 % 2
theorem ca_N_wb {S : ca_St} (h : ca_N (S 6)) (j : Nat) : ca_N (ca_wb S j 6) := by rw [ca_wb6]; exact h
theorem ca_N_upd {f : Nat → Int32} (h : ca_N f) (j : Nat) : ca_N (upd f j (-1)) := by
  intro i hi
  by_cases e : i = j
  · exact Or.inl (by rw [e]; exact pk_us)
  · rw [pk_un e]
    exact h i hi
theorem ca_N_updT {f : Nat → Int32} (h : ca_N f) (j t : Nat) (ht : t < 16) (hp : t % 2 = j / 2 % 2) : ca_N (upd f j (nI t)) := by
  intro i hi
  by_cases e : i = j
  · rw [e]
    exact Or.inr ⟨t, ht, pk_us, hp⟩
  · rw [pk_un e]
    exact h i hi
theorem ca_N_dr {S : ca_St} (h : ca_N (S 6)) (j : Nat) : ca_N (ca_dr S j 6) := ca_N_upd (ca_N_wb h j) j
theorem ca_N_neg {f : Nat → Int32} (h : ca_N f) {i : Nat} (hi : i < 16) : f i < 0 ∨ ∃ t : Nat, t < 16 ∧ f i = nI t := by
  rcases h i hi with e | ⟨t, ht, e, -⟩
  · exact Or.inl (by rw [e]; exact ca_m1)
  · exact Or.inr ⟨t, ht, e⟩
/-- flush: n lines written back and emptied -/
def ca_fu (S : ca_St) : Nat → ca_St
  | 0 => S
  | n + 1 => ca_dr (ca_fu S n) n
theorem ca_N_fu {S : ca_St} (h : ca_N (S 6)) : ∀ n : Nat, ca_N (ca_fu S n 6)
  | 0 => h
  | n + 1 => ca_N_dr (ca_N_fu h n) n
def ca_LI (S : ca_St) (k : Nat) (g r : Int32) : Prop := (∃ q : Nat, (q = k * 2 ∨ q = k * 2 + 1) ∧ r = nI q ∧ S 6 q = g) ∨ (r = -1 ∧ ¬ S 6 (k * 2) = g ∧ ¬ S 6 (k * 2 + 1) = g)
def ca_LA (S : ca_St) (t : Nat) (r : Int32) : Prop := (∃ q : Nat, q < 16 ∧ q / 2 % 2 = t % 2 ∧ r = nI q ∧ S 6 q = nI t) ∨ (r = -1 ∧ ∀ q : Nat, q < 16 → q / 2 % 2 = t % 2 → ¬ S 6 q = nI t)
/-- lineAnywhere's loop, c colours looked at -/
def ca_LC (S : ca_St) (t c : Nat) (r : Int32) : Prop := (∃ q : Nat, q < 16 ∧ q / 2 % 2 = t % 2 ∧ r = nI q ∧ S 6 q = nI t) ∨ (r = -1 ∧ ∀ q : Nat, q < 4 * c → q / 2 % 2 = t % 2 → ¬ S 6 q = nI t)
theorem ca_LC_0 (S : ca_St) (t : Nat) : ca_LC S t 0 (-1) := Or.inr ⟨rfl, fun q h => absurd h (by omega)⟩
theorem ca_LC_f {S : ca_St} {t c q : Nat} (hc : c < 4) (hq : q = (c * 2 + t % 2) * 2 ∨ q = (c * 2 + t % 2) * 2 + 1) (h : S 6 q = nI t) : ca_LC S t (c + 1) (nI q) := Or.inl ⟨q, by omega, by omega, rfl, h⟩
theorem ca_LC_n {S : ca_St} {t c : Nat} {r : Int32} (h : ca_LC S t c r) (h1 : ¬ S 6 ((c * 2 + t % 2) * 2) = nI t) (h2 : ¬ S 6 ((c * 2 + t % 2) * 2 + 1) = nI t) : ca_LC S t (c + 1) r := by
  rcases h with h | ⟨h, h3⟩
  · exact Or.inl h
  · refine Or.inr ⟨h, fun q hq hp => ?_⟩
    by_cases e : q < 4 * c
    · exact h3 q e hp
    · by_cases e1 : q = (c * 2 + t % 2) * 2
      · rw [e1]; exact h1
      · have e2 : q = (c * 2 + t % 2) * 2 + 1 := by omega
        rw [e2]; exact h2
theorem ca_LC_4 {S : ca_St} {t : Nat} {r : Int32} (h : ca_LC S t 4 r) : ca_LA S t r := h
def ca_mv (S : ca_St) (q b t : Nat) : ca_St := ca_stp (ca_wr (ca_wr (ca_cp (ca_wr (ca_dr (ca_tick S) q) 7 q (vp_nar .boolean (ca_dr (ca_tick S) q 7 b))) 9 (q * 4) 9 (b * 4) 4) 6 b (-1)) 6 q (nI t)) q
def ca_fl (S : ca_St) (q t : Nat) : ca_St := ca_stp (ca_wr (ca_cp (ca_wr (ca_dr (ca_tick S) q) 7 q 0) 9 (q * 4) 0 (t * 4) 4) 6 q (nI t)) q
/-- bring: the line q of the set k holds the name t -/
def ca_BR (S : ca_St) (k t q : Nat) (S' : ca_St) : Prop := (q = k * 2 ∨ q = k * 2 + 1) ∧ ((S 6 q = nI t ∧ S' = ca_stp (ca_tick S) q) ∨ (¬ S 6 (k * 2) = nI t ∧ ¬ S 6 (k * 2 + 1) = nI t ∧ ((∃ b : Nat, b < 16 ∧ b / 2 % 2 = t % 2 ∧ S 6 b = nI t ∧ S' = ca_mv S q b t) ∨ ((∀ b : Nat, b < 16 → b / 2 % 2 = t % 2 → ¬ S 6 b = nI t) ∧ S' = ca_fl S q t))))
def ca_S0 (S : ca_St) (t : Nat) (S' : ca_St) : Prop := (∃ q : Nat, q < 16 ∧ q / 2 % 2 = t % 2 ∧ S 6 q = nI t ∧ S' = ca_wb S q) ∨ ((∀ q : Nat, q < 16 → q / 2 % 2 = t % 2 → ¬ S 6 q = nI t) ∧ S' = S)
def ca_S1 (S : ca_St) (t : Nat) (S' : ca_St) : Prop := (∃ q : Nat, q < 16 ∧ q / 2 % 2 = t % 2 ∧ S 6 q = nI t ∧ S' = ca_dr S q) ∨ ((∀ q : Nat, q < 16 → q / 2 % 2 = t % 2 → ¬ S 6 q = nI t) ∧ S' = S)
theorem ca_N_S0 {S S' : ca_St} {t : Nat} (h : ca_N (S 6)) (hs : ca_S0 S t S') : ca_N (S' 6) := by
  rcases hs with ⟨q, -, -, -, rfl⟩ | ⟨-, rfl⟩
  · exact ca_N_wb h q
  · exact h
theorem ca_N_S1 {S S' : ca_St} {t : Nat} (h : ca_N (S 6)) (hs : ca_S1 S t S') : ca_N (S' 6) := by
  rcases hs with ⟨q, -, -, -, rfl⟩ | ⟨-, rfl⟩
  · exact ca_N_dr h q
  · exact h
theorem ca_N_BR {S S' : ca_St} {k t q : Nat} (h : ca_N (S 6)) (ht : t < 16) (hp : t % 2 = k % 2) (hb : ca_BR S k t q S') : ca_N (S' 6) := by
  obtain ⟨hq, ⟨-, rfl⟩ | ⟨-, -, ⟨b, -, -, -, rfl⟩ | ⟨-, rfl⟩⟩⟩ := hb
  · exact h
  · exact ca_N_updT (ca_N_upd (ca_N_dr (S := ca_tick S) h q) b) q t ht (by omega)
  · exact ca_N_updT (ca_N_dr (S := ca_tick S) h q) q t ht (by omega)
/-- a translation entered -/
def ca_fe (S : ca_St) (q j : Nat) : ca_St := ca_wr (ca_wr (ca_wr (ca_wr (ca_wr S 10 q (nI j)) 11 q (S 1 j)) 12 q (vp_nar .boolean (S 2 j))) 13 q (vp_nar .boolean (S 4 j))) 3 j 1
def ca_TR (S : ca_St) (j : Nat) (r : Int32) (S' : ca_St) : Prop := (∃ q : Nat, q < 4 ∧ S 10 q = nI j ∧ r = nI q ∧ S' = ca_es (ca_tick S) q) ∨ (S 1 j < 0 ∧ r = -2 ∧ S' = ca_tick S) ∨ (¬ S 1 j < 0 ∧ ∃ q : Nat, q < 4 ∧ r = nI q ∧ S' = ca_es (ca_fe (ca_tick S) q j) q)
def ca_TF (T : ca_St) (q j : Nat) (r : Int32) (S' : ca_St) : Prop := (T 12 q = 0 ∧ r = -3 ∧ S' = T) ∨ (¬ T 12 q = 0 ∧ ¬ T 13 q = 0 ∧ r = nI q ∧ S' = T) ∨ (¬ T 12 q = 0 ∧ T 13 q = 0 ∧ r = nI q ∧ S' = ca_wr (ca_wr T 13 q 1) 4 j 1)
def ca_TW (S : ca_St) (j : Nat) (r : Int32) (S' : ca_St) : Prop := (∃ q : Nat, q < 4 ∧ S 10 q = nI j ∧ ca_TF (ca_es (ca_tick S) q) q j r S') ∨ (S 1 j < 0 ∧ r = -2 ∧ S' = ca_tick S) ∨ (¬ S 1 j < 0 ∧ S 2 j = 0 ∧ r = -3 ∧ S' = ca_tick S) ∨ (¬ S 1 j < 0 ∧ ¬ S 2 j = 0 ∧ ∃ q : Nat, q < 4 ∧ ca_TF (ca_es (ca_fe (ca_tick S) q j) q) q j r S')
def ca_F (f : Nat → Int32) : Prop := ∀ j : Nat, j < 16 → f j = -2 ∨ ∃ k : Nat, k < 8 ∧ f j = nI k
def ca_E (S : ca_St) : Prop := ∀ q : Nat, q < 4 → ∀ j : Nat, j < 16 → S 10 q = nI j → ∃ k : Nat, k < 8 ∧ S 11 q = nI k
theorem ca_F_ge {f : Nat → Int32} (h : ca_F f) {j : Nat} (hj : j < 16) (h0 : ¬ f j < 0) : ∃ k : Nat, k < 8 ∧ f j = nI k := by
  rcases h j hj with e | e
  · exact absurd (by rw [e]; exact ca_m2) h0
  · exact e
theorem ca_F_ne {f : Nat → Int32} (h : ca_F f) {j : Nat} (hj : j < 16) (h0 : ¬ f j = -2) : ∃ k : Nat, k < 8 ∧ f j = nI k := by
  rcases h j hj with e | e
  · exact absurd e h0
  · exact e
/-- behind translate: the entry's frame is a number -/
theorem ca_TR_f {S S' : ca_St} {j : Nat} {r : Int32} (hj : j < 16) (hF : ca_F (S 1)) (hE : ca_E S) (h : ca_TR S j r S') : (r < 0) ∨ ∃ q k : Nat, q < 4 ∧ k < 8 ∧ r = nI q ∧ S' 11 q = nI k := by
  rcases h with ⟨q, hq, e, rfl, rfl⟩ | ⟨-, rfl, -⟩ | ⟨h0, q, hq, rfl, rfl⟩
  · obtain ⟨k, hk, e2⟩ := hE q hq j hj e
    exact Or.inr ⟨q, k, hq, hk, rfl, e2⟩
  · exact Or.inl ca_m2
  · obtain ⟨k, hk, e2⟩ := ca_F_ge hF hj h0
    refine Or.inr ⟨q, k, hq, hk, rfl, ?_⟩
    show upd (S 11) q (S 1 j) q = nI k
    rw [pk_us]; exact e2
theorem ca_TF_f {T S' : ca_St} {q j : Nat} {r : Int32} (hq : q < 4) (h : ca_TF T q j r S') : (r < 0) ∨ (r = nI q ∧ S' 11 q = T 11 q) := by
  rcases h with ⟨-, rfl, -⟩ | ⟨-, -, rfl, rfl⟩ | ⟨-, -, rfl, rfl⟩
  · exact Or.inl ca_m3
  · exact Or.inr ⟨rfl, rfl⟩
  · exact Or.inr ⟨rfl, rfl⟩
theorem ca_TW_f {S S' : ca_St} {j : Nat} {r : Int32} (hj : j < 16) (hF : ca_F (S 1)) (hE : ca_E S) (h : ca_TW S j r S') : (r < 0) ∨ ∃ q k : Nat, q < 4 ∧ k < 8 ∧ r = nI q ∧ S' 11 q = nI k := by
  rcases h with ⟨q, hq, e, h⟩ | ⟨-, rfl, -⟩ | ⟨-, -, rfl, -⟩ | ⟨h0, -, q, hq, h⟩
  · rcases ca_TF_f hq h with h | ⟨h, h2⟩
    · exact Or.inl h
    · obtain ⟨k, hk, e2⟩ := hE q hq j hj e
      exact Or.inr ⟨q, k, hq, hk, h, by rw [h2]; exact e2⟩
  · exact Or.inl ca_m2
  · exact Or.inl ca_m3
  · rcases ca_TF_f hq h with h | ⟨h, h2⟩
    · exact Or.inl h
    · obtain ⟨k, hk, e2⟩ := ca_F_ge hF hj h0
      refine Or.inr ⟨q, k, hq, hk, h, ?_⟩
      rw [h2]
      show upd (S 11) q (S 1 j) q = nI k
      rw [pk_us]; exact e2
theorem ca_TF_6 {T S' : ca_St} {q j : Nat} {r : Int32} (h : ca_TF T q j r S') : S' 6 = T 6 := by
  rcases h with ⟨-, -, rfl⟩ | ⟨-, -, -, rfl⟩ | ⟨-, -, -, rfl⟩ <;> rfl
theorem ca_TR_6 {S S' : ca_St} {j : Nat} {r : Int32} (h : ca_TR S j r S') : S' 6 = S 6 := by
  rcases h with ⟨q, -, -, -, rfl⟩ | ⟨-, -, rfl⟩ | ⟨-, q, -, -, rfl⟩ <;> rfl
theorem ca_TW_6 {S S' : ca_St} {j : Nat} {r : Int32} (h : ca_TW S j r S') : S' 6 = S 6 := by
  rcases h with ⟨q, -, -, h⟩ | ⟨-, -, rfl⟩ | ⟨-, -, -, rfl⟩ | ⟨-, -, q, -, h⟩
  · have h6 := ca_TF_6 h
    exact h6
  · rfl
  · rfl
  · have h6 := ca_TF_6 h
    exact h6
def ca_zb (x : Int32) : Int32 := if x = 0 then 0 else 1
theorem ca_zb_0 {x : Int32} (h : x = 0) : ca_zb x = 0 := if_pos h
theorem ca_zb_1 {x : Int32} (h : ¬ x = 0) : ca_zb x = 1 := if_neg h
def ca_mk (a b : Int32) : Int32 := (if a = 0 then 0 else 1) + (if b = 0 then 0 else 2)
theorem ca_mk_00 {a b : Int32} (h : a = 0) (k : b = 0) : ca_mk a b = 0 := by rw [ca_mk, if_pos h, if_pos k]; decide +kernel
theorem ca_mk_01 {a b : Int32} (h : a = 0) (k : ¬ b = 0) : ca_mk a b = 2 := by rw [ca_mk, if_pos h, if_neg k]; decide +kernel
theorem ca_mk_10 {a b : Int32} (h : ¬ a = 0) (k : b = 0) : ca_mk a b = 1 := by rw [ca_mk, if_neg h, if_pos k]; decide +kernel
theorem ca_mk_11 {a b : Int32} (h : ¬ a = 0) (k : ¬ b = 0) : ca_mk a b = 3 := by rw [ca_mk, if_neg h, if_neg k]; decide +kernel
theorem ca_mk_ge (a b : Int32) : (0 : Int32) ≤ ca_mk a b := by
  by_cases h : a = 0 <;> by_cases k : b = 0
  · rw [ca_mk_00 h k]; decide +kernel
  · rw [ca_mk_01 h k]; decide +kernel
  · rw [ca_mk_10 h k]; decide +kernel
  · rw [ca_mk_11 h k]; decide +kernel
/-- pages with the frame f among n; dirty ones; words that differ -/
def ca_sw (a : Nat → Int32) (f : Int32) : Nat → Int32
  | 0 => 0
  | n + 1 => if a n = f then ca_sw a f n + 1 else ca_sw a f n
def ca_dp (a : Nat → Int32) : Nat → Int32
  | 0 => 0
  | n + 1 => if a n = 0 then ca_dp a n else ca_dp a n + 1
def ca_cd (a : Nat → Int32) (f g : Nat) : Nat → Int32
  | 0 => 0
  | n + 1 => if a (f + n) = a (g + n) then ca_cd a f g n else ca_cd a f g n + 1
theorem ca_sw_t {a : Nat → Int32} {f : Int32} {n : Nat} (h : a n = f) : ca_sw a f n + 1 = ca_sw a f (n + 1) := by
  show _ = (if a n = f then ca_sw a f n + 1 else ca_sw a f n)
  rw [if_pos h]
theorem ca_sw_f {a : Nat → Int32} {f : Int32} {n : Nat} (h : ¬ a n = f) : ca_sw a f n = ca_sw a f (n + 1) := by
  show _ = (if a n = f then ca_sw a f n + 1 else ca_sw a f n)
  rw [if_neg h]
theorem ca_dp_t {a : Nat → Int32} {n : Nat} (h : a n = 0) : ca_dp a n = ca_dp a (n + 1) := by
  show _ = (if a n = 0 then ca_dp a n else ca_dp a n + 1)
  rw [if_pos h]
theorem ca_dp_f {a : Nat → Int32} {n : Nat} (h : ¬ a n = 0) : ca_dp a n + 1 = ca_dp a (n + 1) := by
  show _ = (if a n = 0 then ca_dp a n else ca_dp a n + 1)
  rw [if_neg h]
theorem ca_cd_t {a : Nat → Int32} {f g n : Nat} (h : a (f + n) = a (g + n)) : ca_cd a f g n = ca_cd a f g (n + 1) := by
  show _ = (if a (f + n) = a (g + n) then ca_cd a f g n else ca_cd a f g n + 1)
  rw [if_pos h]
theorem ca_cd_f {a : Nat → Int32} {f g n : Nat} (h : ¬ a (f + n) = a (g + n)) : ca_cd a f g n + 1 = ca_cd a f g (n + 1) := by
  show _ = (if a (f + n) = a (g + n) then ca_cd a f g n else ca_cd a f g n + 1)
  rw [if_neg h]
def ca_shw (M : ca_St) (j : Nat) (f on : Int32) : ca_St := ca_wr (ca_wr (ca_wr (ca_wr M 1 j f) 2 j on) 3 j 0) 4 j 0
/-! answers: X of VipCache, M of VipCacheModel -/
def ca_Xmap (v f on : Int32) (S : ca_St) (r : Int32) (S' : ca_St) : Prop := (¬ (ca_pg v ∧ ca_e8 f) ∧ r = -1 ∧ S' = S) ∨ ∃ j k : Nat, j < 16 ∧ k < 8 ∧ v = nI j ∧ f = nI k ∧ r = S 1 j ∧ S' = ca_sh (nI j) (ca_shw S j (nI k) (ca_zb on)) 4
def ca_Mmap (v f on : Int32) (S : ca_St) (r : Int32) (S' : ca_St) : Prop := (¬ (ca_pg v ∧ ca_e8 f) ∧ r = -1 ∧ S' = S) ∨ ∃ j k : Nat, j < 16 ∧ k < 8 ∧ v = nI j ∧ f = nI k ∧ r = S 1 j ∧ S' = ca_shw S j (nI k) (ca_zb on)
def ca_Xunmap (v : Int32) (S : ca_St) (r : Int32) (S' : ca_St) : Prop := (¬ ca_pg v ∧ r = -1 ∧ S' = S) ∨ ∃ j : Nat, j < 16 ∧ v = nI j ∧ r = S 1 j ∧ S' = ca_sh (nI j) (ca_wr (ca_wr (ca_wr S 1 j (-2)) 3 j 0) 4 j 0) 4
def ca_Munmap (v : Int32) (S : ca_St) (r : Int32) (S' : ca_St) : Prop := (¬ ca_pg v ∧ r = -1 ∧ S' = S) ∨ ∃ j : Nat, j < 16 ∧ v = nI j ∧ r = S 1 j ∧ S' = ca_shw S j (-2) 0
def ca_frameOf (v : Int32) (S : ca_St) (r : Int32) (S' : ca_St) : Prop := (¬ ca_pg v ∧ r = -1 ∧ S' = S) ∨ ∃ j : Nat, j < 16 ∧ v = nI j ∧ r = S 1 j ∧ S' = S
def ca_Xallow (v on : Int32) (S : ca_St) (r : Int32) (S' : ca_St) : Prop := (¬ ca_pg v ∧ r = -1 ∧ S' = S) ∨ ∃ j : Nat, j < 16 ∧ v = nI j ∧ ((S 1 j < 0 ∧ r = -2 ∧ S' = S) ∨ (¬ S 1 j < 0 ∧ r = ca_zb (S 2 j) ∧ S' = ca_sh (nI j) (ca_wr S 2 j (ca_zb on)) 4))
def ca_Mallow (v on : Int32) (S : ca_St) (r : Int32) (S' : ca_St) : Prop := (¬ ca_pg v ∧ r = -1 ∧ S' = S) ∨ ∃ j : Nat, j < 16 ∧ v = nI j ∧ ((S 1 j = -2 ∧ r = -2 ∧ S' = S) ∨ (¬ S 1 j = -2 ∧ r = ca_zb (S 2 j) ∧ S' = ca_wr S 2 j (ca_zb on)))
def ca_Xload (v w : Int32) (S : ca_St) (r : Int32) (S' : ca_St) : Prop := (¬ (ca_pg v ∧ ca_e8 w) ∧ r = 0 ∧ S' = ca_wr S 15 0 (-1)) ∨ ∃ j u : Nat, j < 16 ∧ u < 8 ∧ v = nI j ∧ w = nI u ∧ ∃ (r1 : Int32) (T : ca_St), ca_TR S j r1 T ∧ ((r1 < 0 ∧ r = 0 ∧ S' = ca_wr T 15 0 r1) ∨ ∃ q k i : Nat, q < 4 ∧ k < 8 ∧ r1 = nI q ∧ T 11 q = nI k ∧ ca_BR (ca_wr T 15 0 0) (j % 4 * 2 + u / 4) (k * 2 + u / 4) i S' ∧ r = S' 9 (i * 4 + u % 4))
def ca_Mload (v w : Int32) (S : ca_St) (r : Int32) (S' : ca_St) : Prop := (¬ (ca_pg v ∧ ca_e8 w) ∧ r = 0 ∧ S' = ca_wr S 5 0 (-1)) ∨ ∃ j u : Nat, j < 16 ∧ u < 8 ∧ v = nI j ∧ w = nI u ∧ ((S 1 j = -2 ∧ r = 0 ∧ S' = ca_wr S 5 0 (-2)) ∨ ∃ k : Nat, k < 8 ∧ S 1 j = nI k ∧ r = S 0 (8 * k + u) ∧ S' = ca_wr (ca_wr S 5 0 0) 3 j 1)
def ca_Xopen (v w : Int32) (S : ca_St) (r : Int32) (S' : ca_St) : Prop := (¬ (ca_pg v ∧ ca_e8 w) ∧ r = -1 ∧ S' = ca_wr S 15 0 (-1)) ∨ ∃ j u : Nat, j < 16 ∧ u < 8 ∧ v = nI j ∧ w = nI u ∧ ∃ (r1 : Int32) (T : ca_St), ca_TW S j r1 T ∧ ((r1 < 0 ∧ r = r1 ∧ S' = ca_wr T 15 0 r1) ∨ ∃ (q k i : Nat) (U : ca_St), q < 4 ∧ k < 8 ∧ r1 = nI q ∧ T 11 q = nI k ∧ ca_BR (ca_wr T 15 0 0) (j % 4 * 2 + u / 4) (k * 2 + u / 4) i U ∧ i < 16 ∧ r = nI (i * 4 + u % 4) ∧ S' = ca_wr U 7 i 1)
theorem ca_Xopen_r {v w : Int32} {S S' : ca_St} {r : Int32} (h : ca_Xopen v w S r S') : r < 0 ∨ ∃ n : Nat, n < 64 ∧ r = nI n := by
  rcases h with ⟨-, rfl, -⟩ | ⟨j, u, -, hu, -, -, r1, T, -, ⟨h, rfl, -⟩ | ⟨q, k, i, U, -, -, -, -, -, hi, rfl, -⟩⟩
  · exact Or.inl ca_m1
  · exact Or.inl h
  · exact Or.inr ⟨_, by omega, rfl⟩
def ca_Xstore (v w x : Int32) (S : ca_St) (r : Int32) (S' : ca_St) : Prop := ∃ (r1 : Int32) (T : ca_St), ca_Xopen v w S r1 T ∧ ((r1 < 0 ∧ r = r1 ∧ S' = T) ∨ ∃ n : Nat, n < 64 ∧ r1 = nI n ∧ r = 0 ∧ S' = ca_wr T 9 n x)
def ca_Xtrade (v w x : Int32) (S : ca_St) (r : Int32) (S' : ca_St) : Prop := ∃ (r1 : Int32) (T : ca_St), ca_Xopen v w S r1 T ∧ ((r1 < 0 ∧ r = 0 ∧ S' = T) ∨ ∃ n : Nat, n < 64 ∧ r1 = nI n ∧ r = T 9 n ∧ S' = ca_wr T 9 n x)
/-- mayStore: the refusal z is kept as the fault -/
def ca_MS (v w : Int32) (S : ca_St) (r : Int32) (S' : ca_St) : Prop := (¬ (ca_pg v ∧ ca_e8 w) ∧ r = 0 ∧ S' = ca_wr S 5 0 (-1)) ∨ ∃ j u : Nat, j < 16 ∧ u < 8 ∧ v = nI j ∧ w = nI u ∧ ((S 1 j = -2 ∧ r = 0 ∧ S' = ca_wr S 5 0 (-2)) ∨ (¬ S 1 j = -2 ∧ S 2 j = 0 ∧ r = 0 ∧ S' = ca_wr S 5 0 (-3)) ∨ ∃ k : Nat, k < 8 ∧ S 1 j = nI k ∧ ¬ S 2 j = 0 ∧ r = 1 ∧ S' = ca_wr (ca_wr (ca_wr S 5 0 0) 3 j 1) 4 j 1)
def ca_Mstore (v w x : Int32) (S : ca_St) (r : Int32) (S' : ca_St) : Prop := ∃ (r1 : Int32) (T : ca_St), ca_MS v w S r1 T ∧ ((r1 = 0 ∧ r = T 5 0 ∧ S' = T) ∨ (r1 = 1 ∧ ∃ j u k : Nat, j < 16 ∧ u < 8 ∧ k < 8 ∧ v = nI j ∧ w = nI u ∧ T 1 j = nI k ∧ r = T 5 0 ∧ S' = ca_wr T 0 (8 * k + u) x))
def ca_Mtrade (v w x : Int32) (S : ca_St) (r : Int32) (S' : ca_St) : Prop := ∃ (r1 : Int32) (T : ca_St), ca_MS v w S r1 T ∧ ((r1 = 0 ∧ r = 0 ∧ S' = T) ∨ (r1 = 1 ∧ ∃ j u k : Nat, j < 16 ∧ u < 8 ∧ k < 8 ∧ v = nI j ∧ w = nI u ∧ T 1 j = nI k ∧ r = T 0 (8 * k + u) ∧ S' = ca_wr T 0 (8 * k + u) x))
theorem ca_MS_r {v w : Int32} {S S' : ca_St} {r : Int32} (h : ca_MS v w S r S') : r = 0 ∨ (r = 1 ∧ ∃ j u k : Nat, j < 16 ∧ u < 8 ∧ k < 8 ∧ v = nI j ∧ w = nI u ∧ S' 1 j = nI k) := by
  rcases h with ⟨-, rfl, -⟩ | ⟨j, u, hj, hu, e1, e2, ⟨-, rfl, -⟩ | ⟨-, -, rfl, -⟩ | ⟨k, hk, e3, -, rfl, rfl⟩⟩
  · exact Or.inl rfl
  · exact Or.inl rfl
  · exact Or.inl rfl
  · exact Or.inr ⟨rfl, j, u, k, hj, hu, hk, e1, e2, e3⟩
def ca_Xword (f w : Int32) (S : ca_St) (r : Int32) (S' : ca_St) : Prop := (¬ (ca_e8 f ∧ ca_e8 w) ∧ r = 0 ∧ S' = S) ∨ ∃ k u : Nat, k < 8 ∧ u < 8 ∧ f = nI k ∧ w = nI u ∧ ca_S0 S (k * 2 + u / 4) S' ∧ r = S' 0 (k * 8 + u)
def ca_Mword (f w : Int32) (S : ca_St) (r : Int32) (S' : ca_St) : Prop := (¬ (ca_e8 f ∧ ca_e8 w) ∧ r = 0 ∧ S' = S) ∨ ∃ k u : Nat, k < 8 ∧ u < 8 ∧ f = nI k ∧ w = nI u ∧ r = S 0 (8 * k + u) ∧ S' = S
def ca_XsetWord (f w x : Int32) (S : ca_St) (r : Int32) (S' : ca_St) : Prop := (¬ (ca_e8 f ∧ ca_e8 w) ∧ r = -1 ∧ S' = S) ∨ ∃ k u : Nat, k < 8 ∧ u < 8 ∧ f = nI k ∧ w = nI u ∧ r = 0 ∧ ∃ T : ca_St, ca_S1 S (k * 2 + u / 4) T ∧ S' = ca_wr T 0 (k * 8 + u) x
def ca_MsetWord (f w x : Int32) (S : ca_St) (r : Int32) (S' : ca_St) : Prop := (¬ (ca_e8 f ∧ ca_e8 w) ∧ r = -1 ∧ S' = S) ∨ ∃ k u : Nat, k < 8 ∧ u < 8 ∧ f = nI k ∧ w = nI u ∧ r = 0 ∧ S' = ca_wr S 0 (8 * k + u) x
/-- copyFrame's first loop: n halves of the two frames brought up to date -/
def ca_CF (f g : Nat) (S : ca_St) : Nat → ca_St → Prop
  | 0, T => T = S
  | n + 1, T => ∃ T1 T2 : ca_St, ca_CF f g S n T1 ∧ ca_S0 T1 (g * 2 + n) T2 ∧ ca_S1 T2 (f * 2 + n) T
theorem ca_N_CF {f g : Nat} {S : ca_St} (h : ca_N (S 6)) : ∀ (n : Nat) (T : ca_St), ca_CF f g S n T → ca_N (T 6)
  | 0, T, e => by
    have e : T = S := e
    rw [e]; exact h
  | n + 1, T, e => by
    obtain ⟨T1, T2, h1, h2, h3⟩ := e
    exact ca_N_S1 (ca_N_S0 (ca_N_CF h n T1 h1) h2) h3
def ca_XcopyFrame (f g : Int32) (S : ca_St) (r : Int32) (S' : ca_St) : Prop := (¬ (ca_e8 f ∧ ca_e8 g) ∧ r = -1 ∧ S' = S) ∨ ∃ k u : Nat, k < 8 ∧ u < 8 ∧ f = nI k ∧ g = nI u ∧ ∃ T : ca_St, ca_CF k u S 2 T ∧ r = ca_cd (T 0) (k * 8) (u * 8) 8 ∧ S' = ca_cp T 0 (k * 8) 0 (u * 8) 8
def ca_McopyFrame (f g : Int32) (S : ca_St) (r : Int32) (S' : ca_St) : Prop := (¬ (ca_e8 f ∧ ca_e8 g) ∧ r = -1 ∧ S' = S) ∨ ∃ k u : Nat, k < 8 ∧ u < 8 ∧ f = nI k ∧ g = nI u ∧ r = ca_cd (S 0) (8 * k) (8 * u) 8 ∧ S' = ca_cp S 0 (8 * k) 0 (8 * u) 8
def ca_marks (v : Int32) (S : ca_St) (r : Int32) (S' : ca_St) : Prop := S' = S ∧ ((¬ ca_pg v ∧ r = -1) ∨ ∃ j : Nat, j < 16 ∧ v = nI j ∧ r = ca_mk (S 3 j) (S 4 j))
def ca_XclearMarks (v : Int32) (S : ca_St) (r : Int32) (S' : ca_St) : Prop := (¬ ca_pg v ∧ r = -1 ∧ S' = S) ∨ ∃ j : Nat, j < 16 ∧ v = nI j ∧ r = ca_mk (S 3 j) (S 4 j) ∧ S' = ca_sh (nI j) (ca_wr (ca_wr S 3 j 0) 4 j 0) 4
def ca_MclearMarks (v : Int32) (S : ca_St) (r : Int32) (S' : ca_St) : Prop := (¬ ca_pg v ∧ r = -1 ∧ S' = S) ∨ ∃ j : Nat, j < 16 ∧ v = nI j ∧ r = ca_mk (S 3 j) (S 4 j) ∧ S' = ca_wr (ca_wr S 3 j 0) 4 j 0
def ca_shown (f : Int32) (S : ca_St) (r : Int32) (S' : ca_St) : Prop := S' = S ∧ ((¬ ca_e8 f ∧ r = -1) ∨ (ca_e8 f ∧ r = ca_sw (S 1) f 16))
def ca_Xforget (v : Int32) (S : ca_St) (r : Int32) (S' : ca_St) : Prop := (¬ ca_pg v ∧ r = -1 ∧ S' = S) ∨ ∃ j : Nat, j < 16 ∧ v = nI j ∧ r = 0 ∧ S' = ca_sh (nI j) S 4
def ca_Mforget (v : Int32) (S : ca_St) (r : Int32) (S' : ca_St) : Prop := S' = S ∧ ((¬ ca_pg v ∧ r = -1) ∨ (ca_pg v ∧ r = 0))
def ca_Xwarm (f : Int32) (S : ca_St) (r : Int32) (S' : ca_St) : Prop := (¬ ca_e8 f ∧ r = -1 ∧ S' = S) ∨ ∃ k : Nat, k < 8 ∧ f = nI k ∧ r = 0 ∧ ∃ (q1 q2 : Nat) (T : ca_St), ca_BR S (k % 4 * 2) (k * 2) q1 T ∧ ca_BR T (k % 4 * 2 + 1) (k * 2 + 1) q2 S'
def ca_Mwarm (f : Int32) (S : ca_St) (r : Int32) (S' : ca_St) : Prop := S' = S ∧ ((¬ ca_e8 f ∧ r = -1) ∨ (ca_e8 f ∧ r = 0))
end
section
set_option maxHeartbeats 4000000 in
set_option maxRecDepth 100000 in
theorem ca_cX_badPage (l : Launch) (D : va_G) (h : Nat) (a : Nat → Nat) (d : Nat → ClassId) (S : ca_St) (v : Int32) : ca_Met l yX0_badPage cX0_badPage 2 (some .boolean) (ca_r 0 0) D (ca_X h a d) (ca_TX d) [.ref h, .int v] S (ca_P0 (ca_pg v) S) := by
  refine ca_start (by decide) (Nat.le_of_ble_eq_true rfl) ?_
  intro p e s m args below meth c A ls C X hl
  have hx := C.1
  have hb := C.2.1
  have hl : lv_has ls 2 [(0, .ref h), (1, .int v)] := hl
  refine lv_iload_n hx hb dX0_badPage_0 rfl (lv_at hl 1 rfl) ?_
  refine lv_if_lt (tgt := 10) hx hb dX0_badPage_1 (by decide) (fun c_1 => ?_) (fun c_1 => ?_)
  · skip
    refine lv_iconst (v := nI 1) hx hb dX0_badPage_10 (by decide +kernel) ?_
    refine lv_goto (tgt := 15) hx hb dX0_badPage_11 (by decide) ?_
    exact ca_zret C X ca_z1 (⟨rfl, Or.inr ⟨rfl, ca_pg_neg c_1⟩⟩) dX0_badPage_15
  · skip
    refine lv_iload_n hx hb dX0_badPage_4 rfl (lv_at hl 1 rfl) ?_
    refine lv_bipush (v := nI 16) hx hb dX0_badPage_5 (by decide +kernel) ?_
    refine lv_icmp_lt (tgt := 14) hx hb dX0_badPage_7 (by decide) (fun c_7 => ?_) (fun c_7 => ?_)
    · skip
      refine lv_iconst (v := nI 0) hx hb dX0_badPage_14 (by decide +kernel) ?_
      exact ca_zret C X ca_z0 (⟨rfl, Or.inl ⟨rfl, ca_pg_lt c_1 c_7⟩⟩) dX0_badPage_15
    · skip
      refine lv_iconst (v := nI 1) hx hb dX0_badPage_10 (by decide +kernel) ?_
      refine lv_goto (tgt := 15) hx hb dX0_badPage_11 (by decide) ?_
      exact ca_zret C X ca_z1 (⟨rfl, Or.inr ⟨rfl, ca_pg_nlt c_7⟩⟩) dX0_badPage_15
set_option maxHeartbeats 4000000 in
set_option maxRecDepth 100000 in
theorem ca_cX_badEight (l : Launch) (D : va_G) (h : Nat) (a : Nat → Nat) (d : Nat → ClassId) (S : ca_St) (v : Int32) : ca_Met l yX0_badEight cX0_badEight 2 (some .boolean) (ca_r 0 0) D (ca_X h a d) (ca_TX d) [.ref h, .int v] S (ca_P0 (ca_e8 v) S) := by
  refine ca_start (by decide) (Nat.le_of_ble_eq_true rfl) ?_
  intro p e s m args below meth c A ls C X hl
  have hx := C.1
  have hb := C.2.1
  have hl : lv_has ls 2 [(0, .ref h), (1, .int v)] := hl
  refine lv_iload_n hx hb dX0_badEight_0 rfl (lv_at hl 1 rfl) ?_
  refine lv_if_lt (tgt := 10) hx hb dX0_badEight_1 (by decide) (fun c_1 => ?_) (fun c_1 => ?_)
  · skip
    refine lv_iconst (v := nI 1) hx hb dX0_badEight_10 (by decide +kernel) ?_
    refine lv_goto (tgt := 15) hx hb dX0_badEight_11 (by decide) ?_
    exact ca_zret C X ca_z1 (⟨rfl, Or.inr ⟨rfl, ca_e8_neg c_1⟩⟩) dX0_badEight_15
  · skip
    refine lv_iload_n hx hb dX0_badEight_4 rfl (lv_at hl 1 rfl) ?_
    refine lv_bipush (v := nI 7) hx hb dX0_badEight_5 (by decide +kernel) ?_
    refine lv_icmp_le (tgt := 14) hx hb dX0_badEight_7 (by decide) (fun c_7 => ?_) (fun c_7 => ?_)
    · skip
      refine lv_iconst (v := nI 0) hx hb dX0_badEight_14 (by decide +kernel) ?_
      exact ca_zret C X ca_z0 (⟨rfl, Or.inl ⟨rfl, ca_e8_le c_1 c_7⟩⟩) dX0_badEight_15
    · skip
      refine lv_iconst (v := nI 1) hx hb dX0_badEight_10 (by decide +kernel) ?_
      refine lv_goto (tgt := 15) hx hb dX0_badEight_11 (by decide) ?_
      exact ca_zret C X ca_z1 (⟨rfl, Or.inr ⟨rfl, ca_e8_nle c_7⟩⟩) dX0_badEight_15
set_option maxHeartbeats 4000000 in
set_option maxRecDepth 100000 in
theorem ca_cX_shoot (l : Launch) (D : va_G) (h : Nat) (a : Nat → Nat) (d : Nat → ClassId) (S : ca_St) (v : Int32) : ca_MeV l yX0_shoot cX0_shoot 3 (ca_r 0 0) D (ca_X h a d) (ca_TX d) [.ref h, .int v] S (fun S' => S' = ca_sh v S 4) := by
  refine ca_startV (by decide) (Nat.le_of_ble_eq_true rfl) ?_
  intro p e s m args below meth c A ls C X hl
  have hx := C.1
  have hb := C.2.1
  have hl : lv_has ls 3 [(0, .ref h), (1, .int v)] := hl
  refine lv_iconst (v := nI 0) hx hb dX0_shoot_0 (by decide +kernel) ?_
  refine lv_istore_n (lv' := [(2, .int (nI 0)), (0, .ref h), (1, .int v)]) hx hb dX0_shoot_1 rfl hl (by decide) rfl (fun ls hl => ?_)
  have loop_2 : ∀ (nn k : Nat), 4 - k = nn → k ≤ 4 → ∀ (H : Heap) (locs : List Loc) (ls : Array Slot), ca_I D (ca_X h a d) (ca_TX d) A s H locs (ca_sh v S k) → lv_has ls 3 [(0, .ref h), (1, .int v), (2, .int (nI k))] → W p l e (ca_r 0 0) s m args below meth c H locs 0 0 (ca_GV D (ca_X h a d) (ca_TX d) (fun S' => S' = ca_sh v S 4) A below args s) (F0 m 2 ls []) := by
    intro nn
    induction nn using Nat.strongRecOn with
    | _ nn ih_2 =>
      intro k hnn hk_2 H locs ls X hl
      refine lv_iload_n hx hb dX0_shoot_2 rfl (lv_at hl 2 rfl) ?_
      refine lv_iconst (v := nI 4) hx hb dX0_shoot_3 (by decide +kernel) ?_
      refine ca_geN (i := k) (n := 4) (tgt := 30) hx hb (by omega) (by omega) dX0_shoot_4 (by decide) (fun c_4 => ?_) (fun c_4 => ?_)
      · skip
        obtain rfl : k = 4 := by omega
        exact ca_vret C X rfl dX0_shoot_30
      · skip
        refine lv_aload_n hx hb dX0_shoot_7 rfl (lv_at hl 0 rfl) ?_
        refine ca_gX10 C rfl X dX0_shoot_8 ?_
        refine lv_iload_n hx hb dX0_shoot_11 rfl (lv_at hl 2 rfl) ?_
        refine ca_lX10 (j := k) (v := (ca_sh v S k) 10 k) C X (by omega) rfl dX0_shoot_12 ?_
        refine lv_iload_n hx hb dX0_shoot_13 rfl (lv_at hl 1 rfl) ?_
        refine lv_icmp_ne (tgt := 24) hx hb dX0_shoot_14 (by decide) (fun c_14 => ?_) (fun c_14 => ?_)
        · skip
          refine lv_iinc (v := nI (k + 1)) (lv' := [(2, .int (nI (k + 1))), (0, .ref h), (1, .int v)]) hx hb dX0_shoot_24 hl (k := 2) rfl (ca_inc k) (by decide) rfl (fun ls hl => ?_)
          refine lv_goto (tgt := 2) hx hb dX0_shoot_27 (by decide) ?_
          exact ih_2 (4 - (k + 1)) (by omega) (k + 1) rfl (by omega) _ _ _ (by rw [← ca_sh_f c_14]; exact X) (lv_sub hl [1, 2, 0] rfl)
        · skip
          refine lv_aload_n hx hb dX0_shoot_17 rfl (lv_at hl 0 rfl) ?_
          refine ca_gX10 C rfl X dX0_shoot_18 ?_
          refine lv_iload_n hx hb dX0_shoot_21 rfl (lv_at hl 2 rfl) ?_
          refine lv_iconst (v := (-1)) hx hb dX0_shoot_22 (by decide +kernel) ?_
          refine ca_sX10 (j := k) (x := (-1)) C X (by omega) dX0_shoot_23 (fun H locs X => ?_)
          refine lv_iinc (v := nI (k + 1)) (lv' := [(2, .int (nI (k + 1))), (0, .ref h), (1, .int v)]) hx hb dX0_shoot_24 hl (k := 2) rfl (ca_inc k) (by decide) rfl (fun ls hl => ?_)
          refine lv_goto (tgt := 2) hx hb dX0_shoot_27 (by decide) ?_
          exact ih_2 (4 - (k + 1)) (by omega) (k + 1) rfl (by omega) _ _ _ (by rw [← ca_sh_t c_14]; exact X) (lv_sub hl [1, 2, 0] rfl)
  exact loop_2 4 0 rfl (Nat.zero_le _) _ _ _ X (lv_sub hl [1, 2, 0] rfl)
set_option maxHeartbeats 4000000 in
set_option maxRecDepth 100000 in
theorem ca_cX_map (l : Launch) (D : va_G) (h : Nat) (a : Nat → Nat) (d : Nat → ClassId) (S : ca_St) (v f on : Int32) : ca_Met l yX0_map cX0_map 5 (some .int) (ca_r 1 22) D (ca_X h a d) (ca_TX d) [.ref h, .int v, .int f, .int on] S (ca_Xmap v f on S) := by
  refine ca_start (by decide) (Nat.le_of_ble_eq_true rfl) ?_
  intro p e s m args below meth c A ls C X hl
  have hx := C.1
  have hb := C.2.1
  have hl : lv_has ls 5 [(0, .ref h), (1, .int v), (2, .int f), (3, .int on)] := hl
  refine lv_aload_n hx hb dX0_map_0 rfl (lv_at hl 0 rfl) ?_
  refine lv_iload_n hx hb dX0_map_1 rfl (lv_at hl 1 rfl) ?_
  refine ca_calli (As := [.int v]) (rest := []) C (ca_cX_badPage l D h a d S v) (cwV 1 C.2.2.2.2.1 (lw_V q84 q86 qs0 q19 q87) rfl rfl rfl (by decide +kernel) ⟨Nat.le_of_ble_eq_true rfl, Nat.le_of_ble_eq_true rfl⟩) ca_rcX X rfl hl.1 rfl (Nat.le_of_ble_eq_true rfl) dX0_map_2 ⟨Nat.le_refl _, Nat.le_refl _⟩ (fun r_2 S_2 H locs hp_2 X => ?_)
  obtain ⟨hS_2, hp_2⟩ := hp_2
  rw [hS_2] at X
  rcases hp_2 with ⟨rfl, j, hj, rfl⟩ | ⟨rfl, hbv⟩
  · skip
    refine lv_if_ne (tgt := 16) hx hb dX0_map_5 (by decide) (fun c_5 => absurd rfl c_5) (fun c_5 => ?_)
    refine lv_aload_n hx hb dX0_map_8 rfl (lv_at hl 0 rfl) ?_
    refine lv_iload_n hx hb dX0_map_9 rfl (lv_at hl 2 rfl) ?_
    refine ca_calli (As := [.int f]) (rest := []) C (ca_cX_badEight l D h a d S f) (cwV 1 C.2.2.2.2.1 (lw_V q88 q90 qs1 q19 q91) rfl rfl rfl (by decide +kernel) ⟨Nat.le_of_ble_eq_true rfl, Nat.le_of_ble_eq_true rfl⟩) ca_rcX X rfl hl.1 rfl (Nat.le_of_ble_eq_true rfl) dX0_map_10 ⟨Nat.le_refl _, Nat.le_refl _⟩ (fun r_10 S_10 H locs hp_10 X => ?_)
    obtain ⟨hS_10, hp_10⟩ := hp_10
    rw [hS_10] at X
    rcases hp_10 with ⟨rfl, k, hk, rfl⟩ | ⟨rfl, hbf⟩
    · skip
      refine lv_if_eq (tgt := 18) hx hb dX0_map_13 (by decide) (fun c_13 => ?_) (fun c_13 => absurd rfl c_13)
      refine lv_aload_n hx hb dX0_map_18 rfl (lv_at hl 0 rfl) ?_
      refine ca_gX1 C rfl X dX0_map_19 ?_
      refine lv_iload_n hx hb dX0_map_22 rfl (lv_at hl 1 rfl) ?_
      refine ca_lX1 (j := j) (v := S 1 j) C X (by omega) rfl dX0_map_23 ?_
      refine lv_istore (lv' := [(4, .int (S 1 j)), (0, .ref h), (1, .int (nI j)), (2, .int (nI k)), (3, .int on)]) hx hb dX0_map_24 hl (by decide) rfl (fun ls hl => ?_)
      refine lv_aload_n hx hb dX0_map_26 rfl (lv_at hl 1 rfl) ?_
      refine ca_gX1 C rfl X dX0_map_27 ?_
      refine lv_iload_n hx hb dX0_map_30 rfl (lv_at hl 2 rfl) ?_
      refine lv_iload_n hx hb dX0_map_31 rfl (lv_at hl 3 rfl) ?_
      refine ca_sX1 (j := j) (x := nI k) C X (by omega) dX0_map_32 (fun H locs X => ?_)
      refine lv_aload_n hx hb dX0_map_33 rfl (lv_at hl 1 rfl) ?_
      refine ca_gX2 C rfl X dX0_map_34 ?_
      refine lv_iload_n hx hb dX0_map_37 rfl (lv_at hl 2 rfl) ?_
      refine lv_iload_n hx hb dX0_map_38 rfl (lv_at hl 4 rfl) ?_
      refine lv_if_eq (tgt := 46) hx hb dX0_map_39 (by decide) (fun c_39 => ?_) (fun c_39 => ?_)
      · skip
        refine lv_iconst (v := nI 0) hx hb dX0_map_46 (by decide +kernel) ?_
        refine ca_sX2 (j := j) (x := nI 0) (y := 0) ca_n0 C X (by omega) dX0_map_47 (fun H locs X => ?_)
        refine lv_aload_n hx hb dX0_map_48 rfl (lv_at hl 1 rfl) ?_
        refine ca_gX3 C rfl X dX0_map_49 ?_
        refine lv_iload_n hx hb dX0_map_52 rfl (lv_at hl 2 rfl) ?_
        refine lv_iconst (v := nI 0) hx hb dX0_map_53 (by decide +kernel) ?_
        refine ca_sX3 (j := j) (x := nI 0) (y := 0) ca_n0 C X (by omega) dX0_map_54 (fun H locs X => ?_)
        refine lv_aload_n hx hb dX0_map_55 rfl (lv_at hl 1 rfl) ?_
        refine ca_gX4 C rfl X dX0_map_56 ?_
        refine lv_iload_n hx hb dX0_map_59 rfl (lv_at hl 2 rfl) ?_
        refine lv_iconst (v := nI 0) hx hb dX0_map_60 (by decide +kernel) ?_
        refine ca_sX4 (j := j) (x := nI 0) (y := 0) ca_n0 C X (by omega) dX0_map_61 (fun H locs X => ?_)
        refine lv_aload_n hx hb dX0_map_62 rfl (lv_at hl 1 rfl) ?_
        refine lv_iload_n hx hb dX0_map_63 rfl (lv_at hl 2 rfl) ?_
        refine ca_callv (As := [.int (nI j)]) (rest := []) C (ca_cX_shoot l D h a d (ca_wr (ca_wr (ca_wr (ca_wr S 1 j (nI k)) 2 j 0) 3 j 0) 4 j 0) (nI j)) (cwV 1 C.2.2.2.2.1 (lw_V q92 q94 qs2 q19 q95) rfl rfl rfl (by decide +kernel) ⟨Nat.le_of_ble_eq_true rfl, Nat.le_of_ble_eq_true rfl⟩) ca_rcX X rfl hl.1 rfl (Nat.le_of_ble_eq_true rfl) dX0_map_64 ⟨Nat.le_refl _, Nat.le_refl _⟩ (fun S_64 H locs hp_64 X => ?_)
        obtain rfl := hp_64
        refine lv_iload hx hb dX0_map_67 (lv_at hl 0 rfl) ?_
        exact ca_iret C X (Or.inr ⟨j, k, hj, hk, rfl, rfl, rfl, by rw [ca_zb_0 c_39]; rfl⟩) dX0_map_69
      · skip
        refine lv_iconst (v := nI 1) hx hb dX0_map_42 (by decide +kernel) ?_
        refine lv_goto (tgt := 47) hx hb dX0_map_43 (by decide) ?_
        refine ca_sX2 (j := j) (x := nI 1) (y := 1) ca_n1 C X (by omega) dX0_map_47 (fun H locs X => ?_)
        refine lv_aload_n hx hb dX0_map_48 rfl (lv_at hl 1 rfl) ?_
        refine ca_gX3 C rfl X dX0_map_49 ?_
        refine lv_iload_n hx hb dX0_map_52 rfl (lv_at hl 2 rfl) ?_
        refine lv_iconst (v := nI 0) hx hb dX0_map_53 (by decide +kernel) ?_
        refine ca_sX3 (j := j) (x := nI 0) (y := 0) ca_n0 C X (by omega) dX0_map_54 (fun H locs X => ?_)
        refine lv_aload_n hx hb dX0_map_55 rfl (lv_at hl 1 rfl) ?_
        refine ca_gX4 C rfl X dX0_map_56 ?_
        refine lv_iload_n hx hb dX0_map_59 rfl (lv_at hl 2 rfl) ?_
        refine lv_iconst (v := nI 0) hx hb dX0_map_60 (by decide +kernel) ?_
        refine ca_sX4 (j := j) (x := nI 0) (y := 0) ca_n0 C X (by omega) dX0_map_61 (fun H locs X => ?_)
        refine lv_aload_n hx hb dX0_map_62 rfl (lv_at hl 1 rfl) ?_
        refine lv_iload_n hx hb dX0_map_63 rfl (lv_at hl 2 rfl) ?_
        refine ca_callv (As := [.int (nI j)]) (rest := []) C (ca_cX_shoot l D h a d (ca_wr (ca_wr (ca_wr (ca_wr S 1 j (nI k)) 2 j 1) 3 j 0) 4 j 0) (nI j)) (cwV 1 C.2.2.2.2.1 (lw_V q92 q94 qs2 q19 q95) rfl rfl rfl (by decide +kernel) ⟨Nat.le_of_ble_eq_true rfl, Nat.le_of_ble_eq_true rfl⟩) ca_rcX X rfl hl.1 rfl (Nat.le_of_ble_eq_true rfl) dX0_map_64 ⟨Nat.le_refl _, Nat.le_refl _⟩ (fun S_64 H locs hp_64 X => ?_)
        obtain rfl := hp_64
        refine lv_iload hx hb dX0_map_67 (lv_at hl 0 rfl) ?_
        exact ca_iret C X (Or.inr ⟨j, k, hj, hk, rfl, rfl, rfl, by rw [ca_zb_1 c_39]; rfl⟩) dX0_map_69
    · skip
      refine lv_if_eq (tgt := 18) hx hb dX0_map_13 (by decide) (fun c_13 => absurd c_13 (by decide +kernel)) (fun c_13 => ?_)
      refine lv_iconst (v := (-1)) hx hb dX0_map_16 (by decide +kernel) ?_
      exact ca_iret C X (Or.inl ⟨fun q => hbf q.2, rfl, rfl⟩) dX0_map_17
  · skip
    refine lv_if_ne (tgt := 16) hx hb dX0_map_5 (by decide) (fun c_5 => ?_) (fun c_5 => absurd c_5 (by decide +kernel))
    refine lv_iconst (v := (-1)) hx hb dX0_map_16 (by decide +kernel) ?_
    exact ca_iret C X (Or.inl ⟨fun q => hbv q.1, rfl, rfl⟩) dX0_map_17
set_option maxHeartbeats 4000000 in
set_option maxRecDepth 100000 in
theorem ca_cX_unmap (l : Launch) (D : va_G) (h : Nat) (a : Nat → Nat) (d : Nat → ClassId) (S : ca_St) (v : Int32) : ca_Met l yX0_unmap cX0_unmap 3 (some .int) (ca_r 1 22) D (ca_X h a d) (ca_TX d) [.ref h, .int v] S (ca_Xunmap v S) := by
  refine ca_start (by decide) (Nat.le_of_ble_eq_true rfl) ?_
  intro p e s m args below meth c A ls C X hl
  have hx := C.1
  have hb := C.2.1
  have hl : lv_has ls 3 [(0, .ref h), (1, .int v)] := hl
  refine lv_aload_n hx hb dX0_unmap_0 rfl (lv_at hl 0 rfl) ?_
  refine lv_iload_n hx hb dX0_unmap_1 rfl (lv_at hl 1 rfl) ?_
  refine ca_calli (As := [.int v]) (rest := []) C (ca_cX_badPage l D h a d S v) (cwV 1 C.2.2.2.2.1 (lw_V q84 q86 qs0 q19 q87) rfl rfl rfl (by decide +kernel) ⟨Nat.le_of_ble_eq_true rfl, Nat.le_of_ble_eq_true rfl⟩) ca_rcX X rfl hl.1 rfl (Nat.le_of_ble_eq_true rfl) dX0_unmap_2 ⟨Nat.le_refl _, Nat.le_refl _⟩ (fun r_2 S_2 H locs hp_2 X => ?_)
  obtain ⟨hS_2, hp_2⟩ := hp_2
  rw [hS_2] at X
  rcases hp_2 with ⟨rfl, j, hj, rfl⟩ | ⟨rfl, hbv⟩
  · skip
    refine lv_if_eq (tgt := 10) hx hb dX0_unmap_5 (by decide) (fun c_5 => ?_) (fun c_5 => absurd rfl c_5)
    refine lv_aload_n hx hb dX0_unmap_10 rfl (lv_at hl 0 rfl) ?_
    refine ca_gX1 C rfl X dX0_unmap_11 ?_
    refine lv_iload_n hx hb dX0_unmap_14 rfl (lv_at hl 1 rfl) ?_
    refine ca_lX1 (j := j) (v := S 1 j) C X (by omega) rfl dX0_unmap_15 ?_
    refine lv_istore_n (lv' := [(2, .int (S 1 j)), (0, .ref h), (1, .int (nI j))]) hx hb dX0_unmap_16 rfl hl (by decide) rfl (fun ls hl => ?_)
    refine lv_aload_n hx hb dX0_unmap_17 rfl (lv_at hl 1 rfl) ?_
    refine ca_gX1 C rfl X dX0_unmap_18 ?_
    refine lv_iload_n hx hb dX0_unmap_21 rfl (lv_at hl 2 rfl) ?_
    refine lv_bipush (v := (-2)) hx hb dX0_unmap_22 (by decide +kernel) ?_
    refine ca_sX1 (j := j) (x := (-2)) C X (by omega) dX0_unmap_24 (fun H locs X => ?_)
    refine lv_aload_n hx hb dX0_unmap_25 rfl (lv_at hl 1 rfl) ?_
    refine ca_gX3 C rfl X dX0_unmap_26 ?_
    refine lv_iload_n hx hb dX0_unmap_29 rfl (lv_at hl 2 rfl) ?_
    refine lv_iconst (v := nI 0) hx hb dX0_unmap_30 (by decide +kernel) ?_
    refine ca_sX3 (j := j) (x := nI 0) (y := 0) ca_n0 C X (by omega) dX0_unmap_31 (fun H locs X => ?_)
    refine lv_aload_n hx hb dX0_unmap_32 rfl (lv_at hl 1 rfl) ?_
    refine ca_gX4 C rfl X dX0_unmap_33 ?_
    refine lv_iload_n hx hb dX0_unmap_36 rfl (lv_at hl 2 rfl) ?_
    refine lv_iconst (v := nI 0) hx hb dX0_unmap_37 (by decide +kernel) ?_
    refine ca_sX4 (j := j) (x := nI 0) (y := 0) ca_n0 C X (by omega) dX0_unmap_38 (fun H locs X => ?_)
    refine lv_aload_n hx hb dX0_unmap_39 rfl (lv_at hl 1 rfl) ?_
    refine lv_iload_n hx hb dX0_unmap_40 rfl (lv_at hl 2 rfl) ?_
    refine ca_callv (As := [.int (nI j)]) (rest := []) C (ca_cX_shoot l D h a d (ca_wr (ca_wr (ca_wr S 1 j ((-2))) 3 j 0) 4 j 0) (nI j)) (cwV 1 C.2.2.2.2.1 (lw_V q92 q94 qs2 q19 q95) rfl rfl rfl (by decide +kernel) ⟨Nat.le_of_ble_eq_true rfl, Nat.le_of_ble_eq_true rfl⟩) ca_rcX X rfl hl.1 rfl (Nat.le_of_ble_eq_true rfl) dX0_unmap_41 ⟨Nat.le_refl _, Nat.le_refl _⟩ (fun S_41 H locs hp_41 X => ?_)
    obtain rfl := hp_41
    refine lv_iload_n hx hb dX0_unmap_44 rfl (lv_at hl 0 rfl) ?_
    exact ca_iret C X (Or.inr ⟨j, hj, rfl, rfl, rfl⟩) dX0_unmap_45
  · skip
    refine lv_if_eq (tgt := 10) hx hb dX0_unmap_5 (by decide) (fun c_5 => absurd c_5 (by decide +kernel)) (fun c_5 => ?_)
    refine lv_iconst (v := (-1)) hx hb dX0_unmap_8 (by decide +kernel) ?_
    exact ca_iret C X (Or.inl ⟨hbv, rfl, rfl⟩) dX0_unmap_9
set_option maxHeartbeats 4000000 in
set_option maxRecDepth 100000 in
theorem ca_cX_frameOf (l : Launch) (D : va_G) (h : Nat) (a : Nat → Nat) (d : Nat → ClassId) (S : ca_St) (v : Int32) : ca_Met l yX0_frameOf cX0_frameOf 2 (some .int) (ca_r 1 21) D (ca_X h a d) (ca_TX d) [.ref h, .int v] S (ca_frameOf v S) := by
  refine ca_start (by decide) (Nat.le_of_ble_eq_true rfl) ?_
  intro p e s m args below meth c A ls C X hl
  have hx := C.1
  have hb := C.2.1
  have hl : lv_has ls 2 [(0, .ref h), (1, .int v)] := hl
  refine lv_aload_n hx hb dX0_frameOf_0 rfl (lv_at hl 0 rfl) ?_
  refine lv_iload_n hx hb dX0_frameOf_1 rfl (lv_at hl 1 rfl) ?_
  refine ca_calli (As := [.int v]) (rest := []) C (ca_cX_badPage l D h a d S v) (cwV 1 C.2.2.2.2.1 (lw_V q84 q86 qs0 q19 q87) rfl rfl rfl (by decide +kernel) ⟨Nat.le_of_ble_eq_true rfl, Nat.le_of_ble_eq_true rfl⟩) ca_rcX X rfl hl.1 rfl (Nat.le_of_ble_eq_true rfl) dX0_frameOf_2 ⟨Nat.le_refl _, Nat.le_refl _⟩ (fun r_2 S_2 H locs hp_2 X => ?_)
  obtain ⟨hS_2, hp_2⟩ := hp_2
  rw [hS_2] at X
  rcases hp_2 with ⟨rfl, j, hj, rfl⟩ | ⟨rfl, hbv⟩
  · skip
    refine lv_if_eq (tgt := 12) hx hb dX0_frameOf_5 (by decide) (fun c_5 => ?_) (fun c_5 => absurd rfl c_5)
    refine lv_aload_n hx hb dX0_frameOf_12 rfl (lv_at hl 0 rfl) ?_
    refine ca_gX1 C rfl X dX0_frameOf_13 ?_
    refine lv_iload_n hx hb dX0_frameOf_16 rfl (lv_at hl 1 rfl) ?_
    refine ca_lX1 (j := j) (v := S 1 j) C X (by omega) rfl dX0_frameOf_17 ?_
    exact ca_iret C X (Or.inr ⟨j, hj, rfl, rfl, rfl⟩) dX0_frameOf_18
  · skip
    refine lv_if_eq (tgt := 12) hx hb dX0_frameOf_5 (by decide) (fun c_5 => absurd c_5 (by decide +kernel)) (fun c_5 => ?_)
    refine lv_iconst (v := (-1)) hx hb dX0_frameOf_8 (by decide +kernel) ?_
    refine lv_goto (tgt := 18) hx hb dX0_frameOf_9 (by decide) ?_
    exact ca_iret C X (Or.inl ⟨hbv, rfl, rfl⟩) dX0_frameOf_18
set_option maxHeartbeats 4000000 in
set_option maxRecDepth 100000 in
theorem ca_cX_allow (l : Launch) (D : va_G) (h : Nat) (a : Nat → Nat) (d : Nat → ClassId) (S : ca_St) (v on : Int32) : ca_Met l yX0_allow cX0_allow 4 (some .int) (ca_r 1 22) D (ca_X h a d) (ca_TX d) [.ref h, .int v, .int on] S (ca_Xallow v on S) := by
  refine ca_start (by decide) (Nat.le_of_ble_eq_true rfl) ?_
  intro p e s m args below meth c A ls C X hl
  have hx := C.1
  have hb := C.2.1
  have hl : lv_has ls 4 [(0, .ref h), (1, .int v), (2, .int on)] := hl
  refine lv_aload_n hx hb dX0_allow_0 rfl (lv_at hl 0 rfl) ?_
  refine lv_iload_n hx hb dX0_allow_1 rfl (lv_at hl 1 rfl) ?_
  refine ca_calli (As := [.int v]) (rest := []) C (ca_cX_badPage l D h a d S v) (cwV 1 C.2.2.2.2.1 (lw_V q84 q86 qs0 q19 q87) rfl rfl rfl (by decide +kernel) ⟨Nat.le_of_ble_eq_true rfl, Nat.le_of_ble_eq_true rfl⟩) ca_rcX X rfl hl.1 rfl (Nat.le_of_ble_eq_true rfl) dX0_allow_2 ⟨Nat.le_refl _, Nat.le_refl _⟩ (fun r_2 S_2 H locs hp_2 X => ?_)
  obtain ⟨hS_2, hp_2⟩ := hp_2
  rw [hS_2] at X
  rcases hp_2 with ⟨rfl, j, hj, rfl⟩ | ⟨rfl, hbv⟩
  · skip
    refine lv_if_eq (tgt := 10) hx hb dX0_allow_5 (by decide) (fun c_5 => ?_) (fun c_5 => absurd rfl c_5)
    refine lv_aload_n hx hb dX0_allow_10 rfl (lv_at hl 0 rfl) ?_
    refine ca_gX1 C rfl X dX0_allow_11 ?_
    refine lv_iload_n hx hb dX0_allow_14 rfl (lv_at hl 1 rfl) ?_
    refine ca_lX1 (j := j) (v := S 1 j) C X (by omega) rfl dX0_allow_15 ?_
    refine lv_if_ge (tgt := 22) hx hb dX0_allow_16 (by decide) (fun c_16 => ?_) (fun c_16 => ?_)
    · skip
      refine lv_aload_n hx hb dX0_allow_22 rfl (lv_at hl 0 rfl) ?_
      refine ca_gX2 C rfl X dX0_allow_23 ?_
      refine lv_iload_n hx hb dX0_allow_26 rfl (lv_at hl 1 rfl) ?_
      refine ca_lX2 (j := j) (v := S 2 j) C X (by omega) rfl dX0_allow_27 ?_
      refine lv_if_eq (tgt := 35) hx hb dX0_allow_28 (by decide) (fun c_28 => ?_) (fun c_28 => ?_)
      · skip
        refine lv_iconst (v := nI 0) hx hb dX0_allow_35 (by decide +kernel) ?_
        refine lv_istore_n (lv' := [(3, .int (nI 0)), (0, .ref h), (1, .int (nI j)), (2, .int on)]) hx hb dX0_allow_36 rfl hl (by decide) rfl (fun ls hl => ?_)
        refine lv_aload_n hx hb dX0_allow_37 rfl (lv_at hl 1 rfl) ?_
        refine ca_gX2 C rfl X dX0_allow_38 ?_
        refine lv_iload_n hx hb dX0_allow_41 rfl (lv_at hl 2 rfl) ?_
        refine lv_iload_n hx hb dX0_allow_42 rfl (lv_at hl 3 rfl) ?_
        refine lv_if_eq (tgt := 50) hx hb dX0_allow_43 (by decide) (fun c_43 => ?_) (fun c_43 => ?_)
        · skip
          refine lv_iconst (v := nI 0) hx hb dX0_allow_50 (by decide +kernel) ?_
          refine ca_sX2 (j := j) (x := nI 0) (y := 0) ca_n0 C X (by omega) dX0_allow_51 (fun H locs X => ?_)
          refine lv_aload_n hx hb dX0_allow_52 rfl (lv_at hl 1 rfl) ?_
          refine lv_iload_n hx hb dX0_allow_53 rfl (lv_at hl 2 rfl) ?_
          refine ca_callv (As := [.int (nI j)]) (rest := []) C (ca_cX_shoot l D h a d (ca_wr S 2 j 0) (nI j)) (cwV 1 C.2.2.2.2.1 (lw_V q92 q94 qs2 q19 q95) rfl rfl rfl (by decide +kernel) ⟨Nat.le_of_ble_eq_true rfl, Nat.le_of_ble_eq_true rfl⟩) ca_rcX X rfl hl.1 rfl (Nat.le_of_ble_eq_true rfl) dX0_allow_54 ⟨Nat.le_refl _, Nat.le_refl _⟩ (fun S_54 H locs hp_54 X => ?_)
          obtain rfl := hp_54
          refine lv_iload_n hx hb dX0_allow_57 rfl (lv_at hl 0 rfl) ?_
          exact ca_iret C X (Or.inr ⟨j, hj, rfl, Or.inr ⟨ca_nlt c_16, (ca_zb_0 c_28).symm, by rw [ca_zb_0 c_43]⟩⟩) dX0_allow_58
        · skip
          refine lv_iconst (v := nI 1) hx hb dX0_allow_46 (by decide +kernel) ?_
          refine lv_goto (tgt := 51) hx hb dX0_allow_47 (by decide) ?_
          refine ca_sX2 (j := j) (x := nI 1) (y := 1) ca_n1 C X (by omega) dX0_allow_51 (fun H locs X => ?_)
          refine lv_aload_n hx hb dX0_allow_52 rfl (lv_at hl 1 rfl) ?_
          refine lv_iload_n hx hb dX0_allow_53 rfl (lv_at hl 2 rfl) ?_
          refine ca_callv (As := [.int (nI j)]) (rest := []) C (ca_cX_shoot l D h a d (ca_wr S 2 j 1) (nI j)) (cwV 1 C.2.2.2.2.1 (lw_V q92 q94 qs2 q19 q95) rfl rfl rfl (by decide +kernel) ⟨Nat.le_of_ble_eq_true rfl, Nat.le_of_ble_eq_true rfl⟩) ca_rcX X rfl hl.1 rfl (Nat.le_of_ble_eq_true rfl) dX0_allow_54 ⟨Nat.le_refl _, Nat.le_refl _⟩ (fun S_54 H locs hp_54 X => ?_)
          obtain rfl := hp_54
          refine lv_iload_n hx hb dX0_allow_57 rfl (lv_at hl 0 rfl) ?_
          exact ca_iret C X (Or.inr ⟨j, hj, rfl, Or.inr ⟨ca_nlt c_16, (ca_zb_0 c_28).symm, by rw [ca_zb_1 c_43]⟩⟩) dX0_allow_58
      · skip
        refine lv_iconst (v := nI 1) hx hb dX0_allow_31 (by decide +kernel) ?_
        refine lv_goto (tgt := 36) hx hb dX0_allow_32 (by decide) ?_
        refine lv_istore_n (lv' := [(3, .int (nI 1)), (0, .ref h), (1, .int (nI j)), (2, .int on)]) hx hb dX0_allow_36 rfl hl (by decide) rfl (fun ls hl => ?_)
        refine lv_aload_n hx hb dX0_allow_37 rfl (lv_at hl 1 rfl) ?_
        refine ca_gX2 C rfl X dX0_allow_38 ?_
        refine lv_iload_n hx hb dX0_allow_41 rfl (lv_at hl 2 rfl) ?_
        refine lv_iload_n hx hb dX0_allow_42 rfl (lv_at hl 3 rfl) ?_
        refine lv_if_eq (tgt := 50) hx hb dX0_allow_43 (by decide) (fun c_43 => ?_) (fun c_43 => ?_)
        · skip
          refine lv_iconst (v := nI 0) hx hb dX0_allow_50 (by decide +kernel) ?_
          refine ca_sX2 (j := j) (x := nI 0) (y := 0) ca_n0 C X (by omega) dX0_allow_51 (fun H locs X => ?_)
          refine lv_aload_n hx hb dX0_allow_52 rfl (lv_at hl 1 rfl) ?_
          refine lv_iload_n hx hb dX0_allow_53 rfl (lv_at hl 2 rfl) ?_
          refine ca_callv (As := [.int (nI j)]) (rest := []) C (ca_cX_shoot l D h a d (ca_wr S 2 j 0) (nI j)) (cwV 1 C.2.2.2.2.1 (lw_V q92 q94 qs2 q19 q95) rfl rfl rfl (by decide +kernel) ⟨Nat.le_of_ble_eq_true rfl, Nat.le_of_ble_eq_true rfl⟩) ca_rcX X rfl hl.1 rfl (Nat.le_of_ble_eq_true rfl) dX0_allow_54 ⟨Nat.le_refl _, Nat.le_refl _⟩ (fun S_54 H locs hp_54 X => ?_)
          obtain rfl := hp_54
          refine lv_iload_n hx hb dX0_allow_57 rfl (lv_at hl 0 rfl) ?_
          exact ca_iret C X (Or.inr ⟨j, hj, rfl, Or.inr ⟨ca_nlt c_16, (ca_zb_1 c_28).symm, by rw [ca_zb_0 c_43]⟩⟩) dX0_allow_58
        · skip
          refine lv_iconst (v := nI 1) hx hb dX0_allow_46 (by decide +kernel) ?_
          refine lv_goto (tgt := 51) hx hb dX0_allow_47 (by decide) ?_
          refine ca_sX2 (j := j) (x := nI 1) (y := 1) ca_n1 C X (by omega) dX0_allow_51 (fun H locs X => ?_)
          refine lv_aload_n hx hb dX0_allow_52 rfl (lv_at hl 1 rfl) ?_
          refine lv_iload_n hx hb dX0_allow_53 rfl (lv_at hl 2 rfl) ?_
          refine ca_callv (As := [.int (nI j)]) (rest := []) C (ca_cX_shoot l D h a d (ca_wr S 2 j 1) (nI j)) (cwV 1 C.2.2.2.2.1 (lw_V q92 q94 qs2 q19 q95) rfl rfl rfl (by decide +kernel) ⟨Nat.le_of_ble_eq_true rfl, Nat.le_of_ble_eq_true rfl⟩) ca_rcX X rfl hl.1 rfl (Nat.le_of_ble_eq_true rfl) dX0_allow_54 ⟨Nat.le_refl _, Nat.le_refl _⟩ (fun S_54 H locs hp_54 X => ?_)
          obtain rfl := hp_54
          refine lv_iload_n hx hb dX0_allow_57 rfl (lv_at hl 0 rfl) ?_
          exact ca_iret C X (Or.inr ⟨j, hj, rfl, Or.inr ⟨ca_nlt c_16, (ca_zb_1 c_28).symm, by rw [ca_zb_1 c_43]⟩⟩) dX0_allow_58
    · skip
      refine lv_bipush (v := (-2)) hx hb dX0_allow_19 (by decide +kernel) ?_
      exact ca_iret C X (Or.inr ⟨j, hj, rfl, Or.inl ⟨ca_lt0 c_16, rfl, rfl⟩⟩) dX0_allow_21
  · skip
    refine lv_if_eq (tgt := 10) hx hb dX0_allow_5 (by decide) (fun c_5 => absurd c_5 (by decide +kernel)) (fun c_5 => ?_)
    refine lv_iconst (v := (-1)) hx hb dX0_allow_8 (by decide +kernel) ?_
    exact ca_iret C X (Or.inl ⟨hbv, rfl, rfl⟩) dX0_allow_9
set_option maxHeartbeats 4000000 in
set_option maxRecDepth 100000 in
theorem ca_cX_entryOf (l : Launch) (D : va_G) (h : Nat) (a : Nat → Nat) (d : Nat → ClassId) (S : ca_St) (v : Int32) : ca_Met l yX0_entryOf cX0_entryOf 4 (some .int) (ca_r 0 0) D (ca_X h a d) (ca_TX d) [.ref h, .int v] S (ca_EO v S) := by
  refine ca_start (by decide) (Nat.le_of_ble_eq_true rfl) ?_
  intro p e s m args below meth c A ls C X hl
  have hx := C.1
  have hb := C.2.1
  have hl : lv_has ls 4 [(0, .ref h), (1, .int v)] := hl
  refine lv_iconst (v := (-1)) hx hb dX0_entryOf_0 (by decide +kernel) ?_
  refine lv_istore_n (lv' := [(2, .int ((-1))), (0, .ref h), (1, .int v)]) hx hb dX0_entryOf_1 rfl hl (by decide) rfl (fun ls hl => ?_)
  refine lv_iconst (v := nI 0) hx hb dX0_entryOf_2 (by decide +kernel) ?_
  refine lv_istore_n (lv' := [(3, .int (nI 0)), (2, .int ((-1))), (0, .ref h), (1, .int v)]) hx hb dX0_entryOf_3 rfl hl (by decide) rfl (fun ls hl => ?_)
  have loop_4 : ∀ (nn k : Nat), 4 - k = nn → k ≤ 4 → ∀ (fd : Int32), (fd = -1 ∨ ∃ q : Nat, q < 4 ∧ fd = nI q ∧ S 10 q = v) → ∀ (H : Heap) (locs : List Loc) (ls : Array Slot), ca_I D (ca_X h a d) (ca_TX d) A s H locs S → lv_has ls 4 [(0, .ref h), (1, .int v), (2, .int fd), (3, .int (nI k))] → W p l e (ca_r 0 0) s m args below meth c H locs 0 0 (ca_G D (ca_X h a d) (ca_TX d) (ca_EO v S) A below args s) (F0 m 4 ls []) := by
    intro nn
    induction nn using Nat.strongRecOn with
    | _ nn ih_4 =>
      intro k hnn hk_4 fd hfd H locs ls X hl
      refine lv_iload_n hx hb dX0_entryOf_4 rfl (lv_at hl 3 rfl) ?_
      refine lv_iconst (v := nI 4) hx hb dX0_entryOf_5 (by decide +kernel) ?_
      refine ca_geN (i := k) (n := 4) (tgt := 27) hx hb (by omega) (by omega) dX0_entryOf_6 (by decide) (fun c_6 => ?_) (fun c_6 => ?_)
      · skip
        refine lv_iload_n hx hb dX0_entryOf_27 rfl (lv_at hl 2 rfl) ?_
        exact ca_iret C X (⟨rfl, hfd⟩) dX0_entryOf_28
      · skip
        refine lv_aload_n hx hb dX0_entryOf_9 rfl (lv_at hl 0 rfl) ?_
        refine ca_gX10 C rfl X dX0_entryOf_10 ?_
        refine lv_iload_n hx hb dX0_entryOf_13 rfl (lv_at hl 3 rfl) ?_
        refine ca_lX10 (j := k) (v := S 10 k) C X (by omega) rfl dX0_entryOf_14 ?_
        refine lv_iload_n hx hb dX0_entryOf_15 rfl (lv_at hl 1 rfl) ?_
        refine lv_icmp_ne (tgt := 21) hx hb dX0_entryOf_16 (by decide) (fun c_16 => ?_) (fun c_16 => ?_)
        · skip
          refine lv_iinc (v := nI (k + 1)) (lv' := [(3, .int (nI (k + 1))), (0, .ref h), (1, .int v), (2, .int fd)]) hx hb dX0_entryOf_21 hl (k := 3) rfl (ca_inc k) (by decide) rfl (fun ls hl => ?_)
          refine lv_goto (tgt := 4) hx hb dX0_entryOf_24 (by decide) ?_
          exact ih_4 (4 - (k + 1)) (by omega) (k + 1) rfl (by omega) fd hfd _ _ _ X (lv_sub hl [1, 2, 3, 0] rfl)
        · skip
          refine lv_iload_n hx hb dX0_entryOf_19 rfl (lv_at hl 3 rfl) ?_
          refine lv_istore_n (lv' := [(2, .int (nI k)), (0, .ref h), (1, .int v), (3, .int (nI k))]) hx hb dX0_entryOf_20 rfl hl (by decide) rfl (fun ls hl => ?_)
          refine lv_iinc (v := nI (k + 1)) (lv' := [(3, .int (nI (k + 1))), (2, .int (nI k)), (0, .ref h), (1, .int v)]) hx hb dX0_entryOf_21 hl (k := 3) rfl (ca_inc k) (by decide) rfl (fun ls hl => ?_)
          refine lv_goto (tgt := 4) hx hb dX0_entryOf_24 (by decide) ?_
          exact ih_4 (4 - (k + 1)) (by omega) (k + 1) rfl (by omega) (nI k) (Or.inr ⟨k, c_6, rfl, c_16⟩) _ _ _ X (lv_sub hl [2, 3, 1, 0] rfl)
  exact loop_4 4 0 rfl (Nat.zero_le _) (-1) (Or.inl rfl) _ _ _ X (lv_sub hl [2, 3, 1, 0] rfl)
set_option maxHeartbeats 4000000 in
set_option maxRecDepth 100000 in
theorem ca_cX_oldestEntry (l : Launch) (D : va_G) (h : Nat) (a : Nat → Nat) (d : Nat → ClassId) (S : ca_St) : ca_Met l yX0_oldestEntry cX0_oldestEntry 3 (some .int) (ca_r 0 0) D (ca_X h a d) (ca_TX d) [.ref h] S (ca_OE S) := by
  refine ca_start (by decide) (Nat.le_of_ble_eq_true rfl) ?_
  intro p e s m args below meth c A ls C X hl
  have hx := C.1
  have hb := C.2.1
  have hl : lv_has ls 3 [(0, .ref h)] := hl
  refine lv_iconst (v := nI 0) hx hb dX0_oldestEntry_0 (by decide +kernel) ?_
  refine lv_istore_n (lv' := [(1, .int (nI 0)), (0, .ref h)]) hx hb dX0_oldestEntry_1 rfl hl (by decide) rfl (fun ls hl => ?_)
  refine lv_iconst (v := nI 0) hx hb dX0_oldestEntry_2 (by decide +kernel) ?_
  refine lv_istore_n (lv' := [(2, .int (nI 0)), (1, .int (nI 0)), (0, .ref h)]) hx hb dX0_oldestEntry_3 rfl hl (by decide) rfl (fun ls hl => ?_)
  have loop_4 : ∀ (nn k : Nat), 4 - k = nn → k ≤ 4 → ∀ (o : Nat), o < 4 → ∀ (H : Heap) (locs : List Loc) (ls : Array Slot), ca_I D (ca_X h a d) (ca_TX d) A s H locs S → lv_has ls 3 [(0, .ref h), (1, .int (nI o)), (2, .int (nI k))] → W p l e (ca_r 0 0) s m args below meth c H locs 0 0 (ca_G D (ca_X h a d) (ca_TX d) (ca_OE S) A below args s) (F0 m 4 ls []) := by
    intro nn
    induction nn using Nat.strongRecOn with
    | _ nn ih_4 =>
      intro k hnn hk_4 o ho H locs ls X hl
      refine lv_iload_n hx hb dX0_oldestEntry_4 rfl (lv_at hl 2 rfl) ?_
      refine lv_iconst (v := nI 4) hx hb dX0_oldestEntry_5 (by decide +kernel) ?_
      refine ca_geN (i := k) (n := 4) (tgt := 43) hx hb (by omega) (by omega) dX0_oldestEntry_6 (by decide) (fun c_6 => ?_) (fun c_6 => ?_)
      · skip
        refine lv_iload_n hx hb dX0_oldestEntry_43 rfl (lv_at hl 1 rfl) ?_
        exact ca_iret C X (⟨rfl, o, ho, rfl⟩) dX0_oldestEntry_44
      · skip
        refine lv_aload_n hx hb dX0_oldestEntry_9 rfl (lv_at hl 0 rfl) ?_
        refine ca_gX10 C rfl X dX0_oldestEntry_10 ?_
        refine lv_iload_n hx hb dX0_oldestEntry_13 rfl (lv_at hl 2 rfl) ?_
        refine ca_lX10 (j := k) (v := S 10 k) C X (by omega) rfl dX0_oldestEntry_14 ?_
        refine lv_if_ge (tgt := 20) hx hb dX0_oldestEntry_15 (by decide) (fun c_15 => ?_) (fun c_15 => ?_)
        · skip
          refine lv_aload_n hx hb dX0_oldestEntry_20 rfl (lv_at hl 0 rfl) ?_
          refine ca_gX14 C rfl X dX0_oldestEntry_21 ?_
          refine lv_iload_n hx hb dX0_oldestEntry_24 rfl (lv_at hl 2 rfl) ?_
          refine ca_lX14 (j := k) (v := S 14 k) C X (by omega) rfl dX0_oldestEntry_25 ?_
          refine lv_aload_n hx hb dX0_oldestEntry_26 rfl (lv_at hl 0 rfl) ?_
          refine ca_gX14 C rfl X dX0_oldestEntry_27 ?_
          refine lv_iload_n hx hb dX0_oldestEntry_30 rfl (lv_at hl 1 rfl) ?_
          refine ca_lX14 (j := o) (v := S 14 o) C X (by omega) rfl dX0_oldestEntry_31 ?_
          refine lv_icmp_ge (tgt := 37) hx hb dX0_oldestEntry_32 (by decide) (fun c_32 => ?_) (fun c_32 => ?_)
          · skip
            refine lv_iinc (v := nI (k + 1)) (lv' := [(2, .int (nI (k + 1))), (0, .ref h), (1, .int (nI o))]) hx hb dX0_oldestEntry_37 hl (k := 2) rfl (ca_inc k) (by decide) rfl (fun ls hl => ?_)
            refine lv_goto (tgt := 4) hx hb dX0_oldestEntry_40 (by decide) ?_
            exact ih_4 (4 - (k + 1)) (by omega) (k + 1) rfl (by omega) o ho _ _ _ X (lv_sub hl [1, 2, 0] rfl)
          · skip
            refine lv_iload_n hx hb dX0_oldestEntry_35 rfl (lv_at hl 2 rfl) ?_
            refine lv_istore_n (lv' := [(1, .int (nI k)), (0, .ref h), (2, .int (nI k))]) hx hb dX0_oldestEntry_36 rfl hl (by decide) rfl (fun ls hl => ?_)
            refine lv_iinc (v := nI (k + 1)) (lv' := [(2, .int (nI (k + 1))), (1, .int (nI k)), (0, .ref h)]) hx hb dX0_oldestEntry_37 hl (k := 2) rfl (ca_inc k) (by decide) rfl (fun ls hl => ?_)
            refine lv_goto (tgt := 4) hx hb dX0_oldestEntry_40 (by decide) ?_
            exact ih_4 (4 - (k + 1)) (by omega) (k + 1) rfl (by omega) k c_6 _ _ _ X (lv_sub hl [2, 1, 0] rfl)
        · skip
          refine lv_iload_n hx hb dX0_oldestEntry_18 rfl (lv_at hl 2 rfl) ?_
          exact ca_iret C X (⟨rfl, k, c_6, rfl⟩) dX0_oldestEntry_19
  exact loop_4 4 0 rfl (Nat.zero_le _) 0 (by decide) _ _ _ X (lv_sub hl [2, 1, 0] rfl)
end
section
set_option maxHeartbeats 4000000 in
set_option maxRecDepth 100000 in
theorem ca_cX_translateR (l : Launch) (D : va_G) (h : Nat) (a : Nat → Nat) (d : Nat → ClassId) (S : ca_St) (j : Nat) (hj : j < 16) : ca_Met l yX0_translate cX0_translate 4 (some .int) (ca_r 1 23) D (ca_X h a d) (ca_TX d) [.ref h, .int (nI j), .int (nI 0)] S (ca_TR S j) := by
  refine ca_start (by decide) (Nat.le_of_ble_eq_true rfl) ?_
  intro p e s m args below meth c A ls C X hl
  have hx := C.1
  have hb := C.2.1
  have hl : lv_has ls 4 [(0, .ref h), (1, .int (nI j)), (2, .int (nI 0))] := hl
  refine lv_aload_n hx hb dX0_translate_0 rfl (lv_at hl 0 rfl) ?_
  refine lv_dup hx hb dX0_translate_1 rfl ?_
  refine ca_gX5 (v := S 5 0) C rfl X rfl dX0_translate_2 ?_
  refine lv_iconst (v := nI 1) hx hb dX0_translate_5 (by decide +kernel) ?_
  refine lv_iadd hx hb dX0_translate_6 ?_
  refine ca_pX5 (x := (S 5 0) + (nI 1)) C rfl X dX0_translate_7 (fun H locs X => ?_)
  have X : ca_I D (ca_X h a d) (ca_TX d) A s H locs (ca_tick S) := X
  refine lv_aload_n hx hb dX0_translate_10 rfl (lv_at hl 0 rfl) ?_
  refine lv_iload_n hx hb dX0_translate_11 rfl (lv_at hl 1 rfl) ?_
  refine ca_calli (As := [.int (nI j)]) (rest := []) C (ca_cX_entryOf l D h a d (ca_tick S) (nI j)) (cwV 1 C.2.2.2.2.1 (lw_V q116 q118 qs4 q19 q119) rfl rfl rfl (by decide +kernel) ⟨Nat.le_of_ble_eq_true rfl, Nat.le_of_ble_eq_true rfl⟩) ca_rcX X rfl hl.1 rfl (Nat.le_of_ble_eq_true rfl) dX0_translate_12 ⟨Nat.le_refl _, Nat.le_refl _⟩ (fun r_12 S_12 H locs hp_12 X => ?_)
  obtain ⟨hS_12, hp_12⟩ := hp_12
  rw [hS_12] at X
  rcases hp_12 with rfl | ⟨q, hq, rfl, he⟩
  · skip
    refine lv_istore_n (lv' := [(3, .int ((-1))), (0, .ref h), (1, .int (nI j)), (2, .int (nI 0))]) hx hb dX0_translate_15 rfl hl (by decide) rfl (fun ls hl => ?_)
    refine lv_iload_n hx hb dX0_translate_16 rfl (lv_at hl 0 rfl) ?_
    refine lv_if_ge (tgt := 103) hx hb dX0_translate_17 (by decide) (fun c_17 => absurd c_17 (by decide +kernel)) (fun c_17 => ?_)
    refine lv_aload_n hx hb dX0_translate_20 rfl (lv_at hl 1 rfl) ?_
    refine ca_gX1 C rfl X dX0_translate_21 ?_
    refine lv_iload_n hx hb dX0_translate_24 rfl (lv_at hl 2 rfl) ?_
    refine ca_lX1 (j := j) (v := S 1 j) C X (by omega) rfl dX0_translate_25 ?_
    refine lv_if_ge (tgt := 32) hx hb dX0_translate_26 (by decide) (fun c_26 => ?_) (fun c_26 => ?_)
    · skip
      refine lv_iload_n hx hb dX0_translate_32 rfl (lv_at hl 3 rfl) ?_
      refine lv_if_eq (tgt := 48) hx hb dX0_translate_33 (by decide) (fun c_33 => ?_) (fun c_33 => absurd rfl c_33)
      refine lv_aload_n hx hb dX0_translate_48 rfl (lv_at hl 1 rfl) ?_
      refine ca_calli (As := []) (rest := []) C (ca_cX_oldestEntry l D h a d (ca_tick S)) (cwV 0 C.2.2.2.2.1 (lw_V q120 q122 qs5 q19 q123) rfl rfl rfl (by decide +kernel) ⟨Nat.le_of_ble_eq_true rfl, Nat.le_of_ble_eq_true rfl⟩) ca_rcX X rfl hl.1 rfl (Nat.le_of_ble_eq_true rfl) dX0_translate_49 ⟨Nat.le_refl _, Nat.le_refl _⟩ (fun r_49 S_49 H locs hp_49 X => ?_)
      obtain ⟨hS_49, hp_49⟩ := hp_49
      rw [hS_49] at X
      obtain ⟨q, hq, rfl⟩ := hp_49
      refine lv_istore_n (lv' := [(3, .int (nI q)), (0, .ref h), (1, .int (nI j)), (2, .int (nI 0))]) hx hb dX0_translate_52 rfl hl (by decide) rfl (fun ls hl => ?_)
      refine lv_aload_n hx hb dX0_translate_53 rfl (lv_at hl 1 rfl) ?_
      refine ca_gX10 C rfl X dX0_translate_54 ?_
      refine lv_iload_n hx hb dX0_translate_57 rfl (lv_at hl 0 rfl) ?_
      refine lv_iload_n hx hb dX0_translate_58 rfl (lv_at hl 2 rfl) ?_
      refine ca_sX10 (j := q) (x := nI j) C X (by omega) dX0_translate_59 (fun H locs X => ?_)
      refine lv_aload_n hx hb dX0_translate_60 rfl (lv_at hl 1 rfl) ?_
      refine ca_gX11 C rfl X dX0_translate_61 ?_
      refine lv_iload_n hx hb dX0_translate_64 rfl (lv_at hl 0 rfl) ?_
      refine lv_aload_n hx hb dX0_translate_65 rfl (lv_at hl 1 rfl) ?_
      refine ca_gX1 C rfl X dX0_translate_66 ?_
      refine lv_iload_n hx hb dX0_translate_69 rfl (lv_at hl 2 rfl) ?_
      refine ca_lX1 (j := j) (v := S 1 j) C X (by omega) rfl dX0_translate_70 ?_
      refine ca_sX11 (j := q) (x := S 1 j) C X (by omega) dX0_translate_71 (fun H locs X => ?_)
      refine lv_aload_n hx hb dX0_translate_72 rfl (lv_at hl 1 rfl) ?_
      refine ca_gX12 C rfl X dX0_translate_73 ?_
      refine lv_iload_n hx hb dX0_translate_76 rfl (lv_at hl 0 rfl) ?_
      refine lv_aload_n hx hb dX0_translate_77 rfl (lv_at hl 1 rfl) ?_
      refine ca_gX2 C rfl X dX0_translate_78 ?_
      refine lv_iload_n hx hb dX0_translate_81 rfl (lv_at hl 2 rfl) ?_
      refine ca_lX2 (j := j) (v := S 2 j) C X (by omega) rfl dX0_translate_82 ?_
      refine ca_sX12 (j := q) (x := S 2 j) (y := vp_nar .boolean (S 2 j)) rfl C X (by omega) dX0_translate_83 (fun H locs X => ?_)
      refine lv_aload_n hx hb dX0_translate_84 rfl (lv_at hl 1 rfl) ?_
      refine ca_gX13 C rfl X dX0_translate_85 ?_
      refine lv_iload_n hx hb dX0_translate_88 rfl (lv_at hl 0 rfl) ?_
      refine lv_aload_n hx hb dX0_translate_89 rfl (lv_at hl 1 rfl) ?_
      refine ca_gX4 C rfl X dX0_translate_90 ?_
      refine lv_iload_n hx hb dX0_translate_93 rfl (lv_at hl 2 rfl) ?_
      refine ca_lX4 (j := j) (v := S 4 j) C X (by omega) rfl dX0_translate_94 ?_
      refine ca_sX13 (j := q) (x := S 4 j) (y := vp_nar .boolean (S 4 j)) rfl C X (by omega) dX0_translate_95 (fun H locs X => ?_)
      refine lv_aload_n hx hb dX0_translate_96 rfl (lv_at hl 1 rfl) ?_
      refine ca_gX3 C rfl X dX0_translate_97 ?_
      refine lv_iload_n hx hb dX0_translate_100 rfl (lv_at hl 2 rfl) ?_
      refine lv_iconst (v := nI 1) hx hb dX0_translate_101 (by decide +kernel) ?_
      refine ca_sX3 (j := j) (x := nI 1) (y := 1) ca_n1 C X (by omega) dX0_translate_102 (fun H locs X => ?_)
      have X : ca_I D (ca_X h a d) (ca_TX d) A s H locs (ca_fe (ca_tick S) q j) := X
      refine lv_aload_n hx hb dX0_translate_103 rfl (lv_at hl 1 rfl) ?_
      refine ca_gX14 C rfl X dX0_translate_104 ?_
      refine lv_iload_n hx hb dX0_translate_107 rfl (lv_at hl 0 rfl) ?_
      refine lv_aload_n hx hb dX0_translate_108 rfl (lv_at hl 1 rfl) ?_
      refine ca_gX5 (v := (ca_fe (ca_tick S) q j) 5 0) C rfl X rfl dX0_translate_109 ?_
      refine ca_sX14 (j := q) (x := (ca_fe (ca_tick S) q j) 5 0) C X (by omega) dX0_translate_112 (fun H locs X => ?_)
      have X : ca_I D (ca_X h a d) (ca_TX d) A s H locs (ca_es (ca_fe (ca_tick S) q j) q) := X
      refine lv_iload_n hx hb dX0_translate_113 rfl (lv_at hl 3 rfl) ?_
      refine lv_if_eq (tgt := 152) hx hb dX0_translate_114 (by decide) (fun c_114 => ?_) (fun c_114 => absurd rfl c_114)
      refine lv_iload_n hx hb dX0_translate_152 rfl (lv_at hl 0 rfl) ?_
      exact ca_iret C X (Or.inr (Or.inr ⟨ca_nlt c_26, q, hq, rfl, rfl⟩)) dX0_translate_153
    · skip
      refine lv_bipush (v := (-2)) hx hb dX0_translate_29 (by decide +kernel) ?_
      exact ca_iret C X (Or.inr (Or.inl ⟨ca_lt0 c_26, rfl, rfl⟩)) dX0_translate_31
  · skip
    refine lv_istore_n (lv' := [(3, .int (nI q)), (0, .ref h), (1, .int (nI j)), (2, .int (nI 0))]) hx hb dX0_translate_15 rfl hl (by decide) rfl (fun ls hl => ?_)
    refine lv_iload_n hx hb dX0_translate_16 rfl (lv_at hl 0 rfl) ?_
    refine lv_if_ge (tgt := 103) hx hb dX0_translate_17 (by decide) (fun c_17 => ?_) (fun c_17 => absurd (ca_ge0 (by omega)) c_17)
    refine lv_aload_n hx hb dX0_translate_103 rfl (lv_at hl 1 rfl) ?_
    refine ca_gX14 C rfl X dX0_translate_104 ?_
    refine lv_iload_n hx hb dX0_translate_107 rfl (lv_at hl 0 rfl) ?_
    refine lv_aload_n hx hb dX0_translate_108 rfl (lv_at hl 1 rfl) ?_
    refine ca_gX5 (v := (ca_tick S) 5 0) C rfl X rfl dX0_translate_109 ?_
    refine ca_sX14 (j := q) (x := (ca_tick S) 5 0) C X (by omega) dX0_translate_112 (fun H locs X => ?_)
    have X : ca_I D (ca_X h a d) (ca_TX d) A s H locs (ca_es (ca_tick S) q) := X
    refine lv_iload_n hx hb dX0_translate_113 rfl (lv_at hl 3 rfl) ?_
    refine lv_if_eq (tgt := 152) hx hb dX0_translate_114 (by decide) (fun c_114 => ?_) (fun c_114 => absurd rfl c_114)
    refine lv_iload_n hx hb dX0_translate_152 rfl (lv_at hl 0 rfl) ?_
    exact ca_iret C X (Or.inl ⟨q, hq, he, rfl, rfl⟩) dX0_translate_153
set_option maxHeartbeats 4000000 in
set_option maxRecDepth 100000 in
theorem ca_cX_translateW (l : Launch) (D : va_G) (h : Nat) (a : Nat → Nat) (d : Nat → ClassId) (S : ca_St) (j : Nat) (hj : j < 16) : ca_Met l yX0_translate cX0_translate 4 (some .int) (ca_r 1 23) D (ca_X h a d) (ca_TX d) [.ref h, .int (nI j), .int (nI 1)] S (ca_TW S j) := by
  refine ca_start (by decide) (Nat.le_of_ble_eq_true rfl) ?_
  intro p e s m args below meth c A ls C X hl
  have hx := C.1
  have hb := C.2.1
  have hl : lv_has ls 4 [(0, .ref h), (1, .int (nI j)), (2, .int (nI 1))] := hl
  refine lv_aload_n hx hb dX0_translate_0 rfl (lv_at hl 0 rfl) ?_
  refine lv_dup hx hb dX0_translate_1 rfl ?_
  refine ca_gX5 (v := S 5 0) C rfl X rfl dX0_translate_2 ?_
  refine lv_iconst (v := nI 1) hx hb dX0_translate_5 (by decide +kernel) ?_
  refine lv_iadd hx hb dX0_translate_6 ?_
  refine ca_pX5 (x := (S 5 0) + (nI 1)) C rfl X dX0_translate_7 (fun H locs X => ?_)
  have X : ca_I D (ca_X h a d) (ca_TX d) A s H locs (ca_tick S) := X
  refine lv_aload_n hx hb dX0_translate_10 rfl (lv_at hl 0 rfl) ?_
  refine lv_iload_n hx hb dX0_translate_11 rfl (lv_at hl 1 rfl) ?_
  refine ca_calli (As := [.int (nI j)]) (rest := []) C (ca_cX_entryOf l D h a d (ca_tick S) (nI j)) (cwV 1 C.2.2.2.2.1 (lw_V q116 q118 qs4 q19 q119) rfl rfl rfl (by decide +kernel) ⟨Nat.le_of_ble_eq_true rfl, Nat.le_of_ble_eq_true rfl⟩) ca_rcX X rfl hl.1 rfl (Nat.le_of_ble_eq_true rfl) dX0_translate_12 ⟨Nat.le_refl _, Nat.le_refl _⟩ (fun r_12 S_12 H locs hp_12 X => ?_)
  obtain ⟨hS_12, hp_12⟩ := hp_12
  rw [hS_12] at X
  rcases hp_12 with rfl | ⟨q, hq, rfl, he⟩
  · skip
    refine lv_istore_n (lv' := [(3, .int ((-1))), (0, .ref h), (1, .int (nI j)), (2, .int (nI 1))]) hx hb dX0_translate_15 rfl hl (by decide) rfl (fun ls hl => ?_)
    refine lv_iload_n hx hb dX0_translate_16 rfl (lv_at hl 0 rfl) ?_
    refine lv_if_ge (tgt := 103) hx hb dX0_translate_17 (by decide) (fun c_17 => absurd c_17 (by decide +kernel)) (fun c_17 => ?_)
    refine lv_aload_n hx hb dX0_translate_20 rfl (lv_at hl 1 rfl) ?_
    refine ca_gX1 C rfl X dX0_translate_21 ?_
    refine lv_iload_n hx hb dX0_translate_24 rfl (lv_at hl 2 rfl) ?_
    refine ca_lX1 (j := j) (v := S 1 j) C X (by omega) rfl dX0_translate_25 ?_
    refine lv_if_ge (tgt := 32) hx hb dX0_translate_26 (by decide) (fun c_26 => ?_) (fun c_26 => ?_)
    · skip
      refine lv_iload_n hx hb dX0_translate_32 rfl (lv_at hl 3 rfl) ?_
      refine lv_if_eq (tgt := 48) hx hb dX0_translate_33 (by decide) (fun c_33 => absurd c_33 (by decide +kernel)) (fun c_33 => ?_)
      refine lv_aload_n hx hb dX0_translate_36 rfl (lv_at hl 1 rfl) ?_
      refine ca_gX2 C rfl X dX0_translate_37 ?_
      refine lv_iload_n hx hb dX0_translate_40 rfl (lv_at hl 2 rfl) ?_
      refine ca_lX2 (j := j) (v := S 2 j) C X (by omega) rfl dX0_translate_41 ?_
      refine lv_if_ne (tgt := 48) hx hb dX0_translate_42 (by decide) (fun c_42 => ?_) (fun c_42 => ?_)
      · skip
        refine lv_aload_n hx hb dX0_translate_48 rfl (lv_at hl 1 rfl) ?_
        refine ca_calli (As := []) (rest := []) C (ca_cX_oldestEntry l D h a d (ca_tick S)) (cwV 0 C.2.2.2.2.1 (lw_V q120 q122 qs5 q19 q123) rfl rfl rfl (by decide +kernel) ⟨Nat.le_of_ble_eq_true rfl, Nat.le_of_ble_eq_true rfl⟩) ca_rcX X rfl hl.1 rfl (Nat.le_of_ble_eq_true rfl) dX0_translate_49 ⟨Nat.le_refl _, Nat.le_refl _⟩ (fun r_49 S_49 H locs hp_49 X => ?_)
        obtain ⟨hS_49, hp_49⟩ := hp_49
        rw [hS_49] at X
        obtain ⟨q, hq, rfl⟩ := hp_49
        refine lv_istore_n (lv' := [(3, .int (nI q)), (0, .ref h), (1, .int (nI j)), (2, .int (nI 1))]) hx hb dX0_translate_52 rfl hl (by decide) rfl (fun ls hl => ?_)
        refine lv_aload_n hx hb dX0_translate_53 rfl (lv_at hl 1 rfl) ?_
        refine ca_gX10 C rfl X dX0_translate_54 ?_
        refine lv_iload_n hx hb dX0_translate_57 rfl (lv_at hl 0 rfl) ?_
        refine lv_iload_n hx hb dX0_translate_58 rfl (lv_at hl 2 rfl) ?_
        refine ca_sX10 (j := q) (x := nI j) C X (by omega) dX0_translate_59 (fun H locs X => ?_)
        refine lv_aload_n hx hb dX0_translate_60 rfl (lv_at hl 1 rfl) ?_
        refine ca_gX11 C rfl X dX0_translate_61 ?_
        refine lv_iload_n hx hb dX0_translate_64 rfl (lv_at hl 0 rfl) ?_
        refine lv_aload_n hx hb dX0_translate_65 rfl (lv_at hl 1 rfl) ?_
        refine ca_gX1 C rfl X dX0_translate_66 ?_
        refine lv_iload_n hx hb dX0_translate_69 rfl (lv_at hl 2 rfl) ?_
        refine ca_lX1 (j := j) (v := S 1 j) C X (by omega) rfl dX0_translate_70 ?_
        refine ca_sX11 (j := q) (x := S 1 j) C X (by omega) dX0_translate_71 (fun H locs X => ?_)
        refine lv_aload_n hx hb dX0_translate_72 rfl (lv_at hl 1 rfl) ?_
        refine ca_gX12 C rfl X dX0_translate_73 ?_
        refine lv_iload_n hx hb dX0_translate_76 rfl (lv_at hl 0 rfl) ?_
        refine lv_aload_n hx hb dX0_translate_77 rfl (lv_at hl 1 rfl) ?_
        refine ca_gX2 C rfl X dX0_translate_78 ?_
        refine lv_iload_n hx hb dX0_translate_81 rfl (lv_at hl 2 rfl) ?_
        refine ca_lX2 (j := j) (v := S 2 j) C X (by omega) rfl dX0_translate_82 ?_
        refine ca_sX12 (j := q) (x := S 2 j) (y := vp_nar .boolean (S 2 j)) rfl C X (by omega) dX0_translate_83 (fun H locs X => ?_)
        refine lv_aload_n hx hb dX0_translate_84 rfl (lv_at hl 1 rfl) ?_
        refine ca_gX13 C rfl X dX0_translate_85 ?_
        refine lv_iload_n hx hb dX0_translate_88 rfl (lv_at hl 0 rfl) ?_
        refine lv_aload_n hx hb dX0_translate_89 rfl (lv_at hl 1 rfl) ?_
        refine ca_gX4 C rfl X dX0_translate_90 ?_
        refine lv_iload_n hx hb dX0_translate_93 rfl (lv_at hl 2 rfl) ?_
        refine ca_lX4 (j := j) (v := S 4 j) C X (by omega) rfl dX0_translate_94 ?_
        refine ca_sX13 (j := q) (x := S 4 j) (y := vp_nar .boolean (S 4 j)) rfl C X (by omega) dX0_translate_95 (fun H locs X => ?_)
        refine lv_aload_n hx hb dX0_translate_96 rfl (lv_at hl 1 rfl) ?_
        refine ca_gX3 C rfl X dX0_translate_97 ?_
        refine lv_iload_n hx hb dX0_translate_100 rfl (lv_at hl 2 rfl) ?_
        refine lv_iconst (v := nI 1) hx hb dX0_translate_101 (by decide +kernel) ?_
        refine ca_sX3 (j := j) (x := nI 1) (y := 1) ca_n1 C X (by omega) dX0_translate_102 (fun H locs X => ?_)
        have X : ca_I D (ca_X h a d) (ca_TX d) A s H locs (ca_fe (ca_tick S) q j) := X
        refine lv_aload_n hx hb dX0_translate_103 rfl (lv_at hl 1 rfl) ?_
        refine ca_gX14 C rfl X dX0_translate_104 ?_
        refine lv_iload_n hx hb dX0_translate_107 rfl (lv_at hl 0 rfl) ?_
        refine lv_aload_n hx hb dX0_translate_108 rfl (lv_at hl 1 rfl) ?_
        refine ca_gX5 (v := (ca_fe (ca_tick S) q j) 5 0) C rfl X rfl dX0_translate_109 ?_
        refine ca_sX14 (j := q) (x := (ca_fe (ca_tick S) q j) 5 0) C X (by omega) dX0_translate_112 (fun H locs X => ?_)
        have X : ca_I D (ca_X h a d) (ca_TX d) A s H locs (ca_es (ca_fe (ca_tick S) q j) q) := X
        refine lv_iload_n hx hb dX0_translate_113 rfl (lv_at hl 3 rfl) ?_
        refine lv_if_eq (tgt := 152) hx hb dX0_translate_114 (by decide) (fun c_114 => absurd c_114 (by decide +kernel)) (fun c_114 => ?_)
        refine lv_aload_n hx hb dX0_translate_117 rfl (lv_at hl 1 rfl) ?_
        refine ca_gX12 C rfl X dX0_translate_118 ?_
        refine lv_iload_n hx hb dX0_translate_121 rfl (lv_at hl 0 rfl) ?_
        refine ca_lX12 (j := q) (v := (ca_es (ca_fe (ca_tick S) q j) q) 12 q) C X (by omega) rfl dX0_translate_122 ?_
        refine lv_if_ne (tgt := 129) hx hb dX0_translate_123 (by decide) (fun c_123 => ?_) (fun c_123 => ?_)
        · skip
          refine lv_aload_n hx hb dX0_translate_129 rfl (lv_at hl 1 rfl) ?_
          refine ca_gX13 C rfl X dX0_translate_130 ?_
          refine lv_iload_n hx hb dX0_translate_133 rfl (lv_at hl 0 rfl) ?_
          refine ca_lX13 (j := q) (v := (ca_es (ca_fe (ca_tick S) q j) q) 13 q) C X (by omega) rfl dX0_translate_134 ?_
          refine lv_if_ne (tgt := 152) hx hb dX0_translate_135 (by decide) (fun c_135 => ?_) (fun c_135 => ?_)
          · skip
            refine lv_iload_n hx hb dX0_translate_152 rfl (lv_at hl 0 rfl) ?_
            exact ca_iret C X (Or.inr (Or.inr (Or.inr ⟨ca_nlt c_26, c_42, q, hq, Or.inr (Or.inl ⟨c_123, c_135, rfl, rfl⟩)⟩))) dX0_translate_153
          · skip
            refine lv_aload_n hx hb dX0_translate_138 rfl (lv_at hl 1 rfl) ?_
            refine ca_gX13 C rfl X dX0_translate_139 ?_
            refine lv_iload_n hx hb dX0_translate_142 rfl (lv_at hl 0 rfl) ?_
            refine lv_iconst (v := nI 1) hx hb dX0_translate_143 (by decide +kernel) ?_
            refine ca_sX13 (j := q) (x := nI 1) (y := 1) ca_n1 C X (by omega) dX0_translate_144 (fun H locs X => ?_)
            refine lv_aload_n hx hb dX0_translate_145 rfl (lv_at hl 1 rfl) ?_
            refine ca_gX4 C rfl X dX0_translate_146 ?_
            refine lv_iload_n hx hb dX0_translate_149 rfl (lv_at hl 2 rfl) ?_
            refine lv_iconst (v := nI 1) hx hb dX0_translate_150 (by decide +kernel) ?_
            refine ca_sX4 (j := j) (x := nI 1) (y := 1) ca_n1 C X (by omega) dX0_translate_151 (fun H locs X => ?_)
            refine lv_iload_n hx hb dX0_translate_152 rfl (lv_at hl 0 rfl) ?_
            exact ca_iret C X (Or.inr (Or.inr (Or.inr ⟨ca_nlt c_26, c_42, q, hq, Or.inr (Or.inr ⟨c_123, c_135, rfl, rfl⟩)⟩))) dX0_translate_153
        · skip
          refine lv_bipush (v := (-3)) hx hb dX0_translate_126 (by decide +kernel) ?_
          exact ca_iret C X (Or.inr (Or.inr (Or.inr ⟨ca_nlt c_26, c_42, q, hq, Or.inl ⟨c_123, rfl, rfl⟩⟩))) dX0_translate_128
      · skip
        refine lv_bipush (v := (-3)) hx hb dX0_translate_45 (by decide +kernel) ?_
        exact ca_iret C X (Or.inr (Or.inr (Or.inl ⟨ca_nlt c_26, c_42, rfl, rfl⟩))) dX0_translate_47
    · skip
      refine lv_bipush (v := (-2)) hx hb dX0_translate_29 (by decide +kernel) ?_
      exact ca_iret C X (Or.inr (Or.inl ⟨ca_lt0 c_26, rfl, rfl⟩)) dX0_translate_31
  · skip
    refine lv_istore_n (lv' := [(3, .int (nI q)), (0, .ref h), (1, .int (nI j)), (2, .int (nI 1))]) hx hb dX0_translate_15 rfl hl (by decide) rfl (fun ls hl => ?_)
    refine lv_iload_n hx hb dX0_translate_16 rfl (lv_at hl 0 rfl) ?_
    refine lv_if_ge (tgt := 103) hx hb dX0_translate_17 (by decide) (fun c_17 => ?_) (fun c_17 => absurd (ca_ge0 (by omega)) c_17)
    refine lv_aload_n hx hb dX0_translate_103 rfl (lv_at hl 1 rfl) ?_
    refine ca_gX14 C rfl X dX0_translate_104 ?_
    refine lv_iload_n hx hb dX0_translate_107 rfl (lv_at hl 0 rfl) ?_
    refine lv_aload_n hx hb dX0_translate_108 rfl (lv_at hl 1 rfl) ?_
    refine ca_gX5 (v := (ca_tick S) 5 0) C rfl X rfl dX0_translate_109 ?_
    refine ca_sX14 (j := q) (x := (ca_tick S) 5 0) C X (by omega) dX0_translate_112 (fun H locs X => ?_)
    have X : ca_I D (ca_X h a d) (ca_TX d) A s H locs (ca_es (ca_tick S) q) := X
    refine lv_iload_n hx hb dX0_translate_113 rfl (lv_at hl 3 rfl) ?_
    refine lv_if_eq (tgt := 152) hx hb dX0_translate_114 (by decide) (fun c_114 => absurd c_114 (by decide +kernel)) (fun c_114 => ?_)
    refine lv_aload_n hx hb dX0_translate_117 rfl (lv_at hl 1 rfl) ?_
    refine ca_gX12 C rfl X dX0_translate_118 ?_
    refine lv_iload_n hx hb dX0_translate_121 rfl (lv_at hl 0 rfl) ?_
    refine ca_lX12 (j := q) (v := (ca_es (ca_tick S) q) 12 q) C X (by omega) rfl dX0_translate_122 ?_
    refine lv_if_ne (tgt := 129) hx hb dX0_translate_123 (by decide) (fun c_123 => ?_) (fun c_123 => ?_)
    · skip
      refine lv_aload_n hx hb dX0_translate_129 rfl (lv_at hl 1 rfl) ?_
      refine ca_gX13 C rfl X dX0_translate_130 ?_
      refine lv_iload_n hx hb dX0_translate_133 rfl (lv_at hl 0 rfl) ?_
      refine ca_lX13 (j := q) (v := (ca_es (ca_tick S) q) 13 q) C X (by omega) rfl dX0_translate_134 ?_
      refine lv_if_ne (tgt := 152) hx hb dX0_translate_135 (by decide) (fun c_135 => ?_) (fun c_135 => ?_)
      · skip
        refine lv_iload_n hx hb dX0_translate_152 rfl (lv_at hl 0 rfl) ?_
        exact ca_iret C X (Or.inl ⟨q, hq, he, Or.inr (Or.inl ⟨c_123, c_135, rfl, rfl⟩)⟩) dX0_translate_153
      · skip
        refine lv_aload_n hx hb dX0_translate_138 rfl (lv_at hl 1 rfl) ?_
        refine ca_gX13 C rfl X dX0_translate_139 ?_
        refine lv_iload_n hx hb dX0_translate_142 rfl (lv_at hl 0 rfl) ?_
        refine lv_iconst (v := nI 1) hx hb dX0_translate_143 (by decide +kernel) ?_
        refine ca_sX13 (j := q) (x := nI 1) (y := 1) ca_n1 C X (by omega) dX0_translate_144 (fun H locs X => ?_)
        refine lv_aload_n hx hb dX0_translate_145 rfl (lv_at hl 1 rfl) ?_
        refine ca_gX4 C rfl X dX0_translate_146 ?_
        refine lv_iload_n hx hb dX0_translate_149 rfl (lv_at hl 2 rfl) ?_
        refine lv_iconst (v := nI 1) hx hb dX0_translate_150 (by decide +kernel) ?_
        refine ca_sX4 (j := j) (x := nI 1) (y := 1) ca_n1 C X (by omega) dX0_translate_151 (fun H locs X => ?_)
        refine lv_iload_n hx hb dX0_translate_152 rfl (lv_at hl 0 rfl) ?_
        exact ca_iret C X (Or.inl ⟨q, hq, he, Or.inr (Or.inr ⟨c_123, c_135, rfl, rfl⟩)⟩) dX0_translate_153
    · skip
      refine lv_bipush (v := (-3)) hx hb dX0_translate_126 (by decide +kernel) ?_
      exact ca_iret C X (Or.inl ⟨q, hq, he, Or.inl ⟨c_123, rfl, rfl⟩⟩) dX0_translate_128
end
section
set_option maxHeartbeats 4000000 in
set_option maxRecDepth 100000 in
theorem ca_cX_writeBack (l : Launch) (D : va_G) (h : Nat) (a : Nat → Nat) (d : Nat → ClassId) (S : ca_St) (j : Nat) (hj : j < 16) (hn : S 6 j < 0 ∨ ∃ t : Nat, t < 16 ∧ S 6 j = nI t) : ca_MeV l yX0_writeBack cX0_writeBack 3 (ca_r 0 0) D (ca_X h a d) (ca_TX d) [.ref h, .int (nI j)] S (fun S' => S' = ca_wb S j) := by
  refine ca_startV (by decide) (Nat.le_of_ble_eq_true rfl) ?_
  intro p e s m args below meth c A ls C X hl
  have hx := C.1
  have hb := C.2.1
  have hl : lv_has ls 3 [(0, .ref h), (1, .int (nI j))] := hl
  refine lv_aload_n hx hb dX0_writeBack_0 rfl (lv_at hl 0 rfl) ?_
  refine ca_gX6 C rfl X dX0_writeBack_1 ?_
  refine lv_iload_n hx hb dX0_writeBack_4 rfl (lv_at hl 1 rfl) ?_
  refine ca_lX6 (j := j) (v := S 6 j) C X (by omega) rfl dX0_writeBack_5 ?_
  refine lv_if_lt (tgt := 63) hx hb dX0_writeBack_6 (by decide) (fun c_6 => ?_) (fun c_6 => ?_)
  · skip
    exact ca_vret C X (ca_wb_n c_6) dX0_writeBack_63
  · skip
    obtain ⟨t, ht, hnt⟩ := hn.resolve_left c_6
    refine lv_aload_n hx hb dX0_writeBack_9 rfl (lv_at hl 0 rfl) ?_
    refine ca_gX7 C rfl X dX0_writeBack_10 ?_
    refine lv_iload_n hx hb dX0_writeBack_13 rfl (lv_at hl 1 rfl) ?_
    refine ca_lX7 (j := j) (v := S 7 j) C X (by omega) rfl dX0_writeBack_14 ?_
    refine lv_if_eq (tgt := 63) hx hb dX0_writeBack_15 (by decide) (fun c_15 => ?_) (fun c_15 => ?_)
    · skip
      exact ca_vret C X (ca_wb_c c_15) dX0_writeBack_63
    · skip
      refine lv_iconst (v := nI 0) hx hb dX0_writeBack_18 (by decide +kernel) ?_
      refine lv_istore_n (lv' := [(2, .int (nI 0)), (0, .ref h), (1, .int (nI j))]) hx hb dX0_writeBack_19 rfl hl (by decide) rfl (fun ls hl => ?_)
      have loop_20 : ∀ (nn k : Nat), 4 - k = nn → k ≤ 4 → ∀ (H : Heap) (locs : List Loc) (ls : Array Slot), ca_I D (ca_X h a d) (ca_TX d) A s H locs (ca_cp S 0 (t * 4) 9 (j * 4) k) → lv_has ls 3 [(0, .ref h), (1, .int (nI j)), (2, .int (nI k))] → W p l e (ca_r 0 0) s m args below meth c H locs 0 0 (ca_GV D (ca_X h a d) (ca_TX d) (fun S' => S' = ca_wb S j) A below args s) (F0 m 20 ls []) := by
        intro nn
        induction nn using Nat.strongRecOn with
        | _ nn ih_20 =>
          intro k hnn hk_20 H locs ls X hl
          refine lv_iload_n hx hb dX0_writeBack_20 rfl (lv_at hl 2 rfl) ?_
          refine lv_iconst (v := nI 4) hx hb dX0_writeBack_21 (by decide +kernel) ?_
          refine ca_geN (i := k) (n := 4) (tgt := 56) hx hb (by omega) (by omega) dX0_writeBack_22 (by decide) (fun c_22 => ?_) (fun c_22 => ?_)
          · skip
            obtain rfl : k = 4 := by omega
            refine lv_aload_n hx hb dX0_writeBack_56 rfl (lv_at hl 0 rfl) ?_
            refine ca_gX7 C rfl X dX0_writeBack_57 ?_
            refine lv_iload_n hx hb dX0_writeBack_60 rfl (lv_at hl 1 rfl) ?_
            refine lv_iconst (v := nI 0) hx hb dX0_writeBack_61 (by decide +kernel) ?_
            refine ca_sX7 (j := j) (x := nI 0) (y := 0) ca_n0 C X (by omega) dX0_writeBack_62 (fun H locs X => ?_)
            exact ca_vret C X (ca_wb_w ht hnt c_15) dX0_writeBack_63
          · skip
            refine lv_aload_n hx hb dX0_writeBack_25 rfl (lv_at hl 0 rfl) ?_
            refine ca_gX0 C rfl X dX0_writeBack_26 ?_
            refine lv_aload_n hx hb dX0_writeBack_29 rfl (lv_at hl 0 rfl) ?_
            refine ca_gX6 C rfl X dX0_writeBack_30 ?_
            refine lv_iload_n hx hb dX0_writeBack_33 rfl (lv_at hl 1 rfl) ?_
            refine ca_lX6 (j := j) (v := nI t) C X (by omega) hnt dX0_writeBack_34 ?_
            refine lv_iconst (v := nI 4) hx hb dX0_writeBack_35 (by decide +kernel) ?_
            refine ca_mulN (i := t) (j := 4) hx hb dX0_writeBack_36 ?_
            refine lv_iload_n hx hb dX0_writeBack_37 rfl (lv_at hl 2 rfl) ?_
            refine ca_addN (i := t * 4) (j := k) hx hb dX0_writeBack_38 ?_
            refine lv_aload_n hx hb dX0_writeBack_39 rfl (lv_at hl 0 rfl) ?_
            refine ca_gX9 C rfl X dX0_writeBack_40 ?_
            refine lv_iload_n hx hb dX0_writeBack_43 rfl (lv_at hl 1 rfl) ?_
            refine lv_iconst (v := nI 4) hx hb dX0_writeBack_44 (by decide +kernel) ?_
            refine ca_mulN (i := j) (j := 4) hx hb dX0_writeBack_45 ?_
            refine lv_iload_n hx hb dX0_writeBack_46 rfl (lv_at hl 2 rfl) ?_
            refine ca_addN (i := j * 4) (j := k) hx hb dX0_writeBack_47 ?_
            refine ca_lX9 (j := j * 4 + k) (v := S 9 (j * 4 + k)) C X (by omega) rfl dX0_writeBack_48 ?_
            refine ca_sX0 (j := t * 4 + k) (x := S 9 (j * 4 + k)) C X (by omega) dX0_writeBack_49 (fun H locs X => ?_)
            refine lv_iinc (v := nI (k + 1)) (lv' := [(2, .int (nI (k + 1))), (0, .ref h), (1, .int (nI j))]) hx hb dX0_writeBack_50 hl (k := 2) rfl (ca_inc k) (by decide) rfl (fun ls hl => ?_)
            refine lv_goto (tgt := 20) hx hb dX0_writeBack_53 (by decide) ?_
            exact ih_20 (4 - (k + 1)) (by omega) (k + 1) rfl (by omega) _ _ _ (by rw [← ca_cp_s]; exact X) (lv_sub hl [1, 2, 0] rfl)
      exact loop_20 4 0 rfl (Nat.zero_le _) _ _ _ (by rw [ca_cp_0]; exact X) (lv_sub hl [1, 2, 0] rfl)
set_option maxHeartbeats 4000000 in
set_option maxRecDepth 100000 in
theorem ca_cX_lineIn (l : Launch) (D : va_G) (h : Nat) (a : Nat → Nat) (d : Nat → ClassId) (S : ca_St) (k : Nat) (hk : k < 8) (g : Int32) : ca_Met l yX0_lineIn cX0_lineIn 3 (some .int) (ca_r 0 0) D (ca_X h a d) (ca_TX d) [.ref h, .int (nI k), .int g] S (fun r S' => S' = S ∧ ca_LI S k g r) := by
  refine ca_start (by decide) (Nat.le_of_ble_eq_true rfl) ?_
  intro p e s m args below meth c A ls C X hl
  have hx := C.1
  have hb := C.2.1
  have hl : lv_has ls 3 [(0, .ref h), (1, .int (nI k)), (2, .int g)] := hl
  refine lv_aload_n hx hb dX0_lineIn_0 rfl (lv_at hl 0 rfl) ?_
  refine ca_gX6 C rfl X dX0_lineIn_1 ?_
  refine lv_iload_n hx hb dX0_lineIn_4 rfl (lv_at hl 1 rfl) ?_
  refine lv_iconst (v := nI 2) hx hb dX0_lineIn_5 (by decide +kernel) ?_
  refine ca_mulN (i := k) (j := 2) hx hb dX0_lineIn_6 ?_
  refine ca_lX6 (j := k * 2) (v := S 6 (k * 2)) C X (by omega) rfl dX0_lineIn_7 ?_
  refine lv_iload_n hx hb dX0_lineIn_8 rfl (lv_at hl 2 rfl) ?_
  refine lv_icmp_ne (tgt := 16) hx hb dX0_lineIn_9 (by decide) (fun c_9 => ?_) (fun c_9 => ?_)
  · skip
    refine lv_aload_n hx hb dX0_lineIn_16 rfl (lv_at hl 0 rfl) ?_
    refine ca_gX6 C rfl X dX0_lineIn_17 ?_
    refine lv_iload_n hx hb dX0_lineIn_20 rfl (lv_at hl 1 rfl) ?_
    refine lv_iconst (v := nI 2) hx hb dX0_lineIn_21 (by decide +kernel) ?_
    refine ca_mulN (i := k) (j := 2) hx hb dX0_lineIn_22 ?_
    refine lv_iconst (v := nI 1) hx hb dX0_lineIn_23 (by decide +kernel) ?_
    refine ca_addN (i := k * 2) (j := 1) hx hb dX0_lineIn_24 ?_
    refine ca_lX6 (j := k * 2 + 1) (v := S 6 (k * 2 + 1)) C X (by omega) rfl dX0_lineIn_25 ?_
    refine lv_iload_n hx hb dX0_lineIn_26 rfl (lv_at hl 2 rfl) ?_
    refine lv_icmp_ne (tgt := 38) hx hb dX0_lineIn_27 (by decide) (fun c_27 => ?_) (fun c_27 => ?_)
    · skip
      refine lv_iconst (v := (-1)) hx hb dX0_lineIn_38 (by decide +kernel) ?_
      exact ca_iret C X (⟨rfl, Or.inr ⟨rfl, c_9, c_27⟩⟩) dX0_lineIn_39
    · skip
      refine lv_iload_n hx hb dX0_lineIn_30 rfl (lv_at hl 1 rfl) ?_
      refine lv_iconst (v := nI 2) hx hb dX0_lineIn_31 (by decide +kernel) ?_
      refine ca_mulN (i := k) (j := 2) hx hb dX0_lineIn_32 ?_
      refine lv_iconst (v := nI 1) hx hb dX0_lineIn_33 (by decide +kernel) ?_
      refine ca_addN (i := k * 2) (j := 1) hx hb dX0_lineIn_34 ?_
      refine lv_goto (tgt := 39) hx hb dX0_lineIn_35 (by decide) ?_
      exact ca_iret C X (⟨rfl, Or.inl ⟨k * 2 + 1, Or.inr rfl, rfl, c_27⟩⟩) dX0_lineIn_39
  · skip
    refine lv_iload_n hx hb dX0_lineIn_12 rfl (lv_at hl 1 rfl) ?_
    refine lv_iconst (v := nI 2) hx hb dX0_lineIn_13 (by decide +kernel) ?_
    refine ca_mulN (i := k) (j := 2) hx hb dX0_lineIn_14 ?_
    exact ca_iret C X (⟨rfl, Or.inl ⟨k * 2, Or.inl rfl, rfl, c_9⟩⟩) dX0_lineIn_15
set_option maxHeartbeats 4000000 in
set_option maxRecDepth 100000 in
theorem ca_cX_lineAnywhere (l : Launch) (D : va_G) (h : Nat) (a : Nat → Nat) (d : Nat → ClassId) (S : ca_St) (t : Nat) (ht : t < 16) : ca_Met l yX0_lineAnywhere cX0_lineAnywhere 5 (some .int) (ca_r 1 22) D (ca_X h a d) (ca_TX d) [.ref h, .int (nI t)] S (fun r S' => S' = S ∧ ca_LA S t r) := by
  refine ca_start (by decide) (Nat.le_of_ble_eq_true rfl) ?_
  intro p e s m args below meth c A ls C X hl
  have hx := C.1
  have hb := C.2.1
  have hl : lv_has ls 5 [(0, .ref h), (1, .int (nI t))] := hl
  refine lv_iconst (v := (-1)) hx hb dX0_lineAnywhere_0 (by decide +kernel) ?_
  refine lv_istore_n (lv' := [(2, .int ((-1))), (0, .ref h), (1, .int (nI t))]) hx hb dX0_lineAnywhere_1 rfl hl (by decide) rfl (fun ls hl => ?_)
  refine lv_iconst (v := nI 0) hx hb dX0_lineAnywhere_2 (by decide +kernel) ?_
  refine lv_istore_n (lv' := [(3, .int (nI 0)), (2, .int ((-1))), (0, .ref h), (1, .int (nI t))]) hx hb dX0_lineAnywhere_3 rfl hl (by decide) rfl (fun ls hl => ?_)
  have loop_4 : ∀ (nn k : Nat), 4 - k = nn → k ≤ 4 → ∀ (fd : Int32), ca_LC S t k fd → ∀ (H : Heap) (locs : List Loc) (ls : Array Slot), ca_I D (ca_X h a d) (ca_TX d) A s H locs S → lv_has ls 5 [(0, .ref h), (1, .int (nI t)), (2, .int fd), (3, .int (nI k))] → W p l e (ca_r 1 22) s m args below meth c H locs 0 0 (ca_G D (ca_X h a d) (ca_TX d) (fun r S' => S' = S ∧ ca_LA S t r) A below args s) (F0 m 4 ls []) := by
    intro nn
    induction nn using Nat.strongRecOn with
    | _ nn ih_4 =>
      intro k hnn hk_4 fd hfd H locs ls X hl
      refine lv_iload_n hx hb dX0_lineAnywhere_4 rfl (lv_at hl 3 rfl) ?_
      refine lv_iconst (v := nI 4) hx hb dX0_lineAnywhere_5 (by decide +kernel) ?_
      refine ca_geN (i := k) (n := 4) (tgt := 37) hx hb (by omega) (by omega) dX0_lineAnywhere_6 (by decide) (fun c_6 => ?_) (fun c_6 => ?_)
      · skip
        obtain rfl : k = 4 := by omega
        refine lv_iload_n hx hb dX0_lineAnywhere_37 rfl (lv_at hl 2 rfl) ?_
        exact ca_iret C X (⟨rfl, ca_LC_4 hfd⟩) dX0_lineAnywhere_38
      · skip
        refine lv_aload_n hx hb dX0_lineAnywhere_9 rfl (lv_at hl 0 rfl) ?_
        refine lv_iload_n hx hb dX0_lineAnywhere_10 rfl (lv_at hl 3 rfl) ?_
        refine lv_iconst (v := nI 2) hx hb dX0_lineAnywhere_11 (by decide +kernel) ?_
        refine ca_mulN (i := k) (j := 2) hx hb dX0_lineAnywhere_12 ?_
        refine lv_iload_n hx hb dX0_lineAnywhere_13 rfl (lv_at hl 1 rfl) ?_
        refine lv_iconst (v := nI 1) hx hb dX0_lineAnywhere_14 (by decide +kernel) ?_
        refine ca_and1 (i := t) hx hb (by omega) dX0_lineAnywhere_15 ?_
        refine ca_addN (i := k * 2) (j := t % 2) hx hb dX0_lineAnywhere_16 ?_
        refine lv_iload_n hx hb dX0_lineAnywhere_17 rfl (lv_at hl 1 rfl) ?_
        refine ca_calli (As := [.int (nI (k * 2 + t % 2)), .int (nI t)]) (rest := []) C (ca_cX_lineIn l D h a d S (k * 2 + t % 2) (by omega) (nI t)) (cwV 2 C.2.2.2.2.1 (lw_V q132 q134 qs8 q19 q135) rfl rfl rfl (by decide +kernel) ⟨Nat.le_of_ble_eq_true rfl, Nat.le_of_ble_eq_true rfl⟩) ca_rcX X rfl hl.1 rfl (Nat.le_of_ble_eq_true rfl) dX0_lineAnywhere_18 ⟨Nat.le_refl _, Nat.le_refl _⟩ (fun r_18 S_18 H locs hp_18 X => ?_)
        obtain ⟨hS_18, hp_18⟩ := hp_18
        rw [hS_18] at X
        rcases hp_18 with ⟨q, hq, rfl, he⟩ | ⟨rfl, hn1, hn2⟩
        · skip
          refine lv_istore (lv' := [(4, .int (nI q)), (0, .ref h), (1, .int (nI t)), (2, .int fd), (3, .int (nI k))]) hx hb dX0_lineAnywhere_21 hl (by decide) rfl (fun ls hl => ?_)
          refine lv_iload hx hb dX0_lineAnywhere_23 (lv_at hl 0 rfl) ?_
          refine lv_if_lt (tgt := 31) hx hb dX0_lineAnywhere_25 (by decide) (fun c_25 => absurd c_25 (ca_nlt0 (by omega))) (fun c_25 => ?_)
          refine lv_iload hx hb dX0_lineAnywhere_28 (lv_at hl 0 rfl) ?_
          refine lv_istore_n (lv' := [(2, .int (nI q)), (4, .int (nI q)), (0, .ref h), (1, .int (nI t)), (3, .int (nI k))]) hx hb dX0_lineAnywhere_30 rfl hl (by decide) rfl (fun ls hl => ?_)
          refine lv_iinc (v := nI (k + 1)) (lv' := [(3, .int (nI (k + 1))), (2, .int (nI q)), (4, .int (nI q)), (0, .ref h), (1, .int (nI t))]) hx hb dX0_lineAnywhere_31 hl (k := 4) rfl (ca_inc k) (by decide) rfl (fun ls hl => ?_)
          refine lv_goto (tgt := 4) hx hb dX0_lineAnywhere_34 (by decide) ?_
          exact ih_4 (4 - (k + 1)) (by omega) (k + 1) rfl (by omega) (nI q) (ca_LC_f c_6 hq he) _ _ _ X (lv_sub hl [3, 4, 1, 0] rfl)
        · skip
          refine lv_istore (lv' := [(4, .int ((-1))), (0, .ref h), (1, .int (nI t)), (2, .int fd), (3, .int (nI k))]) hx hb dX0_lineAnywhere_21 hl (by decide) rfl (fun ls hl => ?_)
          refine lv_iload hx hb dX0_lineAnywhere_23 (lv_at hl 0 rfl) ?_
          refine lv_if_lt (tgt := 31) hx hb dX0_lineAnywhere_25 (by decide) (fun c_25 => ?_) (fun c_25 => absurd (by decide +kernel) c_25)
          refine lv_iinc (v := nI (k + 1)) (lv' := [(3, .int (nI (k + 1))), (4, .int ((-1))), (0, .ref h), (1, .int (nI t)), (2, .int fd)]) hx hb dX0_lineAnywhere_31 hl (k := 4) rfl (ca_inc k) (by decide) rfl (fun ls hl => ?_)
          refine lv_goto (tgt := 4) hx hb dX0_lineAnywhere_34 (by decide) ?_
          exact ih_4 (4 - (k + 1)) (by omega) (k + 1) rfl (by omega) fd (ca_LC_n hfd hn1 hn2) _ _ _ X (lv_sub hl [2, 3, 4, 0] rfl)
  exact loop_4 4 0 rfl (Nat.zero_le _) (-1) (ca_LC_0 S t) _ _ _ X (lv_sub hl [2, 3, 1, 0] rfl)
set_option maxHeartbeats 4000000 in
set_option maxRecDepth 100000 in
theorem ca_cX_victim (l : Launch) (D : va_G) (h : Nat) (a : Nat → Nat) (d : Nat → ClassId) (S : ca_St) (k : Nat) (hk : k < 8) (hN : ca_N (S 6)) : ca_Met l yX0_victim cX0_victim 5 (some .int) (ca_r 1 22) D (ca_X h a d) (ca_TX d) [.ref h, .int (nI k)] S (fun r S' => ∃ q : Nat, (q = k * 2 ∨ q = k * 2 + 1) ∧ r = nI q ∧ S' = ca_dr S q) := by
  refine ca_start (by decide) (Nat.le_of_ble_eq_true rfl) ?_
  intro p e s m args below meth c A ls C X hl
  have hx := C.1
  have hb := C.2.1
  have hl : lv_has ls 5 [(0, .ref h), (1, .int (nI k))] := hl
  refine lv_iload_n hx hb dX0_victim_0 rfl (lv_at hl 1 rfl) ?_
  refine lv_iconst (v := nI 2) hx hb dX0_victim_1 (by decide +kernel) ?_
  refine ca_mulN (i := k) (j := 2) hx hb dX0_victim_2 ?_
  refine lv_istore_n (lv' := [(2, .int (nI (k * 2))), (0, .ref h), (1, .int (nI k))]) hx hb dX0_victim_3 rfl hl (by decide) rfl (fun ls hl => ?_)
  refine lv_iload_n hx hb dX0_victim_4 rfl (lv_at hl 0 rfl) ?_
  refine lv_iconst (v := nI 1) hx hb dX0_victim_5 (by decide +kernel) ?_
  refine ca_addN (i := k * 2) (j := 1) hx hb dX0_victim_6 ?_
  refine lv_istore_n (lv' := [(3, .int (nI (k * 2 + 1))), (2, .int (nI (k * 2))), (0, .ref h), (1, .int (nI k))]) hx hb dX0_victim_7 rfl hl (by decide) rfl (fun ls hl => ?_)
  refine lv_iload_n hx hb dX0_victim_8 rfl (lv_at hl 1 rfl) ?_
  refine lv_istore (lv' := [(4, .int (nI (k * 2))), (3, .int (nI (k * 2 + 1))), (2, .int (nI (k * 2))), (0, .ref h), (1, .int (nI k))]) hx hb dX0_victim_9 hl (by decide) rfl (fun ls hl => ?_)
  refine lv_aload_n hx hb dX0_victim_11 rfl (lv_at hl 3 rfl) ?_
  refine ca_gX6 C rfl X dX0_victim_12 ?_
  refine lv_iload_n hx hb dX0_victim_15 rfl (lv_at hl 2 rfl) ?_
  refine ca_lX6 (j := k * 2) (v := S 6 (k * 2)) C X (by omega) rfl dX0_victim_16 ?_
  refine lv_if_lt (tgt := 47) hx hb dX0_victim_17 (by decide) (fun c_17 => ?_) (fun c_17 => ?_)
  · skip
    refine lv_aload_n hx hb dX0_victim_47 rfl (lv_at hl 3 rfl) ?_
    refine lv_iload hx hb dX0_victim_48 (lv_at hl 0 rfl) ?_
    refine ca_callv (As := [.int (nI (k * 2))]) (rest := []) C (ca_cX_writeBack l D h a d S (k * 2) (by omega) (ca_N_neg hN (by omega))) (cwV 1 C.2.2.2.2.1 (lw_V q144 q146 qs11 q19 q147) rfl rfl rfl (by decide +kernel) ⟨Nat.le_of_ble_eq_true rfl, Nat.le_of_ble_eq_true rfl⟩) ca_rcX X rfl hl.1 rfl (Nat.le_of_ble_eq_true rfl) dX0_victim_50 ⟨Nat.le_refl _, Nat.le_refl _⟩ (fun S_50 H locs hp_50 X => ?_)
    obtain rfl := hp_50
    refine lv_aload_n hx hb dX0_victim_53 rfl (lv_at hl 3 rfl) ?_
    refine ca_gX6 C rfl X dX0_victim_54 ?_
    refine lv_iload hx hb dX0_victim_57 (lv_at hl 0 rfl) ?_
    refine lv_iconst (v := (-1)) hx hb dX0_victim_59 (by decide +kernel) ?_
    refine ca_sX6 (j := k * 2) (x := (-1)) C X (by omega) dX0_victim_60 (fun H locs X => ?_)
    refine lv_iload hx hb dX0_victim_61 (lv_at hl 0 rfl) ?_
    exact ca_iret C X (⟨_, Or.inl rfl, rfl, rfl⟩) dX0_victim_63
  · skip
    refine lv_aload_n hx hb dX0_victim_20 rfl (lv_at hl 3 rfl) ?_
    refine ca_gX6 C rfl X dX0_victim_21 ?_
    refine lv_iload_n hx hb dX0_victim_24 rfl (lv_at hl 1 rfl) ?_
    refine ca_lX6 (j := k * 2 + 1) (v := S 6 (k * 2 + 1)) C X (by omega) rfl dX0_victim_25 ?_
    refine lv_if_lt (tgt := 44) hx hb dX0_victim_26 (by decide) (fun c_26 => ?_) (fun c_26 => ?_)
    · skip
      refine lv_iload_n hx hb dX0_victim_44 rfl (lv_at hl 1 rfl) ?_
      refine lv_istore (lv' := [(4, .int (nI (k * 2 + 1))), (3, .int (nI (k * 2 + 1))), (2, .int (nI (k * 2))), (0, .ref h), (1, .int (nI k))]) hx hb dX0_victim_45 hl (by decide) rfl (fun ls hl => ?_)
      refine lv_aload_n hx hb dX0_victim_47 rfl (lv_at hl 3 rfl) ?_
      refine lv_iload hx hb dX0_victim_48 (lv_at hl 0 rfl) ?_
      refine ca_callv (As := [.int (nI (k * 2 + 1))]) (rest := []) C (ca_cX_writeBack l D h a d S (k * 2 + 1) (by omega) (ca_N_neg hN (by omega))) (cwV 1 C.2.2.2.2.1 (lw_V q144 q146 qs11 q19 q147) rfl rfl rfl (by decide +kernel) ⟨Nat.le_of_ble_eq_true rfl, Nat.le_of_ble_eq_true rfl⟩) ca_rcX X rfl hl.1 rfl (Nat.le_of_ble_eq_true rfl) dX0_victim_50 ⟨Nat.le_refl _, Nat.le_refl _⟩ (fun S_50 H locs hp_50 X => ?_)
      obtain rfl := hp_50
      refine lv_aload_n hx hb dX0_victim_53 rfl (lv_at hl 3 rfl) ?_
      refine ca_gX6 C rfl X dX0_victim_54 ?_
      refine lv_iload hx hb dX0_victim_57 (lv_at hl 0 rfl) ?_
      refine lv_iconst (v := (-1)) hx hb dX0_victim_59 (by decide +kernel) ?_
      refine ca_sX6 (j := k * 2 + 1) (x := (-1)) C X (by omega) dX0_victim_60 (fun H locs X => ?_)
      refine lv_iload hx hb dX0_victim_61 (lv_at hl 0 rfl) ?_
      exact ca_iret C X (⟨_, Or.inr rfl, rfl, rfl⟩) dX0_victim_63
    · skip
      refine lv_aload_n hx hb dX0_victim_29 rfl (lv_at hl 3 rfl) ?_
      refine ca_gX8 C rfl X dX0_victim_30 ?_
      refine lv_iload_n hx hb dX0_victim_33 rfl (lv_at hl 1 rfl) ?_
      refine ca_lX8 (j := k * 2 + 1) (v := S 8 (k * 2 + 1)) C X (by omega) rfl dX0_victim_34 ?_
      refine lv_aload_n hx hb dX0_victim_35 rfl (lv_at hl 3 rfl) ?_
      refine ca_gX8 C rfl X dX0_victim_36 ?_
      refine lv_iload_n hx hb dX0_victim_39 rfl (lv_at hl 2 rfl) ?_
      refine ca_lX8 (j := k * 2) (v := S 8 (k * 2)) C X (by omega) rfl dX0_victim_40 ?_
      refine lv_icmp_ge (tgt := 47) hx hb dX0_victim_41 (by decide) (fun c_41 => ?_) (fun c_41 => ?_)
      · skip
        refine lv_aload_n hx hb dX0_victim_47 rfl (lv_at hl 3 rfl) ?_
        refine lv_iload hx hb dX0_victim_48 (lv_at hl 0 rfl) ?_
        refine ca_callv (As := [.int (nI (k * 2))]) (rest := []) C (ca_cX_writeBack l D h a d S (k * 2) (by omega) (ca_N_neg hN (by omega))) (cwV 1 C.2.2.2.2.1 (lw_V q144 q146 qs11 q19 q147) rfl rfl rfl (by decide +kernel) ⟨Nat.le_of_ble_eq_true rfl, Nat.le_of_ble_eq_true rfl⟩) ca_rcX X rfl hl.1 rfl (Nat.le_of_ble_eq_true rfl) dX0_victim_50 ⟨Nat.le_refl _, Nat.le_refl _⟩ (fun S_50 H locs hp_50 X => ?_)
        obtain rfl := hp_50
        refine lv_aload_n hx hb dX0_victim_53 rfl (lv_at hl 3 rfl) ?_
        refine ca_gX6 C rfl X dX0_victim_54 ?_
        refine lv_iload hx hb dX0_victim_57 (lv_at hl 0 rfl) ?_
        refine lv_iconst (v := (-1)) hx hb dX0_victim_59 (by decide +kernel) ?_
        refine ca_sX6 (j := k * 2) (x := (-1)) C X (by omega) dX0_victim_60 (fun H locs X => ?_)
        refine lv_iload hx hb dX0_victim_61 (lv_at hl 0 rfl) ?_
        exact ca_iret C X (⟨_, Or.inl rfl, rfl, rfl⟩) dX0_victim_63
      · skip
        refine lv_iload_n hx hb dX0_victim_44 rfl (lv_at hl 1 rfl) ?_
        refine lv_istore (lv' := [(4, .int (nI (k * 2 + 1))), (3, .int (nI (k * 2 + 1))), (2, .int (nI (k * 2))), (0, .ref h), (1, .int (nI k))]) hx hb dX0_victim_45 hl (by decide) rfl (fun ls hl => ?_)
        refine lv_aload_n hx hb dX0_victim_47 rfl (lv_at hl 3 rfl) ?_
        refine lv_iload hx hb dX0_victim_48 (lv_at hl 0 rfl) ?_
        refine ca_callv (As := [.int (nI (k * 2 + 1))]) (rest := []) C (ca_cX_writeBack l D h a d S (k * 2 + 1) (by omega) (ca_N_neg hN (by omega))) (cwV 1 C.2.2.2.2.1 (lw_V q144 q146 qs11 q19 q147) rfl rfl rfl (by decide +kernel) ⟨Nat.le_of_ble_eq_true rfl, Nat.le_of_ble_eq_true rfl⟩) ca_rcX X rfl hl.1 rfl (Nat.le_of_ble_eq_true rfl) dX0_victim_50 ⟨Nat.le_refl _, Nat.le_refl _⟩ (fun S_50 H locs hp_50 X => ?_)
        obtain rfl := hp_50
        refine lv_aload_n hx hb dX0_victim_53 rfl (lv_at hl 3 rfl) ?_
        refine ca_gX6 C rfl X dX0_victim_54 ?_
        refine lv_iload hx hb dX0_victim_57 (lv_at hl 0 rfl) ?_
        refine lv_iconst (v := (-1)) hx hb dX0_victim_59 (by decide +kernel) ?_
        refine ca_sX6 (j := k * 2 + 1) (x := (-1)) C X (by omega) dX0_victim_60 (fun H locs X => ?_)
        refine lv_iload hx hb dX0_victim_61 (lv_at hl 0 rfl) ?_
        exact ca_iret C X (⟨_, Or.inr rfl, rfl, rfl⟩) dX0_victim_63
end
section
set_option maxHeartbeats 4000000 in
set_option maxRecDepth 100000 in
theorem ca_cX_bring (l : Launch) (D : va_G) (h : Nat) (a : Nat → Nat) (d : Nat → ClassId) (S : ca_St) (k : Nat) (hk : k < 8) (t : Nat) (ht : t < 16) (hN : ca_N (S 6)) : ca_Met l yX0_bring cX0_bring 6 (some .int) (ca_r 2 46) D (ca_X h a d) (ca_TX d) [.ref h, .int (nI k), .int (nI t)] S (fun r S' => ∃ q : Nat, r = nI q ∧ ca_BR S k t q S') := by
  refine ca_start (by decide) (Nat.le_of_ble_eq_true rfl) ?_
  intro p e s m args below meth c A ls C X hl
  have hx := C.1
  have hb := C.2.1
  have hl : lv_has ls 6 [(0, .ref h), (1, .int (nI k)), (2, .int (nI t))] := hl
  refine lv_aload_n hx hb dX0_bring_0 rfl (lv_at hl 0 rfl) ?_
  refine lv_dup hx hb dX0_bring_1 rfl ?_
  refine ca_gX5 (v := S 5 0) C rfl X rfl dX0_bring_2 ?_
  refine lv_iconst (v := nI 1) hx hb dX0_bring_5 (by decide +kernel) ?_
  refine lv_iadd hx hb dX0_bring_6 ?_
  refine ca_pX5 (x := (S 5 0) + (nI 1)) C rfl X dX0_bring_7 (fun H locs X => ?_)
  have X : ca_I D (ca_X h a d) (ca_TX d) A s H locs (ca_tick S) := X
  refine lv_aload_n hx hb dX0_bring_10 rfl (lv_at hl 0 rfl) ?_
  refine lv_iload_n hx hb dX0_bring_11 rfl (lv_at hl 1 rfl) ?_
  refine lv_iload_n hx hb dX0_bring_12 rfl (lv_at hl 2 rfl) ?_
  refine ca_calli (As := [.int (nI k), .int (nI t)]) (rest := []) C (ca_cX_lineIn l D h a d (ca_tick S) k hk (nI t)) (cwV 2 C.2.2.2.2.1 (lw_V q132 q134 qs8 q19 q135) rfl rfl rfl (by decide +kernel) ⟨Nat.le_of_ble_eq_true rfl, Nat.le_of_ble_eq_true rfl⟩) ca_rcX X rfl hl.1 rfl (Nat.le_of_ble_eq_true rfl) dX0_bring_13 ⟨Nat.le_refl _, Nat.le_refl _⟩ (fun r_13 S_13 H locs hp_13 X => ?_)
  obtain ⟨hS_13, hp_13⟩ := hp_13
  rw [hS_13] at X
  rcases hp_13 with ⟨q, hq, rfl, he⟩ | ⟨rfl, hn1, hn2⟩
  · skip
    refine lv_istore_n (lv' := [(3, .int (nI q)), (0, .ref h), (1, .int (nI k)), (2, .int (nI t))]) hx hb dX0_bring_16 rfl hl (by decide) rfl (fun ls hl => ?_)
    refine lv_iload_n hx hb dX0_bring_17 rfl (lv_at hl 0 rfl) ?_
    refine lv_if_ge (tgt := 152) hx hb dX0_bring_18 (by decide) (fun c_18 => ?_) (fun c_18 => absurd (ca_ge0 (by omega)) c_18)
    refine lv_aload_n hx hb dX0_bring_152 rfl (lv_at hl 1 rfl) ?_
    refine ca_gX8 C rfl X dX0_bring_153 ?_
    refine lv_iload_n hx hb dX0_bring_156 rfl (lv_at hl 0 rfl) ?_
    refine lv_aload_n hx hb dX0_bring_157 rfl (lv_at hl 1 rfl) ?_
    refine ca_gX5 (v := (ca_tick S) 5 0) C rfl X rfl dX0_bring_158 ?_
    refine ca_sX8 (j := q) (x := (ca_tick S) 5 0) C X (by omega) dX0_bring_161 (fun H locs X => ?_)
    refine lv_iload_n hx hb dX0_bring_162 rfl (lv_at hl 0 rfl) ?_
    exact ca_iret C X (⟨q, rfl, hq, Or.inl ⟨he, rfl⟩⟩) dX0_bring_163
  · skip
    refine lv_istore_n (lv' := [(3, .int ((-1))), (0, .ref h), (1, .int (nI k)), (2, .int (nI t))]) hx hb dX0_bring_16 rfl hl (by decide) rfl (fun ls hl => ?_)
    refine lv_iload_n hx hb dX0_bring_17 rfl (lv_at hl 0 rfl) ?_
    refine lv_if_ge (tgt := 152) hx hb dX0_bring_18 (by decide) (fun c_18 => absurd c_18 (by decide +kernel)) (fun c_18 => ?_)
    refine lv_aload_n hx hb dX0_bring_21 rfl (lv_at hl 1 rfl) ?_
    refine lv_iload_n hx hb dX0_bring_22 rfl (lv_at hl 3 rfl) ?_
    refine ca_calli (As := [.int (nI t)]) (rest := []) C (ca_cX_lineAnywhere l D h a d (ca_tick S) t ht) (cwV 1 C.2.2.2.2.1 (lw_V q136 q138 qs9 q19 q139) rfl rfl rfl (by decide +kernel) ⟨Nat.le_of_ble_eq_true rfl, Nat.le_of_ble_eq_true rfl⟩) ca_rcX X rfl hl.1 rfl (Nat.le_of_ble_eq_true rfl) dX0_bring_23 ⟨Nat.le_refl _, Nat.le_refl _⟩ (fun r_23 S_23 H locs hp_23 X => ?_)
    obtain ⟨hS_23, hp_23⟩ := hp_23
    rw [hS_23] at X
    rcases hp_23 with ⟨b, hb16, hbp, rfl, hbe⟩ | ⟨rfl, hbn⟩
    · skip
      refine lv_istore (lv' := [(4, .int (nI b)), (3, .int ((-1))), (0, .ref h), (1, .int (nI k)), (2, .int (nI t))]) hx hb dX0_bring_26 hl (by decide) rfl (fun ls hl => ?_)
      refine lv_aload_n hx hb dX0_bring_28 rfl (lv_at hl 2 rfl) ?_
      refine lv_iload_n hx hb dX0_bring_29 rfl (lv_at hl 3 rfl) ?_
      refine ca_calli (As := [.int (nI k)]) (rest := []) C (ca_cX_victim l D h a d (ca_tick S) k hk hN) (cwV 1 C.2.2.2.2.1 (lw_V q140 q142 qs10 q19 q143) rfl rfl rfl (by decide +kernel) ⟨Nat.le_of_ble_eq_true rfl, Nat.le_of_ble_eq_true rfl⟩) ca_rcX X rfl hl.1 rfl (Nat.le_of_ble_eq_true rfl) dX0_bring_30 ⟨Nat.le_refl _, Nat.le_refl _⟩ (fun r_30 S_30 H locs hp_30 X => ?_)
      obtain ⟨q, hq, rfl, rfl⟩ := hp_30
      refine lv_istore_n (lv' := [(3, .int (nI q)), (4, .int (nI b)), (0, .ref h), (1, .int (nI k)), (2, .int (nI t))]) hx hb dX0_bring_33 rfl hl (by decide) rfl (fun ls hl => ?_)
      refine lv_iload hx hb dX0_bring_34 (lv_at hl 1 rfl) ?_
      refine lv_if_lt (tgt := 101) hx hb dX0_bring_36 (by decide) (fun c_36 => absurd c_36 (ca_nlt0 (by omega))) (fun c_36 => ?_)
      refine lv_aload_n hx hb dX0_bring_39 rfl (lv_at hl 2 rfl) ?_
      refine ca_gX7 C rfl X dX0_bring_40 ?_
      refine lv_iload_n hx hb dX0_bring_43 rfl (lv_at hl 0 rfl) ?_
      refine lv_aload_n hx hb dX0_bring_44 rfl (lv_at hl 2 rfl) ?_
      refine ca_gX7 C rfl X dX0_bring_45 ?_
      refine lv_iload hx hb dX0_bring_48 (lv_at hl 1 rfl) ?_
      refine ca_lX7 (j := b) (v := (ca_dr (ca_tick S) q) 7 b) C X (by omega) rfl dX0_bring_50 ?_
      refine ca_sX7 (j := q) (x := (ca_dr (ca_tick S) q) 7 b) (y := vp_nar .boolean ((ca_dr (ca_tick S) q) 7 b)) rfl C X (by omega) dX0_bring_51 (fun H locs X => ?_)
      obtain ⟨T, hT⟩ : ∃ z : ca_St, z = ca_wr (ca_dr (ca_tick S) q) 7 q (vp_nar .boolean ((ca_dr (ca_tick S) q) 7 b)) := ⟨_, rfl⟩
      rw [← hT] at X
      have hqb : ¬ q = b := by
        rintro rfl
        rcases hq with rfl | rfl
        · exact hn1 hbe
        · exact hn2 hbe
      refine lv_iconst (v := nI 0) hx hb dX0_bring_52 (by decide +kernel) ?_
      refine lv_istore (lv' := [(5, .int (nI 0)), (3, .int (nI q)), (4, .int (nI b)), (0, .ref h), (1, .int (nI k)), (2, .int (nI t))]) hx hb dX0_bring_53 hl (by decide) rfl (fun ls hl => ?_)
      have loop_55 : ∀ (nn i : Nat), 4 - i = nn → i ≤ 4 → ∀ (H : Heap) (locs : List Loc) (ls : Array Slot), ca_I D (ca_X h a d) (ca_TX d) A s H locs (ca_cp T 9 (q * 4) 9 (b * 4) i) → lv_has ls 6 [(0, .ref h), (1, .int (nI k)), (2, .int (nI t)), (3, .int (nI q)), (4, .int (nI b)), (5, .int (nI i))] → W p l e (ca_r 2 46) s m args below meth c H locs 0 0 (ca_G D (ca_X h a d) (ca_TX d) (fun r S' => ∃ q : Nat, r = nI q ∧ ca_BR S k t q S') A below args s) (F0 m 55 ls []) := by
        intro nn
        induction nn using Nat.strongRecOn with
        | _ nn ih_55 =>
          intro i hnn hk_55 H locs ls X hl
          refine lv_iload hx hb dX0_bring_55 (lv_at hl 5 rfl) ?_
          refine lv_iconst (v := nI 4) hx hb dX0_bring_57 (by decide +kernel) ?_
          refine ca_geN (i := i) (n := 4) (tgt := 90) hx hb (by omega) (by omega) dX0_bring_58 (by decide) (fun c_58 => ?_) (fun c_58 => ?_)
          · skip
            obtain rfl : i = 4 := by omega
            refine lv_aload_n hx hb dX0_bring_90 rfl (lv_at hl 0 rfl) ?_
            refine ca_gX6 C rfl X dX0_bring_91 ?_
            refine lv_iload hx hb dX0_bring_94 (lv_at hl 4 rfl) ?_
            refine lv_iconst (v := (-1)) hx hb dX0_bring_96 (by decide +kernel) ?_
            refine ca_sX6 (j := b) (x := (-1)) C X (by omega) dX0_bring_97 (fun H locs X => ?_)
            refine lv_goto (tgt := 145) hx hb dX0_bring_98 (by decide) ?_
            refine lv_aload_n hx hb dX0_bring_145 rfl (lv_at hl 0 rfl) ?_
            refine ca_gX6 C rfl X dX0_bring_146 ?_
            refine lv_iload_n hx hb dX0_bring_149 rfl (lv_at hl 3 rfl) ?_
            refine lv_iload_n hx hb dX0_bring_150 rfl (lv_at hl 2 rfl) ?_
            refine ca_sX6 (j := q) (x := nI t) C X (by omega) dX0_bring_151 (fun H locs X => ?_)
            refine lv_aload_n hx hb dX0_bring_152 rfl (lv_at hl 0 rfl) ?_
            refine ca_gX8 C rfl X dX0_bring_153 ?_
            refine lv_iload_n hx hb dX0_bring_156 rfl (lv_at hl 3 rfl) ?_
            refine lv_aload_n hx hb dX0_bring_157 rfl (lv_at hl 0 rfl) ?_
            refine ca_gX5 (v := T 5 0) C rfl X rfl dX0_bring_158 ?_
            refine ca_sX8 (j := q) (x := T 5 0) C X (by omega) dX0_bring_161 (fun H locs X => ?_)
            refine lv_iload_n hx hb dX0_bring_162 rfl (lv_at hl 3 rfl) ?_
            exact ca_iret C X (⟨q, rfl, hq, Or.inr ⟨hn1, hn2, Or.inl ⟨b, hb16, hbp, hbe, by subst hT; rfl⟩⟩⟩) dX0_bring_163
          · skip
            refine lv_aload_n hx hb dX0_bring_61 rfl (lv_at hl 0 rfl) ?_
            refine ca_gX9 C rfl X dX0_bring_62 ?_
            refine lv_iload_n hx hb dX0_bring_65 rfl (lv_at hl 3 rfl) ?_
            refine lv_iconst (v := nI 4) hx hb dX0_bring_66 (by decide +kernel) ?_
            refine ca_mulN (i := q) (j := 4) hx hb dX0_bring_67 ?_
            refine lv_iload hx hb dX0_bring_68 (lv_at hl 5 rfl) ?_
            refine ca_addN (i := q * 4) (j := i) hx hb dX0_bring_70 ?_
            refine lv_aload_n hx hb dX0_bring_71 rfl (lv_at hl 0 rfl) ?_
            refine ca_gX9 C rfl X dX0_bring_72 ?_
            refine lv_iload hx hb dX0_bring_75 (lv_at hl 4 rfl) ?_
            refine lv_iconst (v := nI 4) hx hb dX0_bring_77 (by decide +kernel) ?_
            refine ca_mulN (i := b) (j := 4) hx hb dX0_bring_78 ?_
            refine lv_iload hx hb dX0_bring_79 (lv_at hl 5 rfl) ?_
            refine ca_addN (i := b * 4) (j := i) hx hb dX0_bring_81 ?_
            refine ca_lX9 (j := b * 4 + i) (v := T 9 (b * 4 + i)) C X (by omega) (ca_cp_o (by omega)) dX0_bring_82 ?_
            refine ca_sX9 (j := q * 4 + i) (x := T 9 (b * 4 + i)) C X (by omega) dX0_bring_83 (fun H locs X => ?_)
            refine lv_iinc (v := nI (i + 1)) (lv' := [(5, .int (nI (i + 1))), (0, .ref h), (1, .int (nI k)), (2, .int (nI t)), (3, .int (nI q)), (4, .int (nI b))]) hx hb dX0_bring_84 hl (k := 5) rfl (ca_inc i) (by decide) rfl (fun ls hl => ?_)
            refine lv_goto (tgt := 55) hx hb dX0_bring_87 (by decide) ?_
            exact ih_55 (4 - (i + 1)) (by omega) (i + 1) rfl (by omega) _ _ _ (by rw [← ca_cp_s]; exact X) (lv_sub hl [1, 2, 3, 4, 5, 0] rfl)
      exact loop_55 4 0 rfl (Nat.zero_le _) _ _ _ (by rw [ca_cp_0]; exact X) (lv_sub hl [3, 4, 5, 1, 2, 0] rfl)
    · skip
      refine lv_istore (lv' := [(4, .int ((-1))), (3, .int ((-1))), (0, .ref h), (1, .int (nI k)), (2, .int (nI t))]) hx hb dX0_bring_26 hl (by decide) rfl (fun ls hl => ?_)
      refine lv_aload_n hx hb dX0_bring_28 rfl (lv_at hl 2 rfl) ?_
      refine lv_iload_n hx hb dX0_bring_29 rfl (lv_at hl 3 rfl) ?_
      refine ca_calli (As := [.int (nI k)]) (rest := []) C (ca_cX_victim l D h a d (ca_tick S) k hk hN) (cwV 1 C.2.2.2.2.1 (lw_V q140 q142 qs10 q19 q143) rfl rfl rfl (by decide +kernel) ⟨Nat.le_of_ble_eq_true rfl, Nat.le_of_ble_eq_true rfl⟩) ca_rcX X rfl hl.1 rfl (Nat.le_of_ble_eq_true rfl) dX0_bring_30 ⟨Nat.le_refl _, Nat.le_refl _⟩ (fun r_30 S_30 H locs hp_30 X => ?_)
      obtain ⟨q, hq, rfl, rfl⟩ := hp_30
      refine lv_istore_n (lv' := [(3, .int (nI q)), (4, .int ((-1))), (0, .ref h), (1, .int (nI k)), (2, .int (nI t))]) hx hb dX0_bring_33 rfl hl (by decide) rfl (fun ls hl => ?_)
      refine lv_iload hx hb dX0_bring_34 (lv_at hl 1 rfl) ?_
      refine lv_if_lt (tgt := 101) hx hb dX0_bring_36 (by decide) (fun c_36 => ?_) (fun c_36 => absurd (by decide +kernel) c_36)
      refine lv_aload_n hx hb dX0_bring_101 rfl (lv_at hl 2 rfl) ?_
      refine ca_gX7 C rfl X dX0_bring_102 ?_
      refine lv_iload_n hx hb dX0_bring_105 rfl (lv_at hl 0 rfl) ?_
      refine lv_iconst (v := nI 0) hx hb dX0_bring_106 (by decide +kernel) ?_
      refine ca_sX7 (j := q) (x := nI 0) (y := 0) ca_n0 C X (by omega) dX0_bring_107 (fun H locs X => ?_)
      obtain ⟨T, hT⟩ : ∃ z : ca_St, z = ca_wr (ca_dr (ca_tick S) q) 7 q 0 := ⟨_, rfl⟩
      rw [← hT] at X
      refine lv_iconst (v := nI 0) hx hb dX0_bring_108 (by decide +kernel) ?_
      refine lv_istore (lv' := [(5, .int (nI 0)), (3, .int (nI q)), (4, .int ((-1))), (0, .ref h), (1, .int (nI k)), (2, .int (nI t))]) hx hb dX0_bring_109 hl (by decide) rfl (fun ls hl => ?_)
      have loop_111 : ∀ (nn i : Nat), 4 - i = nn → i ≤ 4 → ∀ (H : Heap) (locs : List Loc) (ls : Array Slot), ca_I D (ca_X h a d) (ca_TX d) A s H locs (ca_cp T 9 (q * 4) 0 (t * 4) i) → lv_has ls 6 [(0, .ref h), (1, .int (nI k)), (2, .int (nI t)), (3, .int (nI q)), (4, .int ((-1))), (5, .int (nI i))] → W p l e (ca_r 2 46) s m args below meth c H locs 0 0 (ca_G D (ca_X h a d) (ca_TX d) (fun r S' => ∃ q : Nat, r = nI q ∧ ca_BR S k t q S') A below args s) (F0 m 111 ls []) := by
        intro nn
        induction nn using Nat.strongRecOn with
        | _ nn ih_111 =>
          intro i hnn hk_111 H locs ls X hl
          refine lv_iload hx hb dX0_bring_111 (lv_at hl 5 rfl) ?_
          refine lv_iconst (v := nI 4) hx hb dX0_bring_113 (by decide +kernel) ?_
          refine ca_geN (i := i) (n := 4) (tgt := 145) hx hb (by omega) (by omega) dX0_bring_114 (by decide) (fun c_114 => ?_) (fun c_114 => ?_)
          · skip
            obtain rfl : i = 4 := by omega
            refine lv_aload_n hx hb dX0_bring_145 rfl (lv_at hl 0 rfl) ?_
            refine ca_gX6 C rfl X dX0_bring_146 ?_
            refine lv_iload_n hx hb dX0_bring_149 rfl (lv_at hl 3 rfl) ?_
            refine lv_iload_n hx hb dX0_bring_150 rfl (lv_at hl 2 rfl) ?_
            refine ca_sX6 (j := q) (x := nI t) C X (by omega) dX0_bring_151 (fun H locs X => ?_)
            refine lv_aload_n hx hb dX0_bring_152 rfl (lv_at hl 0 rfl) ?_
            refine ca_gX8 C rfl X dX0_bring_153 ?_
            refine lv_iload_n hx hb dX0_bring_156 rfl (lv_at hl 3 rfl) ?_
            refine lv_aload_n hx hb dX0_bring_157 rfl (lv_at hl 0 rfl) ?_
            refine ca_gX5 (v := T 5 0) C rfl X rfl dX0_bring_158 ?_
            refine ca_sX8 (j := q) (x := T 5 0) C X (by omega) dX0_bring_161 (fun H locs X => ?_)
            refine lv_iload_n hx hb dX0_bring_162 rfl (lv_at hl 3 rfl) ?_
            exact ca_iret C X (⟨q, rfl, hq, Or.inr ⟨hn1, hn2, Or.inr ⟨hbn, by subst hT; rfl⟩⟩⟩) dX0_bring_163
          · skip
            refine lv_aload_n hx hb dX0_bring_117 rfl (lv_at hl 0 rfl) ?_
            refine ca_gX9 C rfl X dX0_bring_118 ?_
            refine lv_iload_n hx hb dX0_bring_121 rfl (lv_at hl 3 rfl) ?_
            refine lv_iconst (v := nI 4) hx hb dX0_bring_122 (by decide +kernel) ?_
            refine ca_mulN (i := q) (j := 4) hx hb dX0_bring_123 ?_
            refine lv_iload hx hb dX0_bring_124 (lv_at hl 5 rfl) ?_
            refine ca_addN (i := q * 4) (j := i) hx hb dX0_bring_126 ?_
            refine lv_aload_n hx hb dX0_bring_127 rfl (lv_at hl 0 rfl) ?_
            refine ca_gX0 C rfl X dX0_bring_128 ?_
            refine lv_iload_n hx hb dX0_bring_131 rfl (lv_at hl 2 rfl) ?_
            refine lv_iconst (v := nI 4) hx hb dX0_bring_132 (by decide +kernel) ?_
            refine ca_mulN (i := t) (j := 4) hx hb dX0_bring_133 ?_
            refine lv_iload hx hb dX0_bring_134 (lv_at hl 5 rfl) ?_
            refine ca_addN (i := t * 4) (j := i) hx hb dX0_bring_136 ?_
            refine ca_lX0 (j := t * 4 + i) (v := T 0 (t * 4 + i)) C X (by omega) rfl dX0_bring_137 ?_
            refine ca_sX9 (j := q * 4 + i) (x := T 0 (t * 4 + i)) C X (by omega) dX0_bring_138 (fun H locs X => ?_)
            refine lv_iinc (v := nI (i + 1)) (lv' := [(5, .int (nI (i + 1))), (0, .ref h), (1, .int (nI k)), (2, .int (nI t)), (3, .int (nI q)), (4, .int ((-1)))]) hx hb dX0_bring_139 hl (k := 5) rfl (ca_inc i) (by decide) rfl (fun ls hl => ?_)
            refine lv_goto (tgt := 111) hx hb dX0_bring_142 (by decide) ?_
            exact ih_111 (4 - (i + 1)) (by omega) (i + 1) rfl (by omega) _ _ _ (by rw [← ca_cp_s]; exact X) (lv_sub hl [1, 2, 3, 4, 5, 0] rfl)
      exact loop_111 4 0 rfl (Nat.zero_le _) _ _ _ (by rw [ca_cp_0]; exact X) (lv_sub hl [3, 4, 5, 1, 2, 0] rfl)
set_option maxHeartbeats 4000000 in
set_option maxRecDepth 100000 in
theorem ca_cX_reach (l : Launch) (D : va_G) (h : Nat) (a : Nat → Nat) (d : Nat → ClassId) (S : ca_St) (j : Nat) (hj : j < 16) (f : Nat) (hf : f < 8) (u : Nat) (hu : u < 8) (hN : ca_N (S 6)) : ca_Met l yX0_reach cX0_reach 6 (some .int) (ca_r 3 71) D (ca_X h a d) (ca_TX d) [.ref h, .int (nI j), .int (nI f), .int (nI u)] S (fun r S' => ∃ q : Nat, r = nI (q * 4 + u % 4) ∧ ca_BR S (j % 4 * 2 + u / 4) (f * 2 + u / 4) q S') := by
  refine ca_start (by decide) (Nat.le_of_ble_eq_true rfl) ?_
  intro p e s m args below meth c A ls C X hl
  have hx := C.1
  have hb := C.2.1
  have hl : lv_has ls 6 [(0, .ref h), (1, .int (nI j)), (2, .int (nI f)), (3, .int (nI u))] := hl
  refine lv_iload_n hx hb dX0_reach_0 rfl (lv_at hl 3 rfl) ?_
  refine lv_iconst (v := nI 2) hx hb dX0_reach_1 (by decide +kernel) ?_
  refine ca_shrN (i := u) hx hb (by omega) dX0_reach_2 ?_
  refine lv_istore (lv' := [(4, .int (nI (u / 4))), (0, .ref h), (1, .int (nI j)), (2, .int (nI f)), (3, .int (nI u))]) hx hb dX0_reach_3 hl (by decide) rfl (fun ls hl => ?_)
  refine lv_aload_n hx hb dX0_reach_5 rfl (lv_at hl 1 rfl) ?_
  refine lv_iload_n hx hb dX0_reach_6 rfl (lv_at hl 2 rfl) ?_
  refine lv_iconst (v := nI 3) hx hb dX0_reach_7 (by decide +kernel) ?_
  refine ca_and3 (i := j) hx hb (by omega) dX0_reach_8 ?_
  refine lv_iconst (v := nI 2) hx hb dX0_reach_9 (by decide +kernel) ?_
  refine ca_mulN (i := j % 4) (j := 2) hx hb dX0_reach_10 ?_
  refine lv_iload hx hb dX0_reach_11 (lv_at hl 0 rfl) ?_
  refine ca_addN (i := j % 4 * 2) (j := u / 4) hx hb dX0_reach_13 ?_
  refine lv_iload_n hx hb dX0_reach_14 rfl (lv_at hl 3 rfl) ?_
  refine lv_iconst (v := nI 2) hx hb dX0_reach_15 (by decide +kernel) ?_
  refine ca_mulN (i := f) (j := 2) hx hb dX0_reach_16 ?_
  refine lv_iload hx hb dX0_reach_17 (lv_at hl 0 rfl) ?_
  refine ca_addN (i := f * 2) (j := u / 4) hx hb dX0_reach_19 ?_
  refine ca_calli (As := [.int (nI (j % 4 * 2 + u / 4)), .int (nI (f * 2 + u / 4))]) (rest := []) C (ca_cX_bring l D h a d S (j % 4 * 2 + u / 4) (by omega) (f * 2 + u / 4) (by omega) hN) (cwV 2 C.2.2.2.2.1 (lw_V q128 q130 qs7 q19 q131) rfl rfl rfl (by decide +kernel) ⟨Nat.le_of_ble_eq_true rfl, Nat.le_of_ble_eq_true rfl⟩) ca_rcX X rfl hl.1 rfl (Nat.le_of_ble_eq_true rfl) dX0_reach_20 ⟨Nat.le_refl _, Nat.le_refl _⟩ (fun r_20 S_20 H locs hp_20 X => ?_)
  obtain ⟨q, rfl, hq⟩ := hp_20
  refine lv_istore (lv' := [(5, .int (nI q)), (4, .int (nI (u / 4))), (0, .ref h), (1, .int (nI j)), (2, .int (nI f)), (3, .int (nI u))]) hx hb dX0_reach_23 hl (by decide) rfl (fun ls hl => ?_)
  refine lv_iload hx hb dX0_reach_25 (lv_at hl 0 rfl) ?_
  refine lv_iconst (v := nI 4) hx hb dX0_reach_27 (by decide +kernel) ?_
  refine ca_mulN (i := q) (j := 4) hx hb dX0_reach_28 ?_
  refine lv_iload_n hx hb dX0_reach_29 rfl (lv_at hl 5 rfl) ?_
  refine lv_iconst (v := nI 3) hx hb dX0_reach_30 (by decide +kernel) ?_
  refine ca_and3 (i := u) hx hb (by omega) dX0_reach_31 ?_
  refine ca_addN (i := q * 4) (j := u % 4) hx hb dX0_reach_32 ?_
  exact ca_iret C X (⟨q, rfl, hq⟩) dX0_reach_33
set_option maxHeartbeats 4000000 in
set_option maxRecDepth 100000 in
theorem ca_cX_snoop0 (l : Launch) (D : va_G) (h : Nat) (a : Nat → Nat) (d : Nat → ClassId) (S : ca_St) (t : Nat) (ht : t < 16) (hN : ca_N (S 6)) : ca_MeV l yX0_snoop cX0_snoop 4 (ca_r 2 46) D (ca_X h a d) (ca_TX d) [.ref h, .int (nI t), .int (nI 0)] S (ca_S0 S t) := by
  refine ca_startV (by decide) (Nat.le_of_ble_eq_true rfl) ?_
  intro p e s m args below meth c A ls C X hl
  have hx := C.1
  have hb := C.2.1
  have hl : lv_has ls 4 [(0, .ref h), (1, .int (nI t)), (2, .int (nI 0))] := hl
  refine lv_aload_n hx hb dX0_snoop_0 rfl (lv_at hl 0 rfl) ?_
  refine lv_iload_n hx hb dX0_snoop_1 rfl (lv_at hl 1 rfl) ?_
  refine ca_calli (As := [.int (nI t)]) (rest := []) C (ca_cX_lineAnywhere l D h a d S t ht) (cwV 1 C.2.2.2.2.1 (lw_V q136 q138 qs9 q19 q139) rfl rfl rfl (by decide +kernel) ⟨Nat.le_of_ble_eq_true rfl, Nat.le_of_ble_eq_true rfl⟩) ca_rcX X rfl hl.1 rfl (Nat.le_of_ble_eq_true rfl) dX0_snoop_2 ⟨Nat.le_refl _, Nat.le_refl _⟩ (fun r_2 S_2 H locs hp_2 X => ?_)
  obtain ⟨hS_2, hp_2⟩ := hp_2
  rw [hS_2] at X
  rcases hp_2 with ⟨q, hq, hqp, rfl, he⟩ | ⟨rfl, hn⟩
  · skip
    refine lv_istore_n (lv' := [(3, .int (nI q)), (0, .ref h), (1, .int (nI t)), (2, .int (nI 0))]) hx hb dX0_snoop_5 rfl hl (by decide) rfl (fun ls hl => ?_)
    refine lv_iload_n hx hb dX0_snoop_6 rfl (lv_at hl 0 rfl) ?_
    refine lv_if_lt (tgt := 26) hx hb dX0_snoop_7 (by decide) (fun c_7 => absurd c_7 (ca_nlt0 (by omega))) (fun c_7 => ?_)
    refine lv_aload_n hx hb dX0_snoop_10 rfl (lv_at hl 1 rfl) ?_
    refine lv_iload_n hx hb dX0_snoop_11 rfl (lv_at hl 0 rfl) ?_
    refine ca_callv (As := [.int (nI q)]) (rest := []) C (ca_cX_writeBack l D h a d S q hq (ca_N_neg hN hq)) (cwV 1 C.2.2.2.2.1 (lw_V q144 q146 qs11 q19 q147) rfl rfl rfl (by decide +kernel) ⟨Nat.le_of_ble_eq_true rfl, Nat.le_of_ble_eq_true rfl⟩) ca_rcX X rfl hl.1 rfl (Nat.le_of_ble_eq_true rfl) dX0_snoop_12 ⟨Nat.le_refl _, Nat.le_refl _⟩ (fun S_12 H locs hp_12 X => ?_)
    obtain rfl := hp_12
    refine lv_iload_n hx hb dX0_snoop_15 rfl (lv_at hl 3 rfl) ?_
    refine lv_if_eq (tgt := 26) hx hb dX0_snoop_16 (by decide) (fun c_16 => ?_) (fun c_16 => absurd rfl c_16)
    exact ca_vret C X (Or.inl ⟨q, hq, hqp, he, rfl⟩) dX0_snoop_26
  · skip
    refine lv_istore_n (lv' := [(3, .int ((-1))), (0, .ref h), (1, .int (nI t)), (2, .int (nI 0))]) hx hb dX0_snoop_5 rfl hl (by decide) rfl (fun ls hl => ?_)
    refine lv_iload_n hx hb dX0_snoop_6 rfl (lv_at hl 0 rfl) ?_
    refine lv_if_lt (tgt := 26) hx hb dX0_snoop_7 (by decide) (fun c_7 => ?_) (fun c_7 => absurd (by decide +kernel) c_7)
    exact ca_vret C X (Or.inr ⟨hn, rfl⟩) dX0_snoop_26
set_option maxHeartbeats 4000000 in
set_option maxRecDepth 100000 in
theorem ca_cX_snoop1 (l : Launch) (D : va_G) (h : Nat) (a : Nat → Nat) (d : Nat → ClassId) (S : ca_St) (t : Nat) (ht : t < 16) (hN : ca_N (S 6)) : ca_MeV l yX0_snoop cX0_snoop 4 (ca_r 2 46) D (ca_X h a d) (ca_TX d) [.ref h, .int (nI t), .int (nI 1)] S (ca_S1 S t) := by
  refine ca_startV (by decide) (Nat.le_of_ble_eq_true rfl) ?_
  intro p e s m args below meth c A ls C X hl
  have hx := C.1
  have hb := C.2.1
  have hl : lv_has ls 4 [(0, .ref h), (1, .int (nI t)), (2, .int (nI 1))] := hl
  refine lv_aload_n hx hb dX0_snoop_0 rfl (lv_at hl 0 rfl) ?_
  refine lv_iload_n hx hb dX0_snoop_1 rfl (lv_at hl 1 rfl) ?_
  refine ca_calli (As := [.int (nI t)]) (rest := []) C (ca_cX_lineAnywhere l D h a d S t ht) (cwV 1 C.2.2.2.2.1 (lw_V q136 q138 qs9 q19 q139) rfl rfl rfl (by decide +kernel) ⟨Nat.le_of_ble_eq_true rfl, Nat.le_of_ble_eq_true rfl⟩) ca_rcX X rfl hl.1 rfl (Nat.le_of_ble_eq_true rfl) dX0_snoop_2 ⟨Nat.le_refl _, Nat.le_refl _⟩ (fun r_2 S_2 H locs hp_2 X => ?_)
  obtain ⟨hS_2, hp_2⟩ := hp_2
  rw [hS_2] at X
  rcases hp_2 with ⟨q, hq, hqp, rfl, he⟩ | ⟨rfl, hn⟩
  · skip
    refine lv_istore_n (lv' := [(3, .int (nI q)), (0, .ref h), (1, .int (nI t)), (2, .int (nI 1))]) hx hb dX0_snoop_5 rfl hl (by decide) rfl (fun ls hl => ?_)
    refine lv_iload_n hx hb dX0_snoop_6 rfl (lv_at hl 0 rfl) ?_
    refine lv_if_lt (tgt := 26) hx hb dX0_snoop_7 (by decide) (fun c_7 => absurd c_7 (ca_nlt0 (by omega))) (fun c_7 => ?_)
    refine lv_aload_n hx hb dX0_snoop_10 rfl (lv_at hl 1 rfl) ?_
    refine lv_iload_n hx hb dX0_snoop_11 rfl (lv_at hl 0 rfl) ?_
    refine ca_callv (As := [.int (nI q)]) (rest := []) C (ca_cX_writeBack l D h a d S q hq (ca_N_neg hN hq)) (cwV 1 C.2.2.2.2.1 (lw_V q144 q146 qs11 q19 q147) rfl rfl rfl (by decide +kernel) ⟨Nat.le_of_ble_eq_true rfl, Nat.le_of_ble_eq_true rfl⟩) ca_rcX X rfl hl.1 rfl (Nat.le_of_ble_eq_true rfl) dX0_snoop_12 ⟨Nat.le_refl _, Nat.le_refl _⟩ (fun S_12 H locs hp_12 X => ?_)
    obtain rfl := hp_12
    refine lv_iload_n hx hb dX0_snoop_15 rfl (lv_at hl 3 rfl) ?_
    refine lv_if_eq (tgt := 26) hx hb dX0_snoop_16 (by decide) (fun c_16 => absurd c_16 (by decide +kernel)) (fun c_16 => ?_)
    refine lv_aload_n hx hb dX0_snoop_19 rfl (lv_at hl 1 rfl) ?_
    refine ca_gX6 C rfl X dX0_snoop_20 ?_
    refine lv_iload_n hx hb dX0_snoop_23 rfl (lv_at hl 0 rfl) ?_
    refine lv_iconst (v := (-1)) hx hb dX0_snoop_24 (by decide +kernel) ?_
    refine ca_sX6 (j := q) (x := (-1)) C X (by omega) dX0_snoop_25 (fun H locs X => ?_)
    exact ca_vret C X (Or.inl ⟨q, hq, hqp, he, rfl⟩) dX0_snoop_26
  · skip
    refine lv_istore_n (lv' := [(3, .int ((-1))), (0, .ref h), (1, .int (nI t)), (2, .int (nI 1))]) hx hb dX0_snoop_5 rfl hl (by decide) rfl (fun ls hl => ?_)
    refine lv_iload_n hx hb dX0_snoop_6 rfl (lv_at hl 0 rfl) ?_
    refine lv_if_lt (tgt := 26) hx hb dX0_snoop_7 (by decide) (fun c_7 => ?_) (fun c_7 => absurd (by decide +kernel) c_7)
    exact ca_vret C X (Or.inr ⟨hn, rfl⟩) dX0_snoop_26
end
section
set_option maxHeartbeats 4000000 in
set_option maxRecDepth 100000 in
theorem ca_cX_load (l : Launch) (D : va_G) (h : Nat) (a : Nat → Nat) (d : Nat → ClassId) (S : ca_St) (v w : Int32) (hN : ca_N (S 6)) (hF : ca_F (S 1)) (hE : ca_E S) : ca_Met l yX0_load cX0_load 5 (some .int) (ca_r 4 96) D (ca_X h a d) (ca_TX d) [.ref h, .int v, .int w] S (ca_Xload v w S) := by
  refine ca_start (by decide) (Nat.le_of_ble_eq_true rfl) ?_
  intro p e s m args below meth c A ls C X hl
  have hx := C.1
  have hb := C.2.1
  have hl : lv_has ls 5 [(0, .ref h), (1, .int v), (2, .int w)] := hl
  refine lv_aload_n hx hb dX0_load_0 rfl (lv_at hl 0 rfl) ?_
  refine lv_iload_n hx hb dX0_load_1 rfl (lv_at hl 1 rfl) ?_
  refine ca_calli (As := [.int v]) (rest := []) C (ca_cX_badPage l D h a d S v) (cwV 1 C.2.2.2.2.1 (lw_V q84 q86 qs0 q19 q87) rfl rfl rfl (by decide +kernel) ⟨Nat.le_of_ble_eq_true rfl, Nat.le_of_ble_eq_true rfl⟩) ca_rcX X rfl hl.1 rfl (Nat.le_of_ble_eq_true rfl) dX0_load_2 ⟨Nat.le_refl _, Nat.le_refl _⟩ (fun r_2 S_2 H locs hp_2 X => ?_)
  obtain ⟨hS_2, hp_2⟩ := hp_2
  rw [hS_2] at X
  rcases hp_2 with ⟨rfl, j, hj, rfl⟩ | ⟨rfl, hbv⟩
  · skip
    refine lv_if_ne (tgt := 16) hx hb dX0_load_5 (by decide) (fun c_5 => absurd rfl c_5) (fun c_5 => ?_)
    refine lv_aload_n hx hb dX0_load_8 rfl (lv_at hl 0 rfl) ?_
    refine lv_iload_n hx hb dX0_load_9 rfl (lv_at hl 2 rfl) ?_
    refine ca_calli (As := [.int w]) (rest := []) C (ca_cX_badEight l D h a d S w) (cwV 1 C.2.2.2.2.1 (lw_V q88 q90 qs1 q19 q91) rfl rfl rfl (by decide +kernel) ⟨Nat.le_of_ble_eq_true rfl, Nat.le_of_ble_eq_true rfl⟩) ca_rcX X rfl hl.1 rfl (Nat.le_of_ble_eq_true rfl) dX0_load_10 ⟨Nat.le_refl _, Nat.le_refl _⟩ (fun r_10 S_10 H locs hp_10 X => ?_)
    obtain ⟨hS_10, hp_10⟩ := hp_10
    rw [hS_10] at X
    rcases hp_10 with ⟨rfl, u, hu, rfl⟩ | ⟨rfl, hbw⟩
    · skip
      refine lv_if_eq (tgt := 23) hx hb dX0_load_13 (by decide) (fun c_13 => ?_) (fun c_13 => absurd rfl c_13)
      refine lv_aload_n hx hb dX0_load_23 rfl (lv_at hl 0 rfl) ?_
      refine lv_iload_n hx hb dX0_load_24 rfl (lv_at hl 1 rfl) ?_
      refine lv_iconst (v := nI 0) hx hb dX0_load_25 (by decide +kernel) ?_
      refine ca_calli (As := [.int (nI j), .int (nI 0)]) (rest := []) C (ca_cX_translateR l D h a d S j hj) (cwV 2 C.2.2.2.2.1 (lw_V q112 q114 qs3 q19 q115) rfl rfl rfl (by decide +kernel) ⟨Nat.le_of_ble_eq_true rfl, Nat.le_of_ble_eq_true rfl⟩) ca_rcX X rfl hl.1 rfl (Nat.le_of_ble_eq_true rfl) dX0_load_26 ⟨Nat.le_refl _, Nat.le_refl _⟩ (fun r_26 S_26 H locs hp_26 X => ?_)
      have hN2 : ca_N (S_26 6) := by
        rw [ca_TR_6 hp_26]
        exact hN
      rcases ca_TR_f hj hF hE hp_26 with hneg | ⟨q, k, hq, hk, rfl, hf⟩
      · skip
        refine lv_istore_n (lv' := [(3, .int r_26), (0, .ref h), (1, .int (nI j)), (2, .int (nI u))]) hx hb dX0_load_29 rfl hl (by decide) rfl (fun ls hl => ?_)
        refine lv_iload_n hx hb dX0_load_30 rfl (lv_at hl 0 rfl) ?_
        refine lv_if_ge (tgt := 41) hx hb dX0_load_31 (by decide) (fun c_31 => absurd c_31 (ca_nge hneg)) (fun c_31 => ?_)
        refine lv_aload_n hx hb dX0_load_34 rfl (lv_at hl 1 rfl) ?_
        refine lv_iload_n hx hb dX0_load_35 rfl (lv_at hl 0 rfl) ?_
        refine ca_pX15 (x := r_26) C rfl X dX0_load_36 (fun H locs X => ?_)
        refine lv_iconst (v := nI 0) hx hb dX0_load_39 (by decide +kernel) ?_
        exact ca_iret C X (Or.inr ⟨j, u, hj, hu, rfl, rfl, _, S_26, hp_26, Or.inl ⟨hneg, rfl, rfl⟩⟩) dX0_load_40
      · skip
        refine lv_istore_n (lv' := [(3, .int (nI q)), (0, .ref h), (1, .int (nI j)), (2, .int (nI u))]) hx hb dX0_load_29 rfl hl (by decide) rfl (fun ls hl => ?_)
        refine lv_iload_n hx hb dX0_load_30 rfl (lv_at hl 0 rfl) ?_
        refine lv_if_ge (tgt := 41) hx hb dX0_load_31 (by decide) (fun c_31 => ?_) (fun c_31 => absurd (ca_ge0 (by omega)) c_31)
        refine lv_aload_n hx hb dX0_load_41 rfl (lv_at hl 1 rfl) ?_
        refine lv_iconst (v := nI 0) hx hb dX0_load_42 (by decide +kernel) ?_
        refine ca_pX15 (x := nI 0) C rfl X dX0_load_43 (fun H locs X => ?_)
        refine lv_aload_n hx hb dX0_load_46 rfl (lv_at hl 1 rfl) ?_
        refine lv_iload_n hx hb dX0_load_47 rfl (lv_at hl 2 rfl) ?_
        refine lv_aload_n hx hb dX0_load_48 rfl (lv_at hl 1 rfl) ?_
        refine ca_gX11 C rfl X dX0_load_49 ?_
        refine lv_iload_n hx hb dX0_load_52 rfl (lv_at hl 0 rfl) ?_
        refine ca_lX11 (j := q) (v := nI k) C X (by omega) hf dX0_load_53 ?_
        refine lv_iload_n hx hb dX0_load_54 rfl (lv_at hl 3 rfl) ?_
        refine ca_calli (As := [.int (nI j), .int (nI k), .int (nI u)]) (rest := []) C (ca_cX_reach l D h a d (ca_wr S_26 15 0 (nI 0)) j hj k hk u hu hN2) (cwV 3 C.2.2.2.2.1 (lw_V q124 q126 qs6 q19 q127) rfl rfl rfl (by decide +kernel) ⟨Nat.le_of_ble_eq_true rfl, Nat.le_of_ble_eq_true rfl⟩) ca_rcX X rfl hl.1 rfl (Nat.le_of_ble_eq_true rfl) dX0_load_55 ⟨Nat.le_refl _, Nat.le_refl _⟩ (fun r_55 S_55 H locs hp_55 X => ?_)
        obtain ⟨i, rfl, hbr⟩ := hp_55
        have hi : i < 16 := by
          have := hbr.1
          omega
        refine lv_istore (lv' := [(4, .int (nI (i * 4 + u % 4))), (3, .int (nI q)), (0, .ref h), (1, .int (nI j)), (2, .int (nI u))]) hx hb dX0_load_58 hl (by decide) rfl (fun ls hl => ?_)
        refine lv_aload_n hx hb dX0_load_60 rfl (lv_at hl 2 rfl) ?_
        refine ca_gX9 C rfl X dX0_load_61 ?_
        refine lv_iload hx hb dX0_load_64 (lv_at hl 0 rfl) ?_
        refine ca_lX9 (j := i * 4 + u % 4) (v := S_55 9 (i * 4 + u % 4)) C X (by omega) rfl dX0_load_66 ?_
        exact ca_iret C X (Or.inr ⟨j, u, hj, hu, rfl, rfl, _, S_26, hp_26, Or.inr ⟨q, k, i, hq, hk, rfl, hf, hbr, rfl⟩⟩) dX0_load_67
    · skip
      refine lv_if_eq (tgt := 23) hx hb dX0_load_13 (by decide) (fun c_13 => absurd c_13 (by decide +kernel)) (fun c_13 => ?_)
      refine lv_aload_n hx hb dX0_load_16 rfl (lv_at hl 0 rfl) ?_
      refine lv_iconst (v := (-1)) hx hb dX0_load_17 (by decide +kernel) ?_
      refine ca_pX15 (x := (-1)) C rfl X dX0_load_18 (fun H locs X => ?_)
      refine lv_iconst (v := nI 0) hx hb dX0_load_21 (by decide +kernel) ?_
      exact ca_iret C X (Or.inl ⟨fun q => hbw q.2, rfl, rfl⟩) dX0_load_22
  · skip
    refine lv_if_ne (tgt := 16) hx hb dX0_load_5 (by decide) (fun c_5 => ?_) (fun c_5 => absurd c_5 (by decide +kernel))
    refine lv_aload_n hx hb dX0_load_16 rfl (lv_at hl 0 rfl) ?_
    refine lv_iconst (v := (-1)) hx hb dX0_load_17 (by decide +kernel) ?_
    refine ca_pX15 (x := (-1)) C rfl X dX0_load_18 (fun H locs X => ?_)
    refine lv_iconst (v := nI 0) hx hb dX0_load_21 (by decide +kernel) ?_
    exact ca_iret C X (Or.inl ⟨fun q => hbv q.1, rfl, rfl⟩) dX0_load_22
set_option maxHeartbeats 4000000 in
set_option maxRecDepth 100000 in
theorem ca_cX_open (l : Launch) (D : va_G) (h : Nat) (a : Nat → Nat) (d : Nat → ClassId) (S : ca_St) (v w : Int32) (hN : ca_N (S 6)) (hF : ca_F (S 1)) (hE : ca_E S) : ca_Met l yX0_open cX0_open 5 (some .int) (ca_r 4 96) D (ca_X h a d) (ca_TX d) [.ref h, .int v, .int w] S (ca_Xopen v w S) := by
  refine ca_start (by decide) (Nat.le_of_ble_eq_true rfl) ?_
  intro p e s m args below meth c A ls C X hl
  have hx := C.1
  have hb := C.2.1
  have hl : lv_has ls 5 [(0, .ref h), (1, .int v), (2, .int w)] := hl
  refine lv_aload_n hx hb dX0_open_0 rfl (lv_at hl 0 rfl) ?_
  refine lv_iload_n hx hb dX0_open_1 rfl (lv_at hl 1 rfl) ?_
  refine ca_calli (As := [.int v]) (rest := []) C (ca_cX_badPage l D h a d S v) (cwV 1 C.2.2.2.2.1 (lw_V q84 q86 qs0 q19 q87) rfl rfl rfl (by decide +kernel) ⟨Nat.le_of_ble_eq_true rfl, Nat.le_of_ble_eq_true rfl⟩) ca_rcX X rfl hl.1 rfl (Nat.le_of_ble_eq_true rfl) dX0_open_2 ⟨Nat.le_refl _, Nat.le_refl _⟩ (fun r_2 S_2 H locs hp_2 X => ?_)
  obtain ⟨hS_2, hp_2⟩ := hp_2
  rw [hS_2] at X
  rcases hp_2 with ⟨rfl, j, hj, rfl⟩ | ⟨rfl, hbv⟩
  · skip
    refine lv_if_ne (tgt := 16) hx hb dX0_open_5 (by decide) (fun c_5 => absurd rfl c_5) (fun c_5 => ?_)
    refine lv_aload_n hx hb dX0_open_8 rfl (lv_at hl 0 rfl) ?_
    refine lv_iload_n hx hb dX0_open_9 rfl (lv_at hl 2 rfl) ?_
    refine ca_calli (As := [.int w]) (rest := []) C (ca_cX_badEight l D h a d S w) (cwV 1 C.2.2.2.2.1 (lw_V q88 q90 qs1 q19 q91) rfl rfl rfl (by decide +kernel) ⟨Nat.le_of_ble_eq_true rfl, Nat.le_of_ble_eq_true rfl⟩) ca_rcX X rfl hl.1 rfl (Nat.le_of_ble_eq_true rfl) dX0_open_10 ⟨Nat.le_refl _, Nat.le_refl _⟩ (fun r_10 S_10 H locs hp_10 X => ?_)
    obtain ⟨hS_10, hp_10⟩ := hp_10
    rw [hS_10] at X
    rcases hp_10 with ⟨rfl, u, hu, rfl⟩ | ⟨rfl, hbw⟩
    · skip
      refine lv_if_eq (tgt := 23) hx hb dX0_open_13 (by decide) (fun c_13 => ?_) (fun c_13 => absurd rfl c_13)
      refine lv_aload_n hx hb dX0_open_23 rfl (lv_at hl 0 rfl) ?_
      refine lv_iload_n hx hb dX0_open_24 rfl (lv_at hl 1 rfl) ?_
      refine lv_iconst (v := nI 1) hx hb dX0_open_25 (by decide +kernel) ?_
      refine ca_calli (As := [.int (nI j), .int (nI 1)]) (rest := []) C (ca_cX_translateW l D h a d S j hj) (cwV 2 C.2.2.2.2.1 (lw_V q112 q114 qs3 q19 q115) rfl rfl rfl (by decide +kernel) ⟨Nat.le_of_ble_eq_true rfl, Nat.le_of_ble_eq_true rfl⟩) ca_rcX X rfl hl.1 rfl (Nat.le_of_ble_eq_true rfl) dX0_open_26 ⟨Nat.le_refl _, Nat.le_refl _⟩ (fun r_26 S_26 H locs hp_26 X => ?_)
      have hN2 : ca_N (S_26 6) := by
        rw [ca_TW_6 hp_26]
        exact hN
      rcases ca_TW_f hj hF hE hp_26 with hneg | ⟨q, k, hq, hk, rfl, hf⟩
      · skip
        refine lv_istore_n (lv' := [(3, .int r_26), (0, .ref h), (1, .int (nI j)), (2, .int (nI u))]) hx hb dX0_open_29 rfl hl (by decide) rfl (fun ls hl => ?_)
        refine lv_iload_n hx hb dX0_open_30 rfl (lv_at hl 0 rfl) ?_
        refine lv_if_ge (tgt := 41) hx hb dX0_open_31 (by decide) (fun c_31 => absurd c_31 (ca_nge hneg)) (fun c_31 => ?_)
        refine lv_aload_n hx hb dX0_open_34 rfl (lv_at hl 1 rfl) ?_
        refine lv_iload_n hx hb dX0_open_35 rfl (lv_at hl 0 rfl) ?_
        refine ca_pX15 (x := r_26) C rfl X dX0_open_36 (fun H locs X => ?_)
        refine lv_iload_n hx hb dX0_open_39 rfl (lv_at hl 0 rfl) ?_
        exact ca_iret C X (Or.inr ⟨j, u, hj, hu, rfl, rfl, _, S_26, hp_26, Or.inl ⟨hneg, rfl, rfl⟩⟩) dX0_open_40
      · skip
        refine lv_istore_n (lv' := [(3, .int (nI q)), (0, .ref h), (1, .int (nI j)), (2, .int (nI u))]) hx hb dX0_open_29 rfl hl (by decide) rfl (fun ls hl => ?_)
        refine lv_iload_n hx hb dX0_open_30 rfl (lv_at hl 0 rfl) ?_
        refine lv_if_ge (tgt := 41) hx hb dX0_open_31 (by decide) (fun c_31 => ?_) (fun c_31 => absurd (ca_ge0 (by omega)) c_31)
        refine lv_aload_n hx hb dX0_open_41 rfl (lv_at hl 1 rfl) ?_
        refine lv_iconst (v := nI 0) hx hb dX0_open_42 (by decide +kernel) ?_
        refine ca_pX15 (x := nI 0) C rfl X dX0_open_43 (fun H locs X => ?_)
        refine lv_aload_n hx hb dX0_open_46 rfl (lv_at hl 1 rfl) ?_
        refine lv_iload_n hx hb dX0_open_47 rfl (lv_at hl 2 rfl) ?_
        refine lv_aload_n hx hb dX0_open_48 rfl (lv_at hl 1 rfl) ?_
        refine ca_gX11 C rfl X dX0_open_49 ?_
        refine lv_iload_n hx hb dX0_open_52 rfl (lv_at hl 0 rfl) ?_
        refine ca_lX11 (j := q) (v := nI k) C X (by omega) hf dX0_open_53 ?_
        refine lv_iload_n hx hb dX0_open_54 rfl (lv_at hl 3 rfl) ?_
        refine ca_calli (As := [.int (nI j), .int (nI k), .int (nI u)]) (rest := []) C (ca_cX_reach l D h a d (ca_wr S_26 15 0 (nI 0)) j hj k hk u hu hN2) (cwV 3 C.2.2.2.2.1 (lw_V q124 q126 qs6 q19 q127) rfl rfl rfl (by decide +kernel) ⟨Nat.le_of_ble_eq_true rfl, Nat.le_of_ble_eq_true rfl⟩) ca_rcX X rfl hl.1 rfl (Nat.le_of_ble_eq_true rfl) dX0_open_55 ⟨Nat.le_refl _, Nat.le_refl _⟩ (fun r_55 S_55 H locs hp_55 X => ?_)
        obtain ⟨i, rfl, hbr⟩ := hp_55
        have hi : i < 16 := by
          have := hbr.1
          omega
        refine lv_istore (lv' := [(4, .int (nI (i * 4 + u % 4))), (3, .int (nI q)), (0, .ref h), (1, .int (nI j)), (2, .int (nI u))]) hx hb dX0_open_58 hl (by decide) rfl (fun ls hl => ?_)
        refine lv_aload_n hx hb dX0_open_60 rfl (lv_at hl 2 rfl) ?_
        refine ca_gX7 C rfl X dX0_open_61 ?_
        refine lv_iload hx hb dX0_open_64 (lv_at hl 0 rfl) ?_
        refine lv_iconst (v := nI 2) hx hb dX0_open_66 (by decide +kernel) ?_
        refine ca_shrN (i := i * 4 + u % 4) hx hb (by omega) dX0_open_67 ?_
        refine ca_topN (show (i * 4 + u % 4) / 4 = i by omega) ?_
        refine lv_iconst (v := nI 1) hx hb dX0_open_68 (by decide +kernel) ?_
        refine ca_sX7 (j := i) (x := nI 1) (y := 1) ca_n1 C X (by omega) dX0_open_69 (fun H locs X => ?_)
        refine lv_iload hx hb dX0_open_70 (lv_at hl 0 rfl) ?_
        exact ca_iret C X (Or.inr ⟨j, u, hj, hu, rfl, rfl, _, S_26, hp_26, Or.inr ⟨q, k, i, S_55, hq, hk, rfl, hf, hbr, hi, rfl, rfl⟩⟩) dX0_open_72
    · skip
      refine lv_if_eq (tgt := 23) hx hb dX0_open_13 (by decide) (fun c_13 => absurd c_13 (by decide +kernel)) (fun c_13 => ?_)
      refine lv_aload_n hx hb dX0_open_16 rfl (lv_at hl 0 rfl) ?_
      refine lv_iconst (v := (-1)) hx hb dX0_open_17 (by decide +kernel) ?_
      refine ca_pX15 (x := (-1)) C rfl X dX0_open_18 (fun H locs X => ?_)
      refine lv_iconst (v := (-1)) hx hb dX0_open_21 (by decide +kernel) ?_
      exact ca_iret C X (Or.inl ⟨fun q => hbw q.2, rfl, rfl⟩) dX0_open_22
  · skip
    refine lv_if_ne (tgt := 16) hx hb dX0_open_5 (by decide) (fun c_5 => ?_) (fun c_5 => absurd c_5 (by decide +kernel))
    refine lv_aload_n hx hb dX0_open_16 rfl (lv_at hl 0 rfl) ?_
    refine lv_iconst (v := (-1)) hx hb dX0_open_17 (by decide +kernel) ?_
    refine ca_pX15 (x := (-1)) C rfl X dX0_open_18 (fun H locs X => ?_)
    refine lv_iconst (v := (-1)) hx hb dX0_open_21 (by decide +kernel) ?_
    exact ca_iret C X (Or.inl ⟨fun q => hbv q.1, rfl, rfl⟩) dX0_open_22
set_option maxHeartbeats 4000000 in
set_option maxRecDepth 100000 in
theorem ca_cX_store (l : Launch) (D : va_G) (h : Nat) (a : Nat → Nat) (d : Nat → ClassId) (S : ca_St) (v w x : Int32) (hN : ca_N (S 6)) (hF : ca_F (S 1)) (hE : ca_E S) : ca_Met l yX0_store cX0_store 5 (some .int) (ca_r 5 120) D (ca_X h a d) (ca_TX d) [.ref h, .int v, .int w, .int x] S (ca_Xstore v w x S) := by
  refine ca_start (by decide) (Nat.le_of_ble_eq_true rfl) ?_
  intro p e s m args below meth c A ls C X hl
  have hx := C.1
  have hb := C.2.1
  have hl : lv_has ls 5 [(0, .ref h), (1, .int v), (2, .int w), (3, .int x)] := hl
  refine lv_aload_n hx hb dX0_store_0 rfl (lv_at hl 0 rfl) ?_
  refine lv_iload_n hx hb dX0_store_1 rfl (lv_at hl 1 rfl) ?_
  refine lv_iload_n hx hb dX0_store_2 rfl (lv_at hl 2 rfl) ?_
  refine ca_calli (As := [.int v, .int w]) (rest := []) C (ca_cX_open l D h a d S v w hN hF hE) (cwV 2 C.2.2.2.2.1 (lw_V q152 q154 qs12 q19 q155) rfl rfl rfl (by decide +kernel) ⟨Nat.le_of_ble_eq_true rfl, Nat.le_of_ble_eq_true rfl⟩) ca_rcX X rfl hl.1 rfl (Nat.le_of_ble_eq_true rfl) dX0_store_3 ⟨Nat.le_refl _, Nat.le_refl _⟩ (fun r_3 S_3 H locs hp_3 X => ?_)
  rcases ca_Xopen_r hp_3 with hneg | ⟨n, hn, rfl⟩
  · skip
    refine lv_istore (lv' := [(4, .int r_3), (0, .ref h), (1, .int v), (2, .int w), (3, .int x)]) hx hb dX0_store_6 hl (by decide) rfl (fun ls hl => ?_)
    refine lv_iload hx hb dX0_store_8 (lv_at hl 0 rfl) ?_
    refine lv_if_ge (tgt := 16) hx hb dX0_store_10 (by decide) (fun c_10 => absurd c_10 (ca_nge hneg)) (fun c_10 => ?_)
    refine lv_iload hx hb dX0_store_13 (lv_at hl 0 rfl) ?_
    exact ca_iret C X (⟨_, S_3, hp_3, Or.inl ⟨hneg, rfl, rfl⟩⟩) dX0_store_15
  · skip
    refine lv_istore (lv' := [(4, .int (nI n)), (0, .ref h), (1, .int v), (2, .int w), (3, .int x)]) hx hb dX0_store_6 hl (by decide) rfl (fun ls hl => ?_)
    refine lv_iload hx hb dX0_store_8 (lv_at hl 0 rfl) ?_
    refine lv_if_ge (tgt := 16) hx hb dX0_store_10 (by decide) (fun c_10 => ?_) (fun c_10 => absurd (ca_ge0 (by omega)) c_10)
    refine lv_aload_n hx hb dX0_store_16 rfl (lv_at hl 1 rfl) ?_
    refine ca_gX9 C rfl X dX0_store_17 ?_
    refine lv_iload hx hb dX0_store_20 (lv_at hl 0 rfl) ?_
    refine lv_iload_n hx hb dX0_store_22 rfl (lv_at hl 4 rfl) ?_
    refine ca_sX9 (j := n) (x := x) C X (by omega) dX0_store_23 (fun H locs X => ?_)
    refine lv_iconst (v := nI 0) hx hb dX0_store_24 (by decide +kernel) ?_
    exact ca_iret C X (⟨_, S_3, hp_3, Or.inr ⟨n, hn, rfl, rfl, rfl⟩⟩) dX0_store_25
set_option maxHeartbeats 4000000 in
set_option maxRecDepth 100000 in
theorem ca_cX_trade (l : Launch) (D : va_G) (h : Nat) (a : Nat → Nat) (d : Nat → ClassId) (S : ca_St) (v w x : Int32) (hN : ca_N (S 6)) (hF : ca_F (S 1)) (hE : ca_E S) : ca_Met l yX0_trade cX0_trade 6 (some .int) (ca_r 5 120) D (ca_X h a d) (ca_TX d) [.ref h, .int v, .int w, .int x] S (ca_Xtrade v w x S) := by
  refine ca_start (by decide) (Nat.le_of_ble_eq_true rfl) ?_
  intro p e s m args below meth c A ls C X hl
  have hx := C.1
  have hb := C.2.1
  have hl : lv_has ls 6 [(0, .ref h), (1, .int v), (2, .int w), (3, .int x)] := hl
  refine lv_aload_n hx hb dX0_trade_0 rfl (lv_at hl 0 rfl) ?_
  refine lv_iload_n hx hb dX0_trade_1 rfl (lv_at hl 1 rfl) ?_
  refine lv_iload_n hx hb dX0_trade_2 rfl (lv_at hl 2 rfl) ?_
  refine ca_calli (As := [.int v, .int w]) (rest := []) C (ca_cX_open l D h a d S v w hN hF hE) (cwV 2 C.2.2.2.2.1 (lw_V q152 q154 qs12 q19 q155) rfl rfl rfl (by decide +kernel) ⟨Nat.le_of_ble_eq_true rfl, Nat.le_of_ble_eq_true rfl⟩) ca_rcX X rfl hl.1 rfl (Nat.le_of_ble_eq_true rfl) dX0_trade_3 ⟨Nat.le_refl _, Nat.le_refl _⟩ (fun r_3 S_3 H locs hp_3 X => ?_)
  rcases ca_Xopen_r hp_3 with hneg | ⟨n, hn, rfl⟩
  · skip
    refine lv_istore (lv' := [(4, .int r_3), (0, .ref h), (1, .int v), (2, .int w), (3, .int x)]) hx hb dX0_trade_6 hl (by decide) rfl (fun ls hl => ?_)
    refine lv_iload hx hb dX0_trade_8 (lv_at hl 0 rfl) ?_
    refine lv_if_ge (tgt := 15) hx hb dX0_trade_10 (by decide) (fun c_10 => absurd c_10 (ca_nge hneg)) (fun c_10 => ?_)
    refine lv_iconst (v := nI 0) hx hb dX0_trade_13 (by decide +kernel) ?_
    exact ca_iret C X (⟨_, S_3, hp_3, Or.inl ⟨hneg, rfl, rfl⟩⟩) dX0_trade_14
  · skip
    refine lv_istore (lv' := [(4, .int (nI n)), (0, .ref h), (1, .int v), (2, .int w), (3, .int x)]) hx hb dX0_trade_6 hl (by decide) rfl (fun ls hl => ?_)
    refine lv_iload hx hb dX0_trade_8 (lv_at hl 0 rfl) ?_
    refine lv_if_ge (tgt := 15) hx hb dX0_trade_10 (by decide) (fun c_10 => ?_) (fun c_10 => absurd (ca_ge0 (by omega)) c_10)
    refine lv_aload_n hx hb dX0_trade_15 rfl (lv_at hl 1 rfl) ?_
    refine ca_gX9 C rfl X dX0_trade_16 ?_
    refine lv_iload hx hb dX0_trade_19 (lv_at hl 0 rfl) ?_
    refine ca_lX9 (j := n) (v := S_3 9 n) C X (by omega) rfl dX0_trade_21 ?_
    refine lv_istore (lv' := [(5, .int (S_3 9 n)), (4, .int (nI n)), (0, .ref h), (1, .int v), (2, .int w), (3, .int x)]) hx hb dX0_trade_22 hl (by decide) rfl (fun ls hl => ?_)
    refine lv_aload_n hx hb dX0_trade_24 rfl (lv_at hl 2 rfl) ?_
    refine ca_gX9 C rfl X dX0_trade_25 ?_
    refine lv_iload hx hb dX0_trade_28 (lv_at hl 1 rfl) ?_
    refine lv_iload_n hx hb dX0_trade_30 rfl (lv_at hl 5 rfl) ?_
    refine ca_sX9 (j := n) (x := x) C X (by omega) dX0_trade_31 (fun H locs X => ?_)
    refine lv_iload hx hb dX0_trade_32 (lv_at hl 0 rfl) ?_
    exact ca_iret C X (⟨_, S_3, hp_3, Or.inr ⟨n, hn, rfl, rfl, rfl⟩⟩) dX0_trade_34
set_option maxHeartbeats 4000000 in
set_option maxRecDepth 100000 in
theorem ca_cX_fault (l : Launch) (D : va_G) (h : Nat) (a : Nat → Nat) (d : Nat → ClassId) (S : ca_St) : ca_Met l yX0_fault cX0_fault 1 (some .int) (ca_r 0 0) D (ca_X h a d) (ca_TX d) [.ref h] S (fun r S' => S' = S ∧ r = S 15 0) := by
  refine ca_start (by decide) (Nat.le_of_ble_eq_true rfl) ?_
  intro p e s m args below meth c A ls C X hl
  have hx := C.1
  have hb := C.2.1
  have hl : lv_has ls 1 [(0, .ref h)] := hl
  refine lv_aload_n hx hb dX0_fault_0 rfl (lv_at hl 0 rfl) ?_
  refine ca_gX15 (v := S 15 0) C rfl X rfl dX0_fault_1 ?_
  exact ca_iret C X (⟨rfl, rfl⟩) dX0_fault_4
set_option maxHeartbeats 4000000 in
set_option maxRecDepth 100000 in
theorem ca_cX_word (l : Launch) (D : va_G) (h : Nat) (a : Nat → Nat) (d : Nat → ClassId) (S : ca_St) (f w : Int32) (hN : ca_N (S 6)) : ca_Met l yX0_word cX0_word 3 (some .int) (ca_r 3 69) D (ca_X h a d) (ca_TX d) [.ref h, .int f, .int w] S (ca_Xword f w S) := by
  refine ca_start (by decide) (Nat.le_of_ble_eq_true rfl) ?_
  intro p e s m args below meth c A ls C X hl
  have hx := C.1
  have hb := C.2.1
  have hl : lv_has ls 3 [(0, .ref h), (1, .int f), (2, .int w)] := hl
  refine lv_aload_n hx hb dX0_word_0 rfl (lv_at hl 0 rfl) ?_
  refine lv_iload_n hx hb dX0_word_1 rfl (lv_at hl 1 rfl) ?_
  refine ca_calli (As := [.int f]) (rest := []) C (ca_cX_badEight l D h a d S f) (cwV 1 C.2.2.2.2.1 (lw_V q88 q90 qs1 q19 q91) rfl rfl rfl (by decide +kernel) ⟨Nat.le_of_ble_eq_true rfl, Nat.le_of_ble_eq_true rfl⟩) ca_rcX X rfl hl.1 rfl (Nat.le_of_ble_eq_true rfl) dX0_word_2 ⟨Nat.le_refl _, Nat.le_refl _⟩ (fun r_2 S_2 H locs hp_2 X => ?_)
  obtain ⟨hS_2, hp_2⟩ := hp_2
  rw [hS_2] at X
  rcases hp_2 with ⟨rfl, k, hk, rfl⟩ | ⟨rfl, hbf⟩
  · skip
    refine lv_if_ne (tgt := 16) hx hb dX0_word_5 (by decide) (fun c_5 => absurd rfl c_5) (fun c_5 => ?_)
    refine lv_aload_n hx hb dX0_word_8 rfl (lv_at hl 0 rfl) ?_
    refine lv_iload_n hx hb dX0_word_9 rfl (lv_at hl 2 rfl) ?_
    refine ca_calli (As := [.int w]) (rest := []) C (ca_cX_badEight l D h a d S w) (cwV 1 C.2.2.2.2.1 (lw_V q88 q90 qs1 q19 q91) rfl rfl rfl (by decide +kernel) ⟨Nat.le_of_ble_eq_true rfl, Nat.le_of_ble_eq_true rfl⟩) ca_rcX X rfl hl.1 rfl (Nat.le_of_ble_eq_true rfl) dX0_word_10 ⟨Nat.le_refl _, Nat.le_refl _⟩ (fun r_10 S_10 H locs hp_10 X => ?_)
    obtain ⟨hS_10, hp_10⟩ := hp_10
    rw [hS_10] at X
    rcases hp_10 with ⟨rfl, u, hu, rfl⟩ | ⟨rfl, hbw⟩
    · skip
      refine lv_if_eq (tgt := 18) hx hb dX0_word_13 (by decide) (fun c_13 => ?_) (fun c_13 => absurd rfl c_13)
      refine lv_aload_n hx hb dX0_word_18 rfl (lv_at hl 0 rfl) ?_
      refine lv_iload_n hx hb dX0_word_19 rfl (lv_at hl 1 rfl) ?_
      refine lv_iconst (v := nI 2) hx hb dX0_word_20 (by decide +kernel) ?_
      refine ca_mulN (i := k) (j := 2) hx hb dX0_word_21 ?_
      refine lv_iload_n hx hb dX0_word_22 rfl (lv_at hl 2 rfl) ?_
      refine lv_iconst (v := nI 2) hx hb dX0_word_23 (by decide +kernel) ?_
      refine ca_shrN (i := u) hx hb (by omega) dX0_word_24 ?_
      refine ca_addN (i := k * 2) (j := u / 4) hx hb dX0_word_25 ?_
      refine lv_iconst (v := nI 0) hx hb dX0_word_26 (by decide +kernel) ?_
      refine ca_callv (As := [.int (nI (k * 2 + u / 4)), .int (nI 0)]) (rest := []) C (ca_cX_snoop0 l D h a d S (k * 2 + u / 4) (by omega) hN) (cwV 2 C.2.2.2.2.1 (lw_V q168 q170 qs13 q19 q171) rfl rfl rfl (by decide +kernel) ⟨Nat.le_of_ble_eq_true rfl, Nat.le_of_ble_eq_true rfl⟩) ca_rcX X rfl hl.1 rfl (Nat.le_of_ble_eq_true rfl) dX0_word_27 ⟨Nat.le_refl _, Nat.le_refl _⟩ (fun S_27 H locs hp_27 X => ?_)
      refine lv_aload_n hx hb dX0_word_30 rfl (lv_at hl 0 rfl) ?_
      refine ca_gX0 C rfl X dX0_word_31 ?_
      refine lv_iload_n hx hb dX0_word_34 rfl (lv_at hl 1 rfl) ?_
      refine lv_bipush (v := nI 8) hx hb dX0_word_35 (by decide +kernel) ?_
      refine ca_mulN (i := k) (j := 8) hx hb dX0_word_37 ?_
      refine lv_iload_n hx hb dX0_word_38 rfl (lv_at hl 2 rfl) ?_
      refine ca_addN (i := k * 8) (j := u) hx hb dX0_word_39 ?_
      refine ca_lX0 (j := k * 8 + u) (v := S_27 0 (k * 8 + u)) C X (by omega) rfl dX0_word_40 ?_
      exact ca_iret C X (Or.inr ⟨k, u, hk, hu, rfl, rfl, hp_27, rfl⟩) dX0_word_41
    · skip
      refine lv_if_eq (tgt := 18) hx hb dX0_word_13 (by decide) (fun c_13 => absurd c_13 (by decide +kernel)) (fun c_13 => ?_)
      refine lv_iconst (v := nI 0) hx hb dX0_word_16 (by decide +kernel) ?_
      exact ca_iret C X (Or.inl ⟨fun q => hbw q.2, rfl, rfl⟩) dX0_word_17
  · skip
    refine lv_if_ne (tgt := 16) hx hb dX0_word_5 (by decide) (fun c_5 => ?_) (fun c_5 => absurd c_5 (by decide +kernel))
    refine lv_iconst (v := nI 0) hx hb dX0_word_16 (by decide +kernel) ?_
    exact ca_iret C X (Or.inl ⟨fun q => hbf q.1, rfl, rfl⟩) dX0_word_17
set_option maxHeartbeats 4000000 in
set_option maxRecDepth 100000 in
theorem ca_cX_setWord (l : Launch) (D : va_G) (h : Nat) (a : Nat → Nat) (d : Nat → ClassId) (S : ca_St) (f w x : Int32) (hN : ca_N (S 6)) : ca_Met l yX0_setWord cX0_setWord 4 (some .int) (ca_r 3 69) D (ca_X h a d) (ca_TX d) [.ref h, .int f, .int w, .int x] S (ca_XsetWord f w x S) := by
  refine ca_start (by decide) (Nat.le_of_ble_eq_true rfl) ?_
  intro p e s m args below meth c A ls C X hl
  have hx := C.1
  have hb := C.2.1
  have hl : lv_has ls 4 [(0, .ref h), (1, .int f), (2, .int w), (3, .int x)] := hl
  refine lv_aload_n hx hb dX0_setWord_0 rfl (lv_at hl 0 rfl) ?_
  refine lv_iload_n hx hb dX0_setWord_1 rfl (lv_at hl 1 rfl) ?_
  refine ca_calli (As := [.int f]) (rest := []) C (ca_cX_badEight l D h a d S f) (cwV 1 C.2.2.2.2.1 (lw_V q88 q90 qs1 q19 q91) rfl rfl rfl (by decide +kernel) ⟨Nat.le_of_ble_eq_true rfl, Nat.le_of_ble_eq_true rfl⟩) ca_rcX X rfl hl.1 rfl (Nat.le_of_ble_eq_true rfl) dX0_setWord_2 ⟨Nat.le_refl _, Nat.le_refl _⟩ (fun r_2 S_2 H locs hp_2 X => ?_)
  obtain ⟨hS_2, hp_2⟩ := hp_2
  rw [hS_2] at X
  rcases hp_2 with ⟨rfl, k, hk, rfl⟩ | ⟨rfl, hbf⟩
  · skip
    refine lv_if_ne (tgt := 16) hx hb dX0_setWord_5 (by decide) (fun c_5 => absurd rfl c_5) (fun c_5 => ?_)
    refine lv_aload_n hx hb dX0_setWord_8 rfl (lv_at hl 0 rfl) ?_
    refine lv_iload_n hx hb dX0_setWord_9 rfl (lv_at hl 2 rfl) ?_
    refine ca_calli (As := [.int w]) (rest := []) C (ca_cX_badEight l D h a d S w) (cwV 1 C.2.2.2.2.1 (lw_V q88 q90 qs1 q19 q91) rfl rfl rfl (by decide +kernel) ⟨Nat.le_of_ble_eq_true rfl, Nat.le_of_ble_eq_true rfl⟩) ca_rcX X rfl hl.1 rfl (Nat.le_of_ble_eq_true rfl) dX0_setWord_10 ⟨Nat.le_refl _, Nat.le_refl _⟩ (fun r_10 S_10 H locs hp_10 X => ?_)
    obtain ⟨hS_10, hp_10⟩ := hp_10
    rw [hS_10] at X
    rcases hp_10 with ⟨rfl, u, hu, rfl⟩ | ⟨rfl, hbw⟩
    · skip
      refine lv_if_eq (tgt := 18) hx hb dX0_setWord_13 (by decide) (fun c_13 => ?_) (fun c_13 => absurd rfl c_13)
      refine lv_aload_n hx hb dX0_setWord_18 rfl (lv_at hl 0 rfl) ?_
      refine lv_iload_n hx hb dX0_setWord_19 rfl (lv_at hl 1 rfl) ?_
      refine lv_iconst (v := nI 2) hx hb dX0_setWord_20 (by decide +kernel) ?_
      refine ca_mulN (i := k) (j := 2) hx hb dX0_setWord_21 ?_
      refine lv_iload_n hx hb dX0_setWord_22 rfl (lv_at hl 2 rfl) ?_
      refine lv_iconst (v := nI 2) hx hb dX0_setWord_23 (by decide +kernel) ?_
      refine ca_shrN (i := u) hx hb (by omega) dX0_setWord_24 ?_
      refine ca_addN (i := k * 2) (j := u / 4) hx hb dX0_setWord_25 ?_
      refine lv_iconst (v := nI 1) hx hb dX0_setWord_26 (by decide +kernel) ?_
      refine ca_callv (As := [.int (nI (k * 2 + u / 4)), .int (nI 1)]) (rest := []) C (ca_cX_snoop1 l D h a d S (k * 2 + u / 4) (by omega) hN) (cwV 2 C.2.2.2.2.1 (lw_V q168 q170 qs13 q19 q171) rfl rfl rfl (by decide +kernel) ⟨Nat.le_of_ble_eq_true rfl, Nat.le_of_ble_eq_true rfl⟩) ca_rcX X rfl hl.1 rfl (Nat.le_of_ble_eq_true rfl) dX0_setWord_27 ⟨Nat.le_refl _, Nat.le_refl _⟩ (fun S_27 H locs hp_27 X => ?_)
      refine lv_aload_n hx hb dX0_setWord_30 rfl (lv_at hl 0 rfl) ?_
      refine ca_gX0 C rfl X dX0_setWord_31 ?_
      refine lv_iload_n hx hb dX0_setWord_34 rfl (lv_at hl 1 rfl) ?_
      refine lv_bipush (v := nI 8) hx hb dX0_setWord_35 (by decide +kernel) ?_
      refine ca_mulN (i := k) (j := 8) hx hb dX0_setWord_37 ?_
      refine lv_iload_n hx hb dX0_setWord_38 rfl (lv_at hl 2 rfl) ?_
      refine ca_addN (i := k * 8) (j := u) hx hb dX0_setWord_39 ?_
      refine lv_iload_n hx hb dX0_setWord_40 rfl (lv_at hl 3 rfl) ?_
      refine ca_sX0 (j := k * 8 + u) (x := x) C X (by omega) dX0_setWord_41 (fun H locs X => ?_)
      refine lv_iconst (v := nI 0) hx hb dX0_setWord_42 (by decide +kernel) ?_
      exact ca_iret C X (Or.inr ⟨k, u, hk, hu, rfl, rfl, rfl, S_27, hp_27, rfl⟩) dX0_setWord_43
    · skip
      refine lv_if_eq (tgt := 18) hx hb dX0_setWord_13 (by decide) (fun c_13 => absurd c_13 (by decide +kernel)) (fun c_13 => ?_)
      refine lv_iconst (v := (-1)) hx hb dX0_setWord_16 (by decide +kernel) ?_
      exact ca_iret C X (Or.inl ⟨fun q => hbw q.2, rfl, rfl⟩) dX0_setWord_17
  · skip
    refine lv_if_ne (tgt := 16) hx hb dX0_setWord_5 (by decide) (fun c_5 => ?_) (fun c_5 => absurd c_5 (by decide +kernel))
    refine lv_iconst (v := (-1)) hx hb dX0_setWord_16 (by decide +kernel) ?_
    exact ca_iret C X (Or.inl ⟨fun q => hbf q.1, rfl, rfl⟩) dX0_setWord_17
set_option maxHeartbeats 4000000 in
set_option maxRecDepth 100000 in
theorem ca_cX_copyFrame (l : Launch) (D : va_G) (h : Nat) (a : Nat → Nat) (d : Nat → ClassId) (S : ca_St) (f g : Int32) (hN : ca_N (S 6)) : ca_Met l yX0_copyFrame cX0_copyFrame 5 (some .int) (ca_r 3 69) D (ca_X h a d) (ca_TX d) [.ref h, .int f, .int g] S (ca_XcopyFrame f g S) := by
  refine ca_start (by decide) (Nat.le_of_ble_eq_true rfl) ?_
  intro p e s m args below meth c A ls C X hl
  have hx := C.1
  have hb := C.2.1
  have hl : lv_has ls 5 [(0, .ref h), (1, .int f), (2, .int g)] := hl
  refine lv_aload_n hx hb dX0_copyFrame_0 rfl (lv_at hl 0 rfl) ?_
  refine lv_iload_n hx hb dX0_copyFrame_1 rfl (lv_at hl 1 rfl) ?_
  refine ca_calli (As := [.int f]) (rest := []) C (ca_cX_badEight l D h a d S f) (cwV 1 C.2.2.2.2.1 (lw_V q88 q90 qs1 q19 q91) rfl rfl rfl (by decide +kernel) ⟨Nat.le_of_ble_eq_true rfl, Nat.le_of_ble_eq_true rfl⟩) ca_rcX X rfl hl.1 rfl (Nat.le_of_ble_eq_true rfl) dX0_copyFrame_2 ⟨Nat.le_refl _, Nat.le_refl _⟩ (fun r_2 S_2 H locs hp_2 X => ?_)
  obtain ⟨hS_2, hp_2⟩ := hp_2
  rw [hS_2] at X
  rcases hp_2 with ⟨rfl, k, hk, rfl⟩ | ⟨rfl, hbf⟩
  · skip
    refine lv_if_ne (tgt := 16) hx hb dX0_copyFrame_5 (by decide) (fun c_5 => absurd rfl c_5) (fun c_5 => ?_)
    refine lv_aload_n hx hb dX0_copyFrame_8 rfl (lv_at hl 0 rfl) ?_
    refine lv_iload_n hx hb dX0_copyFrame_9 rfl (lv_at hl 2 rfl) ?_
    refine ca_calli (As := [.int g]) (rest := []) C (ca_cX_badEight l D h a d S g) (cwV 1 C.2.2.2.2.1 (lw_V q88 q90 qs1 q19 q91) rfl rfl rfl (by decide +kernel) ⟨Nat.le_of_ble_eq_true rfl, Nat.le_of_ble_eq_true rfl⟩) ca_rcX X rfl hl.1 rfl (Nat.le_of_ble_eq_true rfl) dX0_copyFrame_10 ⟨Nat.le_refl _, Nat.le_refl _⟩ (fun r_10 S_10 H locs hp_10 X => ?_)
    obtain ⟨hS_10, hp_10⟩ := hp_10
    rw [hS_10] at X
    rcases hp_10 with ⟨rfl, u, hu, rfl⟩ | ⟨rfl, hbg⟩
    · skip
      refine lv_if_eq (tgt := 18) hx hb dX0_copyFrame_13 (by decide) (fun c_13 => ?_) (fun c_13 => absurd rfl c_13)
      refine lv_iconst (v := nI 0) hx hb dX0_copyFrame_18 (by decide +kernel) ?_
      refine lv_istore_n (lv' := [(3, .int (nI 0)), (0, .ref h), (1, .int (nI k)), (2, .int (nI u))]) hx hb dX0_copyFrame_19 rfl hl (by decide) rfl (fun ls hl => ?_)
      have loop_20 : ∀ (nn i : Nat), 2 - i = nn → i ≤ 2 → ∀ (T : ca_St), ca_CF k u S i T → ∀ (H : Heap) (locs : List Loc) (ls : Array Slot), ca_I D (ca_X h a d) (ca_TX d) A s H locs T → lv_has ls 5 [(0, .ref h), (1, .int (nI k)), (2, .int (nI u)), (3, .int (nI i))] → W p l e (ca_r 3 69) s m args below meth c H locs 0 0 (ca_G D (ca_X h a d) (ca_TX d) (ca_XcopyFrame (nI k) (nI u) S) A below args s) (F0 m 20 ls []) := by
        intro nn
        induction nn using Nat.strongRecOn with
        | _ nn ih_20 =>
          intro i hnn hk_20 T hT H locs ls X hl
          refine lv_iload_n hx hb dX0_copyFrame_20 rfl (lv_at hl 3 rfl) ?_
          refine lv_iconst (v := nI 2) hx hb dX0_copyFrame_21 (by decide +kernel) ?_
          refine ca_geN (i := i) (n := 2) (tgt := 51) hx hb (by omega) (by omega) dX0_copyFrame_22 (by decide) (fun c_22 => ?_) (fun c_22 => ?_)
          · skip
            obtain rfl : i = 2 := by omega
            refine lv_iconst (v := nI 0) hx hb dX0_copyFrame_51 (by decide +kernel) ?_
            refine lv_istore_n (lv' := [(3, .int (nI 0)), (0, .ref h), (1, .int (nI k)), (2, .int (nI u))]) hx hb dX0_copyFrame_52 rfl hl (by decide) rfl (fun ls hl => ?_)
            refine lv_iconst (v := nI 0) hx hb dX0_copyFrame_53 (by decide +kernel) ?_
            refine lv_istore (lv' := [(4, .int (nI 0)), (3, .int (nI 0)), (0, .ref h), (1, .int (nI k)), (2, .int (nI u))]) hx hb dX0_copyFrame_54 hl (by decide) rfl (fun ls hl => ?_)
            have loop_56 : ∀ (nn n : Nat), 8 - n = nn → n ≤ 8 → ∀ (cn : Int32), cn = ca_cd (T 0) (k * 8) (u * 8) n → ∀ (H : Heap) (locs : List Loc) (ls : Array Slot), ca_I D (ca_X h a d) (ca_TX d) A s H locs (ca_cp T 0 (k * 8) 0 (u * 8) n) → lv_has ls 5 [(0, .ref h), (1, .int (nI k)), (2, .int (nI u)), (3, .int cn), (4, .int (nI n))] → W p l e (ca_r 3 69) s m args below meth c H locs 0 0 (ca_G D (ca_X h a d) (ca_TX d) (ca_XcopyFrame (nI k) (nI u) S) A below args s) (F0 m 56 ls []) := by
              intro nn
              induction nn using Nat.strongRecOn with
              | _ nn ih_56 =>
                intro n hnn hk_56 cn hcn H locs ls X hl
                refine lv_iload hx hb dX0_copyFrame_56 (lv_at hl 4 rfl) ?_
                refine lv_bipush (v := nI 8) hx hb dX0_copyFrame_58 (by decide +kernel) ?_
                refine ca_geN (i := n) (n := 8) (tgt := 123) hx hb (by omega) (by omega) dX0_copyFrame_60 (by decide) (fun c_60 => ?_) (fun c_60 => ?_)
                · skip
                  obtain rfl : n = 8 := by omega
                  refine lv_iload_n hx hb dX0_copyFrame_123 rfl (lv_at hl 3 rfl) ?_
                  exact ca_iret C X (Or.inr ⟨k, u, hk, hu, rfl, rfl, T, hT, hcn, rfl⟩) dX0_copyFrame_124
                · skip
                  refine lv_aload_n hx hb dX0_copyFrame_63 rfl (lv_at hl 0 rfl) ?_
                  refine ca_gX0 C rfl X dX0_copyFrame_64 ?_
                  refine lv_iload_n hx hb dX0_copyFrame_67 rfl (lv_at hl 1 rfl) ?_
                  refine lv_bipush (v := nI 8) hx hb dX0_copyFrame_68 (by decide +kernel) ?_
                  refine ca_mulN (i := k) (j := 8) hx hb dX0_copyFrame_70 ?_
                  refine lv_iload hx hb dX0_copyFrame_71 (lv_at hl 4 rfl) ?_
                  refine ca_addN (i := k * 8) (j := n) hx hb dX0_copyFrame_73 ?_
                  refine ca_lX0 (j := k * 8 + n) (v := T 0 (k * 8 + n)) C X (by omega) (ca_cp_o (by omega)) dX0_copyFrame_74 ?_
                  refine lv_aload_n hx hb dX0_copyFrame_75 rfl (lv_at hl 0 rfl) ?_
                  refine ca_gX0 C rfl X dX0_copyFrame_76 ?_
                  refine lv_iload_n hx hb dX0_copyFrame_79 rfl (lv_at hl 2 rfl) ?_
                  refine lv_bipush (v := nI 8) hx hb dX0_copyFrame_80 (by decide +kernel) ?_
                  refine ca_mulN (i := u) (j := 8) hx hb dX0_copyFrame_82 ?_
                  refine lv_iload hx hb dX0_copyFrame_83 (lv_at hl 4 rfl) ?_
                  refine ca_addN (i := u * 8) (j := n) hx hb dX0_copyFrame_85 ?_
                  refine ca_lX0 (j := u * 8 + n) (v := T 0 (u * 8 + n)) C X (by omega) (ca_cp_o (by omega)) dX0_copyFrame_86 ?_
                  refine lv_icmp_eq (tgt := 93) hx hb dX0_copyFrame_87 (by decide) (fun c_87 => ?_) (fun c_87 => ?_)
                  · skip
                    refine lv_aload_n hx hb dX0_copyFrame_93 rfl (lv_at hl 0 rfl) ?_
                    refine ca_gX0 C rfl X dX0_copyFrame_94 ?_
                    refine lv_iload_n hx hb dX0_copyFrame_97 rfl (lv_at hl 1 rfl) ?_
                    refine lv_bipush (v := nI 8) hx hb dX0_copyFrame_98 (by decide +kernel) ?_
                    refine ca_mulN (i := k) (j := 8) hx hb dX0_copyFrame_100 ?_
                    refine lv_iload hx hb dX0_copyFrame_101 (lv_at hl 4 rfl) ?_
                    refine ca_addN (i := k * 8) (j := n) hx hb dX0_copyFrame_103 ?_
                    refine lv_aload_n hx hb dX0_copyFrame_104 rfl (lv_at hl 0 rfl) ?_
                    refine ca_gX0 C rfl X dX0_copyFrame_105 ?_
                    refine lv_iload_n hx hb dX0_copyFrame_108 rfl (lv_at hl 2 rfl) ?_
                    refine lv_bipush (v := nI 8) hx hb dX0_copyFrame_109 (by decide +kernel) ?_
                    refine ca_mulN (i := u) (j := 8) hx hb dX0_copyFrame_111 ?_
                    refine lv_iload hx hb dX0_copyFrame_112 (lv_at hl 4 rfl) ?_
                    refine ca_addN (i := u * 8) (j := n) hx hb dX0_copyFrame_114 ?_
                    refine ca_lX0 (j := u * 8 + n) (v := T 0 (u * 8 + n)) C X (by omega) (ca_cp_o (by omega)) dX0_copyFrame_115 ?_
                    refine ca_sX0 (j := k * 8 + n) (x := T 0 (u * 8 + n)) C X (by omega) dX0_copyFrame_116 (fun H locs X => ?_)
                    refine lv_iinc (v := nI (n + 1)) (lv' := [(4, .int (nI (n + 1))), (0, .ref h), (1, .int (nI k)), (2, .int (nI u)), (3, .int cn)]) hx hb dX0_copyFrame_117 hl (k := 4) rfl (ca_inc n) (by decide) rfl (fun ls hl => ?_)
                    refine lv_goto (tgt := 56) hx hb dX0_copyFrame_120 (by decide) ?_
                    exact ih_56 (8 - (n + 1)) (by omega) (n + 1) rfl (by omega) cn (hcn.trans (ca_cd_t c_87)) _ _ _ (by rw [← ca_cp_s]; exact X) (lv_sub hl [1, 2, 3, 4, 0] rfl)
                  · skip
                    refine lv_iinc (v := cn + 1) (lv' := [(3, .int (cn + 1)), (0, .ref h), (1, .int (nI k)), (2, .int (nI u)), (4, .int (nI n))]) hx hb dX0_copyFrame_90 hl (k := 3) rfl (ca_incV cn) (by decide) rfl (fun ls hl => ?_)
                    refine lv_aload_n hx hb dX0_copyFrame_93 rfl (lv_at hl 1 rfl) ?_
                    refine ca_gX0 C rfl X dX0_copyFrame_94 ?_
                    refine lv_iload_n hx hb dX0_copyFrame_97 rfl (lv_at hl 2 rfl) ?_
                    refine lv_bipush (v := nI 8) hx hb dX0_copyFrame_98 (by decide +kernel) ?_
                    refine ca_mulN (i := k) (j := 8) hx hb dX0_copyFrame_100 ?_
                    refine lv_iload hx hb dX0_copyFrame_101 (lv_at hl 4 rfl) ?_
                    refine ca_addN (i := k * 8) (j := n) hx hb dX0_copyFrame_103 ?_
                    refine lv_aload_n hx hb dX0_copyFrame_104 rfl (lv_at hl 1 rfl) ?_
                    refine ca_gX0 C rfl X dX0_copyFrame_105 ?_
                    refine lv_iload_n hx hb dX0_copyFrame_108 rfl (lv_at hl 3 rfl) ?_
                    refine lv_bipush (v := nI 8) hx hb dX0_copyFrame_109 (by decide +kernel) ?_
                    refine ca_mulN (i := u) (j := 8) hx hb dX0_copyFrame_111 ?_
                    refine lv_iload hx hb dX0_copyFrame_112 (lv_at hl 4 rfl) ?_
                    refine ca_addN (i := u * 8) (j := n) hx hb dX0_copyFrame_114 ?_
                    refine ca_lX0 (j := u * 8 + n) (v := T 0 (u * 8 + n)) C X (by omega) (ca_cp_o (by omega)) dX0_copyFrame_115 ?_
                    refine ca_sX0 (j := k * 8 + n) (x := T 0 (u * 8 + n)) C X (by omega) dX0_copyFrame_116 (fun H locs X => ?_)
                    refine lv_iinc (v := nI (n + 1)) (lv' := [(4, .int (nI (n + 1))), (3, .int (cn + 1)), (0, .ref h), (1, .int (nI k)), (2, .int (nI u))]) hx hb dX0_copyFrame_117 hl (k := 4) rfl (ca_inc n) (by decide) rfl (fun ls hl => ?_)
                    refine lv_goto (tgt := 56) hx hb dX0_copyFrame_120 (by decide) ?_
                    exact ih_56 (8 - (n + 1)) (by omega) (n + 1) rfl (by omega) (cn + 1) (by rw [hcn]; exact ca_cd_f c_87) _ _ _ (by rw [← ca_cp_s]; exact X) (lv_sub hl [2, 3, 4, 1, 0] rfl)
            exact loop_56 8 0 rfl (Nat.zero_le _) 0 rfl _ _ _ (by rw [ca_cp_0]; exact X) (lv_sub hl [2, 3, 4, 1, 0] rfl)
          · skip
            refine lv_aload_n hx hb dX0_copyFrame_25 rfl (lv_at hl 0 rfl) ?_
            refine lv_iload_n hx hb dX0_copyFrame_26 rfl (lv_at hl 2 rfl) ?_
            refine lv_iconst (v := nI 2) hx hb dX0_copyFrame_27 (by decide +kernel) ?_
            refine ca_mulN (i := u) (j := 2) hx hb dX0_copyFrame_28 ?_
            refine lv_iload_n hx hb dX0_copyFrame_29 rfl (lv_at hl 3 rfl) ?_
            refine ca_addN (i := u * 2) (j := i) hx hb dX0_copyFrame_30 ?_
            refine lv_iconst (v := nI 0) hx hb dX0_copyFrame_31 (by decide +kernel) ?_
            refine ca_callv (As := [.int (nI (u * 2 + i)), .int (nI 0)]) (rest := []) C (ca_cX_snoop0 l D h a d T (u * 2 + i) (by omega) (ca_N_CF hN i T hT)) (cwV 2 C.2.2.2.2.1 (lw_V q168 q170 qs13 q19 q171) rfl rfl rfl (by decide +kernel) ⟨Nat.le_of_ble_eq_true rfl, Nat.le_of_ble_eq_true rfl⟩) ca_rcX X rfl hl.1 rfl (Nat.le_of_ble_eq_true rfl) dX0_copyFrame_32 ⟨Nat.le_refl _, Nat.le_refl _⟩ (fun S_32 H locs hp_32 X => ?_)
            refine lv_aload_n hx hb dX0_copyFrame_35 rfl (lv_at hl 0 rfl) ?_
            refine lv_iload_n hx hb dX0_copyFrame_36 rfl (lv_at hl 1 rfl) ?_
            refine lv_iconst (v := nI 2) hx hb dX0_copyFrame_37 (by decide +kernel) ?_
            refine ca_mulN (i := k) (j := 2) hx hb dX0_copyFrame_38 ?_
            refine lv_iload_n hx hb dX0_copyFrame_39 rfl (lv_at hl 3 rfl) ?_
            refine ca_addN (i := k * 2) (j := i) hx hb dX0_copyFrame_40 ?_
            refine lv_iconst (v := nI 1) hx hb dX0_copyFrame_41 (by decide +kernel) ?_
            refine ca_callv (As := [.int (nI (k * 2 + i)), .int (nI 1)]) (rest := []) C (ca_cX_snoop1 l D h a d S_32 (k * 2 + i) (by omega) (ca_N_S0 (ca_N_CF hN i T hT) hp_32)) (cwV 2 C.2.2.2.2.1 (lw_V q168 q170 qs13 q19 q171) rfl rfl rfl (by decide +kernel) ⟨Nat.le_of_ble_eq_true rfl, Nat.le_of_ble_eq_true rfl⟩) ca_rcX X rfl hl.1 rfl (Nat.le_of_ble_eq_true rfl) dX0_copyFrame_42 ⟨Nat.le_refl _, Nat.le_refl _⟩ (fun S_42 H locs hp_42 X => ?_)
            refine lv_iinc (v := nI (i + 1)) (lv' := [(3, .int (nI (i + 1))), (0, .ref h), (1, .int (nI k)), (2, .int (nI u))]) hx hb dX0_copyFrame_45 hl (k := 3) rfl (ca_inc i) (by decide) rfl (fun ls hl => ?_)
            refine lv_goto (tgt := 20) hx hb dX0_copyFrame_48 (by decide) ?_
            exact ih_20 (2 - (i + 1)) (by omega) (i + 1) rfl (by omega) S_42 (⟨T, S_32, hT, hp_32, hp_42⟩) _ _ _ X (lv_sub hl [1, 2, 3, 0] rfl)
      exact loop_20 2 0 rfl (Nat.zero_le _) S rfl _ _ _ X (lv_sub hl [1, 2, 3, 0] rfl)
    · skip
      refine lv_if_eq (tgt := 18) hx hb dX0_copyFrame_13 (by decide) (fun c_13 => absurd c_13 (by decide +kernel)) (fun c_13 => ?_)
      refine lv_iconst (v := (-1)) hx hb dX0_copyFrame_16 (by decide +kernel) ?_
      exact ca_iret C X (Or.inl ⟨fun q => hbg q.2, rfl, rfl⟩) dX0_copyFrame_17
  · skip
    refine lv_if_ne (tgt := 16) hx hb dX0_copyFrame_5 (by decide) (fun c_5 => ?_) (fun c_5 => absurd c_5 (by decide +kernel))
    refine lv_iconst (v := (-1)) hx hb dX0_copyFrame_16 (by decide +kernel) ?_
    exact ca_iret C X (Or.inl ⟨fun q => hbf q.1, rfl, rfl⟩) dX0_copyFrame_17
end
section
set_option maxHeartbeats 4000000 in
set_option maxRecDepth 100000 in
theorem ca_cX_marks (l : Launch) (D : va_G) (h : Nat) (a : Nat → Nat) (d : Nat → ClassId) (S : ca_St) (v : Int32) : ca_Met l yX0_marks cX0_marks 3 (some .int) (ca_r 1 21) D (ca_X h a d) (ca_TX d) [.ref h, .int v] S (ca_marks v S) := by
  refine ca_start (by decide) (Nat.le_of_ble_eq_true rfl) ?_
  intro p e s m args below meth c A ls C X hl
  have hx := C.1
  have hb := C.2.1
  have hl : lv_has ls 3 [(0, .ref h), (1, .int v)] := hl
  refine lv_aload_n hx hb dX0_marks_0 rfl (lv_at hl 0 rfl) ?_
  refine lv_iload_n hx hb dX0_marks_1 rfl (lv_at hl 1 rfl) ?_
  refine ca_calli (As := [.int v]) (rest := []) C (ca_cX_badPage l D h a d S v) (cwV 1 C.2.2.2.2.1 (lw_V q84 q86 qs0 q19 q87) rfl rfl rfl (by decide +kernel) ⟨Nat.le_of_ble_eq_true rfl, Nat.le_of_ble_eq_true rfl⟩) ca_rcX X rfl hl.1 rfl (Nat.le_of_ble_eq_true rfl) dX0_marks_2 ⟨Nat.le_refl _, Nat.le_refl _⟩ (fun r_2 S_2 H locs hp_2 X => ?_)
  obtain ⟨hS_2, hp_2⟩ := hp_2
  rw [hS_2] at X
  rcases hp_2 with ⟨rfl, j, hj, rfl⟩ | ⟨rfl, hbv⟩
  · skip
    refine lv_if_eq (tgt := 10) hx hb dX0_marks_5 (by decide) (fun c_5 => ?_) (fun c_5 => absurd rfl c_5)
    refine lv_aload_n hx hb dX0_marks_10 rfl (lv_at hl 0 rfl) ?_
    refine ca_gX3 C rfl X dX0_marks_11 ?_
    refine lv_iload_n hx hb dX0_marks_14 rfl (lv_at hl 1 rfl) ?_
    refine ca_lX3 (j := j) (v := S 3 j) C X (by omega) rfl dX0_marks_15 ?_
    refine lv_if_eq (tgt := 23) hx hb dX0_marks_16 (by decide) (fun c_16 => ?_) (fun c_16 => ?_)
    · skip
      refine lv_iconst (v := nI 0) hx hb dX0_marks_23 (by decide +kernel) ?_
      refine lv_istore_n (lv' := [(2, .int (nI 0)), (0, .ref h), (1, .int (nI j))]) hx hb dX0_marks_24 rfl hl (by decide) rfl (fun ls hl => ?_)
      refine lv_aload_n hx hb dX0_marks_25 rfl (lv_at hl 1 rfl) ?_
      refine ca_gX4 C rfl X dX0_marks_26 ?_
      refine lv_iload_n hx hb dX0_marks_29 rfl (lv_at hl 2 rfl) ?_
      refine ca_lX4 (j := j) (v := S 4 j) C X (by omega) rfl dX0_marks_30 ?_
      refine lv_if_eq (tgt := 40) hx hb dX0_marks_31 (by decide) (fun c_31 => ?_) (fun c_31 => ?_)
      · skip
        refine lv_iload_n hx hb dX0_marks_40 rfl (lv_at hl 0 rfl) ?_
        exact ca_iret C X (⟨rfl, Or.inr ⟨j, hj, rfl, (ca_mk_00 c_16 c_31).symm⟩⟩) dX0_marks_41
      · skip
        refine lv_iload_n hx hb dX0_marks_34 rfl (lv_at hl 0 rfl) ?_
        refine lv_iconst (v := nI 2) hx hb dX0_marks_35 (by decide +kernel) ?_
        refine ca_addN (i := 0) (j := 2) hx hb dX0_marks_36 ?_
        refine lv_goto (tgt := 41) hx hb dX0_marks_37 (by decide) ?_
        exact ca_iret C X (⟨rfl, Or.inr ⟨j, hj, rfl, (ca_mk_01 c_16 c_31).symm⟩⟩) dX0_marks_41
    · skip
      refine lv_iconst (v := nI 1) hx hb dX0_marks_19 (by decide +kernel) ?_
      refine lv_goto (tgt := 24) hx hb dX0_marks_20 (by decide) ?_
      refine lv_istore_n (lv' := [(2, .int (nI 1)), (0, .ref h), (1, .int (nI j))]) hx hb dX0_marks_24 rfl hl (by decide) rfl (fun ls hl => ?_)
      refine lv_aload_n hx hb dX0_marks_25 rfl (lv_at hl 1 rfl) ?_
      refine ca_gX4 C rfl X dX0_marks_26 ?_
      refine lv_iload_n hx hb dX0_marks_29 rfl (lv_at hl 2 rfl) ?_
      refine ca_lX4 (j := j) (v := S 4 j) C X (by omega) rfl dX0_marks_30 ?_
      refine lv_if_eq (tgt := 40) hx hb dX0_marks_31 (by decide) (fun c_31 => ?_) (fun c_31 => ?_)
      · skip
        refine lv_iload_n hx hb dX0_marks_40 rfl (lv_at hl 0 rfl) ?_
        exact ca_iret C X (⟨rfl, Or.inr ⟨j, hj, rfl, (ca_mk_10 c_16 c_31).symm⟩⟩) dX0_marks_41
      · skip
        refine lv_iload_n hx hb dX0_marks_34 rfl (lv_at hl 0 rfl) ?_
        refine lv_iconst (v := nI 2) hx hb dX0_marks_35 (by decide +kernel) ?_
        refine ca_addN (i := 1) (j := 2) hx hb dX0_marks_36 ?_
        refine lv_goto (tgt := 41) hx hb dX0_marks_37 (by decide) ?_
        exact ca_iret C X (⟨rfl, Or.inr ⟨j, hj, rfl, (ca_mk_11 c_16 c_31).symm⟩⟩) dX0_marks_41
  · skip
    refine lv_if_eq (tgt := 10) hx hb dX0_marks_5 (by decide) (fun c_5 => absurd c_5 (by decide +kernel)) (fun c_5 => ?_)
    refine lv_iconst (v := (-1)) hx hb dX0_marks_8 (by decide +kernel) ?_
    exact ca_iret C X (⟨rfl, Or.inl ⟨hbv, rfl⟩⟩) dX0_marks_9
set_option maxHeartbeats 4000000 in
set_option maxRecDepth 100000 in
theorem ca_cX_clearMarks (l : Launch) (D : va_G) (h : Nat) (a : Nat → Nat) (d : Nat → ClassId) (S : ca_St) (v : Int32) : ca_Met l yX0_clearMarks cX0_clearMarks 3 (some .int) (ca_r 2 43) D (ca_X h a d) (ca_TX d) [.ref h, .int v] S (ca_XclearMarks v S) := by
  refine ca_start (by decide) (Nat.le_of_ble_eq_true rfl) ?_
  intro p e s m args below meth c A ls C X hl
  have hx := C.1
  have hb := C.2.1
  have hl : lv_has ls 3 [(0, .ref h), (1, .int v)] := hl
  refine lv_aload_n hx hb dX0_clearMarks_0 rfl (lv_at hl 0 rfl) ?_
  refine lv_iload_n hx hb dX0_clearMarks_1 rfl (lv_at hl 1 rfl) ?_
  refine ca_calli (As := [.int v]) (rest := []) C (ca_cX_marks l D h a d S v) (cwV 1 C.2.2.2.2.1 (lw_V q188 q181 q182 q19 q183) rfl rfl rfl (by decide +kernel) ⟨Nat.le_of_ble_eq_true rfl, Nat.le_of_ble_eq_true rfl⟩) ca_rcX X rfl hl.1 rfl (Nat.le_of_ble_eq_true rfl) dX0_clearMarks_2 ⟨Nat.le_refl _, Nat.le_refl _⟩ (fun r_2 S_2 H locs hp_2 X => ?_)
  obtain ⟨hS_2, hp_2⟩ := hp_2
  rw [hS_2] at X
  rcases hp_2 with ⟨hbv, rfl⟩ | ⟨j, hj, rfl, rfl⟩
  · skip
    refine lv_istore_n (lv' := [(2, .int ((-1))), (0, .ref h), (1, .int v)]) hx hb dX0_clearMarks_5 rfl hl (by decide) rfl (fun ls hl => ?_)
    refine lv_iload_n hx hb dX0_clearMarks_6 rfl (lv_at hl 0 rfl) ?_
    refine lv_if_lt (tgt := 29) hx hb dX0_clearMarks_7 (by decide) (fun c_7 => ?_) (fun c_7 => absurd (by decide +kernel) c_7)
    refine lv_iload_n hx hb dX0_clearMarks_29 rfl (lv_at hl 0 rfl) ?_
    exact ca_iret C X (Or.inl ⟨hbv, rfl, rfl⟩) dX0_clearMarks_30
  · skip
    refine lv_istore_n (lv' := [(2, .int (ca_mk (S 3 j) (S 4 j))), (0, .ref h), (1, .int (nI j))]) hx hb dX0_clearMarks_5 rfl hl (by decide) rfl (fun ls hl => ?_)
    refine lv_iload_n hx hb dX0_clearMarks_6 rfl (lv_at hl 0 rfl) ?_
    refine lv_if_lt (tgt := 29) hx hb dX0_clearMarks_7 (by decide) (fun c_7 => absurd c_7 (ca_nlt (ca_mk_ge _ _))) (fun c_7 => ?_)
    refine lv_aload_n hx hb dX0_clearMarks_10 rfl (lv_at hl 1 rfl) ?_
    refine ca_gX3 C rfl X dX0_clearMarks_11 ?_
    refine lv_iload_n hx hb dX0_clearMarks_14 rfl (lv_at hl 2 rfl) ?_
    refine lv_iconst (v := nI 0) hx hb dX0_clearMarks_15 (by decide +kernel) ?_
    refine ca_sX3 (j := j) (x := nI 0) (y := 0) ca_n0 C X (by omega) dX0_clearMarks_16 (fun H locs X => ?_)
    refine lv_aload_n hx hb dX0_clearMarks_17 rfl (lv_at hl 1 rfl) ?_
    refine ca_gX4 C rfl X dX0_clearMarks_18 ?_
    refine lv_iload_n hx hb dX0_clearMarks_21 rfl (lv_at hl 2 rfl) ?_
    refine lv_iconst (v := nI 0) hx hb dX0_clearMarks_22 (by decide +kernel) ?_
    refine ca_sX4 (j := j) (x := nI 0) (y := 0) ca_n0 C X (by omega) dX0_clearMarks_23 (fun H locs X => ?_)
    refine lv_aload_n hx hb dX0_clearMarks_24 rfl (lv_at hl 1 rfl) ?_
    refine lv_iload_n hx hb dX0_clearMarks_25 rfl (lv_at hl 2 rfl) ?_
    refine ca_callv (As := [.int (nI j)]) (rest := []) C (ca_cX_shoot l D h a d (ca_wr (ca_wr S 3 j 0) 4 j 0) (nI j)) (cwV 1 C.2.2.2.2.1 (lw_V q92 q94 qs2 q19 q95) rfl rfl rfl (by decide +kernel) ⟨Nat.le_of_ble_eq_true rfl, Nat.le_of_ble_eq_true rfl⟩) ca_rcX X rfl hl.1 rfl (Nat.le_of_ble_eq_true rfl) dX0_clearMarks_26 ⟨Nat.le_refl _, Nat.le_refl _⟩ (fun S_26 H locs hp_26 X => ?_)
    obtain rfl := hp_26
    refine lv_iload_n hx hb dX0_clearMarks_29 rfl (lv_at hl 0 rfl) ?_
    exact ca_iret C X (Or.inr ⟨j, hj, rfl, rfl, rfl⟩) dX0_clearMarks_30
set_option maxHeartbeats 4000000 in
set_option maxRecDepth 100000 in
theorem ca_cX_shown (l : Launch) (D : va_G) (h : Nat) (a : Nat → Nat) (d : Nat → ClassId) (S : ca_St) (f : Int32) : ca_Met l yX0_shown cX0_shown 4 (some .int) (ca_r 1 21) D (ca_X h a d) (ca_TX d) [.ref h, .int f] S (ca_shown f S) := by
  refine ca_start (by decide) (Nat.le_of_ble_eq_true rfl) ?_
  intro p e s m args below meth c A ls C X hl
  have hx := C.1
  have hb := C.2.1
  have hl : lv_has ls 4 [(0, .ref h), (1, .int f)] := hl
  refine lv_aload_n hx hb dX0_shown_0 rfl (lv_at hl 0 rfl) ?_
  refine lv_iload_n hx hb dX0_shown_1 rfl (lv_at hl 1 rfl) ?_
  refine ca_calli (As := [.int f]) (rest := []) C (ca_cX_badEight l D h a d S f) (cwV 1 C.2.2.2.2.1 (lw_V q88 q90 qs1 q19 q91) rfl rfl rfl (by decide +kernel) ⟨Nat.le_of_ble_eq_true rfl, Nat.le_of_ble_eq_true rfl⟩) ca_rcX X rfl hl.1 rfl (Nat.le_of_ble_eq_true rfl) dX0_shown_2 ⟨Nat.le_refl _, Nat.le_refl _⟩ (fun r_2 S_2 H locs hp_2 X => ?_)
  obtain ⟨hS_2, hp_2⟩ := hp_2
  rw [hS_2] at X
  rcases hp_2 with ⟨rfl, k, hk, rfl⟩ | ⟨rfl, hbf⟩
  · skip
    refine lv_if_eq (tgt := 10) hx hb dX0_shown_5 (by decide) (fun c_5 => ?_) (fun c_5 => absurd rfl c_5)
    refine lv_iconst (v := nI 0) hx hb dX0_shown_10 (by decide +kernel) ?_
    refine lv_istore_n (lv' := [(2, .int (nI 0)), (0, .ref h), (1, .int (nI k))]) hx hb dX0_shown_11 rfl hl (by decide) rfl (fun ls hl => ?_)
    refine lv_iconst (v := nI 0) hx hb dX0_shown_12 (by decide +kernel) ?_
    refine lv_istore_n (lv' := [(3, .int (nI 0)), (2, .int (nI 0)), (0, .ref h), (1, .int (nI k))]) hx hb dX0_shown_13 rfl hl (by decide) rfl (fun ls hl => ?_)
    have loop_14 : ∀ (nn i : Nat), 16 - i = nn → i ≤ 16 → ∀ (cn : Int32), cn = ca_sw (S 1) (nI k) i → ∀ (H : Heap) (locs : List Loc) (ls : Array Slot), ca_I D (ca_X h a d) (ca_TX d) A s H locs S → lv_has ls 4 [(0, .ref h), (1, .int (nI k)), (2, .int cn), (3, .int (nI i))] → W p l e (ca_r 1 21) s m args below meth c H locs 0 0 (ca_G D (ca_X h a d) (ca_TX d) (ca_shown (nI k) S) A below args s) (F0 m 14 ls []) := by
      intro nn
      induction nn using Nat.strongRecOn with
      | _ nn ih_14 =>
        intro i hnn hk_14 cn hcn H locs ls X hl
        refine lv_iload_n hx hb dX0_shown_14 rfl (lv_at hl 3 rfl) ?_
        refine lv_bipush (v := nI 16) hx hb dX0_shown_15 (by decide +kernel) ?_
        refine ca_geN (i := i) (n := 16) (tgt := 39) hx hb (by omega) (by omega) dX0_shown_17 (by decide) (fun c_17 => ?_) (fun c_17 => ?_)
        · skip
          obtain rfl : i = 16 := by omega
          refine lv_iload_n hx hb dX0_shown_39 rfl (lv_at hl 2 rfl) ?_
          exact ca_iret C X (⟨rfl, Or.inr ⟨⟨k, hk, rfl⟩, hcn⟩⟩) dX0_shown_40
        · skip
          refine lv_aload_n hx hb dX0_shown_20 rfl (lv_at hl 0 rfl) ?_
          refine ca_gX1 C rfl X dX0_shown_21 ?_
          refine lv_iload_n hx hb dX0_shown_24 rfl (lv_at hl 3 rfl) ?_
          refine ca_lX1 (j := i) (v := S 1 i) C X (by omega) rfl dX0_shown_25 ?_
          refine lv_iload_n hx hb dX0_shown_26 rfl (lv_at hl 1 rfl) ?_
          refine lv_icmp_ne (tgt := 33) hx hb dX0_shown_27 (by decide) (fun c_27 => ?_) (fun c_27 => ?_)
          · skip
            refine lv_iinc (v := nI (i + 1)) (lv' := [(3, .int (nI (i + 1))), (0, .ref h), (1, .int (nI k)), (2, .int cn)]) hx hb dX0_shown_33 hl (k := 3) rfl (ca_inc i) (by decide) rfl (fun ls hl => ?_)
            refine lv_goto (tgt := 14) hx hb dX0_shown_36 (by decide) ?_
            exact ih_14 (16 - (i + 1)) (by omega) (i + 1) rfl (by omega) cn (hcn.trans (ca_sw_f c_27)) _ _ _ X (lv_sub hl [1, 2, 3, 0] rfl)
          · skip
            refine lv_iinc (v := cn + 1) (lv' := [(2, .int (cn + 1)), (0, .ref h), (1, .int (nI k)), (3, .int (nI i))]) hx hb dX0_shown_30 hl (k := 2) rfl (ca_incV cn) (by decide) rfl (fun ls hl => ?_)
            refine lv_iinc (v := nI (i + 1)) (lv' := [(3, .int (nI (i + 1))), (2, .int (cn + 1)), (0, .ref h), (1, .int (nI k))]) hx hb dX0_shown_33 hl (k := 3) rfl (ca_inc i) (by decide) rfl (fun ls hl => ?_)
            refine lv_goto (tgt := 14) hx hb dX0_shown_36 (by decide) ?_
            exact ih_14 (16 - (i + 1)) (by omega) (i + 1) rfl (by omega) (cn + 1) (by rw [hcn]; exact ca_sw_t c_27) _ _ _ X (lv_sub hl [2, 3, 1, 0] rfl)
    exact loop_14 16 0 rfl (Nat.zero_le _) 0 rfl _ _ _ X (lv_sub hl [2, 3, 1, 0] rfl)
  · skip
    refine lv_if_eq (tgt := 10) hx hb dX0_shown_5 (by decide) (fun c_5 => absurd c_5 (by decide +kernel)) (fun c_5 => ?_)
    refine lv_iconst (v := (-1)) hx hb dX0_shown_8 (by decide +kernel) ?_
    exact ca_iret C X (⟨rfl, Or.inl ⟨hbf, rfl⟩⟩) dX0_shown_9
set_option maxHeartbeats 4000000 in
set_option maxRecDepth 100000 in
theorem ca_cX_dirtyPages (l : Launch) (D : va_G) (h : Nat) (a : Nat → Nat) (d : Nat → ClassId) (S : ca_St) : ca_Met l yX0_dirtyPages cX0_dirtyPages 3 (some .int) (ca_r 0 0) D (ca_X h a d) (ca_TX d) [.ref h] S (fun r S' => S' = S ∧ r = ca_dp (S 4) 16) := by
  refine ca_start (by decide) (Nat.le_of_ble_eq_true rfl) ?_
  intro p e s m args below meth c A ls C X hl
  have hx := C.1
  have hb := C.2.1
  have hl : lv_has ls 3 [(0, .ref h)] := hl
  refine lv_iconst (v := nI 0) hx hb dX0_dirtyPages_0 (by decide +kernel) ?_
  refine lv_istore_n (lv' := [(1, .int (nI 0)), (0, .ref h)]) hx hb dX0_dirtyPages_1 rfl hl (by decide) rfl (fun ls hl => ?_)
  refine lv_iconst (v := nI 0) hx hb dX0_dirtyPages_2 (by decide +kernel) ?_
  refine lv_istore_n (lv' := [(2, .int (nI 0)), (1, .int (nI 0)), (0, .ref h)]) hx hb dX0_dirtyPages_3 rfl hl (by decide) rfl (fun ls hl => ?_)
  have loop_4 : ∀ (nn i : Nat), 16 - i = nn → i ≤ 16 → ∀ (cn : Int32), cn = ca_dp (S 4) i → ∀ (H : Heap) (locs : List Loc) (ls : Array Slot), ca_I D (ca_X h a d) (ca_TX d) A s H locs S → lv_has ls 3 [(0, .ref h), (1, .int cn), (2, .int (nI i))] → W p l e (ca_r 0 0) s m args below meth c H locs 0 0 (ca_G D (ca_X h a d) (ca_TX d) (fun r S' => S' = S ∧ r = ca_dp (S 4) 16) A below args s) (F0 m 4 ls []) := by
    intro nn
    induction nn using Nat.strongRecOn with
    | _ nn ih_4 =>
      intro i hnn hk_4 cn hcn H locs ls X hl
      refine lv_iload_n hx hb dX0_dirtyPages_4 rfl (lv_at hl 2 rfl) ?_
      refine lv_bipush (v := nI 16) hx hb dX0_dirtyPages_5 (by decide +kernel) ?_
      refine ca_geN (i := i) (n := 16) (tgt := 28) hx hb (by omega) (by omega) dX0_dirtyPages_7 (by decide) (fun c_7 => ?_) (fun c_7 => ?_)
      · skip
        obtain rfl : i = 16 := by omega
        refine lv_iload_n hx hb dX0_dirtyPages_28 rfl (lv_at hl 1 rfl) ?_
        exact ca_iret C X (⟨rfl, hcn⟩) dX0_dirtyPages_29
      · skip
        refine lv_aload_n hx hb dX0_dirtyPages_10 rfl (lv_at hl 0 rfl) ?_
        refine ca_gX4 C rfl X dX0_dirtyPages_11 ?_
        refine lv_iload_n hx hb dX0_dirtyPages_14 rfl (lv_at hl 2 rfl) ?_
        refine ca_lX4 (j := i) (v := S 4 i) C X (by omega) rfl dX0_dirtyPages_15 ?_
        refine lv_if_eq (tgt := 22) hx hb dX0_dirtyPages_16 (by decide) (fun c_16 => ?_) (fun c_16 => ?_)
        · skip
          refine lv_iinc (v := nI (i + 1)) (lv' := [(2, .int (nI (i + 1))), (0, .ref h), (1, .int cn)]) hx hb dX0_dirtyPages_22 hl (k := 2) rfl (ca_inc i) (by decide) rfl (fun ls hl => ?_)
          refine lv_goto (tgt := 4) hx hb dX0_dirtyPages_25 (by decide) ?_
          exact ih_4 (16 - (i + 1)) (by omega) (i + 1) rfl (by omega) cn (hcn.trans (ca_dp_t c_16)) _ _ _ X (lv_sub hl [1, 2, 0] rfl)
        · skip
          refine lv_iinc (v := cn + 1) (lv' := [(1, .int (cn + 1)), (0, .ref h), (2, .int (nI i))]) hx hb dX0_dirtyPages_19 hl (k := 1) rfl (ca_incV cn) (by decide) rfl (fun ls hl => ?_)
          refine lv_iinc (v := nI (i + 1)) (lv' := [(2, .int (nI (i + 1))), (1, .int (cn + 1)), (0, .ref h)]) hx hb dX0_dirtyPages_22 hl (k := 2) rfl (ca_inc i) (by decide) rfl (fun ls hl => ?_)
          refine lv_goto (tgt := 4) hx hb dX0_dirtyPages_25 (by decide) ?_
          exact ih_4 (16 - (i + 1)) (by omega) (i + 1) rfl (by omega) (cn + 1) (by rw [hcn]; exact ca_dp_f c_16) _ _ _ X (lv_sub hl [2, 1, 0] rfl)
  exact loop_4 16 0 rfl (Nat.zero_le _) 0 rfl _ _ _ X (lv_sub hl [2, 1, 0] rfl)
set_option maxHeartbeats 4000000 in
set_option maxRecDepth 100000 in
theorem ca_cX_flush (l : Launch) (D : va_G) (h : Nat) (a : Nat → Nat) (d : Nat → ClassId) (S : ca_St) (hN : ca_N (S 6)) : ca_MeV l yX0_flush cX0_flush 2 (ca_r 1 22) D (ca_X h a d) (ca_TX d) [.ref h] S (fun S' => S' = ca_fu S 16) := by
  refine ca_startV (by decide) (Nat.le_of_ble_eq_true rfl) ?_
  intro p e s m args below meth c A ls C X hl
  have hx := C.1
  have hb := C.2.1
  have hl : lv_has ls 2 [(0, .ref h)] := hl
  refine lv_iconst (v := nI 0) hx hb dX0_flush_0 (by decide +kernel) ?_
  refine lv_istore_n (lv' := [(1, .int (nI 0)), (0, .ref h)]) hx hb dX0_flush_1 rfl hl (by decide) rfl (fun ls hl => ?_)
  have loop_2 : ∀ (nn i : Nat), 16 - i = nn → i ≤ 16 → ∀ (H : Heap) (locs : List Loc) (ls : Array Slot), ca_I D (ca_X h a d) (ca_TX d) A s H locs (ca_fu S i) → lv_has ls 2 [(0, .ref h), (1, .int (nI i))] → W p l e (ca_r 1 22) s m args below meth c H locs 0 0 (ca_GV D (ca_X h a d) (ca_TX d) (fun S' => S' = ca_fu S 16) A below args s) (F0 m 2 ls []) := by
    intro nn
    induction nn using Nat.strongRecOn with
    | _ nn ih_2 =>
      intro i hnn hk_2 H locs ls X hl
      refine lv_iload_n hx hb dX0_flush_2 rfl (lv_at hl 1 rfl) ?_
      refine lv_bipush (v := nI 16) hx hb dX0_flush_3 (by decide +kernel) ?_
      refine ca_geN (i := i) (n := 16) (tgt := 26) hx hb (by omega) (by omega) dX0_flush_5 (by decide) (fun c_5 => ?_) (fun c_5 => ?_)
      · skip
        obtain rfl : i = 16 := by omega
        exact ca_vret C X rfl dX0_flush_26
      · skip
        refine lv_aload_n hx hb dX0_flush_8 rfl (lv_at hl 0 rfl) ?_
        refine lv_iload_n hx hb dX0_flush_9 rfl (lv_at hl 1 rfl) ?_
        refine ca_callv (As := [.int (nI i)]) (rest := []) C (ca_cX_writeBack l D h a d (ca_fu S i) i (by omega) (ca_N_neg (ca_N_fu hN i) (by omega))) (cwV 1 C.2.2.2.2.1 (lw_V q144 q146 qs11 q19 q147) rfl rfl rfl (by decide +kernel) ⟨Nat.le_of_ble_eq_true rfl, Nat.le_of_ble_eq_true rfl⟩) ca_rcX X rfl hl.1 rfl (Nat.le_of_ble_eq_true rfl) dX0_flush_10 ⟨Nat.le_refl _, Nat.le_refl _⟩ (fun S_10 H locs hp_10 X => ?_)
        obtain rfl := hp_10
        refine lv_aload_n hx hb dX0_flush_13 rfl (lv_at hl 0 rfl) ?_
        refine ca_gX6 C rfl X dX0_flush_14 ?_
        refine lv_iload_n hx hb dX0_flush_17 rfl (lv_at hl 1 rfl) ?_
        refine lv_iconst (v := (-1)) hx hb dX0_flush_18 (by decide +kernel) ?_
        refine ca_sX6 (j := i) (x := (-1)) C X (by omega) dX0_flush_19 (fun H locs X => ?_)
        refine lv_iinc (v := nI (i + 1)) (lv' := [(1, .int (nI (i + 1))), (0, .ref h)]) hx hb dX0_flush_20 hl (k := 1) rfl (ca_inc i) (by decide) rfl (fun ls hl => ?_)
        refine lv_goto (tgt := 2) hx hb dX0_flush_23 (by decide) ?_
        exact ih_2 (16 - (i + 1)) (by omega) (i + 1) rfl (by omega) _ _ _ X (lv_sub hl [1, 0] rfl)
  exact loop_2 16 0 rfl (Nat.zero_le _) _ _ _ X (lv_sub hl [1, 0] rfl)
set_option maxHeartbeats 4000000 in
set_option maxRecDepth 100000 in
theorem ca_cX_forget (l : Launch) (D : va_G) (h : Nat) (a : Nat → Nat) (d : Nat → ClassId) (S : ca_St) (v : Int32) : ca_Met l yX0_forget cX0_forget 2 (some .int) (ca_r 1 22) D (ca_X h a d) (ca_TX d) [.ref h, .int v] S (ca_Xforget v S) := by
  refine ca_start (by decide) (Nat.le_of_ble_eq_true rfl) ?_
  intro p e s m args below meth c A ls C X hl
  have hx := C.1
  have hb := C.2.1
  have hl : lv_has ls 2 [(0, .ref h), (1, .int v)] := hl
  refine lv_aload_n hx hb dX0_forget_0 rfl (lv_at hl 0 rfl) ?_
  refine lv_iload_n hx hb dX0_forget_1 rfl (lv_at hl 1 rfl) ?_
  refine ca_calli (As := [.int v]) (rest := []) C (ca_cX_badPage l D h a d S v) (cwV 1 C.2.2.2.2.1 (lw_V q84 q86 qs0 q19 q87) rfl rfl rfl (by decide +kernel) ⟨Nat.le_of_ble_eq_true rfl, Nat.le_of_ble_eq_true rfl⟩) ca_rcX X rfl hl.1 rfl (Nat.le_of_ble_eq_true rfl) dX0_forget_2 ⟨Nat.le_refl _, Nat.le_refl _⟩ (fun r_2 S_2 H locs hp_2 X => ?_)
  obtain ⟨hS_2, hp_2⟩ := hp_2
  rw [hS_2] at X
  rcases hp_2 with ⟨rfl, j, hj, rfl⟩ | ⟨rfl, hbv⟩
  · skip
    refine lv_if_eq (tgt := 10) hx hb dX0_forget_5 (by decide) (fun c_5 => ?_) (fun c_5 => absurd rfl c_5)
    refine lv_aload_n hx hb dX0_forget_10 rfl (lv_at hl 0 rfl) ?_
    refine lv_iload_n hx hb dX0_forget_11 rfl (lv_at hl 1 rfl) ?_
    refine ca_callv (As := [.int (nI j)]) (rest := []) C (ca_cX_shoot l D h a d S (nI j)) (cwV 1 C.2.2.2.2.1 (lw_V q92 q94 qs2 q19 q95) rfl rfl rfl (by decide +kernel) ⟨Nat.le_of_ble_eq_true rfl, Nat.le_of_ble_eq_true rfl⟩) ca_rcX X rfl hl.1 rfl (Nat.le_of_ble_eq_true rfl) dX0_forget_12 ⟨Nat.le_refl _, Nat.le_refl _⟩ (fun S_12 H locs hp_12 X => ?_)
    obtain rfl := hp_12
    refine lv_iconst (v := nI 0) hx hb dX0_forget_15 (by decide +kernel) ?_
    exact ca_iret C X (Or.inr ⟨j, hj, rfl, rfl, rfl⟩) dX0_forget_16
  · skip
    refine lv_if_eq (tgt := 10) hx hb dX0_forget_5 (by decide) (fun c_5 => absurd c_5 (by decide +kernel)) (fun c_5 => ?_)
    refine lv_iconst (v := (-1)) hx hb dX0_forget_8 (by decide +kernel) ?_
    exact ca_iret C X (Or.inl ⟨hbv, rfl, rfl⟩) dX0_forget_9
set_option maxHeartbeats 4000000 in
set_option maxRecDepth 100000 in
theorem ca_cX_warm (l : Launch) (D : va_G) (h : Nat) (a : Nat → Nat) (d : Nat → ClassId) (S : ca_St) (f : Int32) (hN : ca_N (S 6)) : ca_Met l yX0_warm cX0_warm 2 (some .int) (ca_r 3 71) D (ca_X h a d) (ca_TX d) [.ref h, .int f] S (ca_Xwarm f S) := by
  refine ca_start (by decide) (Nat.le_of_ble_eq_true rfl) ?_
  intro p e s m args below meth c A ls C X hl
  have hx := C.1
  have hb := C.2.1
  have hl : lv_has ls 2 [(0, .ref h), (1, .int f)] := hl
  refine lv_aload_n hx hb dX0_warm_0 rfl (lv_at hl 0 rfl) ?_
  refine lv_iload_n hx hb dX0_warm_1 rfl (lv_at hl 1 rfl) ?_
  refine ca_calli (As := [.int f]) (rest := []) C (ca_cX_badEight l D h a d S f) (cwV 1 C.2.2.2.2.1 (lw_V q88 q90 qs1 q19 q91) rfl rfl rfl (by decide +kernel) ⟨Nat.le_of_ble_eq_true rfl, Nat.le_of_ble_eq_true rfl⟩) ca_rcX X rfl hl.1 rfl (Nat.le_of_ble_eq_true rfl) dX0_warm_2 ⟨Nat.le_refl _, Nat.le_refl _⟩ (fun r_2 S_2 H locs hp_2 X => ?_)
  obtain ⟨hS_2, hp_2⟩ := hp_2
  rw [hS_2] at X
  rcases hp_2 with ⟨rfl, k, hk, rfl⟩ | ⟨rfl, hbf⟩
  · skip
    refine lv_if_eq (tgt := 10) hx hb dX0_warm_5 (by decide) (fun c_5 => ?_) (fun c_5 => absurd rfl c_5)
    refine lv_aload_n hx hb dX0_warm_10 rfl (lv_at hl 0 rfl) ?_
    refine lv_iload_n hx hb dX0_warm_11 rfl (lv_at hl 1 rfl) ?_
    refine lv_iconst (v := nI 3) hx hb dX0_warm_12 (by decide +kernel) ?_
    refine ca_and3 (i := k) hx hb (by omega) dX0_warm_13 ?_
    refine lv_iconst (v := nI 2) hx hb dX0_warm_14 (by decide +kernel) ?_
    refine ca_mulN (i := k % 4) (j := 2) hx hb dX0_warm_15 ?_
    refine lv_iload_n hx hb dX0_warm_16 rfl (lv_at hl 1 rfl) ?_
    refine lv_iconst (v := nI 2) hx hb dX0_warm_17 (by decide +kernel) ?_
    refine ca_mulN (i := k) (j := 2) hx hb dX0_warm_18 ?_
    refine ca_calli (As := [.int (nI (k % 4 * 2)), .int (nI (k * 2))]) (rest := []) C (ca_cX_bring l D h a d S (k % 4 * 2) (by omega) (k * 2) (by omega) hN) (cwV 2 C.2.2.2.2.1 (lw_V q128 q130 qs7 q19 q131) rfl rfl rfl (by decide +kernel) ⟨Nat.le_of_ble_eq_true rfl, Nat.le_of_ble_eq_true rfl⟩) ca_rcX X rfl hl.1 rfl (Nat.le_of_ble_eq_true rfl) dX0_warm_19 ⟨Nat.le_refl _, Nat.le_refl _⟩ (fun r_19 S_19 H locs hp_19 X => ?_)
    obtain ⟨q1, rfl, hq1⟩ := hp_19
    refine lv_pop hx hb dX0_warm_22 rfl ?_
    refine lv_aload_n hx hb dX0_warm_23 rfl (lv_at hl 0 rfl) ?_
    refine lv_iload_n hx hb dX0_warm_24 rfl (lv_at hl 1 rfl) ?_
    refine lv_iconst (v := nI 3) hx hb dX0_warm_25 (by decide +kernel) ?_
    refine ca_and3 (i := k) hx hb (by omega) dX0_warm_26 ?_
    refine lv_iconst (v := nI 2) hx hb dX0_warm_27 (by decide +kernel) ?_
    refine ca_mulN (i := k % 4) (j := 2) hx hb dX0_warm_28 ?_
    refine lv_iconst (v := nI 1) hx hb dX0_warm_29 (by decide +kernel) ?_
    refine ca_addN (i := k % 4 * 2) (j := 1) hx hb dX0_warm_30 ?_
    refine lv_iload_n hx hb dX0_warm_31 rfl (lv_at hl 1 rfl) ?_
    refine lv_iconst (v := nI 2) hx hb dX0_warm_32 (by decide +kernel) ?_
    refine ca_mulN (i := k) (j := 2) hx hb dX0_warm_33 ?_
    refine lv_iconst (v := nI 1) hx hb dX0_warm_34 (by decide +kernel) ?_
    refine ca_addN (i := k * 2) (j := 1) hx hb dX0_warm_35 ?_
    refine ca_calli (As := [.int (nI (k % 4 * 2 + 1)), .int (nI (k * 2 + 1))]) (rest := []) C (ca_cX_bring l D h a d S_19 (k % 4 * 2 + 1) (by omega) (k * 2 + 1) (by omega) (ca_N_BR hN (by omega) (by omega) hq1)) (cwV 2 C.2.2.2.2.1 (lw_V q128 q130 qs7 q19 q131) rfl rfl rfl (by decide +kernel) ⟨Nat.le_of_ble_eq_true rfl, Nat.le_of_ble_eq_true rfl⟩) ca_rcX X rfl hl.1 rfl (Nat.le_of_ble_eq_true rfl) dX0_warm_36 ⟨Nat.le_refl _, Nat.le_refl _⟩ (fun r_36 S_36 H locs hp_36 X => ?_)
    obtain ⟨q2, rfl, hq2⟩ := hp_36
    refine lv_pop hx hb dX0_warm_39 rfl ?_
    refine lv_iconst (v := nI 0) hx hb dX0_warm_40 (by decide +kernel) ?_
    exact ca_iret C X (Or.inr ⟨k, hk, rfl, rfl, q1, q2, S_19, hq1, hq2⟩) dX0_warm_41
  · skip
    refine lv_if_eq (tgt := 10) hx hb dX0_warm_5 (by decide) (fun c_5 => absurd c_5 (by decide +kernel)) (fun c_5 => ?_)
    refine lv_iconst (v := (-1)) hx hb dX0_warm_8 (by decide +kernel) ?_
    exact ca_iret C X (Or.inl ⟨hbf, rfl, rfl⟩) dX0_warm_9
end
section
set_option maxHeartbeats 4000000 in
set_option maxRecDepth 100000 in
theorem ca_cM_isPage (l : Launch) (D : va_G) (h : Nat) (a : Nat → Nat) (d : Nat → ClassId) (S : ca_St) (v : Int32) : ca_Met l yX1_isPage cX1_isPage 2 (some .boolean) (ca_r 0 0) D (ca_M h a d) (ca_TM d) [.ref h, .int v] S (ca_P1 (ca_pg v) S) := by
  refine ca_start (by decide) (Nat.le_of_ble_eq_true rfl) ?_
  intro p e s m args below meth c A ls C X hl
  have hx := C.1
  have hb := C.2.1
  have hl : lv_has ls 2 [(0, .ref h), (1, .int v)] := hl
  refine lv_iload_n hx hb dX1_isPage_0 rfl (lv_at hl 1 rfl) ?_
  refine lv_if_lt (tgt := 14) hx hb dX1_isPage_1 (by decide) (fun c_1 => ?_) (fun c_1 => ?_)
  · skip
    refine lv_iconst (v := nI 0) hx hb dX1_isPage_14 (by decide +kernel) ?_
    exact ca_zret C X ca_z0 (⟨rfl, Or.inr ⟨rfl, ca_pg_neg c_1⟩⟩) dX1_isPage_15
  · skip
    refine lv_iload_n hx hb dX1_isPage_4 rfl (lv_at hl 1 rfl) ?_
    refine lv_bipush (v := nI 15) hx hb dX1_isPage_5 (by decide +kernel) ?_
    refine lv_icmp_gt (tgt := 14) hx hb dX1_isPage_7 (by decide) (fun c_7 => ?_) (fun c_7 => ?_)
    · skip
      refine lv_iconst (v := nI 0) hx hb dX1_isPage_14 (by decide +kernel) ?_
      exact ca_zret C X ca_z0 (⟨rfl, Or.inr ⟨rfl, ca_pg_gt c_7⟩⟩) dX1_isPage_15
    · skip
      refine lv_iconst (v := nI 1) hx hb dX1_isPage_10 (by decide +kernel) ?_
      refine lv_goto (tgt := 15) hx hb dX1_isPage_11 (by decide) ?_
      exact ca_zret C X ca_z1 (⟨rfl, Or.inl ⟨rfl, ca_pg_ngt c_1 c_7⟩⟩) dX1_isPage_15
set_option maxHeartbeats 4000000 in
set_option maxRecDepth 100000 in
theorem ca_cM_isNumber (l : Launch) (D : va_G) (h : Nat) (a : Nat → Nat) (d : Nat → ClassId) (S : ca_St) (v : Int32) : ca_Met l yX1_isNumber cX1_isNumber 2 (some .boolean) (ca_r 0 0) D (ca_M h a d) (ca_TM d) [.ref h, .int v] S (ca_P1 (ca_e8 v) S) := by
  refine ca_start (by decide) (Nat.le_of_ble_eq_true rfl) ?_
  intro p e s m args below meth c A ls C X hl
  have hx := C.1
  have hb := C.2.1
  have hl : lv_has ls 2 [(0, .ref h), (1, .int v)] := hl
  refine lv_iload_n hx hb dX1_isNumber_0 rfl (lv_at hl 1 rfl) ?_
  refine lv_if_lt (tgt := 14) hx hb dX1_isNumber_1 (by decide) (fun c_1 => ?_) (fun c_1 => ?_)
  · skip
    refine lv_iconst (v := nI 0) hx hb dX1_isNumber_14 (by decide +kernel) ?_
    exact ca_zret C X ca_z0 (⟨rfl, Or.inr ⟨rfl, ca_e8_neg c_1⟩⟩) dX1_isNumber_15
  · skip
    refine lv_iload_n hx hb dX1_isNumber_4 rfl (lv_at hl 1 rfl) ?_
    refine lv_bipush (v := nI 7) hx hb dX1_isNumber_5 (by decide +kernel) ?_
    refine lv_icmp_gt (tgt := 14) hx hb dX1_isNumber_7 (by decide) (fun c_7 => ?_) (fun c_7 => ?_)
    · skip
      refine lv_iconst (v := nI 0) hx hb dX1_isNumber_14 (by decide +kernel) ?_
      exact ca_zret C X ca_z0 (⟨rfl, Or.inr ⟨rfl, ca_e8_gt c_7⟩⟩) dX1_isNumber_15
    · skip
      refine lv_iconst (v := nI 1) hx hb dX1_isNumber_10 (by decide +kernel) ?_
      refine lv_goto (tgt := 15) hx hb dX1_isNumber_11 (by decide) ?_
      exact ca_zret C X ca_z1 (⟨rfl, Or.inl ⟨rfl, ca_e8_ngt c_1 c_7⟩⟩) dX1_isNumber_15
set_option maxHeartbeats 4000000 in
set_option maxRecDepth 100000 in
theorem ca_cM_show (l : Launch) (D : va_G) (h : Nat) (a : Nat → Nat) (d : Nat → ClassId) (S : ca_St) (j : Nat) (hj : j < 16) (f on : Int32) (ho : vp_nar .boolean on = on) : ca_MeV l yX1_show cX1_show 4 (ca_r 0 0) D (ca_M h a d) (ca_TM d) [.ref h, .int (nI j), .int f, .int on] S (fun S' => S' = ca_shw S j f on) := by
  refine ca_startV (by decide) (Nat.le_of_ble_eq_true rfl) ?_
  intro p e s m args below meth c A ls C X hl
  have hx := C.1
  have hb := C.2.1
  have hl : lv_has ls 4 [(0, .ref h), (1, .int (nI j)), (2, .int f), (3, .int on)] := hl
  refine lv_aload_n hx hb dX1_show_0 rfl (lv_at hl 0 rfl) ?_
  refine ca_gM1 C rfl X dX1_show_1 ?_
  refine lv_iload_n hx hb dX1_show_4 rfl (lv_at hl 1 rfl) ?_
  refine lv_iload_n hx hb dX1_show_5 rfl (lv_at hl 2 rfl) ?_
  refine ca_sM1 (j := j) (x := f) C X (by omega) dX1_show_6 (fun H locs X => ?_)
  refine lv_aload_n hx hb dX1_show_7 rfl (lv_at hl 0 rfl) ?_
  refine ca_gM2 C rfl X dX1_show_8 ?_
  refine lv_iload_n hx hb dX1_show_11 rfl (lv_at hl 1 rfl) ?_
  refine lv_iload_n hx hb dX1_show_12 rfl (lv_at hl 3 rfl) ?_
  refine ca_sM2 (j := j) (x := on) (y := on) ho C X (by omega) dX1_show_13 (fun H locs X => ?_)
  refine lv_aload_n hx hb dX1_show_14 rfl (lv_at hl 0 rfl) ?_
  refine ca_gM3 C rfl X dX1_show_15 ?_
  refine lv_iload_n hx hb dX1_show_18 rfl (lv_at hl 1 rfl) ?_
  refine lv_iconst (v := nI 0) hx hb dX1_show_19 (by decide +kernel) ?_
  refine ca_sM3 (j := j) (x := nI 0) (y := 0) ca_n0 C X (by omega) dX1_show_20 (fun H locs X => ?_)
  refine lv_aload_n hx hb dX1_show_21 rfl (lv_at hl 0 rfl) ?_
  refine ca_gM4 C rfl X dX1_show_22 ?_
  refine lv_iload_n hx hb dX1_show_25 rfl (lv_at hl 1 rfl) ?_
  refine lv_iconst (v := nI 0) hx hb dX1_show_26 (by decide +kernel) ?_
  refine ca_sM4 (j := j) (x := nI 0) (y := 0) ca_n0 C X (by omega) dX1_show_27 (fun H locs X => ?_)
  exact ca_vret C X rfl dX1_show_28
set_option maxHeartbeats 4000000 in
set_option maxRecDepth 100000 in
theorem ca_cM_map (l : Launch) (D : va_G) (h : Nat) (a : Nat → Nat) (d : Nat → ClassId) (S : ca_St) (v f on : Int32) : ca_Met l yX1_map cX1_map 5 (some .int) (ca_r 1 23) D (ca_M h a d) (ca_TM d) [.ref h, .int v, .int f, .int on] S (ca_Mmap v f on S) := by
  refine ca_start (by decide) (Nat.le_of_ble_eq_true rfl) ?_
  intro p e s m args below meth c A ls C X hl
  have hx := C.1
  have hb := C.2.1
  have hl : lv_has ls 5 [(0, .ref h), (1, .int v), (2, .int f), (3, .int on)] := hl
  refine lv_aload_n hx hb dX1_map_0 rfl (lv_at hl 0 rfl) ?_
  refine lv_iload_n hx hb dX1_map_1 rfl (lv_at hl 1 rfl) ?_
  refine ca_calli (As := [.int v]) (rest := []) C (ca_cM_isPage l D h a d S v) (cwV 1 C.2.2.2.2.1 (lw_V q238 q240 qs14 q20 q241) rfl rfl rfl (by decide +kernel) ⟨Nat.le_of_ble_eq_true rfl, Nat.le_of_ble_eq_true rfl⟩) ca_rcM X rfl hl.1 rfl (Nat.le_of_ble_eq_true rfl) dX1_map_2 ⟨Nat.le_refl _, Nat.le_refl _⟩ (fun r_2 S_2 H locs hp_2 X => ?_)
  obtain ⟨hS_2, hp_2⟩ := hp_2
  rw [hS_2] at X
  rcases hp_2 with ⟨rfl, j, hj, rfl⟩ | ⟨rfl, hbv⟩
  · skip
    refine lv_if_eq (tgt := 16) hx hb dX1_map_5 (by decide) (fun c_5 => absurd c_5 (by decide +kernel)) (fun c_5 => ?_)
    refine lv_aload_n hx hb dX1_map_8 rfl (lv_at hl 0 rfl) ?_
    refine lv_iload_n hx hb dX1_map_9 rfl (lv_at hl 2 rfl) ?_
    refine ca_calli (As := [.int f]) (rest := []) C (ca_cM_isNumber l D h a d S f) (cwV 1 C.2.2.2.2.1 (lw_V q242 q244 qs15 q20 q245) rfl rfl rfl (by decide +kernel) ⟨Nat.le_of_ble_eq_true rfl, Nat.le_of_ble_eq_true rfl⟩) ca_rcM X rfl hl.1 rfl (Nat.le_of_ble_eq_true rfl) dX1_map_10 ⟨Nat.le_refl _, Nat.le_refl _⟩ (fun r_10 S_10 H locs hp_10 X => ?_)
    obtain ⟨hS_10, hp_10⟩ := hp_10
    rw [hS_10] at X
    rcases hp_10 with ⟨rfl, k, hk, rfl⟩ | ⟨rfl, hbf⟩
    · skip
      refine lv_if_ne (tgt := 18) hx hb dX1_map_13 (by decide) (fun c_13 => ?_) (fun c_13 => absurd c_13 (by decide +kernel))
      refine lv_aload_n hx hb dX1_map_18 rfl (lv_at hl 0 rfl) ?_
      refine ca_gM1 C rfl X dX1_map_19 ?_
      refine lv_iload_n hx hb dX1_map_22 rfl (lv_at hl 1 rfl) ?_
      refine ca_lM1 (j := j) (v := S 1 j) C X (by omega) rfl dX1_map_23 ?_
      refine lv_istore (lv' := [(4, .int (S 1 j)), (0, .ref h), (1, .int (nI j)), (2, .int (nI k)), (3, .int on)]) hx hb dX1_map_24 hl (by decide) rfl (fun ls hl => ?_)
      refine lv_aload_n hx hb dX1_map_26 rfl (lv_at hl 1 rfl) ?_
      refine lv_iload_n hx hb dX1_map_27 rfl (lv_at hl 2 rfl) ?_
      refine lv_iload_n hx hb dX1_map_28 rfl (lv_at hl 3 rfl) ?_
      refine lv_iload_n hx hb dX1_map_29 rfl (lv_at hl 4 rfl) ?_
      refine lv_if_eq (tgt := 37) hx hb dX1_map_30 (by decide) (fun c_30 => ?_) (fun c_30 => ?_)
      · skip
        refine lv_iconst (v := nI 0) hx hb dX1_map_37 (by decide +kernel) ?_
        refine ca_callv (As := [.int (nI j), .int (nI k), .int (nI 0)]) (rest := []) C (ca_cM_show l D h a d S j hj (nI k) (nI 0) ca_n0) (cwV 3 C.2.2.2.2.1 (lw_V q246 q248 qs16 q20 q249) rfl rfl rfl (by decide +kernel) ⟨Nat.le_of_ble_eq_true rfl, Nat.le_of_ble_eq_true rfl⟩) ca_rcM X rfl hl.1 rfl (Nat.le_of_ble_eq_true rfl) dX1_map_38 ⟨Nat.le_refl _, Nat.le_refl _⟩ (fun S_38 H locs hp_38 X => ?_)
        obtain rfl := hp_38
        refine lv_iload hx hb dX1_map_41 (lv_at hl 0 rfl) ?_
        exact ca_iret C X (Or.inr ⟨j, k, hj, hk, rfl, rfl, rfl, by rw [ca_zb_0 c_30]; rfl⟩) dX1_map_43
      · skip
        refine lv_iconst (v := nI 1) hx hb dX1_map_33 (by decide +kernel) ?_
        refine lv_goto (tgt := 38) hx hb dX1_map_34 (by decide) ?_
        refine ca_callv (As := [.int (nI j), .int (nI k), .int (nI 1)]) (rest := []) C (ca_cM_show l D h a d S j hj (nI k) (nI 1) ca_n1) (cwV 3 C.2.2.2.2.1 (lw_V q246 q248 qs16 q20 q249) rfl rfl rfl (by decide +kernel) ⟨Nat.le_of_ble_eq_true rfl, Nat.le_of_ble_eq_true rfl⟩) ca_rcM X rfl hl.1 rfl (Nat.le_of_ble_eq_true rfl) dX1_map_38 ⟨Nat.le_refl _, Nat.le_refl _⟩ (fun S_38 H locs hp_38 X => ?_)
        obtain rfl := hp_38
        refine lv_iload hx hb dX1_map_41 (lv_at hl 0 rfl) ?_
        exact ca_iret C X (Or.inr ⟨j, k, hj, hk, rfl, rfl, rfl, by rw [ca_zb_1 c_30]; rfl⟩) dX1_map_43
    · skip
      refine lv_if_ne (tgt := 18) hx hb dX1_map_13 (by decide) (fun c_13 => absurd rfl c_13) (fun c_13 => ?_)
      refine lv_iconst (v := (-1)) hx hb dX1_map_16 (by decide +kernel) ?_
      exact ca_iret C X (Or.inl ⟨fun q => hbf q.2, rfl, rfl⟩) dX1_map_17
  · skip
    refine lv_if_eq (tgt := 16) hx hb dX1_map_5 (by decide) (fun c_5 => ?_) (fun c_5 => absurd rfl c_5)
    refine lv_iconst (v := (-1)) hx hb dX1_map_16 (by decide +kernel) ?_
    exact ca_iret C X (Or.inl ⟨fun q => hbv q.1, rfl, rfl⟩) dX1_map_17
set_option maxHeartbeats 4000000 in
set_option maxRecDepth 100000 in
theorem ca_cM_unmap (l : Launch) (D : va_G) (h : Nat) (a : Nat → Nat) (d : Nat → ClassId) (S : ca_St) (v : Int32) : ca_Met l yX1_unmap cX1_unmap 3 (some .int) (ca_r 1 23) D (ca_M h a d) (ca_TM d) [.ref h, .int v] S (ca_Munmap v S) := by
  refine ca_start (by decide) (Nat.le_of_ble_eq_true rfl) ?_
  intro p e s m args below meth c A ls C X hl
  have hx := C.1
  have hb := C.2.1
  have hl : lv_has ls 3 [(0, .ref h), (1, .int v)] := hl
  refine lv_aload_n hx hb dX1_unmap_0 rfl (lv_at hl 0 rfl) ?_
  refine lv_iload_n hx hb dX1_unmap_1 rfl (lv_at hl 1 rfl) ?_
  refine ca_calli (As := [.int v]) (rest := []) C (ca_cM_isPage l D h a d S v) (cwV 1 C.2.2.2.2.1 (lw_V q238 q240 qs14 q20 q241) rfl rfl rfl (by decide +kernel) ⟨Nat.le_of_ble_eq_true rfl, Nat.le_of_ble_eq_true rfl⟩) ca_rcM X rfl hl.1 rfl (Nat.le_of_ble_eq_true rfl) dX1_unmap_2 ⟨Nat.le_refl _, Nat.le_refl _⟩ (fun r_2 S_2 H locs hp_2 X => ?_)
  obtain ⟨hS_2, hp_2⟩ := hp_2
  rw [hS_2] at X
  rcases hp_2 with ⟨rfl, j, hj, rfl⟩ | ⟨rfl, hbv⟩
  · skip
    refine lv_if_ne (tgt := 10) hx hb dX1_unmap_5 (by decide) (fun c_5 => ?_) (fun c_5 => absurd c_5 (by decide +kernel))
    refine lv_aload_n hx hb dX1_unmap_10 rfl (lv_at hl 0 rfl) ?_
    refine ca_gM1 C rfl X dX1_unmap_11 ?_
    refine lv_iload_n hx hb dX1_unmap_14 rfl (lv_at hl 1 rfl) ?_
    refine ca_lM1 (j := j) (v := S 1 j) C X (by omega) rfl dX1_unmap_15 ?_
    refine lv_istore_n (lv' := [(2, .int (S 1 j)), (0, .ref h), (1, .int (nI j))]) hx hb dX1_unmap_16 rfl hl (by decide) rfl (fun ls hl => ?_)
    refine lv_aload_n hx hb dX1_unmap_17 rfl (lv_at hl 1 rfl) ?_
    refine lv_iload_n hx hb dX1_unmap_18 rfl (lv_at hl 2 rfl) ?_
    refine lv_bipush (v := (-2)) hx hb dX1_unmap_19 (by decide +kernel) ?_
    refine lv_iconst (v := nI 0) hx hb dX1_unmap_21 (by decide +kernel) ?_
    refine ca_callv (As := [.int (nI j), .int ((-2)), .int (nI 0)]) (rest := []) C (ca_cM_show l D h a d S j hj (-2) (nI 0) ca_n0) (cwV 3 C.2.2.2.2.1 (lw_V q246 q248 qs16 q20 q249) rfl rfl rfl (by decide +kernel) ⟨Nat.le_of_ble_eq_true rfl, Nat.le_of_ble_eq_true rfl⟩) ca_rcM X rfl hl.1 rfl (Nat.le_of_ble_eq_true rfl) dX1_unmap_22 ⟨Nat.le_refl _, Nat.le_refl _⟩ (fun S_22 H locs hp_22 X => ?_)
    obtain rfl := hp_22
    refine lv_iload_n hx hb dX1_unmap_25 rfl (lv_at hl 0 rfl) ?_
    exact ca_iret C X (Or.inr ⟨j, hj, rfl, rfl, rfl⟩) dX1_unmap_26
  · skip
    refine lv_if_ne (tgt := 10) hx hb dX1_unmap_5 (by decide) (fun c_5 => absurd rfl c_5) (fun c_5 => ?_)
    refine lv_iconst (v := (-1)) hx hb dX1_unmap_8 (by decide +kernel) ?_
    exact ca_iret C X (Or.inl ⟨hbv, rfl, rfl⟩) dX1_unmap_9
set_option maxHeartbeats 4000000 in
set_option maxRecDepth 100000 in
theorem ca_cM_frameOf (l : Launch) (D : va_G) (h : Nat) (a : Nat → Nat) (d : Nat → ClassId) (S : ca_St) (v : Int32) : ca_Met l yX1_frameOf cX1_frameOf 2 (some .int) (ca_r 1 21) D (ca_M h a d) (ca_TM d) [.ref h, .int v] S (ca_frameOf v S) := by
  refine ca_start (by decide) (Nat.le_of_ble_eq_true rfl) ?_
  intro p e s m args below meth c A ls C X hl
  have hx := C.1
  have hb := C.2.1
  have hl : lv_has ls 2 [(0, .ref h), (1, .int v)] := hl
  refine lv_aload_n hx hb dX1_frameOf_0 rfl (lv_at hl 0 rfl) ?_
  refine lv_iload_n hx hb dX1_frameOf_1 rfl (lv_at hl 1 rfl) ?_
  refine ca_calli (As := [.int v]) (rest := []) C (ca_cM_isPage l D h a d S v) (cwV 1 C.2.2.2.2.1 (lw_V q238 q240 qs14 q20 q241) rfl rfl rfl (by decide +kernel) ⟨Nat.le_of_ble_eq_true rfl, Nat.le_of_ble_eq_true rfl⟩) ca_rcM X rfl hl.1 rfl (Nat.le_of_ble_eq_true rfl) dX1_frameOf_2 ⟨Nat.le_refl _, Nat.le_refl _⟩ (fun r_2 S_2 H locs hp_2 X => ?_)
  obtain ⟨hS_2, hp_2⟩ := hp_2
  rw [hS_2] at X
  rcases hp_2 with ⟨rfl, j, hj, rfl⟩ | ⟨rfl, hbv⟩
  · skip
    refine lv_if_eq (tgt := 17) hx hb dX1_frameOf_5 (by decide) (fun c_5 => absurd c_5 (by decide +kernel)) (fun c_5 => ?_)
    refine lv_aload_n hx hb dX1_frameOf_8 rfl (lv_at hl 0 rfl) ?_
    refine ca_gM1 C rfl X dX1_frameOf_9 ?_
    refine lv_iload_n hx hb dX1_frameOf_12 rfl (lv_at hl 1 rfl) ?_
    refine ca_lM1 (j := j) (v := S 1 j) C X (by omega) rfl dX1_frameOf_13 ?_
    refine lv_goto (tgt := 18) hx hb dX1_frameOf_14 (by decide) ?_
    exact ca_iret C X (Or.inr ⟨j, hj, rfl, rfl, rfl⟩) dX1_frameOf_18
  · skip
    refine lv_if_eq (tgt := 17) hx hb dX1_frameOf_5 (by decide) (fun c_5 => ?_) (fun c_5 => absurd rfl c_5)
    refine lv_iconst (v := (-1)) hx hb dX1_frameOf_17 (by decide +kernel) ?_
    exact ca_iret C X (Or.inl ⟨hbv, rfl, rfl⟩) dX1_frameOf_18
set_option maxHeartbeats 4000000 in
set_option maxRecDepth 100000 in
theorem ca_cM_allow (l : Launch) (D : va_G) (h : Nat) (a : Nat → Nat) (d : Nat → ClassId) (S : ca_St) (v on : Int32) : ca_Met l yX1_allow cX1_allow 4 (some .int) (ca_r 1 21) D (ca_M h a d) (ca_TM d) [.ref h, .int v, .int on] S (ca_Mallow v on S) := by
  refine ca_start (by decide) (Nat.le_of_ble_eq_true rfl) ?_
  intro p e s m args below meth c A ls C X hl
  have hx := C.1
  have hb := C.2.1
  have hl : lv_has ls 4 [(0, .ref h), (1, .int v), (2, .int on)] := hl
  refine lv_aload_n hx hb dX1_allow_0 rfl (lv_at hl 0 rfl) ?_
  refine lv_iload_n hx hb dX1_allow_1 rfl (lv_at hl 1 rfl) ?_
  refine ca_calli (As := [.int v]) (rest := []) C (ca_cM_isPage l D h a d S v) (cwV 1 C.2.2.2.2.1 (lw_V q238 q240 qs14 q20 q241) rfl rfl rfl (by decide +kernel) ⟨Nat.le_of_ble_eq_true rfl, Nat.le_of_ble_eq_true rfl⟩) ca_rcM X rfl hl.1 rfl (Nat.le_of_ble_eq_true rfl) dX1_allow_2 ⟨Nat.le_refl _, Nat.le_refl _⟩ (fun r_2 S_2 H locs hp_2 X => ?_)
  obtain ⟨hS_2, hp_2⟩ := hp_2
  rw [hS_2] at X
  rcases hp_2 with ⟨rfl, j, hj, rfl⟩ | ⟨rfl, hbv⟩
  · skip
    refine lv_if_ne (tgt := 10) hx hb dX1_allow_5 (by decide) (fun c_5 => ?_) (fun c_5 => absurd c_5 (by decide +kernel))
    refine lv_aload_n hx hb dX1_allow_10 rfl (lv_at hl 0 rfl) ?_
    refine ca_gM1 C rfl X dX1_allow_11 ?_
    refine lv_iload_n hx hb dX1_allow_14 rfl (lv_at hl 1 rfl) ?_
    refine ca_lM1 (j := j) (v := S 1 j) C X (by omega) rfl dX1_allow_15 ?_
    refine lv_bipush (v := (-2)) hx hb dX1_allow_16 (by decide +kernel) ?_
    refine lv_icmp_ne (tgt := 24) hx hb dX1_allow_18 (by decide) (fun c_18 => ?_) (fun c_18 => ?_)
    · skip
      refine lv_aload_n hx hb dX1_allow_24 rfl (lv_at hl 0 rfl) ?_
      refine ca_gM2 C rfl X dX1_allow_25 ?_
      refine lv_iload_n hx hb dX1_allow_28 rfl (lv_at hl 1 rfl) ?_
      refine ca_lM2 (j := j) (v := S 2 j) C X (by omega) rfl dX1_allow_29 ?_
      refine lv_if_eq (tgt := 37) hx hb dX1_allow_30 (by decide) (fun c_30 => ?_) (fun c_30 => ?_)
      · skip
        refine lv_iconst (v := nI 0) hx hb dX1_allow_37 (by decide +kernel) ?_
        refine lv_istore_n (lv' := [(3, .int (nI 0)), (0, .ref h), (1, .int (nI j)), (2, .int on)]) hx hb dX1_allow_38 rfl hl (by decide) rfl (fun ls hl => ?_)
        refine lv_aload_n hx hb dX1_allow_39 rfl (lv_at hl 1 rfl) ?_
        refine ca_gM2 C rfl X dX1_allow_40 ?_
        refine lv_iload_n hx hb dX1_allow_43 rfl (lv_at hl 2 rfl) ?_
        refine lv_iload_n hx hb dX1_allow_44 rfl (lv_at hl 3 rfl) ?_
        refine lv_if_eq (tgt := 52) hx hb dX1_allow_45 (by decide) (fun c_45 => ?_) (fun c_45 => ?_)
        · skip
          refine lv_iconst (v := nI 0) hx hb dX1_allow_52 (by decide +kernel) ?_
          refine ca_sM2 (j := j) (x := nI 0) (y := 0) ca_n0 C X (by omega) dX1_allow_53 (fun H locs X => ?_)
          refine lv_iload_n hx hb dX1_allow_54 rfl (lv_at hl 0 rfl) ?_
          exact ca_iret C X (Or.inr ⟨j, hj, rfl, Or.inr ⟨c_18, (ca_zb_0 c_30).symm, by rw [ca_zb_0 c_45]⟩⟩) dX1_allow_55
        · skip
          refine lv_iconst (v := nI 1) hx hb dX1_allow_48 (by decide +kernel) ?_
          refine lv_goto (tgt := 53) hx hb dX1_allow_49 (by decide) ?_
          refine ca_sM2 (j := j) (x := nI 1) (y := 1) ca_n1 C X (by omega) dX1_allow_53 (fun H locs X => ?_)
          refine lv_iload_n hx hb dX1_allow_54 rfl (lv_at hl 0 rfl) ?_
          exact ca_iret C X (Or.inr ⟨j, hj, rfl, Or.inr ⟨c_18, (ca_zb_0 c_30).symm, by rw [ca_zb_1 c_45]⟩⟩) dX1_allow_55
      · skip
        refine lv_iconst (v := nI 1) hx hb dX1_allow_33 (by decide +kernel) ?_
        refine lv_goto (tgt := 38) hx hb dX1_allow_34 (by decide) ?_
        refine lv_istore_n (lv' := [(3, .int (nI 1)), (0, .ref h), (1, .int (nI j)), (2, .int on)]) hx hb dX1_allow_38 rfl hl (by decide) rfl (fun ls hl => ?_)
        refine lv_aload_n hx hb dX1_allow_39 rfl (lv_at hl 1 rfl) ?_
        refine ca_gM2 C rfl X dX1_allow_40 ?_
        refine lv_iload_n hx hb dX1_allow_43 rfl (lv_at hl 2 rfl) ?_
        refine lv_iload_n hx hb dX1_allow_44 rfl (lv_at hl 3 rfl) ?_
        refine lv_if_eq (tgt := 52) hx hb dX1_allow_45 (by decide) (fun c_45 => ?_) (fun c_45 => ?_)
        · skip
          refine lv_iconst (v := nI 0) hx hb dX1_allow_52 (by decide +kernel) ?_
          refine ca_sM2 (j := j) (x := nI 0) (y := 0) ca_n0 C X (by omega) dX1_allow_53 (fun H locs X => ?_)
          refine lv_iload_n hx hb dX1_allow_54 rfl (lv_at hl 0 rfl) ?_
          exact ca_iret C X (Or.inr ⟨j, hj, rfl, Or.inr ⟨c_18, (ca_zb_1 c_30).symm, by rw [ca_zb_0 c_45]⟩⟩) dX1_allow_55
        · skip
          refine lv_iconst (v := nI 1) hx hb dX1_allow_48 (by decide +kernel) ?_
          refine lv_goto (tgt := 53) hx hb dX1_allow_49 (by decide) ?_
          refine ca_sM2 (j := j) (x := nI 1) (y := 1) ca_n1 C X (by omega) dX1_allow_53 (fun H locs X => ?_)
          refine lv_iload_n hx hb dX1_allow_54 rfl (lv_at hl 0 rfl) ?_
          exact ca_iret C X (Or.inr ⟨j, hj, rfl, Or.inr ⟨c_18, (ca_zb_1 c_30).symm, by rw [ca_zb_1 c_45]⟩⟩) dX1_allow_55
    · skip
      refine lv_bipush (v := (-2)) hx hb dX1_allow_21 (by decide +kernel) ?_
      exact ca_iret C X (Or.inr ⟨j, hj, rfl, Or.inl ⟨c_18, rfl, rfl⟩⟩) dX1_allow_23
  · skip
    refine lv_if_ne (tgt := 10) hx hb dX1_allow_5 (by decide) (fun c_5 => absurd rfl c_5) (fun c_5 => ?_)
    refine lv_iconst (v := (-1)) hx hb dX1_allow_8 (by decide +kernel) ?_
    exact ca_iret C X (Or.inl ⟨hbv, rfl, rfl⟩) dX1_allow_9
set_option maxHeartbeats 4000000 in
set_option maxRecDepth 100000 in
theorem ca_cM_load (l : Launch) (D : va_G) (h : Nat) (a : Nat → Nat) (d : Nat → ClassId) (S : ca_St) (v w : Int32) (hF : ca_F (S 1)) : ca_Met l yX1_load cX1_load 3 (some .int) (ca_r 1 21) D (ca_M h a d) (ca_TM d) [.ref h, .int v, .int w] S (ca_Mload v w S) := by
  refine ca_start (by decide) (Nat.le_of_ble_eq_true rfl) ?_
  intro p e s m args below meth c A ls C X hl
  have hx := C.1
  have hb := C.2.1
  have hl : lv_has ls 3 [(0, .ref h), (1, .int v), (2, .int w)] := hl
  refine lv_aload_n hx hb dX1_load_0 rfl (lv_at hl 0 rfl) ?_
  refine lv_aload_n hx hb dX1_load_1 rfl (lv_at hl 0 rfl) ?_
  refine lv_iload_n hx hb dX1_load_2 rfl (lv_at hl 1 rfl) ?_
  refine ca_calli (As := [.int v]) (rest := [.ref h]) C (ca_cM_isPage l D h a d S v) (cwV 1 C.2.2.2.2.1 (lw_V q238 q240 qs14 q20 q241) rfl rfl rfl (by decide +kernel) ⟨Nat.le_of_ble_eq_true rfl, Nat.le_of_ble_eq_true rfl⟩) ca_rcM X rfl hl.1 rfl (Nat.le_of_ble_eq_true rfl) dX1_load_3 ⟨Nat.le_refl _, Nat.le_refl _⟩ (fun r_3 S_3 H locs hp_3 X => ?_)
  obtain ⟨hS_3, hp_3⟩ := hp_3
  rw [hS_3] at X
  rcases hp_3 with ⟨rfl, j, hj, rfl⟩ | ⟨rfl, hbv⟩
  · skip
    refine lv_if_eq (tgt := 17) hx hb dX1_load_6 (by decide) (fun c_6 => absurd c_6 (by decide +kernel)) (fun c_6 => ?_)
    refine lv_aload_n hx hb dX1_load_9 rfl (lv_at hl 0 rfl) ?_
    refine lv_iload_n hx hb dX1_load_10 rfl (lv_at hl 2 rfl) ?_
    refine ca_calli (As := [.int w]) (rest := [.ref h]) C (ca_cM_isNumber l D h a d S w) (cwV 1 C.2.2.2.2.1 (lw_V q242 q244 qs15 q20 q245) rfl rfl rfl (by decide +kernel) ⟨Nat.le_of_ble_eq_true rfl, Nat.le_of_ble_eq_true rfl⟩) ca_rcM X rfl hl.1 rfl (Nat.le_of_ble_eq_true rfl) dX1_load_11 ⟨Nat.le_refl _, Nat.le_refl _⟩ (fun r_11 S_11 H locs hp_11 X => ?_)
    obtain ⟨hS_11, hp_11⟩ := hp_11
    rw [hS_11] at X
    rcases hp_11 with ⟨rfl, u, hu, rfl⟩ | ⟨rfl, hbw⟩
    · skip
      refine lv_if_ne (tgt := 21) hx hb dX1_load_14 (by decide) (fun c_14 => ?_) (fun c_14 => absurd c_14 (by decide +kernel))
      refine lv_aload_n hx hb dX1_load_21 rfl (lv_at hl 0 rfl) ?_
      refine ca_gM1 C rfl X dX1_load_22 ?_
      refine lv_iload_n hx hb dX1_load_25 rfl (lv_at hl 1 rfl) ?_
      refine ca_lM1 (j := j) (v := S 1 j) C X (by omega) rfl dX1_load_26 ?_
      refine lv_bipush (v := (-2)) hx hb dX1_load_27 (by decide +kernel) ?_
      refine lv_icmp_ne (tgt := 37) hx hb dX1_load_29 (by decide) (fun c_29 => ?_) (fun c_29 => ?_)
      · skip
        obtain ⟨k, hk, hke⟩ := ca_F_ne hF hj c_29
        refine lv_iconst (v := nI 0) hx hb dX1_load_37 (by decide +kernel) ?_
        refine ca_pM5 (x := nI 0) C rfl X dX1_load_38 (fun H locs X => ?_)
        refine lv_aload_n hx hb dX1_load_41 rfl (lv_at hl 0 rfl) ?_
        refine ca_gM5 (v := nI 0) C rfl X rfl dX1_load_42 ?_
        refine lv_if_eq (tgt := 50) hx hb dX1_load_45 (by decide) (fun c_45 => ?_) (fun c_45 => absurd rfl c_45)
        refine lv_aload_n hx hb dX1_load_50 rfl (lv_at hl 0 rfl) ?_
        refine ca_gM3 C rfl X dX1_load_51 ?_
        refine lv_iload_n hx hb dX1_load_54 rfl (lv_at hl 1 rfl) ?_
        refine lv_iconst (v := nI 1) hx hb dX1_load_55 (by decide +kernel) ?_
        refine ca_sM3 (j := j) (x := nI 1) (y := 1) ca_n1 C X (by omega) dX1_load_56 (fun H locs X => ?_)
        refine lv_aload_n hx hb dX1_load_57 rfl (lv_at hl 0 rfl) ?_
        refine ca_gM0 C rfl X dX1_load_58 ?_
        refine lv_bipush (v := nI 8) hx hb dX1_load_61 (by decide +kernel) ?_
        refine lv_aload_n hx hb dX1_load_63 rfl (lv_at hl 0 rfl) ?_
        refine ca_gM1 C rfl X dX1_load_64 ?_
        refine lv_iload_n hx hb dX1_load_67 rfl (lv_at hl 1 rfl) ?_
        refine ca_lM1 (j := j) (v := nI k) C X (by omega) hke dX1_load_68 ?_
        refine ca_mulN (i := 8) (j := k) hx hb dX1_load_69 ?_
        refine lv_iload_n hx hb dX1_load_70 rfl (lv_at hl 2 rfl) ?_
        refine ca_addN (i := 8 * k) (j := u) hx hb dX1_load_71 ?_
        refine ca_lM0 (j := 8 * k + u) (v := S 0 (8 * k + u)) C X (by omega) rfl dX1_load_72 ?_
        exact ca_iret C X (Or.inr ⟨j, u, hj, hu, rfl, rfl, Or.inr ⟨k, hk, hke, rfl, rfl⟩⟩) dX1_load_73
      · skip
        refine lv_bipush (v := (-2)) hx hb dX1_load_32 (by decide +kernel) ?_
        refine lv_goto (tgt := 38) hx hb dX1_load_34 (by decide) ?_
        refine ca_pM5 (x := (-2)) C rfl X dX1_load_38 (fun H locs X => ?_)
        refine lv_aload_n hx hb dX1_load_41 rfl (lv_at hl 0 rfl) ?_
        refine ca_gM5 (v := (-2)) C rfl X rfl dX1_load_42 ?_
        refine lv_if_eq (tgt := 50) hx hb dX1_load_45 (by decide) (fun c_45 => absurd c_45 (by decide +kernel)) (fun c_45 => ?_)
        refine lv_iconst (v := nI 0) hx hb dX1_load_48 (by decide +kernel) ?_
        exact ca_iret C X (Or.inr ⟨j, u, hj, hu, rfl, rfl, Or.inl ⟨c_29, rfl, rfl⟩⟩) dX1_load_49
    · skip
      refine lv_if_ne (tgt := 21) hx hb dX1_load_14 (by decide) (fun c_14 => absurd rfl c_14) (fun c_14 => ?_)
      refine lv_iconst (v := (-1)) hx hb dX1_load_17 (by decide +kernel) ?_
      refine lv_goto (tgt := 38) hx hb dX1_load_18 (by decide) ?_
      refine ca_pM5 (x := (-1)) C rfl X dX1_load_38 (fun H locs X => ?_)
      refine lv_aload_n hx hb dX1_load_41 rfl (lv_at hl 0 rfl) ?_
      refine ca_gM5 (v := (-1)) C rfl X rfl dX1_load_42 ?_
      refine lv_if_eq (tgt := 50) hx hb dX1_load_45 (by decide) (fun c_45 => absurd c_45 (by decide +kernel)) (fun c_45 => ?_)
      refine lv_iconst (v := nI 0) hx hb dX1_load_48 (by decide +kernel) ?_
      exact ca_iret C X (Or.inl ⟨fun q => hbw q.2, rfl, rfl⟩) dX1_load_49
  · skip
    refine lv_if_eq (tgt := 17) hx hb dX1_load_6 (by decide) (fun c_6 => ?_) (fun c_6 => absurd rfl c_6)
    refine lv_iconst (v := (-1)) hx hb dX1_load_17 (by decide +kernel) ?_
    refine lv_goto (tgt := 38) hx hb dX1_load_18 (by decide) ?_
    refine ca_pM5 (x := (-1)) C rfl X dX1_load_38 (fun H locs X => ?_)
    refine lv_aload_n hx hb dX1_load_41 rfl (lv_at hl 0 rfl) ?_
    refine ca_gM5 (v := (-1)) C rfl X rfl dX1_load_42 ?_
    refine lv_if_eq (tgt := 50) hx hb dX1_load_45 (by decide) (fun c_45 => absurd c_45 (by decide +kernel)) (fun c_45 => ?_)
    refine lv_iconst (v := nI 0) hx hb dX1_load_48 (by decide +kernel) ?_
    exact ca_iret C X (Or.inl ⟨fun q => hbv q.1, rfl, rfl⟩) dX1_load_49
set_option maxHeartbeats 4000000 in
set_option maxRecDepth 100000 in
theorem ca_cM_mayStore (l : Launch) (D : va_G) (h : Nat) (a : Nat → Nat) (d : Nat → ClassId) (S : ca_St) (v w : Int32) (hF : ca_F (S 1)) : ca_Met l yX1_mayStore cX1_mayStore 3 (some .boolean) (ca_r 1 21) D (ca_M h a d) (ca_TM d) [.ref h, .int v, .int w] S (ca_MS v w S) := by
  refine ca_start (by decide) (Nat.le_of_ble_eq_true rfl) ?_
  intro p e s m args below meth c A ls C X hl
  have hx := C.1
  have hb := C.2.1
  have hl : lv_has ls 3 [(0, .ref h), (1, .int v), (2, .int w)] := hl
  refine lv_aload_n hx hb dX1_mayStore_0 rfl (lv_at hl 0 rfl) ?_
  refine lv_aload_n hx hb dX1_mayStore_1 rfl (lv_at hl 0 rfl) ?_
  refine lv_iload_n hx hb dX1_mayStore_2 rfl (lv_at hl 1 rfl) ?_
  refine ca_calli (As := [.int v]) (rest := [.ref h]) C (ca_cM_isPage l D h a d S v) (cwV 1 C.2.2.2.2.1 (lw_V q238 q240 qs14 q20 q241) rfl rfl rfl (by decide +kernel) ⟨Nat.le_of_ble_eq_true rfl, Nat.le_of_ble_eq_true rfl⟩) ca_rcM X rfl hl.1 rfl (Nat.le_of_ble_eq_true rfl) dX1_mayStore_3 ⟨Nat.le_refl _, Nat.le_refl _⟩ (fun r_3 S_3 H locs hp_3 X => ?_)
  obtain ⟨hS_3, hp_3⟩ := hp_3
  rw [hS_3] at X
  rcases hp_3 with ⟨rfl, j, hj, rfl⟩ | ⟨rfl, hbv⟩
  · skip
    refine lv_if_eq (tgt := 17) hx hb dX1_mayStore_6 (by decide) (fun c_6 => absurd c_6 (by decide +kernel)) (fun c_6 => ?_)
    refine lv_aload_n hx hb dX1_mayStore_9 rfl (lv_at hl 0 rfl) ?_
    refine lv_iload_n hx hb dX1_mayStore_10 rfl (lv_at hl 2 rfl) ?_
    refine ca_calli (As := [.int w]) (rest := [.ref h]) C (ca_cM_isNumber l D h a d S w) (cwV 1 C.2.2.2.2.1 (lw_V q242 q244 qs15 q20 q245) rfl rfl rfl (by decide +kernel) ⟨Nat.le_of_ble_eq_true rfl, Nat.le_of_ble_eq_true rfl⟩) ca_rcM X rfl hl.1 rfl (Nat.le_of_ble_eq_true rfl) dX1_mayStore_11 ⟨Nat.le_refl _, Nat.le_refl _⟩ (fun r_11 S_11 H locs hp_11 X => ?_)
    obtain ⟨hS_11, hp_11⟩ := hp_11
    rw [hS_11] at X
    rcases hp_11 with ⟨rfl, u, hu, rfl⟩ | ⟨rfl, hbw⟩
    · skip
      refine lv_if_ne (tgt := 21) hx hb dX1_mayStore_14 (by decide) (fun c_14 => ?_) (fun c_14 => absurd c_14 (by decide +kernel))
      refine lv_aload_n hx hb dX1_mayStore_21 rfl (lv_at hl 0 rfl) ?_
      refine ca_gM1 C rfl X dX1_mayStore_22 ?_
      refine lv_iload_n hx hb dX1_mayStore_25 rfl (lv_at hl 1 rfl) ?_
      refine ca_lM1 (j := j) (v := S 1 j) C X (by omega) rfl dX1_mayStore_26 ?_
      refine lv_bipush (v := (-2)) hx hb dX1_mayStore_27 (by decide +kernel) ?_
      refine lv_icmp_ne (tgt := 37) hx hb dX1_mayStore_29 (by decide) (fun c_29 => ?_) (fun c_29 => ?_)
      · skip
        obtain ⟨k, hk, hke⟩ := ca_F_ne hF hj c_29
        refine lv_aload_n hx hb dX1_mayStore_37 rfl (lv_at hl 0 rfl) ?_
        refine ca_gM2 C rfl X dX1_mayStore_38 ?_
        refine lv_iload_n hx hb dX1_mayStore_41 rfl (lv_at hl 1 rfl) ?_
        refine ca_lM2 (j := j) (v := S 2 j) C X (by omega) rfl dX1_mayStore_42 ?_
        refine lv_if_eq (tgt := 50) hx hb dX1_mayStore_43 (by decide) (fun c_43 => ?_) (fun c_43 => ?_)
        · skip
          refine lv_bipush (v := (-3)) hx hb dX1_mayStore_50 (by decide +kernel) ?_
          refine ca_pM5 (x := (-3)) C rfl X dX1_mayStore_52 (fun H locs X => ?_)
          refine lv_aload_n hx hb dX1_mayStore_55 rfl (lv_at hl 0 rfl) ?_
          refine ca_gM5 (v := (-3)) C rfl X rfl dX1_mayStore_56 ?_
          refine lv_if_ne (tgt := 76) hx hb dX1_mayStore_59 (by decide) (fun c_59 => ?_) (fun c_59 => absurd c_59 (by decide +kernel))
          refine lv_aload_n hx hb dX1_mayStore_76 rfl (lv_at hl 0 rfl) ?_
          refine ca_gM5 (v := (-3)) C rfl X rfl dX1_mayStore_77 ?_
          refine lv_if_ne (tgt := 87) hx hb dX1_mayStore_80 (by decide) (fun c_80 => ?_) (fun c_80 => absurd c_80 (by decide +kernel))
          refine lv_iconst (v := nI 0) hx hb dX1_mayStore_87 (by decide +kernel) ?_
          exact ca_zret C X ca_z0 (Or.inr ⟨j, u, hj, hu, rfl, rfl, Or.inr (Or.inl ⟨c_29, c_43, rfl, rfl⟩)⟩) dX1_mayStore_88
        · skip
          refine lv_iconst (v := nI 0) hx hb dX1_mayStore_46 (by decide +kernel) ?_
          refine lv_goto (tgt := 52) hx hb dX1_mayStore_47 (by decide) ?_
          refine ca_pM5 (x := nI 0) C rfl X dX1_mayStore_52 (fun H locs X => ?_)
          refine lv_aload_n hx hb dX1_mayStore_55 rfl (lv_at hl 0 rfl) ?_
          refine ca_gM5 (v := nI 0) C rfl X rfl dX1_mayStore_56 ?_
          refine lv_if_ne (tgt := 76) hx hb dX1_mayStore_59 (by decide) (fun c_59 => absurd rfl c_59) (fun c_59 => ?_)
          refine lv_aload_n hx hb dX1_mayStore_62 rfl (lv_at hl 0 rfl) ?_
          refine ca_gM3 C rfl X dX1_mayStore_63 ?_
          refine lv_iload_n hx hb dX1_mayStore_66 rfl (lv_at hl 1 rfl) ?_
          refine lv_iconst (v := nI 1) hx hb dX1_mayStore_67 (by decide +kernel) ?_
          refine ca_sM3 (j := j) (x := nI 1) (y := 1) ca_n1 C X (by omega) dX1_mayStore_68 (fun H locs X => ?_)
          refine lv_aload_n hx hb dX1_mayStore_69 rfl (lv_at hl 0 rfl) ?_
          refine ca_gM4 C rfl X dX1_mayStore_70 ?_
          refine lv_iload_n hx hb dX1_mayStore_73 rfl (lv_at hl 1 rfl) ?_
          refine lv_iconst (v := nI 1) hx hb dX1_mayStore_74 (by decide +kernel) ?_
          refine ca_sM4 (j := j) (x := nI 1) (y := 1) ca_n1 C X (by omega) dX1_mayStore_75 (fun H locs X => ?_)
          refine lv_aload_n hx hb dX1_mayStore_76 rfl (lv_at hl 0 rfl) ?_
          refine ca_gM5 (v := nI 0) C rfl X rfl dX1_mayStore_77 ?_
          refine lv_if_ne (tgt := 87) hx hb dX1_mayStore_80 (by decide) (fun c_80 => absurd rfl c_80) (fun c_80 => ?_)
          refine lv_iconst (v := nI 1) hx hb dX1_mayStore_83 (by decide +kernel) ?_
          refine lv_goto (tgt := 88) hx hb dX1_mayStore_84 (by decide) ?_
          exact ca_zret C X ca_z1 (Or.inr ⟨j, u, hj, hu, rfl, rfl, Or.inr (Or.inr ⟨k, hk, hke, c_43, rfl, rfl⟩)⟩) dX1_mayStore_88
      · skip
        refine lv_bipush (v := (-2)) hx hb dX1_mayStore_32 (by decide +kernel) ?_
        refine lv_goto (tgt := 52) hx hb dX1_mayStore_34 (by decide) ?_
        refine ca_pM5 (x := (-2)) C rfl X dX1_mayStore_52 (fun H locs X => ?_)
        refine lv_aload_n hx hb dX1_mayStore_55 rfl (lv_at hl 0 rfl) ?_
        refine ca_gM5 (v := (-2)) C rfl X rfl dX1_mayStore_56 ?_
        refine lv_if_ne (tgt := 76) hx hb dX1_mayStore_59 (by decide) (fun c_59 => ?_) (fun c_59 => absurd c_59 (by decide +kernel))
        refine lv_aload_n hx hb dX1_mayStore_76 rfl (lv_at hl 0 rfl) ?_
        refine ca_gM5 (v := (-2)) C rfl X rfl dX1_mayStore_77 ?_
        refine lv_if_ne (tgt := 87) hx hb dX1_mayStore_80 (by decide) (fun c_80 => ?_) (fun c_80 => absurd c_80 (by decide +kernel))
        refine lv_iconst (v := nI 0) hx hb dX1_mayStore_87 (by decide +kernel) ?_
        exact ca_zret C X ca_z0 (Or.inr ⟨j, u, hj, hu, rfl, rfl, Or.inl ⟨c_29, rfl, rfl⟩⟩) dX1_mayStore_88
    · skip
      refine lv_if_ne (tgt := 21) hx hb dX1_mayStore_14 (by decide) (fun c_14 => absurd rfl c_14) (fun c_14 => ?_)
      refine lv_iconst (v := (-1)) hx hb dX1_mayStore_17 (by decide +kernel) ?_
      refine lv_goto (tgt := 52) hx hb dX1_mayStore_18 (by decide) ?_
      refine ca_pM5 (x := (-1)) C rfl X dX1_mayStore_52 (fun H locs X => ?_)
      refine lv_aload_n hx hb dX1_mayStore_55 rfl (lv_at hl 0 rfl) ?_
      refine ca_gM5 (v := (-1)) C rfl X rfl dX1_mayStore_56 ?_
      refine lv_if_ne (tgt := 76) hx hb dX1_mayStore_59 (by decide) (fun c_59 => ?_) (fun c_59 => absurd c_59 (by decide +kernel))
      refine lv_aload_n hx hb dX1_mayStore_76 rfl (lv_at hl 0 rfl) ?_
      refine ca_gM5 (v := (-1)) C rfl X rfl dX1_mayStore_77 ?_
      refine lv_if_ne (tgt := 87) hx hb dX1_mayStore_80 (by decide) (fun c_80 => ?_) (fun c_80 => absurd c_80 (by decide +kernel))
      refine lv_iconst (v := nI 0) hx hb dX1_mayStore_87 (by decide +kernel) ?_
      exact ca_zret C X ca_z0 (Or.inl ⟨fun q => hbw q.2, rfl, rfl⟩) dX1_mayStore_88
  · skip
    refine lv_if_eq (tgt := 17) hx hb dX1_mayStore_6 (by decide) (fun c_6 => ?_) (fun c_6 => absurd rfl c_6)
    refine lv_iconst (v := (-1)) hx hb dX1_mayStore_17 (by decide +kernel) ?_
    refine lv_goto (tgt := 52) hx hb dX1_mayStore_18 (by decide) ?_
    refine ca_pM5 (x := (-1)) C rfl X dX1_mayStore_52 (fun H locs X => ?_)
    refine lv_aload_n hx hb dX1_mayStore_55 rfl (lv_at hl 0 rfl) ?_
    refine ca_gM5 (v := (-1)) C rfl X rfl dX1_mayStore_56 ?_
    refine lv_if_ne (tgt := 76) hx hb dX1_mayStore_59 (by decide) (fun c_59 => ?_) (fun c_59 => absurd c_59 (by decide +kernel))
    refine lv_aload_n hx hb dX1_mayStore_76 rfl (lv_at hl 0 rfl) ?_
    refine ca_gM5 (v := (-1)) C rfl X rfl dX1_mayStore_77 ?_
    refine lv_if_ne (tgt := 87) hx hb dX1_mayStore_80 (by decide) (fun c_80 => ?_) (fun c_80 => absurd c_80 (by decide +kernel))
    refine lv_iconst (v := nI 0) hx hb dX1_mayStore_87 (by decide +kernel) ?_
    exact ca_zret C X ca_z0 (Or.inl ⟨fun q => hbv q.1, rfl, rfl⟩) dX1_mayStore_88
end
section
set_option maxHeartbeats 4000000 in
set_option maxRecDepth 100000 in
theorem ca_cM_store (l : Launch) (D : va_G) (h : Nat) (a : Nat → Nat) (d : Nat → ClassId) (S : ca_St) (v w x : Int32) (hF : ca_F (S 1)) : ca_Met l yX1_store cX1_store 4 (some .int) (ca_r 2 43) D (ca_M h a d) (ca_TM d) [.ref h, .int v, .int w, .int x] S (ca_Mstore v w x S) := by
  refine ca_start (by decide) (Nat.le_of_ble_eq_true rfl) ?_
  intro p e s m args below meth c A ls C X hl
  have hx := C.1
  have hb := C.2.1
  have hl : lv_has ls 4 [(0, .ref h), (1, .int v), (2, .int w), (3, .int x)] := hl
  refine lv_aload_n hx hb dX1_store_0 rfl (lv_at hl 0 rfl) ?_
  refine lv_iload_n hx hb dX1_store_1 rfl (lv_at hl 1 rfl) ?_
  refine lv_iload_n hx hb dX1_store_2 rfl (lv_at hl 2 rfl) ?_
  refine ca_calli (As := [.int v, .int w]) (rest := []) C (ca_cM_mayStore l D h a d S v w hF) (cwV 2 C.2.2.2.2.1 (lw_V q270 q272 qs17 q20 q273) rfl rfl rfl (by decide +kernel) ⟨Nat.le_of_ble_eq_true rfl, Nat.le_of_ble_eq_true rfl⟩) ca_rcM X rfl hl.1 rfl (Nat.le_of_ble_eq_true rfl) dX1_store_3 ⟨Nat.le_refl _, Nat.le_refl _⟩ (fun r_3 S_3 H locs hp_3 X => ?_)
  rcases ca_MS_r hp_3 with rfl | ⟨rfl, j, u, k, hj, hu, hk, rfl, rfl, hke⟩
  · skip
    refine lv_if_eq (tgt := 26) hx hb dX1_store_6 (by decide) (fun c_6 => ?_) (fun c_6 => absurd rfl c_6)
    refine lv_aload_n hx hb dX1_store_26 rfl (lv_at hl 0 rfl) ?_
    refine ca_gM5 (v := S_3 5 0) C rfl X rfl dX1_store_27 ?_
    exact ca_iret C X (⟨_, S_3, hp_3, Or.inl ⟨rfl, rfl, rfl⟩⟩) dX1_store_30
  · skip
    refine lv_if_eq (tgt := 26) hx hb dX1_store_6 (by decide) (fun c_6 => absurd c_6 (by decide +kernel)) (fun c_6 => ?_)
    refine lv_aload_n hx hb dX1_store_9 rfl (lv_at hl 0 rfl) ?_
    refine ca_gM0 C rfl X dX1_store_10 ?_
    refine lv_bipush (v := nI 8) hx hb dX1_store_13 (by decide +kernel) ?_
    refine lv_aload_n hx hb dX1_store_15 rfl (lv_at hl 0 rfl) ?_
    refine ca_gM1 C rfl X dX1_store_16 ?_
    refine lv_iload_n hx hb dX1_store_19 rfl (lv_at hl 1 rfl) ?_
    refine ca_lM1 (j := j) (v := nI k) C X (by omega) hke dX1_store_20 ?_
    refine ca_mulN (i := 8) (j := k) hx hb dX1_store_21 ?_
    refine lv_iload_n hx hb dX1_store_22 rfl (lv_at hl 2 rfl) ?_
    refine ca_addN (i := 8 * k) (j := u) hx hb dX1_store_23 ?_
    refine lv_iload_n hx hb dX1_store_24 rfl (lv_at hl 3 rfl) ?_
    refine ca_sM0 (j := 8 * k + u) (x := x) C X (by omega) dX1_store_25 (fun H locs X => ?_)
    refine lv_aload_n hx hb dX1_store_26 rfl (lv_at hl 0 rfl) ?_
    refine ca_gM5 (v := S_3 5 0) C rfl X rfl dX1_store_27 ?_
    exact ca_iret C X (⟨_, S_3, hp_3, Or.inr ⟨rfl, j, u, k, hj, hu, hk, rfl, rfl, hke, rfl, rfl⟩⟩) dX1_store_30
set_option maxHeartbeats 4000000 in
set_option maxRecDepth 100000 in
theorem ca_cM_trade (l : Launch) (D : va_G) (h : Nat) (a : Nat → Nat) (d : Nat → ClassId) (S : ca_St) (v w x : Int32) (hF : ca_F (S 1)) : ca_Met l yX1_trade cX1_trade 5 (some .int) (ca_r 2 43) D (ca_M h a d) (ca_TM d) [.ref h, .int v, .int w, .int x] S (ca_Mtrade v w x S) := by
  refine ca_start (by decide) (Nat.le_of_ble_eq_true rfl) ?_
  intro p e s m args below meth c A ls C X hl
  have hx := C.1
  have hb := C.2.1
  have hl : lv_has ls 5 [(0, .ref h), (1, .int v), (2, .int w), (3, .int x)] := hl
  refine lv_aload_n hx hb dX1_trade_0 rfl (lv_at hl 0 rfl) ?_
  refine lv_iload_n hx hb dX1_trade_1 rfl (lv_at hl 1 rfl) ?_
  refine lv_iload_n hx hb dX1_trade_2 rfl (lv_at hl 2 rfl) ?_
  refine ca_calli (As := [.int v, .int w]) (rest := []) C (ca_cM_mayStore l D h a d S v w hF) (cwV 2 C.2.2.2.2.1 (lw_V q270 q272 qs17 q20 q273) rfl rfl rfl (by decide +kernel) ⟨Nat.le_of_ble_eq_true rfl, Nat.le_of_ble_eq_true rfl⟩) ca_rcM X rfl hl.1 rfl (Nat.le_of_ble_eq_true rfl) dX1_trade_3 ⟨Nat.le_refl _, Nat.le_refl _⟩ (fun r_3 S_3 H locs hp_3 X => ?_)
  rcases ca_MS_r hp_3 with rfl | ⟨rfl, j, u, k, hj, hu, hk, rfl, rfl, hke⟩
  · skip
    refine lv_if_ne (tgt := 11) hx hb dX1_trade_6 (by decide) (fun c_6 => absurd rfl c_6) (fun c_6 => ?_)
    refine lv_iconst (v := nI 0) hx hb dX1_trade_9 (by decide +kernel) ?_
    exact ca_iret C X (⟨_, S_3, hp_3, Or.inl ⟨rfl, rfl, rfl⟩⟩) dX1_trade_10
  · skip
    refine lv_if_ne (tgt := 11) hx hb dX1_trade_6 (by decide) (fun c_6 => ?_) (fun c_6 => absurd c_6 (by decide +kernel))
    refine lv_aload_n hx hb dX1_trade_11 rfl (lv_at hl 0 rfl) ?_
    refine ca_gM0 C rfl X dX1_trade_12 ?_
    refine lv_bipush (v := nI 8) hx hb dX1_trade_15 (by decide +kernel) ?_
    refine lv_aload_n hx hb dX1_trade_17 rfl (lv_at hl 0 rfl) ?_
    refine ca_gM1 C rfl X dX1_trade_18 ?_
    refine lv_iload_n hx hb dX1_trade_21 rfl (lv_at hl 1 rfl) ?_
    refine ca_lM1 (j := j) (v := nI k) C X (by omega) hke dX1_trade_22 ?_
    refine ca_mulN (i := 8) (j := k) hx hb dX1_trade_23 ?_
    refine lv_iload_n hx hb dX1_trade_24 rfl (lv_at hl 2 rfl) ?_
    refine ca_addN (i := 8 * k) (j := u) hx hb dX1_trade_25 ?_
    refine ca_lM0 (j := 8 * k + u) (v := S_3 0 (8 * k + u)) C X (by omega) rfl dX1_trade_26 ?_
    refine lv_istore (lv' := [(4, .int (S_3 0 (8 * k + u))), (0, .ref h), (1, .int (nI j)), (2, .int (nI u)), (3, .int x)]) hx hb dX1_trade_27 hl (by decide) rfl (fun ls hl => ?_)
    refine lv_aload_n hx hb dX1_trade_29 rfl (lv_at hl 1 rfl) ?_
    refine ca_gM0 C rfl X dX1_trade_30 ?_
    refine lv_bipush (v := nI 8) hx hb dX1_trade_33 (by decide +kernel) ?_
    refine lv_aload_n hx hb dX1_trade_35 rfl (lv_at hl 1 rfl) ?_
    refine ca_gM1 C rfl X dX1_trade_36 ?_
    refine lv_iload_n hx hb dX1_trade_39 rfl (lv_at hl 2 rfl) ?_
    refine ca_lM1 (j := j) (v := nI k) C X (by omega) hke dX1_trade_40 ?_
    refine ca_mulN (i := 8) (j := k) hx hb dX1_trade_41 ?_
    refine lv_iload_n hx hb dX1_trade_42 rfl (lv_at hl 3 rfl) ?_
    refine ca_addN (i := 8 * k) (j := u) hx hb dX1_trade_43 ?_
    refine lv_iload_n hx hb dX1_trade_44 rfl (lv_at hl 4 rfl) ?_
    refine ca_sM0 (j := 8 * k + u) (x := x) C X (by omega) dX1_trade_45 (fun H locs X => ?_)
    refine lv_iload hx hb dX1_trade_46 (lv_at hl 0 rfl) ?_
    exact ca_iret C X (⟨_, S_3, hp_3, Or.inr ⟨rfl, j, u, k, hj, hu, hk, rfl, rfl, hke, rfl, rfl⟩⟩) dX1_trade_48
set_option maxHeartbeats 4000000 in
set_option maxRecDepth 100000 in
theorem ca_cM_fault (l : Launch) (D : va_G) (h : Nat) (a : Nat → Nat) (d : Nat → ClassId) (S : ca_St) : ca_Met l yX1_fault cX1_fault 1 (some .int) (ca_r 0 0) D (ca_M h a d) (ca_TM d) [.ref h] S (fun r S' => S' = S ∧ r = S 5 0) := by
  refine ca_start (by decide) (Nat.le_of_ble_eq_true rfl) ?_
  intro p e s m args below meth c A ls C X hl
  have hx := C.1
  have hb := C.2.1
  have hl : lv_has ls 1 [(0, .ref h)] := hl
  refine lv_aload_n hx hb dX1_fault_0 rfl (lv_at hl 0 rfl) ?_
  refine ca_gM5 (v := S 5 0) C rfl X rfl dX1_fault_1 ?_
  exact ca_iret C X (⟨rfl, rfl⟩) dX1_fault_4
set_option maxHeartbeats 4000000 in
set_option maxRecDepth 100000 in
theorem ca_cM_word (l : Launch) (D : va_G) (h : Nat) (a : Nat → Nat) (d : Nat → ClassId) (S : ca_St) (f w : Int32) : ca_Met l yX1_word cX1_word 3 (some .int) (ca_r 1 21) D (ca_M h a d) (ca_TM d) [.ref h, .int f, .int w] S (ca_Mword f w S) := by
  refine ca_start (by decide) (Nat.le_of_ble_eq_true rfl) ?_
  intro p e s m args below meth c A ls C X hl
  have hx := C.1
  have hb := C.2.1
  have hl : lv_has ls 3 [(0, .ref h), (1, .int f), (2, .int w)] := hl
  refine lv_aload_n hx hb dX1_word_0 rfl (lv_at hl 0 rfl) ?_
  refine lv_iload_n hx hb dX1_word_1 rfl (lv_at hl 1 rfl) ?_
  refine ca_calli (As := [.int f]) (rest := []) C (ca_cM_isNumber l D h a d S f) (cwV 1 C.2.2.2.2.1 (lw_V q242 q244 qs15 q20 q245) rfl rfl rfl (by decide +kernel) ⟨Nat.le_of_ble_eq_true rfl, Nat.le_of_ble_eq_true rfl⟩) ca_rcM X rfl hl.1 rfl (Nat.le_of_ble_eq_true rfl) dX1_word_2 ⟨Nat.le_refl _, Nat.le_refl _⟩ (fun r_2 S_2 H locs hp_2 X => ?_)
  obtain ⟨hS_2, hp_2⟩ := hp_2
  rw [hS_2] at X
  rcases hp_2 with ⟨rfl, k, hk, rfl⟩ | ⟨rfl, hbf⟩
  · skip
    refine lv_if_eq (tgt := 30) hx hb dX1_word_5 (by decide) (fun c_5 => absurd c_5 (by decide +kernel)) (fun c_5 => ?_)
    refine lv_aload_n hx hb dX1_word_8 rfl (lv_at hl 0 rfl) ?_
    refine lv_iload_n hx hb dX1_word_9 rfl (lv_at hl 2 rfl) ?_
    refine ca_calli (As := [.int w]) (rest := []) C (ca_cM_isNumber l D h a d S w) (cwV 1 C.2.2.2.2.1 (lw_V q242 q244 qs15 q20 q245) rfl rfl rfl (by decide +kernel) ⟨Nat.le_of_ble_eq_true rfl, Nat.le_of_ble_eq_true rfl⟩) ca_rcM X rfl hl.1 rfl (Nat.le_of_ble_eq_true rfl) dX1_word_10 ⟨Nat.le_refl _, Nat.le_refl _⟩ (fun r_10 S_10 H locs hp_10 X => ?_)
    obtain ⟨hS_10, hp_10⟩ := hp_10
    rw [hS_10] at X
    rcases hp_10 with ⟨rfl, u, hu, rfl⟩ | ⟨rfl, hbw⟩
    · skip
      refine lv_if_eq (tgt := 30) hx hb dX1_word_13 (by decide) (fun c_13 => absurd c_13 (by decide +kernel)) (fun c_13 => ?_)
      refine lv_aload_n hx hb dX1_word_16 rfl (lv_at hl 0 rfl) ?_
      refine ca_gM0 C rfl X dX1_word_17 ?_
      refine lv_bipush (v := nI 8) hx hb dX1_word_20 (by decide +kernel) ?_
      refine lv_iload_n hx hb dX1_word_22 rfl (lv_at hl 1 rfl) ?_
      refine ca_mulN (i := 8) (j := k) hx hb dX1_word_23 ?_
      refine lv_iload_n hx hb dX1_word_24 rfl (lv_at hl 2 rfl) ?_
      refine ca_addN (i := 8 * k) (j := u) hx hb dX1_word_25 ?_
      refine ca_lM0 (j := 8 * k + u) (v := S 0 (8 * k + u)) C X (by omega) rfl dX1_word_26 ?_
      refine lv_goto (tgt := 31) hx hb dX1_word_27 (by decide) ?_
      exact ca_iret C X (Or.inr ⟨k, u, hk, hu, rfl, rfl, rfl, rfl⟩) dX1_word_31
    · skip
      refine lv_if_eq (tgt := 30) hx hb dX1_word_13 (by decide) (fun c_13 => ?_) (fun c_13 => absurd rfl c_13)
      refine lv_iconst (v := nI 0) hx hb dX1_word_30 (by decide +kernel) ?_
      exact ca_iret C X (Or.inl ⟨fun q => hbw q.2, rfl, rfl⟩) dX1_word_31
  · skip
    refine lv_if_eq (tgt := 30) hx hb dX1_word_5 (by decide) (fun c_5 => ?_) (fun c_5 => absurd rfl c_5)
    refine lv_iconst (v := nI 0) hx hb dX1_word_30 (by decide +kernel) ?_
    exact ca_iret C X (Or.inl ⟨fun q => hbf q.1, rfl, rfl⟩) dX1_word_31
set_option maxHeartbeats 4000000 in
set_option maxRecDepth 100000 in
theorem ca_cM_setWord (l : Launch) (D : va_G) (h : Nat) (a : Nat → Nat) (d : Nat → ClassId) (S : ca_St) (f w x : Int32) : ca_Met l yX1_setWord cX1_setWord 4 (some .int) (ca_r 1 21) D (ca_M h a d) (ca_TM d) [.ref h, .int f, .int w, .int x] S (ca_MsetWord f w x S) := by
  refine ca_start (by decide) (Nat.le_of_ble_eq_true rfl) ?_
  intro p e s m args below meth c A ls C X hl
  have hx := C.1
  have hb := C.2.1
  have hl : lv_has ls 4 [(0, .ref h), (1, .int f), (2, .int w), (3, .int x)] := hl
  refine lv_aload_n hx hb dX1_setWord_0 rfl (lv_at hl 0 rfl) ?_
  refine lv_iload_n hx hb dX1_setWord_1 rfl (lv_at hl 1 rfl) ?_
  refine ca_calli (As := [.int f]) (rest := []) C (ca_cM_isNumber l D h a d S f) (cwV 1 C.2.2.2.2.1 (lw_V q242 q244 qs15 q20 q245) rfl rfl rfl (by decide +kernel) ⟨Nat.le_of_ble_eq_true rfl, Nat.le_of_ble_eq_true rfl⟩) ca_rcM X rfl hl.1 rfl (Nat.le_of_ble_eq_true rfl) dX1_setWord_2 ⟨Nat.le_refl _, Nat.le_refl _⟩ (fun r_2 S_2 H locs hp_2 X => ?_)
  obtain ⟨hS_2, hp_2⟩ := hp_2
  rw [hS_2] at X
  rcases hp_2 with ⟨rfl, k, hk, rfl⟩ | ⟨rfl, hbf⟩
  · skip
    refine lv_if_eq (tgt := 16) hx hb dX1_setWord_5 (by decide) (fun c_5 => absurd c_5 (by decide +kernel)) (fun c_5 => ?_)
    refine lv_aload_n hx hb dX1_setWord_8 rfl (lv_at hl 0 rfl) ?_
    refine lv_iload_n hx hb dX1_setWord_9 rfl (lv_at hl 2 rfl) ?_
    refine ca_calli (As := [.int w]) (rest := []) C (ca_cM_isNumber l D h a d S w) (cwV 1 C.2.2.2.2.1 (lw_V q242 q244 qs15 q20 q245) rfl rfl rfl (by decide +kernel) ⟨Nat.le_of_ble_eq_true rfl, Nat.le_of_ble_eq_true rfl⟩) ca_rcM X rfl hl.1 rfl (Nat.le_of_ble_eq_true rfl) dX1_setWord_10 ⟨Nat.le_refl _, Nat.le_refl _⟩ (fun r_10 S_10 H locs hp_10 X => ?_)
    obtain ⟨hS_10, hp_10⟩ := hp_10
    rw [hS_10] at X
    rcases hp_10 with ⟨rfl, u, hu, rfl⟩ | ⟨rfl, hbw⟩
    · skip
      refine lv_if_ne (tgt := 18) hx hb dX1_setWord_13 (by decide) (fun c_13 => ?_) (fun c_13 => absurd c_13 (by decide +kernel))
      refine lv_aload_n hx hb dX1_setWord_18 rfl (lv_at hl 0 rfl) ?_
      refine ca_gM0 C rfl X dX1_setWord_19 ?_
      refine lv_bipush (v := nI 8) hx hb dX1_setWord_22 (by decide +kernel) ?_
      refine lv_iload_n hx hb dX1_setWord_24 rfl (lv_at hl 1 rfl) ?_
      refine ca_mulN (i := 8) (j := k) hx hb dX1_setWord_25 ?_
      refine lv_iload_n hx hb dX1_setWord_26 rfl (lv_at hl 2 rfl) ?_
      refine ca_addN (i := 8 * k) (j := u) hx hb dX1_setWord_27 ?_
      refine lv_iload_n hx hb dX1_setWord_28 rfl (lv_at hl 3 rfl) ?_
      refine ca_sM0 (j := 8 * k + u) (x := x) C X (by omega) dX1_setWord_29 (fun H locs X => ?_)
      refine lv_iconst (v := nI 0) hx hb dX1_setWord_30 (by decide +kernel) ?_
      exact ca_iret C X (Or.inr ⟨k, u, hk, hu, rfl, rfl, rfl, rfl⟩) dX1_setWord_31
    · skip
      refine lv_if_ne (tgt := 18) hx hb dX1_setWord_13 (by decide) (fun c_13 => absurd rfl c_13) (fun c_13 => ?_)
      refine lv_iconst (v := (-1)) hx hb dX1_setWord_16 (by decide +kernel) ?_
      exact ca_iret C X (Or.inl ⟨fun q => hbw q.2, rfl, rfl⟩) dX1_setWord_17
  · skip
    refine lv_if_eq (tgt := 16) hx hb dX1_setWord_5 (by decide) (fun c_5 => ?_) (fun c_5 => absurd rfl c_5)
    refine lv_iconst (v := (-1)) hx hb dX1_setWord_16 (by decide +kernel) ?_
    exact ca_iret C X (Or.inl ⟨fun q => hbf q.1, rfl, rfl⟩) dX1_setWord_17
set_option maxHeartbeats 4000000 in
set_option maxRecDepth 100000 in
theorem ca_cM_copyFrame (l : Launch) (D : va_G) (h : Nat) (a : Nat → Nat) (d : Nat → ClassId) (S : ca_St) (f g : Int32) : ca_Met l yX1_copyFrame cX1_copyFrame 5 (some .int) (ca_r 1 21) D (ca_M h a d) (ca_TM d) [.ref h, .int f, .int g] S (ca_McopyFrame f g S) := by
  refine ca_start (by decide) (Nat.le_of_ble_eq_true rfl) ?_
  intro p e s m args below meth c A ls C X hl
  have hx := C.1
  have hb := C.2.1
  have hl : lv_has ls 5 [(0, .ref h), (1, .int f), (2, .int g)] := hl
  refine lv_aload_n hx hb dX1_copyFrame_0 rfl (lv_at hl 0 rfl) ?_
  refine lv_iload_n hx hb dX1_copyFrame_1 rfl (lv_at hl 1 rfl) ?_
  refine ca_calli (As := [.int f]) (rest := []) C (ca_cM_isNumber l D h a d S f) (cwV 1 C.2.2.2.2.1 (lw_V q242 q244 qs15 q20 q245) rfl rfl rfl (by decide +kernel) ⟨Nat.le_of_ble_eq_true rfl, Nat.le_of_ble_eq_true rfl⟩) ca_rcM X rfl hl.1 rfl (Nat.le_of_ble_eq_true rfl) dX1_copyFrame_2 ⟨Nat.le_refl _, Nat.le_refl _⟩ (fun r_2 S_2 H locs hp_2 X => ?_)
  obtain ⟨hS_2, hp_2⟩ := hp_2
  rw [hS_2] at X
  rcases hp_2 with ⟨rfl, k, hk, rfl⟩ | ⟨rfl, hbf⟩
  · skip
    refine lv_if_eq (tgt := 16) hx hb dX1_copyFrame_5 (by decide) (fun c_5 => absurd c_5 (by decide +kernel)) (fun c_5 => ?_)
    refine lv_aload_n hx hb dX1_copyFrame_8 rfl (lv_at hl 0 rfl) ?_
    refine lv_iload_n hx hb dX1_copyFrame_9 rfl (lv_at hl 2 rfl) ?_
    refine ca_calli (As := [.int g]) (rest := []) C (ca_cM_isNumber l D h a d S g) (cwV 1 C.2.2.2.2.1 (lw_V q242 q244 qs15 q20 q245) rfl rfl rfl (by decide +kernel) ⟨Nat.le_of_ble_eq_true rfl, Nat.le_of_ble_eq_true rfl⟩) ca_rcM X rfl hl.1 rfl (Nat.le_of_ble_eq_true rfl) dX1_copyFrame_10 ⟨Nat.le_refl _, Nat.le_refl _⟩ (fun r_10 S_10 H locs hp_10 X => ?_)
    obtain ⟨hS_10, hp_10⟩ := hp_10
    rw [hS_10] at X
    rcases hp_10 with ⟨rfl, u, hu, rfl⟩ | ⟨rfl, hbg⟩
    · skip
      refine lv_if_ne (tgt := 18) hx hb dX1_copyFrame_13 (by decide) (fun c_13 => ?_) (fun c_13 => absurd c_13 (by decide +kernel))
      refine lv_iconst (v := nI 0) hx hb dX1_copyFrame_18 (by decide +kernel) ?_
      refine lv_istore_n (lv' := [(3, .int (nI 0)), (0, .ref h), (1, .int (nI k)), (2, .int (nI u))]) hx hb dX1_copyFrame_19 rfl hl (by decide) rfl (fun ls hl => ?_)
      refine lv_iconst (v := nI 0) hx hb dX1_copyFrame_20 (by decide +kernel) ?_
      refine lv_istore (lv' := [(4, .int (nI 0)), (3, .int (nI 0)), (0, .ref h), (1, .int (nI k)), (2, .int (nI u))]) hx hb dX1_copyFrame_21 hl (by decide) rfl (fun ls hl => ?_)
      have loop_23 : ∀ (nn n : Nat), 8 - n = nn → n ≤ 8 → ∀ (cn : Int32), cn = ca_cd (S 0) (8 * k) (8 * u) n → ∀ (H : Heap) (locs : List Loc) (ls : Array Slot), ca_I D (ca_M h a d) (ca_TM d) A s H locs (ca_cp S 0 (8 * k) 0 (8 * u) n) → lv_has ls 5 [(0, .ref h), (1, .int (nI k)), (2, .int (nI u)), (3, .int cn), (4, .int (nI n))] → W p l e (ca_r 1 21) s m args below meth c H locs 0 0 (ca_G D (ca_M h a d) (ca_TM d) (ca_McopyFrame (nI k) (nI u) S) A below args s) (F0 m 23 ls []) := by
        intro nn
        induction nn using Nat.strongRecOn with
        | _ nn ih_23 =>
          intro n hnn hk_23 cn hcn H locs ls X hl
          refine lv_iload hx hb dX1_copyFrame_23 (lv_at hl 4 rfl) ?_
          refine lv_bipush (v := nI 8) hx hb dX1_copyFrame_25 (by decide +kernel) ?_
          refine ca_geN (i := n) (n := 8) (tgt := 90) hx hb (by omega) (by omega) dX1_copyFrame_27 (by decide) (fun c_27 => ?_) (fun c_27 => ?_)
          · skip
            obtain rfl : n = 8 := by omega
            refine lv_iload_n hx hb dX1_copyFrame_90 rfl (lv_at hl 3 rfl) ?_
            exact ca_iret C X (Or.inr ⟨k, u, hk, hu, rfl, rfl, hcn, rfl⟩) dX1_copyFrame_91
          · skip
            refine lv_aload_n hx hb dX1_copyFrame_30 rfl (lv_at hl 0 rfl) ?_
            refine ca_gM0 C rfl X dX1_copyFrame_31 ?_
            refine lv_bipush (v := nI 8) hx hb dX1_copyFrame_34 (by decide +kernel) ?_
            refine lv_iload_n hx hb dX1_copyFrame_36 rfl (lv_at hl 1 rfl) ?_
            refine ca_mulN (i := 8) (j := k) hx hb dX1_copyFrame_37 ?_
            refine lv_iload hx hb dX1_copyFrame_38 (lv_at hl 4 rfl) ?_
            refine ca_addN (i := 8 * k) (j := n) hx hb dX1_copyFrame_40 ?_
            refine ca_lM0 (j := 8 * k + n) (v := S 0 (8 * k + n)) C X (by omega) (ca_cp_o (by omega)) dX1_copyFrame_41 ?_
            refine lv_aload_n hx hb dX1_copyFrame_42 rfl (lv_at hl 0 rfl) ?_
            refine ca_gM0 C rfl X dX1_copyFrame_43 ?_
            refine lv_bipush (v := nI 8) hx hb dX1_copyFrame_46 (by decide +kernel) ?_
            refine lv_iload_n hx hb dX1_copyFrame_48 rfl (lv_at hl 2 rfl) ?_
            refine ca_mulN (i := 8) (j := u) hx hb dX1_copyFrame_49 ?_
            refine lv_iload hx hb dX1_copyFrame_50 (lv_at hl 4 rfl) ?_
            refine ca_addN (i := 8 * u) (j := n) hx hb dX1_copyFrame_52 ?_
            refine ca_lM0 (j := 8 * u + n) (v := S 0 (8 * u + n)) C X (by omega) (ca_cp_o (by omega)) dX1_copyFrame_53 ?_
            refine lv_icmp_eq (tgt := 84) hx hb dX1_copyFrame_54 (by decide) (fun c_54 => ?_) (fun c_54 => ?_)
            · skip
              refine lv_iinc (v := nI (n + 1)) (lv' := [(4, .int (nI (n + 1))), (0, .ref h), (1, .int (nI k)), (2, .int (nI u)), (3, .int cn)]) hx hb dX1_copyFrame_84 hl (k := 4) rfl (ca_inc n) (by decide) rfl (fun ls hl => ?_)
              refine lv_goto (tgt := 23) hx hb dX1_copyFrame_87 (by decide) ?_
              exact ih_23 (8 - (n + 1)) (by omega) (n + 1) rfl (by omega) cn (hcn.trans (ca_cd_t c_54)) _ _ _ (by rw [← ca_cp_e c_54]; exact X) (lv_sub hl [1, 2, 3, 4, 0] rfl)
            · skip
              refine lv_aload_n hx hb dX1_copyFrame_57 rfl (lv_at hl 0 rfl) ?_
              refine ca_gM0 C rfl X dX1_copyFrame_58 ?_
              refine lv_bipush (v := nI 8) hx hb dX1_copyFrame_61 (by decide +kernel) ?_
              refine lv_iload_n hx hb dX1_copyFrame_63 rfl (lv_at hl 1 rfl) ?_
              refine ca_mulN (i := 8) (j := k) hx hb dX1_copyFrame_64 ?_
              refine lv_iload hx hb dX1_copyFrame_65 (lv_at hl 4 rfl) ?_
              refine ca_addN (i := 8 * k) (j := n) hx hb dX1_copyFrame_67 ?_
              refine lv_aload_n hx hb dX1_copyFrame_68 rfl (lv_at hl 0 rfl) ?_
              refine ca_gM0 C rfl X dX1_copyFrame_69 ?_
              refine lv_bipush (v := nI 8) hx hb dX1_copyFrame_72 (by decide +kernel) ?_
              refine lv_iload_n hx hb dX1_copyFrame_74 rfl (lv_at hl 2 rfl) ?_
              refine ca_mulN (i := 8) (j := u) hx hb dX1_copyFrame_75 ?_
              refine lv_iload hx hb dX1_copyFrame_76 (lv_at hl 4 rfl) ?_
              refine ca_addN (i := 8 * u) (j := n) hx hb dX1_copyFrame_78 ?_
              refine ca_lM0 (j := 8 * u + n) (v := S 0 (8 * u + n)) C X (by omega) (ca_cp_o (by omega)) dX1_copyFrame_79 ?_
              refine ca_sM0 (j := 8 * k + n) (x := S 0 (8 * u + n)) C X (by omega) dX1_copyFrame_80 (fun H locs X => ?_)
              refine lv_iinc (v := cn + 1) (lv' := [(3, .int (cn + 1)), (0, .ref h), (1, .int (nI k)), (2, .int (nI u)), (4, .int (nI n))]) hx hb dX1_copyFrame_81 hl (k := 3) rfl (ca_incV cn) (by decide) rfl (fun ls hl => ?_)
              refine lv_iinc (v := nI (n + 1)) (lv' := [(4, .int (nI (n + 1))), (3, .int (cn + 1)), (0, .ref h), (1, .int (nI k)), (2, .int (nI u))]) hx hb dX1_copyFrame_84 hl (k := 4) rfl (ca_inc n) (by decide) rfl (fun ls hl => ?_)
              refine lv_goto (tgt := 23) hx hb dX1_copyFrame_87 (by decide) ?_
              exact ih_23 (8 - (n + 1)) (by omega) (n + 1) rfl (by omega) (cn + 1) (by rw [hcn]; exact ca_cd_f c_54) _ _ _ (by rw [← ca_cp_s]; exact X) (lv_sub hl [2, 3, 4, 1, 0] rfl)
      exact loop_23 8 0 rfl (Nat.zero_le _) 0 rfl _ _ _ (by rw [ca_cp_0]; exact X) (lv_sub hl [2, 3, 4, 1, 0] rfl)
    · skip
      refine lv_if_ne (tgt := 18) hx hb dX1_copyFrame_13 (by decide) (fun c_13 => absurd rfl c_13) (fun c_13 => ?_)
      refine lv_iconst (v := (-1)) hx hb dX1_copyFrame_16 (by decide +kernel) ?_
      exact ca_iret C X (Or.inl ⟨fun q => hbg q.2, rfl, rfl⟩) dX1_copyFrame_17
  · skip
    refine lv_if_eq (tgt := 16) hx hb dX1_copyFrame_5 (by decide) (fun c_5 => ?_) (fun c_5 => absurd rfl c_5)
    refine lv_iconst (v := (-1)) hx hb dX1_copyFrame_16 (by decide +kernel) ?_
    exact ca_iret C X (Or.inl ⟨fun q => hbf q.1, rfl, rfl⟩) dX1_copyFrame_17
set_option maxHeartbeats 4000000 in
set_option maxRecDepth 100000 in
theorem ca_cM_marks (l : Launch) (D : va_G) (h : Nat) (a : Nat → Nat) (d : Nat → ClassId) (S : ca_St) (v : Int32) : ca_Met l yX1_marks cX1_marks 2 (some .int) (ca_r 1 21) D (ca_M h a d) (ca_TM d) [.ref h, .int v] S (ca_marks v S) := by
  refine ca_start (by decide) (Nat.le_of_ble_eq_true rfl) ?_
  intro p e s m args below meth c A ls C X hl
  have hx := C.1
  have hb := C.2.1
  have hl : lv_has ls 2 [(0, .ref h), (1, .int v)] := hl
  refine lv_aload_n hx hb dX1_marks_0 rfl (lv_at hl 0 rfl) ?_
  refine lv_iload_n hx hb dX1_marks_1 rfl (lv_at hl 1 rfl) ?_
  refine ca_calli (As := [.int v]) (rest := []) C (ca_cM_isPage l D h a d S v) (cwV 1 C.2.2.2.2.1 (lw_V q238 q240 qs14 q20 q241) rfl rfl rfl (by decide +kernel) ⟨Nat.le_of_ble_eq_true rfl, Nat.le_of_ble_eq_true rfl⟩) ca_rcM X rfl hl.1 rfl (Nat.le_of_ble_eq_true rfl) dX1_marks_2 ⟨Nat.le_refl _, Nat.le_refl _⟩ (fun r_2 S_2 H locs hp_2 X => ?_)
  obtain ⟨hS_2, hp_2⟩ := hp_2
  rw [hS_2] at X
  rcases hp_2 with ⟨rfl, j, hj, rfl⟩ | ⟨rfl, hbv⟩
  · skip
    refine lv_if_eq (tgt := 40) hx hb dX1_marks_5 (by decide) (fun c_5 => absurd c_5 (by decide +kernel)) (fun c_5 => ?_)
    refine lv_aload_n hx hb dX1_marks_8 rfl (lv_at hl 0 rfl) ?_
    refine ca_gM3 C rfl X dX1_marks_9 ?_
    refine lv_iload_n hx hb dX1_marks_12 rfl (lv_at hl 1 rfl) ?_
    refine ca_lM3 (j := j) (v := S 3 j) C X (by omega) rfl dX1_marks_13 ?_
    refine lv_if_eq (tgt := 21) hx hb dX1_marks_14 (by decide) (fun c_14 => ?_) (fun c_14 => ?_)
    · skip
      refine lv_iconst (v := nI 0) hx hb dX1_marks_21 (by decide +kernel) ?_
      refine lv_aload_n hx hb dX1_marks_22 rfl (lv_at hl 0 rfl) ?_
      refine ca_gM4 C rfl X dX1_marks_23 ?_
      refine lv_iload_n hx hb dX1_marks_26 rfl (lv_at hl 1 rfl) ?_
      refine ca_lM4 (j := j) (v := S 4 j) C X (by omega) rfl dX1_marks_27 ?_
      refine lv_if_eq (tgt := 35) hx hb dX1_marks_28 (by decide) (fun c_28 => ?_) (fun c_28 => ?_)
      · skip
        refine lv_iconst (v := nI 0) hx hb dX1_marks_35 (by decide +kernel) ?_
        refine ca_addN (i := 0) (j := 0) hx hb dX1_marks_36 ?_
        refine lv_goto (tgt := 41) hx hb dX1_marks_37 (by decide) ?_
        exact ca_iret C X (⟨rfl, Or.inr ⟨j, hj, rfl, (ca_mk_00 c_14 c_28).symm⟩⟩) dX1_marks_41
      · skip
        refine lv_iconst (v := nI 2) hx hb dX1_marks_31 (by decide +kernel) ?_
        refine lv_goto (tgt := 36) hx hb dX1_marks_32 (by decide) ?_
        refine ca_addN (i := 0) (j := 2) hx hb dX1_marks_36 ?_
        refine lv_goto (tgt := 41) hx hb dX1_marks_37 (by decide) ?_
        exact ca_iret C X (⟨rfl, Or.inr ⟨j, hj, rfl, (ca_mk_01 c_14 c_28).symm⟩⟩) dX1_marks_41
    · skip
      refine lv_iconst (v := nI 1) hx hb dX1_marks_17 (by decide +kernel) ?_
      refine lv_goto (tgt := 22) hx hb dX1_marks_18 (by decide) ?_
      refine lv_aload_n hx hb dX1_marks_22 rfl (lv_at hl 0 rfl) ?_
      refine ca_gM4 C rfl X dX1_marks_23 ?_
      refine lv_iload_n hx hb dX1_marks_26 rfl (lv_at hl 1 rfl) ?_
      refine ca_lM4 (j := j) (v := S 4 j) C X (by omega) rfl dX1_marks_27 ?_
      refine lv_if_eq (tgt := 35) hx hb dX1_marks_28 (by decide) (fun c_28 => ?_) (fun c_28 => ?_)
      · skip
        refine lv_iconst (v := nI 0) hx hb dX1_marks_35 (by decide +kernel) ?_
        refine ca_addN (i := 1) (j := 0) hx hb dX1_marks_36 ?_
        refine lv_goto (tgt := 41) hx hb dX1_marks_37 (by decide) ?_
        exact ca_iret C X (⟨rfl, Or.inr ⟨j, hj, rfl, (ca_mk_10 c_14 c_28).symm⟩⟩) dX1_marks_41
      · skip
        refine lv_iconst (v := nI 2) hx hb dX1_marks_31 (by decide +kernel) ?_
        refine lv_goto (tgt := 36) hx hb dX1_marks_32 (by decide) ?_
        refine ca_addN (i := 1) (j := 2) hx hb dX1_marks_36 ?_
        refine lv_goto (tgt := 41) hx hb dX1_marks_37 (by decide) ?_
        exact ca_iret C X (⟨rfl, Or.inr ⟨j, hj, rfl, (ca_mk_11 c_14 c_28).symm⟩⟩) dX1_marks_41
  · skip
    refine lv_if_eq (tgt := 40) hx hb dX1_marks_5 (by decide) (fun c_5 => ?_) (fun c_5 => absurd rfl c_5)
    refine lv_iconst (v := (-1)) hx hb dX1_marks_40 (by decide +kernel) ?_
    exact ca_iret C X (⟨rfl, Or.inl ⟨hbv, rfl⟩⟩) dX1_marks_41
set_option maxHeartbeats 4000000 in
set_option maxRecDepth 100000 in
theorem ca_cM_clearMarks (l : Launch) (D : va_G) (h : Nat) (a : Nat → Nat) (d : Nat → ClassId) (S : ca_St) (v : Int32) : ca_Met l yX1_clearMarks cX1_clearMarks 3 (some .int) (ca_r 2 42) D (ca_M h a d) (ca_TM d) [.ref h, .int v] S (ca_MclearMarks v S) := by
  refine ca_start (by decide) (Nat.le_of_ble_eq_true rfl) ?_
  intro p e s m args below meth c A ls C X hl
  have hx := C.1
  have hb := C.2.1
  have hl : lv_has ls 3 [(0, .ref h), (1, .int v)] := hl
  refine lv_aload_n hx hb dX1_clearMarks_0 rfl (lv_at hl 0 rfl) ?_
  refine lv_iload_n hx hb dX1_clearMarks_1 rfl (lv_at hl 1 rfl) ?_
  refine ca_calli (As := [.int v]) (rest := []) C (ca_cM_marks l D h a d S v) (cwV 1 C.2.2.2.2.1 (lw_V q302 q295 q296 q20 q297) rfl rfl rfl (by decide +kernel) ⟨Nat.le_of_ble_eq_true rfl, Nat.le_of_ble_eq_true rfl⟩) ca_rcM X rfl hl.1 rfl (Nat.le_of_ble_eq_true rfl) dX1_clearMarks_2 ⟨Nat.le_refl _, Nat.le_refl _⟩ (fun r_2 S_2 H locs hp_2 X => ?_)
  obtain ⟨hS_2, hp_2⟩ := hp_2
  rw [hS_2] at X
  rcases hp_2 with ⟨hbv, rfl⟩ | ⟨j, hj, rfl, rfl⟩
  · skip
    refine lv_istore_n (lv' := [(2, .int ((-1))), (0, .ref h), (1, .int v)]) hx hb dX1_clearMarks_5 rfl hl (by decide) rfl (fun ls hl => ?_)
    refine lv_aload_n hx hb dX1_clearMarks_6 rfl (lv_at hl 1 rfl) ?_
    refine lv_iload_n hx hb dX1_clearMarks_7 rfl (lv_at hl 2 rfl) ?_
    refine ca_calli (As := [.int v]) (rest := []) C (ca_cM_isPage l D h a d S v) (cwV 1 C.2.2.2.2.1 (lw_V q238 q240 qs14 q20 q241) rfl rfl rfl (by decide +kernel) ⟨Nat.le_of_ble_eq_true rfl, Nat.le_of_ble_eq_true rfl⟩) ca_rcM X rfl hl.1 rfl (Nat.le_of_ble_eq_true rfl) dX1_clearMarks_8 ⟨Nat.le_refl _, Nat.le_refl _⟩ (fun r_8 S_8 H locs hp_8 X => ?_)
    obtain ⟨hS_8, hp_8⟩ := hp_8
    rw [hS_8] at X
    rcases hp_8 with ⟨rfl, hg⟩ | ⟨rfl, hg⟩
    · skip
      exact absurd hg hbv
    · skip
      refine lv_if_eq (tgt := 28) hx hb dX1_clearMarks_11 (by decide) (fun c_11 => ?_) (fun c_11 => absurd rfl c_11)
      refine lv_iload_n hx hb dX1_clearMarks_28 rfl (lv_at hl 0 rfl) ?_
      exact ca_iret C X (Or.inl ⟨hbv, rfl, rfl⟩) dX1_clearMarks_29
  · skip
    refine lv_istore_n (lv' := [(2, .int (ca_mk (S 3 j) (S 4 j))), (0, .ref h), (1, .int (nI j))]) hx hb dX1_clearMarks_5 rfl hl (by decide) rfl (fun ls hl => ?_)
    refine lv_aload_n hx hb dX1_clearMarks_6 rfl (lv_at hl 1 rfl) ?_
    refine lv_iload_n hx hb dX1_clearMarks_7 rfl (lv_at hl 2 rfl) ?_
    refine ca_calli (As := [.int (nI j)]) (rest := []) C (ca_cM_isPage l D h a d S (nI j)) (cwV 1 C.2.2.2.2.1 (lw_V q238 q240 qs14 q20 q241) rfl rfl rfl (by decide +kernel) ⟨Nat.le_of_ble_eq_true rfl, Nat.le_of_ble_eq_true rfl⟩) ca_rcM X rfl hl.1 rfl (Nat.le_of_ble_eq_true rfl) dX1_clearMarks_8 ⟨Nat.le_refl _, Nat.le_refl _⟩ (fun r_8 S_8 H locs hp_8 X => ?_)
    obtain ⟨hS_8, hp_8⟩ := hp_8
    rw [hS_8] at X
    rcases hp_8 with ⟨rfl, hg⟩ | ⟨rfl, hg⟩
    · skip
      refine lv_if_eq (tgt := 28) hx hb dX1_clearMarks_11 (by decide) (fun c_11 => absurd c_11 (by decide +kernel)) (fun c_11 => ?_)
      refine lv_aload_n hx hb dX1_clearMarks_14 rfl (lv_at hl 1 rfl) ?_
      refine ca_gM3 C rfl X dX1_clearMarks_15 ?_
      refine lv_iload_n hx hb dX1_clearMarks_18 rfl (lv_at hl 2 rfl) ?_
      refine lv_iconst (v := nI 0) hx hb dX1_clearMarks_19 (by decide +kernel) ?_
      refine ca_sM3 (j := j) (x := nI 0) (y := 0) ca_n0 C X (by omega) dX1_clearMarks_20 (fun H locs X => ?_)
      refine lv_aload_n hx hb dX1_clearMarks_21 rfl (lv_at hl 1 rfl) ?_
      refine ca_gM4 C rfl X dX1_clearMarks_22 ?_
      refine lv_iload_n hx hb dX1_clearMarks_25 rfl (lv_at hl 2 rfl) ?_
      refine lv_iconst (v := nI 0) hx hb dX1_clearMarks_26 (by decide +kernel) ?_
      refine ca_sM4 (j := j) (x := nI 0) (y := 0) ca_n0 C X (by omega) dX1_clearMarks_27 (fun H locs X => ?_)
      refine lv_iload_n hx hb dX1_clearMarks_28 rfl (lv_at hl 0 rfl) ?_
      exact ca_iret C X (Or.inr ⟨j, hj, rfl, rfl, rfl⟩) dX1_clearMarks_29
    · skip
      exact absurd ⟨j, hj, rfl⟩ hg
set_option maxHeartbeats 4000000 in
set_option maxRecDepth 100000 in
theorem ca_cM_shown (l : Launch) (D : va_G) (h : Nat) (a : Nat → Nat) (d : Nat → ClassId) (S : ca_St) (f : Int32) : ca_Met l yX1_shown cX1_shown 4 (some .int) (ca_r 1 21) D (ca_M h a d) (ca_TM d) [.ref h, .int f] S (ca_shown f S) := by
  refine ca_start (by decide) (Nat.le_of_ble_eq_true rfl) ?_
  intro p e s m args below meth c A ls C X hl
  have hx := C.1
  have hb := C.2.1
  have hl : lv_has ls 4 [(0, .ref h), (1, .int f)] := hl
  refine lv_aload_n hx hb dX1_shown_0 rfl (lv_at hl 0 rfl) ?_
  refine lv_iload_n hx hb dX1_shown_1 rfl (lv_at hl 1 rfl) ?_
  refine ca_calli (As := [.int f]) (rest := []) C (ca_cM_isNumber l D h a d S f) (cwV 1 C.2.2.2.2.1 (lw_V q242 q244 qs15 q20 q245) rfl rfl rfl (by decide +kernel) ⟨Nat.le_of_ble_eq_true rfl, Nat.le_of_ble_eq_true rfl⟩) ca_rcM X rfl hl.1 rfl (Nat.le_of_ble_eq_true rfl) dX1_shown_2 ⟨Nat.le_refl _, Nat.le_refl _⟩ (fun r_2 S_2 H locs hp_2 X => ?_)
  obtain ⟨hS_2, hp_2⟩ := hp_2
  rw [hS_2] at X
  rcases hp_2 with ⟨rfl, k, hk, rfl⟩ | ⟨rfl, hbf⟩
  · skip
    refine lv_if_ne (tgt := 10) hx hb dX1_shown_5 (by decide) (fun c_5 => ?_) (fun c_5 => absurd c_5 (by decide +kernel))
    refine lv_iconst (v := nI 0) hx hb dX1_shown_10 (by decide +kernel) ?_
    refine lv_istore_n (lv' := [(2, .int (nI 0)), (0, .ref h), (1, .int (nI k))]) hx hb dX1_shown_11 rfl hl (by decide) rfl (fun ls hl => ?_)
    refine lv_iconst (v := nI 0) hx hb dX1_shown_12 (by decide +kernel) ?_
    refine lv_istore_n (lv' := [(3, .int (nI 0)), (2, .int (nI 0)), (0, .ref h), (1, .int (nI k))]) hx hb dX1_shown_13 rfl hl (by decide) rfl (fun ls hl => ?_)
    have loop_14 : ∀ (nn i : Nat), 16 - i = nn → i ≤ 16 → ∀ (cn : Int32), cn = ca_sw (S 1) (nI k) i → ∀ (H : Heap) (locs : List Loc) (ls : Array Slot), ca_I D (ca_M h a d) (ca_TM d) A s H locs S → lv_has ls 4 [(0, .ref h), (1, .int (nI k)), (2, .int cn), (3, .int (nI i))] → W p l e (ca_r 1 21) s m args below meth c H locs 0 0 (ca_G D (ca_M h a d) (ca_TM d) (ca_shown (nI k) S) A below args s) (F0 m 14 ls []) := by
      intro nn
      induction nn using Nat.strongRecOn with
      | _ nn ih_14 =>
        intro i hnn hk_14 cn hcn H locs ls X hl
        refine lv_iload_n hx hb dX1_shown_14 rfl (lv_at hl 3 rfl) ?_
        refine lv_bipush (v := nI 16) hx hb dX1_shown_15 (by decide +kernel) ?_
        refine ca_geN (i := i) (n := 16) (tgt := 39) hx hb (by omega) (by omega) dX1_shown_17 (by decide) (fun c_17 => ?_) (fun c_17 => ?_)
        · skip
          obtain rfl : i = 16 := by omega
          refine lv_iload_n hx hb dX1_shown_39 rfl (lv_at hl 2 rfl) ?_
          exact ca_iret C X (⟨rfl, Or.inr ⟨⟨k, hk, rfl⟩, hcn⟩⟩) dX1_shown_40
        · skip
          refine lv_aload_n hx hb dX1_shown_20 rfl (lv_at hl 0 rfl) ?_
          refine ca_gM1 C rfl X dX1_shown_21 ?_
          refine lv_iload_n hx hb dX1_shown_24 rfl (lv_at hl 3 rfl) ?_
          refine ca_lM1 (j := i) (v := S 1 i) C X (by omega) rfl dX1_shown_25 ?_
          refine lv_iload_n hx hb dX1_shown_26 rfl (lv_at hl 1 rfl) ?_
          refine lv_icmp_ne (tgt := 33) hx hb dX1_shown_27 (by decide) (fun c_27 => ?_) (fun c_27 => ?_)
          · skip
            refine lv_iinc (v := nI (i + 1)) (lv' := [(3, .int (nI (i + 1))), (0, .ref h), (1, .int (nI k)), (2, .int cn)]) hx hb dX1_shown_33 hl (k := 3) rfl (ca_inc i) (by decide) rfl (fun ls hl => ?_)
            refine lv_goto (tgt := 14) hx hb dX1_shown_36 (by decide) ?_
            exact ih_14 (16 - (i + 1)) (by omega) (i + 1) rfl (by omega) cn (hcn.trans (ca_sw_f c_27)) _ _ _ X (lv_sub hl [1, 2, 3, 0] rfl)
          · skip
            refine lv_iinc (v := cn + 1) (lv' := [(2, .int (cn + 1)), (0, .ref h), (1, .int (nI k)), (3, .int (nI i))]) hx hb dX1_shown_30 hl (k := 2) rfl (ca_incV cn) (by decide) rfl (fun ls hl => ?_)
            refine lv_iinc (v := nI (i + 1)) (lv' := [(3, .int (nI (i + 1))), (2, .int (cn + 1)), (0, .ref h), (1, .int (nI k))]) hx hb dX1_shown_33 hl (k := 3) rfl (ca_inc i) (by decide) rfl (fun ls hl => ?_)
            refine lv_goto (tgt := 14) hx hb dX1_shown_36 (by decide) ?_
            exact ih_14 (16 - (i + 1)) (by omega) (i + 1) rfl (by omega) (cn + 1) (by rw [hcn]; exact ca_sw_t c_27) _ _ _ X (lv_sub hl [2, 3, 1, 0] rfl)
    exact loop_14 16 0 rfl (Nat.zero_le _) 0 rfl _ _ _ X (lv_sub hl [2, 3, 1, 0] rfl)
  · skip
    refine lv_if_ne (tgt := 10) hx hb dX1_shown_5 (by decide) (fun c_5 => absurd rfl c_5) (fun c_5 => ?_)
    refine lv_iconst (v := (-1)) hx hb dX1_shown_8 (by decide +kernel) ?_
    exact ca_iret C X (⟨rfl, Or.inl ⟨hbf, rfl⟩⟩) dX1_shown_9
set_option maxHeartbeats 4000000 in
set_option maxRecDepth 100000 in
theorem ca_cM_dirtyPages (l : Launch) (D : va_G) (h : Nat) (a : Nat → Nat) (d : Nat → ClassId) (S : ca_St) : ca_Met l yX1_dirtyPages cX1_dirtyPages 3 (some .int) (ca_r 0 0) D (ca_M h a d) (ca_TM d) [.ref h] S (fun r S' => S' = S ∧ r = ca_dp (S 4) 16) := by
  refine ca_start (by decide) (Nat.le_of_ble_eq_true rfl) ?_
  intro p e s m args below meth c A ls C X hl
  have hx := C.1
  have hb := C.2.1
  have hl : lv_has ls 3 [(0, .ref h)] := hl
  refine lv_iconst (v := nI 0) hx hb dX1_dirtyPages_0 (by decide +kernel) ?_
  refine lv_istore_n (lv' := [(1, .int (nI 0)), (0, .ref h)]) hx hb dX1_dirtyPages_1 rfl hl (by decide) rfl (fun ls hl => ?_)
  refine lv_iconst (v := nI 0) hx hb dX1_dirtyPages_2 (by decide +kernel) ?_
  refine lv_istore_n (lv' := [(2, .int (nI 0)), (1, .int (nI 0)), (0, .ref h)]) hx hb dX1_dirtyPages_3 rfl hl (by decide) rfl (fun ls hl => ?_)
  have loop_4 : ∀ (nn i : Nat), 16 - i = nn → i ≤ 16 → ∀ (cn : Int32), cn = ca_dp (S 4) i → ∀ (H : Heap) (locs : List Loc) (ls : Array Slot), ca_I D (ca_M h a d) (ca_TM d) A s H locs S → lv_has ls 3 [(0, .ref h), (1, .int cn), (2, .int (nI i))] → W p l e (ca_r 0 0) s m args below meth c H locs 0 0 (ca_G D (ca_M h a d) (ca_TM d) (fun r S' => S' = S ∧ r = ca_dp (S 4) 16) A below args s) (F0 m 4 ls []) := by
    intro nn
    induction nn using Nat.strongRecOn with
    | _ nn ih_4 =>
      intro i hnn hk_4 cn hcn H locs ls X hl
      refine lv_iload_n hx hb dX1_dirtyPages_4 rfl (lv_at hl 2 rfl) ?_
      refine lv_bipush (v := nI 16) hx hb dX1_dirtyPages_5 (by decide +kernel) ?_
      refine ca_geN (i := i) (n := 16) (tgt := 28) hx hb (by omega) (by omega) dX1_dirtyPages_7 (by decide) (fun c_7 => ?_) (fun c_7 => ?_)
      · skip
        obtain rfl : i = 16 := by omega
        refine lv_iload_n hx hb dX1_dirtyPages_28 rfl (lv_at hl 1 rfl) ?_
        exact ca_iret C X (⟨rfl, hcn⟩) dX1_dirtyPages_29
      · skip
        refine lv_aload_n hx hb dX1_dirtyPages_10 rfl (lv_at hl 0 rfl) ?_
        refine ca_gM4 C rfl X dX1_dirtyPages_11 ?_
        refine lv_iload_n hx hb dX1_dirtyPages_14 rfl (lv_at hl 2 rfl) ?_
        refine ca_lM4 (j := i) (v := S 4 i) C X (by omega) rfl dX1_dirtyPages_15 ?_
        refine lv_if_eq (tgt := 22) hx hb dX1_dirtyPages_16 (by decide) (fun c_16 => ?_) (fun c_16 => ?_)
        · skip
          refine lv_iinc (v := nI (i + 1)) (lv' := [(2, .int (nI (i + 1))), (0, .ref h), (1, .int cn)]) hx hb dX1_dirtyPages_22 hl (k := 2) rfl (ca_inc i) (by decide) rfl (fun ls hl => ?_)
          refine lv_goto (tgt := 4) hx hb dX1_dirtyPages_25 (by decide) ?_
          exact ih_4 (16 - (i + 1)) (by omega) (i + 1) rfl (by omega) cn (hcn.trans (ca_dp_t c_16)) _ _ _ X (lv_sub hl [1, 2, 0] rfl)
        · skip
          refine lv_iinc (v := cn + 1) (lv' := [(1, .int (cn + 1)), (0, .ref h), (2, .int (nI i))]) hx hb dX1_dirtyPages_19 hl (k := 1) rfl (ca_incV cn) (by decide) rfl (fun ls hl => ?_)
          refine lv_iinc (v := nI (i + 1)) (lv' := [(2, .int (nI (i + 1))), (1, .int (cn + 1)), (0, .ref h)]) hx hb dX1_dirtyPages_22 hl (k := 2) rfl (ca_inc i) (by decide) rfl (fun ls hl => ?_)
          refine lv_goto (tgt := 4) hx hb dX1_dirtyPages_25 (by decide) ?_
          exact ih_4 (16 - (i + 1)) (by omega) (i + 1) rfl (by omega) (cn + 1) (by rw [hcn]; exact ca_dp_f c_16) _ _ _ X (lv_sub hl [2, 1, 0] rfl)
  exact loop_4 16 0 rfl (Nat.zero_le _) 0 rfl _ _ _ X (lv_sub hl [2, 1, 0] rfl)
set_option maxHeartbeats 4000000 in
set_option maxRecDepth 100000 in
theorem ca_cM_flush (l : Launch) (D : va_G) (h : Nat) (a : Nat → Nat) (d : Nat → ClassId) (S : ca_St) : ca_MeV l yX1_flush cX1_flush 1 (ca_r 0 0) D (ca_M h a d) (ca_TM d) [.ref h] S (fun S' => S' = S) := by
  refine ca_startV (by decide) (Nat.le_of_ble_eq_true rfl) ?_
  intro p e s m args below meth c A ls C X hl
  have hx := C.1
  have hb := C.2.1
  have hl : lv_has ls 1 [(0, .ref h)] := hl
  exact ca_vret C X rfl dX1_flush_0
set_option maxHeartbeats 4000000 in
set_option maxRecDepth 100000 in
theorem ca_cM_forget (l : Launch) (D : va_G) (h : Nat) (a : Nat → Nat) (d : Nat → ClassId) (S : ca_St) (v : Int32) : ca_Met l yX1_forget cX1_forget 2 (some .int) (ca_r 1 21) D (ca_M h a d) (ca_TM d) [.ref h, .int v] S (ca_Mforget v S) := by
  refine ca_start (by decide) (Nat.le_of_ble_eq_true rfl) ?_
  intro p e s m args below meth c A ls C X hl
  have hx := C.1
  have hb := C.2.1
  have hl : lv_has ls 2 [(0, .ref h), (1, .int v)] := hl
  refine lv_aload_n hx hb dX1_forget_0 rfl (lv_at hl 0 rfl) ?_
  refine lv_iload_n hx hb dX1_forget_1 rfl (lv_at hl 1 rfl) ?_
  refine ca_calli (As := [.int v]) (rest := []) C (ca_cM_isPage l D h a d S v) (cwV 1 C.2.2.2.2.1 (lw_V q238 q240 qs14 q20 q241) rfl rfl rfl (by decide +kernel) ⟨Nat.le_of_ble_eq_true rfl, Nat.le_of_ble_eq_true rfl⟩) ca_rcM X rfl hl.1 rfl (Nat.le_of_ble_eq_true rfl) dX1_forget_2 ⟨Nat.le_refl _, Nat.le_refl _⟩ (fun r_2 S_2 H locs hp_2 X => ?_)
  obtain ⟨hS_2, hp_2⟩ := hp_2
  rw [hS_2] at X
  rcases hp_2 with ⟨rfl, j, hj, rfl⟩ | ⟨rfl, hbv⟩
  · skip
    refine lv_if_eq (tgt := 12) hx hb dX1_forget_5 (by decide) (fun c_5 => absurd c_5 (by decide +kernel)) (fun c_5 => ?_)
    refine lv_iconst (v := nI 0) hx hb dX1_forget_8 (by decide +kernel) ?_
    refine lv_goto (tgt := 13) hx hb dX1_forget_9 (by decide) ?_
    exact ca_iret C X (⟨rfl, Or.inr ⟨⟨j, hj, rfl⟩, rfl⟩⟩) dX1_forget_13
  · skip
    refine lv_if_eq (tgt := 12) hx hb dX1_forget_5 (by decide) (fun c_5 => ?_) (fun c_5 => absurd rfl c_5)
    refine lv_iconst (v := (-1)) hx hb dX1_forget_12 (by decide +kernel) ?_
    exact ca_iret C X (⟨rfl, Or.inl ⟨hbv, rfl⟩⟩) dX1_forget_13
set_option maxHeartbeats 4000000 in
set_option maxRecDepth 100000 in
theorem ca_cM_warm (l : Launch) (D : va_G) (h : Nat) (a : Nat → Nat) (d : Nat → ClassId) (S : ca_St) (f : Int32) : ca_Met l yX1_warm cX1_warm 2 (some .int) (ca_r 1 21) D (ca_M h a d) (ca_TM d) [.ref h, .int f] S (ca_Mwarm f S) := by
  refine ca_start (by decide) (Nat.le_of_ble_eq_true rfl) ?_
  intro p e s m args below meth c A ls C X hl
  have hx := C.1
  have hb := C.2.1
  have hl : lv_has ls 2 [(0, .ref h), (1, .int f)] := hl
  refine lv_aload_n hx hb dX1_warm_0 rfl (lv_at hl 0 rfl) ?_
  refine lv_iload_n hx hb dX1_warm_1 rfl (lv_at hl 1 rfl) ?_
  refine ca_calli (As := [.int f]) (rest := []) C (ca_cM_isNumber l D h a d S f) (cwV 1 C.2.2.2.2.1 (lw_V q242 q244 qs15 q20 q245) rfl rfl rfl (by decide +kernel) ⟨Nat.le_of_ble_eq_true rfl, Nat.le_of_ble_eq_true rfl⟩) ca_rcM X rfl hl.1 rfl (Nat.le_of_ble_eq_true rfl) dX1_warm_2 ⟨Nat.le_refl _, Nat.le_refl _⟩ (fun r_2 S_2 H locs hp_2 X => ?_)
  obtain ⟨hS_2, hp_2⟩ := hp_2
  rw [hS_2] at X
  rcases hp_2 with ⟨rfl, k, hk, rfl⟩ | ⟨rfl, hbf⟩
  · skip
    refine lv_if_eq (tgt := 12) hx hb dX1_warm_5 (by decide) (fun c_5 => absurd c_5 (by decide +kernel)) (fun c_5 => ?_)
    refine lv_iconst (v := nI 0) hx hb dX1_warm_8 (by decide +kernel) ?_
    refine lv_goto (tgt := 13) hx hb dX1_warm_9 (by decide) ?_
    exact ca_iret C X (⟨rfl, Or.inr ⟨⟨k, hk, rfl⟩, rfl⟩⟩) dX1_warm_13
  · skip
    refine lv_if_eq (tgt := 12) hx hb dX1_warm_5 (by decide) (fun c_5 => ?_) (fun c_5 => absurd rfl c_5)
    refine lv_iconst (v := (-1)) hx hb dX1_warm_12 (by decide +kernel) ?_
    exact ca_iret C X (⟨rfl, Or.inl ⟨hbf, rfl⟩⟩) dX1_warm_13
end
section
set_option maxRecDepth 100000
/-! THE CACHE AGAINST THE WORDS: m memory, n names, c changed, d data, W the model's words -/
theorem ca_inj {a b : Nat} (ha : a < 64) (hb : b < 64) (h : nI a = nI b) : a = b := (nI_eq (by omega) (by omega)).mp h
theorem ca_nm1 {t : Nat} (ht : t < 64) : ¬ nI t = -1 := fun h => nI_pos (n := t) (by omega) (by rw [h]; exact ca_m1)
theorem ca_nm2 {t : Nat} (ht : t < 64) : ¬ nI t = -2 := fun h => nI_pos (n := t) (by omega) (by rw [h]; exact ca_m2)
def ca_RC (m n c d W : Nat → Int32) : Prop := ca_N n ∧
  (∀ i i' : Nat, i < 16 → i' < 16 → n i = n i' → ¬ n i = -1 → i = i') ∧
  (∀ i : Nat, i < 16 → c i = 0 ∨ c i = 1) ∧
  (∀ i t : Nat, i < 16 → t < 16 → n i = nI t → ∀ w : Nat, w < 4 → W (t * 4 + w) = d (i * 4 + w) ∧ (c i = 0 → W (t * 4 + w) = m (t * 4 + w))) ∧
  (∀ t : Nat, t < 16 → (∀ i : Nat, i < 16 → ¬ n i = nI t) → ∀ w : Nat, w < 4 → W (t * 4 + w) = m (t * 4 + w))
/-- a line written back -/
theorem ca_RC_wb {m n c d W m' c' : Nat → Int32} (h : ca_RC m n c d W) {j t : Nat} (hj : j < 16) (ht : t < 16) (hn : n j = nI t) (hm1 : ∀ w : Nat, w < 4 → m' (t * 4 + w) = d (j * 4 + w)) (hm2 : ∀ t' w : Nat, t' ≠ t → w < 4 → m' (t' * 4 + w) = m (t' * 4 + w)) (hc1 : c' j = 0) (hc2 : ∀ i : Nat, i ≠ j → c' i = c i) : ca_RC m' n c' d W := by
  obtain ⟨h1, h2, h3, h4, h5⟩ := h
  have hn1 : ¬ n j = -1 := by rw [hn]; exact ca_nm1 (by omega)
  refine ⟨h1, h2, fun i hi => ?_, fun i t' hi ht' e w hw => ⟨(h4 i t' hi ht' e w hw).1, fun hc => ?_⟩, fun t' ht' e w hw => ?_⟩
  · by_cases q : i = j
    · exact Or.inl (by rw [q]; exact hc1)
    · rw [hc2 i q]; exact h3 i hi
  · by_cases q : t' = t
    · subst q
      have e2 : j = i := h2 j i hj hi (by rw [hn, e]) hn1
      subst e2
      rw [hm1 w hw]
      exact (h4 j t' hj ht' hn w hw).1
    · have q2 : i ≠ j := by
        intro q3
        rw [q3, hn] at e
        exact q (ca_inj (by omega) (by omega) e.symm)
      rw [hm2 t' w q hw]
      rw [hc2 i q2] at hc
      exact (h4 i t' hi ht' e w hw).2 hc
  · have q : t' ≠ t := by
      intro q
      exact e j hj (by rw [hn, q])
    rw [hm2 t' w q hw]
    exact h5 t' ht' e w hw
/-- a line that is clean, or empty, dropped -/
theorem ca_RC_dr {m n c d W n' : Nat → Int32} (h : ca_RC m n c d W) {j : Nat} (hj : j < 16) (hc : n j < 0 ∨ c j = 0) (hn1 : n' j = -1) (hn2 : ∀ i : Nat, i ≠ j → n' i = n i) : ca_RC m n' c d W := by
  obtain ⟨h1, h2, h3, h4, h5⟩ := h
  have hneg : (-1 : Int32) ≠ nI 0 := by decide +kernel
  refine ⟨fun i hi => ?_, fun i i' hi hi' e ne => ?_, h3, fun i t hi ht e w hw => ?_, fun t ht e w hw => ?_⟩
  · by_cases q : i = j
    · exact Or.inl (by rw [q]; exact hn1)
    · rw [hn2 i q]; exact h1 i hi
  · have q : i ≠ j := fun q => ne (by rw [q]; exact hn1)
    have q' : i' ≠ j := fun q => ne (by rw [e, q]; exact hn1)
    rw [hn2 i q, hn2 i' q'] at e
    rw [hn2 i q] at ne
    exact h2 i i' hi hi' e ne
  · have q : i ≠ j := by
      intro q
      rw [q, hn1] at e
      exact ca_nm1 (t := t) (by omega) e.symm
    rw [hn2 i q] at e
    exact h4 i t hi ht e w hw
  · by_cases q : n j = nI t
    · have hc0 : c j = 0 := by
        rcases hc with hc | hc
        · rw [q] at hc
          exact absurd hc (nI_pos (by omega))
        · exact hc
      exact (h4 j t hj ht q w hw).2 hc0
    · refine h5 t ht (fun i hi => ?_) w hw
      by_cases q2 : i = j
      · rw [q2]; exact q
      · rw [← hn2 i q2]; exact e i hi
/-- a line's contents moved to an empty line -/
theorem ca_RC_mv {m n c d W n' c' d' : Nat → Int32} (h : ca_RC m n c d W) {q b t : Nat} (hq : q < 16) (hb : b < 16) (ht : t < 16) (hqb : ¬ q = b) (hnq : n q = -1) (hnb : n b = nI t) (hp : t % 2 = q / 2 % 2) (hn1 : n' q = nI t) (hn2 : n' b = -1) (hn3 : ∀ i : Nat, i ≠ q → i ≠ b → n' i = n i) (hc1 : c' q = c b) (hc2 : ∀ i : Nat, i ≠ q → c' i = c i) (hd1 : ∀ w : Nat, w < 4 → d' (q * 4 + w) = d (b * 4 + w)) (hd2 : ∀ i w : Nat, i ≠ q → w < 4 → d' (i * 4 + w) = d (i * 4 + w)) : ca_RC m n' c' d' W := by
  obtain ⟨h1, h2, h3, h4, h5⟩ := h
  have hb1 : ¬ n b = -1 := by rw [hnb]; exact ca_nm1 (by omega)
  refine ⟨fun i hi => ?_, fun i i' hi hi' e ne => ?_, fun i hi => ?_, fun i t' hi ht' e w hw => ?_, fun t' ht' e w hw => ?_⟩
  · by_cases e1 : i = q
    · exact Or.inr ⟨t, ht, by rw [e1]; exact hn1, by rw [e1]; exact hp⟩
    · by_cases e2 : i = b
      · exact Or.inl (by rw [e2]; exact hn2)
      · rw [hn3 i e1 e2]; exact h1 i hi
  · have ib : i ≠ b := fun z => ne (by rw [z]; exact hn2)
    have ib' : i' ≠ b := fun z => ne (by rw [e, z]; exact hn2)
    by_cases e1 : i = q
    · by_cases e2 : i' = q
      · rw [e1, e2]
      · exfalso
        rw [e1, hn1, hn3 i' e2 ib'] at e
        exact ib' (h2 b i' hb hi' (by rw [hnb, e]) hb1).symm
    · by_cases e2 : i' = q
      · exfalso
        rw [e2, hn1, hn3 i e1 ib] at e
        exact ib (h2 b i hb hi (by rw [hnb, e]) hb1).symm
      · rw [hn3 i e1 ib, hn3 i' e2 ib'] at e
        rw [hn3 i e1 ib] at ne
        exact h2 i i' hi hi' e ne
  · by_cases e1 : i = q
    · rw [e1, hc1]; exact h3 b hb
    · rw [hc2 i e1]; exact h3 i hi
  · have ib : i ≠ b := by
      intro z
      rw [z, hn2] at e
      exact ca_nm1 (t := t') (by omega) e.symm
    by_cases e1 : i = q
    · subst e1
      rw [hn1] at e
      have e2 : t = t' := ca_inj (by omega) (by omega) e
      subst e2
      rw [hd1 w hw, hc1]
      exact h4 b t hb ht hnb w hw
    · rw [hn3 i e1 ib] at e
      rw [hd2 i w e1 hw, hc2 i e1]
      exact h4 i t' hi ht' e w hw
  · refine h5 t' ht' (fun i hi z => ?_) w hw
    by_cases e1 : i = q
    · rw [e1, hnq] at z
      exact ca_nm1 (t := t') (by omega) z.symm
    · by_cases e2 : i = b
      · rw [e2, hnb] at z
        exact e q hq (by rw [hn1, z])
      · exact e i hi (by rw [hn3 i e1 e2, z])
/-- an empty line filled from memory -/
theorem ca_RC_fl {m n c d W n' c' d' : Nat → Int32} (h : ca_RC m n c d W) {q t : Nat} (hq : q < 16) (ht : t < 16) (hnq : n q = -1) (hnt : ∀ i : Nat, i < 16 → ¬ n i = nI t) (hp : t % 2 = q / 2 % 2) (hn1 : n' q = nI t) (hn3 : ∀ i : Nat, i ≠ q → n' i = n i) (hc1 : c' q = 0) (hc2 : ∀ i : Nat, i ≠ q → c' i = c i) (hd1 : ∀ w : Nat, w < 4 → d' (q * 4 + w) = m (t * 4 + w)) (hd2 : ∀ i w : Nat, i ≠ q → w < 4 → d' (i * 4 + w) = d (i * 4 + w)) : ca_RC m n' c' d' W := by
  obtain ⟨h1, h2, h3, h4, h5⟩ := h
  refine ⟨fun i hi => ?_, fun i i' hi hi' e ne => ?_, fun i hi => ?_, fun i t' hi ht' e w hw => ?_, fun t' ht' e w hw => ?_⟩
  · by_cases e1 : i = q
    · exact Or.inr ⟨t, ht, by rw [e1]; exact hn1, by rw [e1]; exact hp⟩
    · rw [hn3 i e1]; exact h1 i hi
  · by_cases e1 : i = q
    · by_cases e2 : i' = q
      · rw [e1, e2]
      · exfalso
        rw [e1, hn1, hn3 i' e2] at e
        exact hnt i' hi' e.symm
    · by_cases e2 : i' = q
      · exfalso
        rw [e2, hn1, hn3 i e1] at e
        exact hnt i hi e
      · rw [hn3 i e1, hn3 i' e2] at e
        rw [hn3 i e1] at ne
        exact h2 i i' hi hi' e ne
  · by_cases e1 : i = q
    · rw [e1, hc1]; exact Or.inl rfl
    · rw [hc2 i e1]; exact h3 i hi
  · by_cases e1 : i = q
    · subst e1
      rw [hn1] at e
      have e2 : t = t' := ca_inj (by omega) (by omega) e
      subst e2
      rw [hd1 w hw]
      exact ⟨h5 t ht hnt w hw, fun _ => h5 t ht hnt w hw⟩
    · rw [hn3 i e1] at e
      rw [hd2 i w e1 hw, hc2 i e1]
      exact h4 i t' hi ht' e w hw
  · refine h5 t' ht' (fun i hi z => ?_) w hw
    by_cases e1 : i = q
    · rw [e1, hnq] at z
      exact ca_nm1 (t := t') (by omega) z.symm
    · exact e i hi (by rw [hn3 i e1, z])
/-- a word stored through a line -/
theorem ca_RC_st {m n c d W : Nat → Int32} (h : ca_RC m n c d W) {i t w : Nat} (x : Int32) (hi : i < 16) (ht : t < 16) (hw : w < 4) (hn : n i = nI t) : ca_RC m n (upd c i 1) (upd d (i * 4 + w) x) (upd W (t * 4 + w) x) := by
  obtain ⟨h1, h2, h3, h4, h5⟩ := h
  have hi1 : ¬ n i = -1 := by rw [hn]; exact ca_nm1 (by omega)
  refine ⟨h1, h2, fun i' hi' => ?_, fun i' t' hi' ht' e w' hw' => ?_, fun t' ht' e w' hw' => ?_⟩
  · by_cases e1 : i' = i
    · rw [e1]; exact Or.inr pk_us
    · rw [pk_un e1]; exact h3 i' hi'
  · by_cases e1 : i' = i
    · subst e1
      have e2 : t = t' := by
        rw [hn] at e
        exact ca_inj (by omega) (by omega) e
      subst e2
      refine ⟨?_, fun z => ?_⟩
      · by_cases e3 : w' = w
        · rw [e3, pk_us, pk_us]
        · rw [pk_un (by omega), pk_un (by omega)]
          exact (h4 i' t hi' ht hn w' hw').1
      · rw [pk_us] at z
        exact absurd z (by decide +kernel)
    · have e2 : t' ≠ t := by
        intro z
        exact e1 (h2 i' i hi' hi (by rw [e, hn, z]) (by rw [e]; exact ca_nm1 (by omega)))
      rw [pk_un (f := W) (by omega), pk_un (f := d) (by omega), pk_un (f := c) e1]
      exact h4 i' t' hi' ht' e w' hw'
  · have e2 : t' ≠ t := by
      intro z
      exact e i hi (by rw [hn, z])
    rw [pk_un (by omega)]
    exact h5 t' ht' e w' hw'
/-- a word written to memory, its line not in the cache -/
theorem ca_RC_me {m n c d W : Nat → Int32} (h : ca_RC m n c d W) {t w : Nat} (x : Int32) (ht : t < 16) (hw : w < 4) (hn : ∀ i : Nat, i < 16 → ¬ n i = nI t) : ca_RC (upd m (t * 4 + w) x) n c d (upd W (t * 4 + w) x) := by
  obtain ⟨h1, h2, h3, h4, h5⟩ := h
  refine ⟨h1, h2, h3, fun i' t' hi' ht' e w' hw' => ?_, fun t' ht' e w' hw' => ?_⟩
  · have e2 : t' ≠ t := fun z => hn i' hi' (by rw [e, z])
    rw [pk_un (f := W) (by omega), pk_un (f := m) (by omega)]
    exact h4 i' t' hi' ht' e w' hw'
  · by_cases e1 : t' * 4 + w' = t * 4 + w
    · rw [e1, pk_us, pk_us]
    · rw [pk_un e1, pk_un e1]
      exact h5 t' ht' e w' hw'
/-- a frame copied in memory -/
theorem ca_RC_cp {m n c d W m' W' : Nat → Int32} (h : ca_RC m n c d W) {f g : Nat} (hf : f < 8) (hg : g < 8) (hn : ∀ e : Nat, e < 2 → ∀ i : Nat, i < 16 → ¬ n i = nI (f * 2 + e)) (hu : ∀ e : Nat, e < 2 → ∀ w : Nat, w < 4 → W ((g * 2 + e) * 4 + w) = m ((g * 2 + e) * 4 + w)) (hm1 : ∀ e w : Nat, e < 2 → w < 4 → m' ((f * 2 + e) * 4 + w) = m ((g * 2 + e) * 4 + w)) (hm2 : ∀ t w : Nat, w < 4 → t / 2 ≠ f → m' (t * 4 + w) = m (t * 4 + w)) (hW1 : ∀ e w : Nat, e < 2 → w < 4 → W' ((f * 2 + e) * 4 + w) = W ((g * 2 + e) * 4 + w)) (hW2 : ∀ t w : Nat, w < 4 → t / 2 ≠ f → W' (t * 4 + w) = W (t * 4 + w)) : ca_RC m' n c d W' := by
  obtain ⟨h1, h2, h3, h4, h5⟩ := h
  refine ⟨h1, h2, h3, fun i' t' hi' ht' e w' hw' => ?_, fun t' ht' e w' hw' => ?_⟩
  · have e2 : t' / 2 ≠ f := by
      intro z
      refine hn (t' % 2) (by omega) i' hi' ?_
      rw [e]
      congr 1
      omega
    rw [hW2 t' w' hw' e2, hm2 t' w' hw' e2]
    exact h4 i' t' hi' ht' e w' hw'
  · by_cases e2 : t' / 2 = f
    · have e3 : t' = f * 2 + t' % 2 := by omega
      rw [e3, hW1 _ _ (by omega) hw', hm1 _ _ (by omega) hw']
      exact hu _ (by omega) w' hw'
    · rw [hW2 t' w' hw' e2, hm2 t' w' hw' e2]
      exact h5 t' ht' e w' hw'
end
section
set_option maxRecDepth 100000
/-! THE RELATION between VipCache's table S and the model's M -/
def ca_RP (f w u d f' w' u' d' : Nat → Int32) : Prop := (∀ v : Nat, v < 16 → f' v = f v) ∧ ca_F f ∧ (∀ v : Nat, v < 16 → ¬ f v = -2 → w' v = w v) ∧ (∀ v : Nat, v < 16 → w v = 0 ∨ w v = 1) ∧ (∀ v : Nat, v < 16 → u' v = u v) ∧ (∀ v : Nat, v < 16 → d' v = d v) ∧ (∀ v : Nat, v < 16 → d v = 0 ∨ d v = 1)
def ca_RT (p f w d fr wr us di : Nat → Int32) : Prop := ∀ e : Nat, e < 4 → p e = -1 ∨ ∃ v : Nat, v < 16 ∧ p e = nI v ∧ f e = fr v ∧ ¬ fr v = -2 ∧ w e = wr v ∧ (¬ d e = 0 → di v = 1) ∧ us v = 1
def ca_R (S M : ca_St) : Prop := ca_RP (S 1) (S 2) (S 3) (S 4) (M 1) (M 2) (M 3) (M 4) ∧ ca_RC (S 0) (S 6) (S 7) (S 9) (M 0) ∧ ca_RT (S 10) (S 11) (S 12) (S 13) (S 1) (S 2) (S 3) (S 4) ∧ M 5 0 = S 15 0
theorem ca_R_N {S M : ca_St} (h : ca_R S M) : ca_N (S 6) := h.2.1.1
theorem ca_R_F {S M : ca_St} (h : ca_R S M) : ca_F (S 1) := h.1.2.1
theorem ca_R_FM {S M : ca_St} (h : ca_R S M) : ca_F (M 1) := fun j hj => by
  rw [h.1.1 j hj]; exact h.1.2.1 j hj
theorem ca_R_E {S M : ca_St} (h : ca_R S M) : ca_E S := by
  intro q hq j hj e
  rcases h.2.2.1 q hq with e1 | ⟨v, hv, e1, e2, e3, -⟩
  · rw [e1] at e
    exact absurd e.symm (ca_nm1 (by omega))
  · obtain ⟨k, hk, e4⟩ := ca_F_ne h.1.2.1 hv e3
    exact ⟨k, hk, by rw [e2, e4]⟩
theorem ca_F_lt {f : Nat → Int32} (h : ca_F f) {j : Nat} (hj : j < 16) (h0 : f j < 0) : f j = -2 := by
  rcases h j hj with e | ⟨k, hk, e⟩
  · exact e
  · rw [e] at h0
    exact absurd h0 (nI_pos (by omega))
theorem ca_F_nlt {f : Nat → Int32} {j : Nat} (h0 : ¬ f j < 0) : ¬ f j = -2 := fun e => h0 (by rw [e]; exact ca_m2)
/-! shoot -/
theorem ca_sh_at (v : Int32) (S : ca_St) (n k i : Nat) : ca_sh v S n k i = if k = 10 ∧ i < n ∧ S 10 i = v then -1 else S k i := by
  induction n generalizing k i with
  | zero =>
    rw [if_neg (by omega)]
    rfl
  | succ n ih =>
    by_cases c : ca_sh v S n 10 n = v
    · rw [← ca_sh_t c, ca_wr_at, ih]
      rw [ih, if_neg (by omega)] at c
      by_cases e : k = 10 ∧ i = n
      · obtain ⟨rfl, rfl⟩ := e
        rw [if_pos ⟨rfl, rfl⟩, if_pos ⟨rfl, by omega, c⟩]
      · rw [if_neg e]
        by_cases e2 : k = 10 ∧ i < n ∧ S 10 i = v
        · rw [if_pos e2, if_pos ⟨e2.1, by omega, e2.2.2⟩]
        · rw [if_neg e2, if_neg (fun z => e2 ⟨z.1, by omega, z.2.2⟩)]
    · rw [← ca_sh_f c, ih]
      rw [ih, if_neg (by omega)] at c
      by_cases e2 : k = 10 ∧ i < n ∧ S 10 i = v
      · rw [if_pos e2, if_pos ⟨e2.1, by omega, e2.2.2⟩]
      · rw [if_neg e2, if_neg]
        intro z
        by_cases e3 : i = n
        · rw [e3] at z; exact c z.2.2
        · exact e2 ⟨z.1, by omega, z.2.2⟩
theorem ca_sh_o (v : Int32) (S : ca_St) (n : Nat) {k : Nat} (hk : k ≠ 10) : ca_sh v S n k = S k := by
  funext i
  rw [ca_sh_at, if_neg (fun z => hk z.1)]
/-- the entries of a page dropped: whatever became of the page itself -/
theorem ca_RT_sh {S : ca_St} {f w d fr wr us di fr' wr' us' di' : Nat → Int32} {j : Nat} (h : ca_RT (S 10) f w d fr wr us di) (hk : ∀ v : Nat, v ≠ j → fr' v = fr v ∧ wr' v = wr v ∧ us' v = us v ∧ di' v = di v) : ca_RT (ca_sh (nI j) S 4 10) f w d fr' wr' us' di' := by
  intro e he
  rw [ca_sh_at]
  by_cases c : S 10 e = nI j
  · exact Or.inl (by rw [if_pos ⟨rfl, he, c⟩])
  · rw [if_neg (fun z => c z.2.2)]
    rcases h e he with e1 | ⟨v, hv, e1, e2, e3, e4, e5, e6⟩
    · exact Or.inl e1
    · have hvj : v ≠ j := fun z => c (by rw [e1, z])
      obtain ⟨k1, k2, k3, k4⟩ := hk v hvj
      exact Or.inr ⟨v, hv, e1, by rw [k1]; exact e2, by rw [k1]; exact e3, by rw [k2]; exact e4, by rw [k4]; exact e5, by rw [k3]; exact e6⟩
/-- a table T shot: the relation of T's fields, the entries from before -/
theorem ca_R_sh {S T M M' : ca_St} {j : Nat} (h : ca_R S M) (hP : ca_RP (T 1) (T 2) (T 3) (T 4) (M' 1) (M' 2) (M' 3) (M' 4)) (h0 : T 0 = S 0) (h6 : T 6 = S 6) (h7 : T 7 = S 7) (h9 : T 9 = S 9) (h10 : T 10 = S 10) (h11 : T 11 = S 11) (h12 : T 12 = S 12) (h13 : T 13 = S 13) (h15 : T 15 = S 15) (m0 : M' 0 = M 0) (m5 : M' 5 = M 5) (hk : ∀ v : Nat, v ≠ j → T 1 v = S 1 v ∧ T 2 v = S 2 v ∧ T 3 v = S 3 v ∧ T 4 v = S 4 v) : ca_R (ca_sh (nI j) T 4) M' := by
  obtain ⟨-, hC, hT, hO⟩ := h
  refine ⟨?_, ?_, ?_, ?_⟩
  · rw [ca_sh_o _ _ _ (by decide), ca_sh_o _ _ _ (by decide), ca_sh_o _ _ _ (by decide), ca_sh_o _ _ _ (by decide)]
    exact hP
  · rw [ca_sh_o _ _ _ (by decide), ca_sh_o _ _ _ (by decide), ca_sh_o _ _ _ (by decide), ca_sh_o _ _ _ (by decide), h0, h6, h7, h9, m0]
    exact hC
  · rw [ca_sh_o (k := 11) _ _ _ (by decide), ca_sh_o (k := 12) _ _ _ (by decide), ca_sh_o (k := 13) _ _ _ (by decide), ca_sh_o (k := 1) _ _ _ (by decide), ca_sh_o (k := 2) _ _ _ (by decide), ca_sh_o (k := 3) _ _ _ (by decide), ca_sh_o (k := 4) _ _ _ (by decide), h11, h12, h13]
    exact ca_RT_sh (S := T) (by rw [h10]; exact hT) hk
  · rw [ca_sh_o _ _ _ (by decide), h15, m5]
    exact hO
/-! writing back, dropping -/
theorem ca_wb_o (S : ca_St) (j : Nat) {k : Nat} (h0 : k ≠ 0) (h7 : k ≠ 7) : ca_wb S j k = S k := by
  funext i
  unfold ca_wb
  split
  · rfl
  · rw [ca_wr_at, if_neg (fun z => h7 z.1), ca_cp_at, if_neg (fun z => h0 z.1)]
theorem ca_RC_wbS {S : ca_St} {W : Nat → Int32} (h : ca_RC (S 0) (S 6) (S 7) (S 9) W) {j : Nat} (hj : j < 16) : ca_RC (ca_wb S j 0) (ca_wb S j 6) (ca_wb S j 7) (ca_wb S j 9) W ∧ (S 6 j < 0 ∨ ca_wb S j 7 j = 0) ∧ (∀ i : Nat, i ≠ j → ca_wb S j 7 i = S 7 i) ∧ (∀ t : Nat, t < 16 → (∀ w : Nat, w < 4 → W (t * 4 + w) = S 0 (t * 4 + w)) → ∀ w : Nat, w < 4 → W (t * 4 + w) = ca_wb S j 0 (t * 4 + w)) := by
  by_cases c1 : S 6 j < 0
  · rw [← ca_wb_n c1]
    exact ⟨h, Or.inl c1, fun _ _ => rfl, fun _ _ z => z⟩
  · by_cases c2 : S 7 j = 0
    · rw [← ca_wb_c c2]
      exact ⟨h, Or.inr c2, fun _ _ => rfl, fun _ _ z => z⟩
    · obtain ⟨t, ht, hn⟩ := (ca_N_neg h.1 hj).resolve_left c1
      rw [← ca_wb_w ht hn c2]
      have hm1 : ∀ w : Nat, w < 4 → ca_wr (ca_cp S 0 (t * 4) 9 (j * 4) 4) 7 j 0 0 (t * 4 + w) = S 9 (j * 4 + w) := by
        intro w hw
        rw [ca_wr_at, if_neg (by omega), ca_cp_at, if_pos ⟨rfl, by omega, by omega⟩]
        congr 1
        omega
      have hm2 : ∀ t' w : Nat, t' ≠ t → w < 4 → ca_wr (ca_cp S 0 (t * 4) 9 (j * 4) 4) 7 j 0 0 (t' * 4 + w) = S 0 (t' * 4 + w) := by
        intro t' w h1 h2
        rw [ca_wr_at, if_neg (by omega), ca_cp_at, if_neg (by omega)]
      have hc1 : ca_wr (ca_cp S 0 (t * 4) 9 (j * 4) 4) 7 j 0 7 j = 0 := by rw [ca_wr_at, if_pos ⟨rfl, rfl⟩]
      have hc2 : ∀ i : Nat, i ≠ j → ca_wr (ca_cp S 0 (t * 4) 9 (j * 4) 4) 7 j 0 7 i = S 7 i := by
        intro i hi
        rw [ca_wr_at, if_neg (fun z => hi z.2), ca_cp_at, if_neg (by omega)]
      refine ⟨ca_RC_wb h hj ht hn hm1 hm2 hc1 hc2, Or.inr hc1, hc2, fun t' ht' z w hw => ?_⟩
      by_cases e : t' = t
      · rw [e, hm1 w hw]
        exact (h.2.2.2.1 j t hj ht hn w hw).1
      · rw [hm2 t' w e hw]
        exact z w hw
theorem ca_RC_drS {S : ca_St} {W : Nat → Int32} (h : ca_RC (S 0) (S 6) (S 7) (S 9) W) {j : Nat} (hj : j < 16) : ca_RC (ca_dr S j 0) (ca_dr S j 6) (ca_dr S j 7) (ca_dr S j 9) W := by
  obtain ⟨h1, h2, -, -⟩ := ca_RC_wbS h hj
  have h2 : ca_wb S j 6 j < 0 ∨ ca_wb S j 7 j = 0 := by rw [ca_wb6]; exact h2
  exact ca_RC_dr (n' := upd (ca_wb S j 6) j (-1)) h1 hj h2 pk_us (fun i hi => pk_un hi)
theorem ca_dr_o (S : ca_St) (j : Nat) {k : Nat} (h0 : k ≠ 0) (h6 : k ≠ 6) (h7 : k ≠ 7) : ca_dr S j k = S k := by
  rw [← ca_wb_o S j h0 h7]
  funext i
  rw [ca_dr, ca_wr_at, if_neg (fun z => h6 z.1)]
theorem ca_dr_6 (S : ca_St) (j : Nat) : ca_dr S j 6 = upd (S 6) j (-1) := by
  show upd (ca_wb S j 6) j (-1) = _
  rw [ca_wb6]
theorem ca_R_wb {S M : ca_St} (h : ca_R S M) {j : Nat} (hj : j < 16) : ca_R (ca_wb S j) M := by
  obtain ⟨h1, h2, h3, h4⟩ := h
  refine ⟨?_, (ca_RC_wbS h2 hj).1, ?_, ?_⟩
  · rw [ca_wb_o S j (k := 1) (by decide) (by decide), ca_wb_o S j (k := 2) (by decide) (by decide), ca_wb_o S j (k := 3) (by decide) (by decide), ca_wb_o S j (k := 4) (by decide) (by decide)]
    exact h1
  · rw [ca_wb_o S j (k := 1) (by decide) (by decide), ca_wb_o S j (k := 2) (by decide) (by decide), ca_wb_o S j (k := 3) (by decide) (by decide), ca_wb_o S j (k := 4) (by decide) (by decide), ca_wb_o S j (k := 10) (by decide) (by decide), ca_wb_o S j (k := 11) (by decide) (by decide), ca_wb_o S j (k := 12) (by decide) (by decide), ca_wb_o S j (k := 13) (by decide) (by decide)]
    exact h3
  · rw [ca_wb_o S j (k := 15) (by decide) (by decide)]
    exact h4
theorem ca_R_dr {S M : ca_St} (h : ca_R S M) {j : Nat} (hj : j < 16) : ca_R (ca_dr S j) M := by
  obtain ⟨h1, h2, h3, h4⟩ := ca_R_wb h hj
  exact ⟨h1, ca_RC_drS h.2.1 hj, h3, h4⟩
theorem ca_R_fu {S M : ca_St} (h : ca_R S M) : ∀ n : Nat, n ≤ 16 → ca_R (ca_fu S n) M
  | 0, _ => h
  | n + 1, hn => ca_R_dr (ca_R_fu h n (by omega)) (by omega)
/-- the name t is in no line -/
def ca_NC (S : ca_St) (t : Nat) : Prop := ∀ i : Nat, i < 16 → ¬ S 6 i = nI t
/-- the memory of the name t is up to date -/
def ca_UP (S M : ca_St) (t : Nat) : Prop := ∀ w : Nat, w < 4 → M 0 (t * 4 + w) = S 0 (t * 4 + w)
theorem ca_NC_of {S : ca_St} {t : Nat} (hN : ca_N (S 6)) (ht : t < 16) (h : ∀ q : Nat, q < 16 → q / 2 % 2 = t % 2 → ¬ S 6 q = nI t) : ca_NC S t := by
  intro i hi e
  rcases hN i hi with z | ⟨t', ht', z, hp⟩
  · rw [z] at e
    exact ca_nm1 (by omega) e.symm
  · rw [z] at e
    have e2 : t' = t := ca_inj (by omega) (by omega) e
    subst e2
    exact h i hi hp.symm z
theorem ca_NC_wb {S : ca_St} {t j : Nat} (h : ca_NC S t) : ca_NC (ca_wb S j) t := by
  intro i hi
  rw [ca_wb6]; exact h i hi
theorem ca_NC_dr {S : ca_St} {t j : Nat} (ht : t < 16) (h : ca_NC S t) : ca_NC (ca_dr S j) t := by
  intro i hi
  rw [ca_dr_6]
  by_cases e : i = j
  · rw [e, pk_us]
    exact fun z => ca_nm1 (t := t) (by omega) z.symm
  · rw [pk_un e]; exact h i hi
theorem ca_UP_wb {S M : ca_St} {t j : Nat} (hR : ca_R S M) (hj : j < 16) (ht : t < 16) (h : ca_UP S M t) : ca_UP (ca_wb S j) M t := (ca_RC_wbS hR.2.1 hj).2.2.2 t ht h
theorem ca_UP_dr {S M : ca_St} {t j : Nat} (hR : ca_R S M) (hj : j < 16) (ht : t < 16) (h : ca_UP S M t) : ca_UP (ca_dr S j) M t := ca_UP_wb hR hj ht h
theorem ca_S0_sim {S S' M : ca_St} {t : Nat} (hR : ca_R S M) (ht : t < 16) (h : ca_S0 S t S') : ca_R S' M ∧ ca_UP S' M t ∧ (∀ t' : Nat, t' < 16 → ca_UP S M t' → ca_UP S' M t') ∧ (∀ t' : Nat, t' < 16 → ca_NC S t' → ca_NC S' t') := by
  rcases h with ⟨q, hq, hp, e, rfl⟩ | ⟨hn, rfl⟩
  · refine ⟨ca_R_wb hR hq, ?_, fun t' ht' => ca_UP_wb hR hq ht', fun t' ht' => ca_NC_wb⟩
    obtain ⟨h1, h2, -, -⟩ := ca_RC_wbS hR.2.1 hq
    have h2 : ca_wb S q 7 q = 0 := by
      rcases h2 with z | z
      · rw [e] at z
        exact absurd z (nI_pos (by omega))
      · exact z
    intro w hw
    exact (h1.2.2.2.1 q t hq ht (by rw [ca_wb6]; exact e) w hw).2 h2
  · exact ⟨hR, hR.2.1.2.2.2.2 t ht (ca_NC_of hR.2.1.1 ht hn), fun _ _ z => z, fun _ _ z => z⟩
theorem ca_S1_sim {S S' M : ca_St} {t : Nat} (hR : ca_R S M) (ht : t < 16) (h : ca_S1 S t S') : ca_R S' M ∧ ca_NC S' t ∧ (∀ t' : Nat, t' < 16 → ca_UP S M t' → ca_UP S' M t') ∧ (∀ t' : Nat, t' < 16 → ca_NC S t' → ca_NC S' t') := by
  rcases h with ⟨q, hq, hp, e, rfl⟩ | ⟨hn, rfl⟩
  · refine ⟨ca_R_dr hR hq, ?_, fun t' ht' => ca_UP_dr hR hq ht', fun t' ht' => ca_NC_dr ht'⟩
    intro i hi
    rw [ca_dr_6]
    by_cases z : i = q
    · rw [z, pk_us]
      exact fun z => ca_nm1 (t := t) (by omega) z.symm
    · rw [pk_un z]
      intro z2
      exact z (hR.2.1.2.1 i q hi hq (by rw [z2, e]) (by rw [z2]; exact ca_nm1 (by omega)))
  · exact ⟨hR, ca_NC_of hR.2.1.1 ht hn, fun _ _ z => z, fun _ _ z => z⟩
end
section
set_option maxRecDepth 100000
/-! bring -/
theorem ca_nar {x : Int32} (h : x = 0 ∨ x = 1) : vp_nar .boolean x = x := by
  rcases h with rfl | rfl
  · exact ca_n0
  · exact ca_n1
theorem ca_RC_mvS {S : ca_St} {W : Nat → Int32} (h : ca_RC (S 0) (S 6) (S 7) (S 9) W) {q b t : Nat} (hq : q < 16) (hb : b < 16) (ht : t < 16) (hqb : ¬ q = b) (hb6 : S 6 b = nI t) (hp : t % 2 = q / 2 % 2) : ca_RC (ca_mv S q b t 0) (ca_mv S q b t 6) (ca_mv S q b t 7) (ca_mv S q b t 9) W := by
  have h2 : ca_RC (ca_dr (ca_tick S) q 0) (ca_dr (ca_tick S) q 6) (ca_dr (ca_tick S) q 7) (ca_dr (ca_tick S) q 9) W := ca_RC_drS (S := ca_tick S) h hq
  have e6 : ca_dr (ca_tick S) q 6 = upd (S 6) q (-1) := ca_dr_6 (ca_tick S) q
  have hbq : b ≠ q := fun z => hqb z.symm
  have hnq : ca_dr (ca_tick S) q 6 q = -1 := by rw [e6]; exact pk_us
  have hnb : ca_dr (ca_tick S) q 6 b = nI t := by rw [e6, pk_un hbq]; exact hb6
  have hcb : vp_nar .boolean (ca_dr (ca_tick S) q 7 b) = ca_dr (ca_tick S) q 7 b := ca_nar (h2.2.2.1 b hb)
  refine ca_RC_mv h2 hq hb ht hqb hnq hnb hp (n' := ca_mv S q b t 6) (c' := ca_mv S q b t 7) (d' := ca_mv S q b t 9) ?_ ?_ ?_ ?_ ?_ ?_ ?_
  · show upd (upd (ca_dr (ca_tick S) q 6) b (-1)) q (nI t) q = nI t
    exact pk_us
  · show upd (upd (ca_dr (ca_tick S) q 6) b (-1)) q (nI t) b = -1
    rw [pk_un hbq, pk_us]
  · intro i h3 h4
    show upd (upd (ca_dr (ca_tick S) q 6) b (-1)) q (nI t) i = _
    rw [pk_un h3, pk_un h4]
  · show upd (ca_dr (ca_tick S) q 7) q (vp_nar .boolean (ca_dr (ca_tick S) q 7 b)) q = _
    rw [pk_us, hcb]
  · intro i h3
    show upd (ca_dr (ca_tick S) q 7) q (vp_nar .boolean (ca_dr (ca_tick S) q 7 b)) i = _
    rw [pk_un h3]
  · intro w hw
    show ca_cp (ca_wr (ca_dr (ca_tick S) q) 7 q (vp_nar .boolean (ca_dr (ca_tick S) q 7 b))) 9 (q * 4) 9 (b * 4) 4 9 (q * 4 + w) = _
    rw [ca_cp_at, if_pos ⟨rfl, by omega, by omega⟩, ca_wr_at, if_neg (by omega)]
    congr 1
    omega
  · intro i w h3 hw
    show ca_cp (ca_wr (ca_dr (ca_tick S) q) 7 q (vp_nar .boolean (ca_dr (ca_tick S) q 7 b))) 9 (q * 4) 9 (b * 4) 4 9 (i * 4 + w) = _
    rw [ca_cp_at, if_neg (by omega), ca_wr_at, if_neg (by omega)]
theorem ca_RC_flS {S : ca_St} {W : Nat → Int32} (h : ca_RC (S 0) (S 6) (S 7) (S 9) W) {q t : Nat} (hq : q < 16) (ht : t < 16) (hn : ca_NC S t) (hp : t % 2 = q / 2 % 2) : ca_RC (ca_fl S q t 0) (ca_fl S q t 6) (ca_fl S q t 7) (ca_fl S q t 9) W := by
  have h2 : ca_RC (ca_dr (ca_tick S) q 0) (ca_dr (ca_tick S) q 6) (ca_dr (ca_tick S) q 7) (ca_dr (ca_tick S) q 9) W := ca_RC_drS (S := ca_tick S) h hq
  have e6 : ca_dr (ca_tick S) q 6 = upd (S 6) q (-1) := ca_dr_6 (ca_tick S) q
  have hnq : ca_dr (ca_tick S) q 6 q = -1 := by rw [e6]; exact pk_us
  have hnt : ∀ i : Nat, i < 16 → ¬ ca_dr (ca_tick S) q 6 i = nI t := ca_NC_dr (S := ca_tick S) ht hn
  refine ca_RC_fl h2 hq ht hnq hnt hp (n' := ca_fl S q t 6) (c' := ca_fl S q t 7) (d' := ca_fl S q t 9) ?_ ?_ ?_ ?_ ?_ ?_
  · show upd (ca_dr (ca_tick S) q 6) q (nI t) q = nI t
    exact pk_us
  · intro i h3
    show upd (ca_dr (ca_tick S) q 6) q (nI t) i = _
    rw [pk_un h3]
  · show upd (ca_dr (ca_tick S) q 7) q 0 q = _
    rw [pk_us]
  · intro i h3
    show upd (ca_dr (ca_tick S) q 7) q 0 i = _
    rw [pk_un h3]
  · intro w hw
    show ca_cp (ca_wr (ca_dr (ca_tick S) q) 7 q 0) 9 (q * 4) 0 (t * 4) 4 9 (q * 4 + w) = ca_dr (ca_tick S) q 0 (t * 4 + w)
    rw [ca_cp_at, if_pos ⟨rfl, by omega, by omega⟩, ca_wr_at, if_neg (by omega)]
    congr 1
    omega
  · intro i w h3 hw
    show ca_cp (ca_wr (ca_dr (ca_tick S) q) 7 q 0) 9 (q * 4) 0 (t * 4) 4 9 (i * 4 + w) = _
    rw [ca_cp_at, if_neg (by omega), ca_wr_at, if_neg (by omega)]
/-- the fields that bring leaves -/
def ca_Bk (k : Nat) : Prop := k ≠ 0 ∧ k ≠ 5 ∧ k ≠ 6 ∧ k ≠ 7 ∧ k ≠ 8 ∧ k ≠ 9
theorem ca_tick_o (S : ca_St) {k : Nat} (h : k ≠ 5) : ca_tick S k = S k := by
  funext i
  rw [ca_tick, ca_wr_at, if_neg (fun z => h z.1)]
theorem ca_wr_o (S : ca_St) (k i : Nat) (x : Int32) {k' : Nat} (h : k' ≠ k) : ca_wr S k i x k' = S k' := by
  funext j
  rw [ca_wr_at, if_neg (fun z => h z.1)]
theorem ca_cp_k (S : ca_St) (kd d ks s n : Nat) {k : Nat} (h : k ≠ kd) : ca_cp S kd d ks s n k = S k := by
  funext j
  rw [ca_cp_at, if_neg (fun z => h z.1)]
theorem ca_mv_o (S : ca_St) (q b t : Nat) {k : Nat} (h : ca_Bk k) : ca_mv S q b t k = S k := by
  obtain ⟨h0, h5, h6, h7, h8, h9⟩ := h
  rw [ca_mv, ca_stp, ca_wr_o _ _ _ _ h8, ca_wr_o _ _ _ _ h6, ca_wr_o _ _ _ _ h6, ca_cp_k _ _ _ _ _ _ h9, ca_wr_o _ _ _ _ h7, ca_dr_o _ _ h0 h6 h7, ca_tick_o _ h5]
theorem ca_fl_o (S : ca_St) (q t : Nat) {k : Nat} (h : ca_Bk k) : ca_fl S q t k = S k := by
  obtain ⟨h0, h5, h6, h7, h8, h9⟩ := h
  rw [ca_fl, ca_stp, ca_wr_o _ _ _ _ h8, ca_wr_o _ _ _ _ h6, ca_cp_k _ _ _ _ _ _ h9, ca_wr_o _ _ _ _ h7, ca_dr_o _ _ h0 h6 h7, ca_tick_o _ h5]
theorem ca_BR_o {S S' : ca_St} {k t q f : Nat} (hb : ca_BR S k t q S') (h : ca_Bk f) : S' f = S f := by
  obtain ⟨hq, ⟨-, rfl⟩ | ⟨-, -, ⟨b, -, -, -, rfl⟩ | ⟨-, rfl⟩⟩⟩ := hb
  · rw [ca_stp, ca_wr_o _ _ _ _ h.2.2.2.2.1, ca_tick_o _ h.2.1]
  · exact ca_mv_o S q b t h
  · exact ca_fl_o S q t h
theorem ca_BR_sim {S S' M : ca_St} {k t q : Nat} (hR : ca_R S M) (hk : k < 8) (ht : t < 16) (hp : t % 2 = k % 2) (hb : ca_BR S k t q S') : ca_R S' M ∧ q < 16 ∧ S' 6 q = nI t := by
  have hq : q < 16 := by
    have := hb.1
    omega
  have hpq : t % 2 = q / 2 % 2 := by
    have := hb.1
    omega
  have ho : ∀ f : Nat, ca_Bk f → S' f = S f := fun f h => ca_BR_o hb h
  obtain ⟨h1, h2, h3, h4⟩ := hR
  have hC : ca_RC (S' 0) (S' 6) (S' 7) (S' 9) (M 0) ∧ S' 6 q = nI t := by
    obtain ⟨hq2, ⟨e, rfl⟩ | ⟨n1, n2, ⟨b, hb16, hbp, hbe, rfl⟩ | ⟨hn, rfl⟩⟩⟩ := hb
    · exact ⟨h2, e⟩
    · refine ⟨ca_RC_mvS h2 hq hb16 ht ?_ hbe hpq, ?_⟩
      · intro z
        rcases hq2 with z2 | z2
        · rw [← z2, z] at n1
          exact n1 hbe
        · rw [← z2, z] at n2
          exact n2 hbe
      · show upd (upd (ca_dr (ca_tick S) q 6) b (-1)) q (nI t) q = nI t
        exact pk_us
    · refine ⟨ca_RC_flS h2 hq ht (ca_NC_of h2.1 ht hn) hpq, ?_⟩
      show upd (ca_dr (ca_tick S) q 6) q (nI t) q = nI t
      exact pk_us
  refine ⟨⟨?_, hC.1, ?_, ?_⟩, hq, hC.2⟩
  · rw [ho 1 (by unfold ca_Bk; omega), ho 2 (by unfold ca_Bk; omega), ho 3 (by unfold ca_Bk; omega), ho 4 (by unfold ca_Bk; omega)]
    exact h1
  · rw [ho 1 (by unfold ca_Bk; omega), ho 2 (by unfold ca_Bk; omega), ho 3 (by unfold ca_Bk; omega), ho 4 (by unfold ca_Bk; omega), ho 10 (by unfold ca_Bk; omega), ho 11 (by unfold ca_Bk; omega), ho 12 (by unfold ca_Bk; omega), ho 13 (by unfold ca_Bk; omega)]
    exact h3
  · rw [ho 15 (by unfold ca_Bk; omega)]
    exact h4
/-! translations -/
/-- the page j marked as used on both sides -/
theorem ca_RP_us {f w u d f' w' u' d' : Nat → Int32} (h : ca_RP f w u d f' w' u' d') (j : Nat) (x : Int32) : ca_RP f w (upd u j x) d f' w' (upd u' j x) d' := by
  obtain ⟨h1, h2, h3, h4, h5, h6, h7⟩ := h
  refine ⟨h1, h2, h3, h4, fun v hv => ?_, h6, h7⟩
  by_cases e : v = j
  · rw [e, pk_us, pk_us]
  · rw [pk_un e, pk_un e]; exact h5 v hv
theorem ca_RP_us1 {f w u d f' w' u' d' : Nat → Int32} (h : ca_RP f w u d f' w' u' d') {j : Nat} {x : Int32} (hx : u j = x) : ca_RP f w u d f' w' (upd u' j x) d' := by
  obtain ⟨h1, h2, h3, h4, h5, h6, h7⟩ := h
  refine ⟨h1, h2, h3, h4, fun v hv => ?_, h6, h7⟩
  by_cases e : v = j
  · rw [e, pk_us, hx]
  · rw [pk_un e]; exact h5 v hv
theorem ca_RP_di {f w u d f' w' u' d' : Nat → Int32} (h : ca_RP f w u d f' w' u' d') (j : Nat) {x : Int32} (hx : x = 0 ∨ x = 1) : ca_RP f w u (upd d j x) f' w' u' (upd d' j x) := by
  obtain ⟨h1, h2, h3, h4, h5, h6, h7⟩ := h
  refine ⟨h1, h2, h3, h4, h5, fun v hv => ?_, fun v hv => ?_⟩
  · by_cases e : v = j
    · rw [e, pk_us, pk_us]
    · rw [pk_un e, pk_un e]; exact h6 v hv
  · by_cases e : v = j
    · rw [e, pk_us]; exact hx
    · rw [pk_un e]; exact h7 v hv
theorem ca_RP_di1 {f w u d f' w' u' d' : Nat → Int32} (h : ca_RP f w u d f' w' u' d') {j : Nat} {x : Int32} (hx : d j = x) : ca_RP f w u d f' w' u' (upd d' j x) := by
  obtain ⟨h1, h2, h3, h4, h5, h6, h7⟩ := h
  refine ⟨h1, h2, h3, h4, h5, fun v hv => ?_, h7⟩
  by_cases e : v = j
  · rw [e, pk_us, hx]
  · rw [pk_un e]; exact h6 v hv
/-- what an entry of the page j says -/
theorem ca_ent {S M : ca_St} (hR : ca_R S M) {q j : Nat} (hq : q < 4) (hj : j < 16) (e : S 10 q = nI j) : S 11 q = S 1 j ∧ ¬ S 1 j = -2 ∧ S 12 q = S 2 j ∧ (¬ S 13 q = 0 → S 4 j = 1) ∧ S 3 j = 1 := by
  rcases hR.2.2.1 q hq with z | ⟨v, hv, z, h⟩
  · rw [z] at e
    exact absurd e.symm (ca_nm1 (by omega))
  · rw [z] at e
    have e2 : v = j := ca_inj (by omega) (by omega) e
    subst e2
    exact h
/-- an entry filled -/
theorem ca_fe_sim {S M : ca_St} (hR : ca_R S M) {q j : Nat} (hq : q < 4) (hj : j < 16) (h0 : ¬ S 1 j < 0) : ca_R (ca_es (ca_fe (ca_tick S) q j) q) (ca_wr M 3 j 1) := by
  obtain ⟨h1, h2, h3, h4⟩ := hR
  refine ⟨ca_RP_us h1 j 1, h2, ?_, h4⟩
  show ca_RT (upd (S 10) q (nI j)) (upd (S 11) q (S 1 j)) (upd (S 12) q (vp_nar .boolean (S 2 j))) (upd (S 13) q (vp_nar .boolean (S 4 j))) (S 1) (S 2) (upd (S 3) j 1) (S 4)
  intro e he
  by_cases c : e = q
  · subst c
    refine Or.inr ⟨j, hj, pk_us, pk_us, ca_F_nlt h0, ?_, fun z => ?_, pk_us⟩
    · rw [pk_us, ca_nar (h1.2.2.2.1 j hj)]
    · rw [pk_us, ca_nar (h1.2.2.2.2.2.2 j hj)] at z
      exact (h1.2.2.2.2.2.2 j hj).resolve_left z
  · rw [pk_un c, pk_un c, pk_un c, pk_un c]
    rcases h3 e he with z | ⟨v, hv, z, z1, z2, z3, z4, z5⟩
    · exact Or.inl z
    · refine Or.inr ⟨v, hv, z, z1, z2, z3, z4, ?_⟩
      by_cases c2 : v = j
      · rw [c2, pk_us]
      · rw [pk_un c2]; exact z5
theorem ca_TR_sim {S T M : ca_St} {j : Nat} {r : Int32} (hR : ca_R S M) (hj : j < 16) (h : ca_TR S j r T) : (r = -2 ∧ S 1 j = -2 ∧ ca_R T M) ∨ ∃ q k : Nat, q < 4 ∧ k < 8 ∧ r = nI q ∧ S 1 j = nI k ∧ T 11 q = nI k ∧ ca_R T (ca_wr M 3 j 1) := by
  rcases h with ⟨q, hq, e, rfl, rfl⟩ | ⟨h0, rfl, rfl⟩ | ⟨h0, q, hq, rfl, rfl⟩
  · obtain ⟨e1, e2, -, -, e5⟩ := ca_ent hR hq hj e
    obtain ⟨k, hk, e6⟩ := ca_F_ne (ca_R_F hR) hj e2
    refine Or.inr ⟨q, k, hq, hk, rfl, e6, by rw [← e6]; exact e1, ?_⟩
    obtain ⟨h1, h2, h3, h4⟩ := hR
    exact ⟨ca_RP_us1 h1 e5, h2, h3, h4⟩
  · exact Or.inl ⟨rfl, ca_F_lt (ca_R_F hR) hj h0, hR⟩
  · obtain ⟨k, hk, e6⟩ := ca_F_ge (ca_R_F hR) hj h0
    refine Or.inr ⟨q, k, hq, hk, rfl, e6, ?_, ca_fe_sim hR hq hj h0⟩
    show upd (S 11) q (S 1 j) q = nI k
    rw [pk_us, e6]
/-- the end of a translation for a store: T holds the entry q of the page j, marked as used in M -/
theorem ca_TF_sim {T S' M : ca_St} {q j : Nat} {r : Int32} (hR : ca_R T M) (hq : q < 4) (hj : j < 16) (e : T 10 q = nI j) (h : ca_TF T q j r S') : (r = -3 ∧ T 2 j = 0 ∧ S' = T) ∨ (r = nI q ∧ ¬ T 2 j = 0 ∧ S' 11 q = T 1 j ∧ ca_R S' (ca_wr M 4 j 1)) := by
  obtain ⟨e1, e2, e3, e4, e5⟩ := ca_ent hR hq hj e
  rcases h with ⟨c1, rfl, rfl⟩ | ⟨c1, c2, rfl, rfl⟩ | ⟨c1, c2, rfl, rfl⟩
  · exact Or.inl ⟨rfl, by rw [← e3]; exact c1, rfl⟩
  · refine Or.inr ⟨rfl, by rw [← e3]; exact c1, e1, ?_⟩
    obtain ⟨h1, h2, h3, h4⟩ := hR
    exact ⟨ca_RP_di1 h1 (e4 c2), h2, h3, h4⟩
  · refine Or.inr ⟨rfl, by rw [← e3]; exact c1, e1, ?_⟩
    obtain ⟨h1, h2, h3, h4⟩ := hR
    refine ⟨ca_RP_di h1 j (Or.inr rfl), h2, ?_, h4⟩
    show ca_RT (T 10) (T 11) (T 12) (upd (T 13) q 1) (T 1) (T 2) (T 3) (upd (T 4) j 1)
    intro x hx
    rcases h3 x hx with z | ⟨v, hv, z, z1, z2, z3, z4, z5⟩
    · exact Or.inl z
    · refine Or.inr ⟨v, hv, z, z1, z2, z3, fun y => ?_, z5⟩
      by_cases c3 : v = j
      · rw [c3, pk_us]
      · rw [pk_un c3]
        have c4 : x ≠ q := by
          intro c4
          rw [c4, e] at z
          exact c3 (ca_inj (by omega) (by omega) z.symm)
        rw [pk_un c4] at y
        exact z4 y
theorem ca_TW_sim {S T M : ca_St} {j : Nat} {r : Int32} (hR : ca_R S M) (hj : j < 16) (h : ca_TW S j r T) : (r = -2 ∧ S 1 j = -2 ∧ ca_R T M) ∨ (r = -3 ∧ ¬ S 1 j = -2 ∧ S 2 j = 0 ∧ ca_R T M) ∨ ∃ q k : Nat, q < 4 ∧ k < 8 ∧ r = nI q ∧ S 1 j = nI k ∧ ¬ S 2 j = 0 ∧ T 11 q = nI k ∧ ca_R T (ca_wr (ca_wr M 3 j 1) 4 j 1) := by
  rcases h with ⟨q, hq, e, h⟩ | ⟨h0, rfl, rfl⟩ | ⟨h0, h1, rfl, rfl⟩ | ⟨h0, h1, q, hq, h⟩
  · obtain ⟨e1, e2, -, -, e5⟩ := ca_ent hR hq hj e
    obtain ⟨k, hk, e6⟩ := ca_F_ne (ca_R_F hR) hj e2
    have hR2 : ca_R (ca_es (ca_tick S) q) (ca_wr M 3 j 1) := by
      obtain ⟨h1, h2, h3, h4⟩ := hR
      exact ⟨ca_RP_us1 h1 e5, h2, h3, h4⟩
    rcases ca_TF_sim hR2 hq hj e h with ⟨a1, a2, a3⟩ | ⟨a1, a2, a3, a4⟩
    · exact Or.inr (Or.inl ⟨a1, e2, a2, by rw [a3]; exact hR⟩)
    · refine Or.inr (Or.inr ⟨q, k, hq, hk, a1, e6, a2, ?_, a4⟩)
      rw [a3]; exact e6
  · exact Or.inl ⟨rfl, ca_F_lt (ca_R_F hR) hj h0, hR⟩
  · exact Or.inr (Or.inl ⟨rfl, ca_F_nlt h0, h1, hR⟩)
  · obtain ⟨k, hk, e6⟩ := ca_F_ge (ca_R_F hR) hj h0
    have hR2 := ca_fe_sim hR hq hj h0
    have e : ca_es (ca_fe (ca_tick S) q j) q 10 q = nI j := by
      show upd (S 10) q (nI j) q = nI j
      exact pk_us
    rcases ca_TF_sim hR2 hq hj e h with ⟨a1, a2, a3⟩ | ⟨a1, a2, a3, a4⟩
    · exact absurd a2 h1
    · refine Or.inr (Or.inr ⟨q, k, hq, hk, a1, e6, h1, ?_, a4⟩)
      rw [a3]; exact e6
end
section
set_option maxRecDepth 100000
/-! ONE LAW AN OPERATION: related tables answer alike and stay related -/
theorem ca_zb_b (x : Int32) : ca_zb x = 0 ∨ ca_zb x = 1 := by
  by_cases h : x = 0
  · exact Or.inl (ca_zb_0 h)
  · exact Or.inr (ca_zb_1 h)
theorem ca_F_upd {f : Nat → Int32} (h : ca_F f) (j : Nat) {x : Int32} (hx : x = -2 ∨ ∃ k : Nat, k < 8 ∧ x = nI k) : ca_F (upd f j x) := by
  intro i hi
  by_cases e : i = j
  · rw [e, pk_us]; exact hx
  · rw [pk_un e]; exact h i hi
theorem ca_RP_show {f w u d f' w' u' d' : Nat → Int32} (h : ca_RP f w u d f' w' u' d') (j : Nat) {x y : Int32} (hx : x = -2 ∨ ∃ k : Nat, k < 8 ∧ x = nI k) (hy : y = 0 ∨ y = 1) : ca_RP (upd f j x) (upd w j y) (upd u j 0) (upd d j 0) (upd f' j x) (upd w' j y) (upd u' j 0) (upd d' j 0) := by
  obtain ⟨h1, h2, h3, h4, h5, h6, h7⟩ := h
  refine ⟨fun v hv => ?_, ca_F_upd h2 j hx, fun v hv => ?_, fun v hv => ?_, fun v hv => ?_, fun v hv => ?_, fun v hv => ?_⟩
  · by_cases e : v = j
    · rw [e, pk_us, pk_us]
    · rw [pk_un e, pk_un e]; exact h1 v hv
  · by_cases e : v = j
    · rw [e, pk_us, pk_us, pk_us]; exact fun _ => rfl
    · rw [pk_un e, pk_un e, pk_un e]; exact h3 v hv
  · by_cases e : v = j
    · rw [e, pk_us]; exact hy
    · rw [pk_un e]; exact h4 v hv
  · by_cases e : v = j
    · rw [e, pk_us, pk_us]
    · rw [pk_un e, pk_un e]; exact h5 v hv
  · by_cases e : v = j
    · rw [e, pk_us, pk_us]
    · rw [pk_un e, pk_un e]; exact h6 v hv
  · by_cases e : v = j
    · rw [e, pk_us]; exact Or.inl rfl
    · rw [pk_un e]; exact h7 v hv
theorem ca_RP_unm {f w u d f' w' u' d' : Nat → Int32} (h : ca_RP f w u d f' w' u' d') (j : Nat) (y : Int32) : ca_RP (upd f j (-2)) w (upd u j 0) (upd d j 0) (upd f' j (-2)) (upd w' j y) (upd u' j 0) (upd d' j 0) := by
  obtain ⟨h1, h2, h3, h4, h5, h6, h7⟩ := h
  refine ⟨fun v hv => ?_, ca_F_upd h2 j (Or.inl rfl), fun v hv => ?_, h4, fun v hv => ?_, fun v hv => ?_, fun v hv => ?_⟩
  · by_cases e : v = j
    · rw [e, pk_us, pk_us]
    · rw [pk_un e, pk_un e]; exact h1 v hv
  · by_cases e : v = j
    · rw [e, pk_us]; exact fun z => absurd rfl z
    · rw [pk_un e, pk_un e]; exact h3 v hv
  · by_cases e : v = j
    · rw [e, pk_us, pk_us]
    · rw [pk_un e, pk_un e]; exact h5 v hv
  · by_cases e : v = j
    · rw [e, pk_us, pk_us]
    · rw [pk_un e, pk_un e]; exact h6 v hv
  · by_cases e : v = j
    · rw [e, pk_us]; exact Or.inl rfl
    · rw [pk_un e]; exact h7 v hv
theorem ca_RP_wr {f w u d f' w' u' d' : Nat → Int32} (h : ca_RP f w u d f' w' u' d') (j : Nat) {y : Int32} (hy : y = 0 ∨ y = 1) : ca_RP f (upd w j y) u d f' (upd w' j y) u' d' := by
  obtain ⟨h1, h2, h3, h4, h5, h6, h7⟩ := h
  refine ⟨h1, h2, fun v hv => ?_, fun v hv => ?_, h5, h6, h7⟩
  · by_cases e : v = j
    · rw [e, pk_us, pk_us]; exact fun _ => rfl
    · rw [pk_un e, pk_un e]; exact h3 v hv
  · by_cases e : v = j
    · rw [e, pk_us]; exact hy
    · rw [pk_un e]; exact h4 v hv
section OPS
variable {S S' M M' : ca_St} {r r' v f w x on g : Int32}
theorem ca_sim_map (hR : ca_R S M) (hx : ca_Xmap v f on S r S') (hm : ca_Mmap v f on M r' M') : r = r' ∧ ca_R S' M' := by
  rcases hx with ⟨nb, rfl, rfl⟩ | ⟨j, k, hj, hk, rfl, rfl, rfl, rfl⟩
  · rcases hm with ⟨-, rfl, rfl⟩ | ⟨j, k, hj, hk, e1, e2, -, -⟩
    · exact ⟨rfl, hR⟩
    · exact absurd ⟨⟨j, hj, e1⟩, ⟨k, hk, e2⟩⟩ nb
  · rcases hm with ⟨nb, -, -⟩ | ⟨j', k', hj', hk', e1, e2, rfl, rfl⟩
    · exact absurd ⟨⟨j, hj, rfl⟩, ⟨k, hk, rfl⟩⟩ nb
    · have e1 : j = j' := ca_inj (by omega) (by omega) e1
      have e2 : k = k' := ca_inj (by omega) (by omega) e2
      subst e1
      subst e2
      refine ⟨(hR.1.1 j hj).symm, ?_⟩
      refine ca_R_sh (T := ca_shw S j (nI k) (ca_zb on)) (M' := ca_shw M j (nI k) (ca_zb on)) hR (ca_RP_show hR.1 j (Or.inr ⟨k, hk, rfl⟩) (ca_zb_b on)) rfl rfl rfl rfl rfl rfl rfl rfl rfl rfl rfl (fun v hv => ⟨?_, ?_, ?_, ?_⟩)
      · exact pk_un (f := S 1) hv
      · exact pk_un (f := S 2) hv
      · exact pk_un (f := S 3) hv
      · exact pk_un (f := S 4) hv
theorem ca_sim_unmap (hR : ca_R S M) (hx : ca_Xunmap v S r S') (hm : ca_Munmap v M r' M') : r = r' ∧ ca_R S' M' := by
  rcases hx with ⟨nb, rfl, rfl⟩ | ⟨j, hj, rfl, rfl, rfl⟩
  · rcases hm with ⟨-, rfl, rfl⟩ | ⟨j, hj, e1, -, -⟩
    · exact ⟨rfl, hR⟩
    · exact absurd ⟨j, hj, e1⟩ nb
  · rcases hm with ⟨nb, -, -⟩ | ⟨j', hj', e1, rfl, rfl⟩
    · exact absurd ⟨j, hj, rfl⟩ nb
    · have e1 : j = j' := ca_inj (by omega) (by omega) e1
      subst e1
      refine ⟨(hR.1.1 j hj).symm, ?_⟩
      refine ca_R_sh (T := ca_wr (ca_wr (ca_wr S 1 j (-2)) 3 j 0) 4 j 0) (M' := ca_shw M j (-2) 0) hR (ca_RP_unm hR.1 j 0) rfl rfl rfl rfl rfl rfl rfl rfl rfl rfl rfl (fun v hv => ⟨?_, rfl, ?_, ?_⟩)
      · exact pk_un (f := S 1) hv
      · exact pk_un (f := S 3) hv
      · exact pk_un (f := S 4) hv
theorem ca_sim_frameOf (hR : ca_R S M) (hx : ca_frameOf v S r S') (hm : ca_frameOf v M r' M') : r = r' ∧ ca_R S' M' := by
  rcases hx with ⟨nb, rfl, rfl⟩ | ⟨j, hj, rfl, rfl, rfl⟩
  · rcases hm with ⟨-, rfl, rfl⟩ | ⟨j, hj, e1, -, -⟩
    · exact ⟨rfl, hR⟩
    · exact absurd ⟨j, hj, e1⟩ nb
  · rcases hm with ⟨nb, -, -⟩ | ⟨j', hj', e1, rfl, rfl⟩
    · exact absurd ⟨j, hj, rfl⟩ nb
    · have e1 : j = j' := ca_inj (by omega) (by omega) e1
      subst e1
      exact ⟨(hR.1.1 j hj).symm, hR⟩
theorem ca_sim_allow (hR : ca_R S M) (hx : ca_Xallow v on S r S') (hm : ca_Mallow v on M r' M') : r = r' ∧ ca_R S' M' := by
  rcases hx with ⟨nb, rfl, rfl⟩ | ⟨j, hj, rfl, hx⟩
  · rcases hm with ⟨-, rfl, rfl⟩ | ⟨j, hj, e1, -⟩
    · exact ⟨rfl, hR⟩
    · exact absurd ⟨j, hj, e1⟩ nb
  · rcases hm with ⟨nb, -, -⟩ | ⟨j', hj', e1, hm⟩
    · exact absurd ⟨j, hj, rfl⟩ nb
    · have e1 : j = j' := ca_inj (by omega) (by omega) e1
      subst e1
      rw [hR.1.1 j hj] at hm
      rcases hx with ⟨c, rfl, rfl⟩ | ⟨c, rfl, rfl⟩
      · rcases hm with ⟨-, rfl, rfl⟩ | ⟨c2, -, -⟩
        · exact ⟨rfl, hR⟩
        · exact absurd (ca_F_lt (ca_R_F hR) hj c) c2
      · rcases hm with ⟨c2, -, -⟩ | ⟨c2, rfl, rfl⟩
        · exact absurd c2 (ca_F_nlt c)
        · refine ⟨by rw [hR.1.2.2.1 j hj c2], ?_⟩
          refine ca_R_sh (T := ca_wr S 2 j (ca_zb on)) (M' := ca_wr M 2 j (ca_zb on)) hR (ca_RP_wr hR.1 j (ca_zb_b on)) rfl rfl rfl rfl rfl rfl rfl rfl rfl rfl rfl (fun v hv => ⟨rfl, ?_, rfl, rfl⟩)
          exact pk_un (f := S 2) hv
theorem ca_sim_fault (hR : ca_R S M) (hx : S' = S ∧ r = S 15 0) (hm : M' = M ∧ r' = M 5 0) : r = r' ∧ ca_R S' M' := by
  obtain ⟨rfl, rfl⟩ := hx
  obtain ⟨rfl, rfl⟩ := hm
  exact ⟨hR.2.2.2.symm, hR⟩
theorem ca_sim_marks (hR : ca_R S M) (hx : ca_marks v S r S') (hm : ca_marks v M r' M') : r = r' ∧ ca_R S' M' := by
  obtain ⟨e, hx⟩ := hx
  obtain ⟨e', hm⟩ := hm
  rw [e, e']
  refine ⟨?_, hR⟩
  rcases hx with ⟨nb, rfl⟩ | ⟨j, hj, rfl, rfl⟩
  · rcases hm with ⟨-, rfl⟩ | ⟨j, hj, e1, -⟩
    · rfl
    · exact absurd ⟨j, hj, e1⟩ nb
  · rcases hm with ⟨nb, -⟩ | ⟨j', hj', e1, rfl⟩
    · exact absurd ⟨j, hj, rfl⟩ nb
    · have e1 : j = j' := ca_inj (by omega) (by omega) e1
      subst e1
      rw [hR.1.2.2.2.2.1 j hj, hR.1.2.2.2.2.2.1 j hj]
theorem ca_sim_clearMarks (hR : ca_R S M) (hx : ca_XclearMarks v S r S') (hm : ca_MclearMarks v M r' M') : r = r' ∧ ca_R S' M' := by
  rcases hx with ⟨nb, rfl, rfl⟩ | ⟨j, hj, rfl, rfl, rfl⟩
  · rcases hm with ⟨-, rfl, rfl⟩ | ⟨j, hj, e1, -, -⟩
    · exact ⟨rfl, hR⟩
    · exact absurd ⟨j, hj, e1⟩ nb
  · rcases hm with ⟨nb, -, -⟩ | ⟨j', hj', e1, rfl, rfl⟩
    · exact absurd ⟨j, hj, rfl⟩ nb
    · have e1 : j = j' := ca_inj (by omega) (by omega) e1
      subst e1
      refine ⟨by rw [hR.1.2.2.2.2.1 j hj, hR.1.2.2.2.2.2.1 j hj], ?_⟩
      refine ca_R_sh (T := ca_wr (ca_wr S 3 j 0) 4 j 0) (M' := ca_wr (ca_wr M 3 j 0) 4 j 0) hR (ca_RP_di (ca_RP_us hR.1 j 0) j (Or.inl rfl)) rfl rfl rfl rfl rfl rfl rfl rfl rfl rfl rfl (fun v hv => ⟨rfl, rfl, ?_, ?_⟩)
      · exact pk_un (f := S 3) hv
      · exact pk_un (f := S 4) hv
theorem ca_sw_c {a b : Nat → Int32} {f : Int32} : ∀ n : Nat, (∀ i : Nat, i < n → a i = b i) → ca_sw a f n = ca_sw b f n
  | 0, _ => rfl
  | n + 1, h => by
    have ih := ca_sw_c (a := a) (b := b) (f := f) n (fun i hi => h i (by omega))
    by_cases c : a n = f
    · rw [← ca_sw_t c, ← ca_sw_t (a := b) (by rw [← h n (by omega)]; exact c), ih]
    · rw [← ca_sw_f c, ← ca_sw_f (a := b) (by rw [← h n (by omega)]; exact c), ih]
theorem ca_dp_c {a b : Nat → Int32} : ∀ n : Nat, (∀ i : Nat, i < n → a i = b i) → ca_dp a n = ca_dp b n
  | 0, _ => rfl
  | n + 1, h => by
    have ih := ca_dp_c (a := a) (b := b) n (fun i hi => h i (by omega))
    by_cases c : a n = 0
    · rw [← ca_dp_t c, ← ca_dp_t (a := b) (by rw [← h n (by omega)]; exact c), ih]
    · rw [← ca_dp_f c, ← ca_dp_f (a := b) (by rw [← h n (by omega)]; exact c), ih]
theorem ca_cd_c {a b : Nat → Int32} {f g f' g' : Nat} : ∀ n : Nat, (∀ i : Nat, i < n → a (f + i) = b (f' + i) ∧ a (g + i) = b (g' + i)) → ca_cd a f g n = ca_cd b f' g' n
  | 0, _ => rfl
  | n + 1, h => by
    have ih := ca_cd_c (a := a) (b := b) (f := f) (g := g) (f' := f') (g' := g') n (fun i hi => h i (by omega))
    obtain ⟨e1, e2⟩ := h n (by omega)
    by_cases c : a (f + n) = a (g + n)
    · rw [← ca_cd_t c, ← ca_cd_t (a := b) (by rw [← e1, ← e2]; exact c), ih]
    · rw [← ca_cd_f c, ← ca_cd_f (a := b) (by rw [← e1, ← e2]; exact c), ih]
theorem ca_sim_shown (hR : ca_R S M) (hx : ca_shown f S r S') (hm : ca_shown f M r' M') : r = r' ∧ ca_R S' M' := by
  obtain ⟨e, hx⟩ := hx
  obtain ⟨e', hm⟩ := hm
  rw [e, e']
  refine ⟨?_, hR⟩
  rcases hx with ⟨nb, rfl⟩ | ⟨gd, rfl⟩
  · rcases hm with ⟨-, rfl⟩ | ⟨gd, -⟩
    · rfl
    · exact absurd gd nb
  · rcases hm with ⟨nb, -⟩ | ⟨-, rfl⟩
    · exact absurd gd nb
    · exact ca_sw_c 16 (fun i hi => (hR.1.1 i hi).symm)
theorem ca_sim_dirtyPages (hR : ca_R S M) (hx : S' = S ∧ r = ca_dp (S 4) 16) (hm : M' = M ∧ r' = ca_dp (M 4) 16) : r = r' ∧ ca_R S' M' := by
  obtain ⟨rfl, rfl⟩ := hx
  obtain ⟨rfl, rfl⟩ := hm
  exact ⟨ca_dp_c 16 (fun i hi => (hR.1.2.2.2.2.2.1 i hi).symm), hR⟩
theorem ca_sim_flush (hR : ca_R S M) (hx : S' = ca_fu S 16) (hm : M' = M) : ca_R S' M' := by
  rw [hx, hm]
  exact ca_R_fu hR 16 (by decide)
theorem ca_sim_forget (hR : ca_R S M) (hx : ca_Xforget v S r S') (hm : ca_Mforget v M r' M') : r = r' ∧ ca_R S' M' := by
  obtain ⟨e', hm⟩ := hm
  rw [e']
  rcases hx with ⟨nb, rfl, rfl⟩ | ⟨j, hj, rfl, rfl, rfl⟩
  · rcases hm with ⟨-, rfl⟩ | ⟨gd, -⟩
    · exact ⟨rfl, hR⟩
    · exact absurd gd nb
  · rcases hm with ⟨nb, -⟩ | ⟨-, rfl⟩
    · exact absurd ⟨j, hj, rfl⟩ nb
    · exact ⟨rfl, ca_R_sh hR hR.1 rfl rfl rfl rfl rfl rfl rfl rfl rfl rfl rfl (fun _ _ => ⟨rfl, rfl, rfl, rfl⟩)⟩
theorem ca_sim_warm (hR : ca_R S M) (hx : ca_Xwarm f S r S') (hm : ca_Mwarm f M r' M') : r = r' ∧ ca_R S' M' := by
  obtain ⟨e', hm⟩ := hm
  rw [e']
  rcases hx with ⟨nb, rfl, rfl⟩ | ⟨k, hk, rfl, rfl, q1, q2, T, hb1, hb2⟩
  · rcases hm with ⟨-, rfl⟩ | ⟨gd, -⟩
    · exact ⟨rfl, hR⟩
    · exact absurd gd nb
  · rcases hm with ⟨nb, -⟩ | ⟨-, rfl⟩
    · exact absurd ⟨k, hk, rfl⟩ nb
    · have h1 := (ca_BR_sim hR (by omega) (by omega) (by omega) hb1).1
      exact ⟨rfl, (ca_BR_sim h1 (by omega) (by omega) (by omega) hb2).1⟩
/-! loads and stores -/
theorem ca_sim_load (hR : ca_R S M) (hx : ca_Xload v w S r S') (hm : ca_Mload v w M r' M') : r = r' ∧ ca_R S' M' := by
  rcases hx with ⟨nb, rfl, rfl⟩ | ⟨j, u, hj, hu, rfl, rfl, r1, T, hT, hx⟩
  · rcases hm with ⟨-, rfl, rfl⟩ | ⟨j, u, hj, hu, e1, e2, -⟩
    · exact ⟨rfl, hR.1, hR.2.1, hR.2.2.1, rfl⟩
    · exact absurd ⟨⟨j, hj, e1⟩, ⟨u, hu, e2⟩⟩ nb
  · rcases hm with ⟨nb, -, -⟩ | ⟨j', u', hj', hu', e1, e2, hm⟩
    · exact absurd ⟨⟨j, hj, rfl⟩, ⟨u, hu, rfl⟩⟩ nb
    · have e1 : j = j' := ca_inj (by omega) (by omega) e1
      have e2 : u = u' := ca_inj (by omega) (by omega) e2
      subst e1
      subst e2
      rw [hR.1.1 j hj] at hm
      rcases ca_TR_sim hR hj hT with ⟨rfl, a2, a3⟩ | ⟨q, k, hq, hk, rfl, a2, a3, a4⟩
      · rcases hx with ⟨-, rfl, rfl⟩ | ⟨q, k, i, hq, -, e, -⟩
        · rcases hm with ⟨-, rfl, rfl⟩ | ⟨k, hk, e, -⟩
          · exact ⟨rfl, a3.1, a3.2.1, a3.2.2.1, rfl⟩
          · rw [a2] at e
            exact absurd e.symm (ca_nm2 (by omega))
        · exact absurd e.symm (ca_nm2 (by omega))
      · rcases hx with ⟨c, -, -⟩ | ⟨q', k', i, hq', hk', e, e3, hb, rfl⟩
        · exact absurd c (nI_pos (by omega))
        · have e4 : q = q' := ca_inj (by omega) (by omega) e
          subst e4
          have e5 : k = k' := ca_inj (by omega) (by omega) (by rw [← a3, e3])
          subst e5
          rcases hm with ⟨c, -, -⟩ | ⟨k', hk', e6, rfl, rfl⟩
          · rw [a2] at c
            exact absurd c (ca_nm2 (by omega))
          · have e7 : k = k' := ca_inj (by omega) (by omega) (by rw [← a2, e6])
            subst e7
            have hR2 : ca_R (ca_wr T 15 0 0) (ca_wr (ca_wr M 5 0 0) 3 j 1) := ⟨a4.1, a4.2.1, a4.2.2.1, rfl⟩
            obtain ⟨b1, b2, b3⟩ := ca_BR_sim hR2 (by omega) (by omega) (by omega) hb
            refine ⟨?_, b1⟩
            have b4 := (b1.2.1.2.2.2.1 i (k * 2 + u / 4) b2 (by omega) b3 (u % 4) (by omega)).1
            rw [← b4]
            show M 0 ((k * 2 + u / 4) * 4 + u % 4) = M 0 (8 * k + u)
            congr 1
            omega
/-- a store's opening against the model's test -/
theorem ca_sim_open {T U : ca_St} {r1 : Int32} (hR : ca_R S M) (hx : ca_Xopen v w S r T) (hm : ca_MS v w M r1 U) : (r < 0 ∧ r1 = 0 ∧ U 5 0 = r ∧ ca_R T U) ∨ ∃ j u k i : Nat, j < 16 ∧ u < 8 ∧ k < 8 ∧ i < 16 ∧ v = nI j ∧ w = nI u ∧ U 1 j = nI k ∧ r = nI (i * 4 + u % 4) ∧ r1 = 1 ∧ U 5 0 = 0 ∧ T 6 i = nI (k * 2 + u / 4) ∧ T 9 (i * 4 + u % 4) = U 0 (8 * k + u) ∧ ∀ x : Int32, ca_R (ca_wr T 9 (i * 4 + u % 4) x) (ca_wr U 0 (8 * k + u) x) := by
  rcases hx with ⟨nb, rfl, rfl⟩ | ⟨j, u, hj, hu, rfl, rfl, r2, T1, hT, hx⟩
  · rcases hm with ⟨-, rfl, rfl⟩ | ⟨j, u, hj, hu, e1, e2, -⟩
    · exact Or.inl ⟨ca_m1, rfl, rfl, hR.1, hR.2.1, hR.2.2.1, rfl⟩
    · exact absurd ⟨⟨j, hj, e1⟩, ⟨u, hu, e2⟩⟩ nb
  · rcases hm with ⟨nb, -, -⟩ | ⟨j', u', hj', hu', e1, e2, hm⟩
    · exact absurd ⟨⟨j, hj, rfl⟩, ⟨u, hu, rfl⟩⟩ nb
    · have e1 : j = j' := ca_inj (by omega) (by omega) e1
      have e2 : u = u' := ca_inj (by omega) (by omega) e2
      subst e1
      subst e2
      rw [hR.1.1 j hj] at hm
      rcases ca_TW_sim hR hj hT with ⟨rfl, a2, a3⟩ | ⟨rfl, a1, a2, a3⟩ | ⟨q, k, hq, hk, rfl, a2, a5, a3, a4⟩
      · rcases hx with ⟨c, rfl, rfl⟩ | ⟨q, k, i, -, hq, -, e, -⟩
        · rcases hm with ⟨-, rfl, rfl⟩ | ⟨c2, -⟩ | ⟨k, hk, e, -⟩
          · exact Or.inl ⟨ca_m2, rfl, rfl, a3.1, a3.2.1, a3.2.2.1, rfl⟩
          · exact absurd a2 c2
          · rw [a2] at e
            exact absurd e.symm (ca_nm2 (by omega))
        · exact absurd e.symm (ca_nm2 (by omega))
      · rcases hx with ⟨c, rfl, rfl⟩ | ⟨q, k, i, -, hq, -, e, -⟩
        · rcases hm with ⟨c2, -⟩ | ⟨-, -, rfl, rfl⟩ | ⟨k, hk, e, c2, -⟩
          · exact absurd c2 a1
          · exact Or.inl ⟨ca_m3, rfl, rfl, a3.1, a3.2.1, a3.2.2.1, rfl⟩
          · exact absurd (by rw [hR.1.2.2.1 j hj a1]; exact a2) c2
        · exact absurd (by rw [← e]; exact ca_m3) (nI_pos (n := q) (by omega))
      · have n2 : ¬ S 1 j = -2 := by rw [a2]; exact ca_nm2 (by omega)
        rcases hx with ⟨c, -, -⟩ | ⟨q', k', i, V, hq', hk', e, e3, hb, hi, rfl, rfl⟩
        · exact absurd c (nI_pos (by omega))
        · have e4 : q = q' := ca_inj (by omega) (by omega) e
          subst e4
          have e5 : k = k' := ca_inj (by omega) (by omega) (by rw [← a3, e3])
          subst e5
          rcases hm with ⟨c, -⟩ | ⟨-, c, -⟩ | ⟨k', hk', e6, c2, rfl, rfl⟩
          · exact absurd c n2
          · exact absurd (by rw [← hR.1.2.2.1 j hj n2]; exact c) a5
          · have e7 : k = k' := ca_inj (by omega) (by omega) (by rw [← a2, e6])
            subst e7
            have hR2 : ca_R (ca_wr T1 15 0 0) (ca_wr (ca_wr (ca_wr M 5 0 0) 3 j 1) 4 j 1) := ⟨a4.1, a4.2.1, a4.2.2.1, rfl⟩
            obtain ⟨b1, b2, b3⟩ := ca_BR_sim hR2 (by omega) (by omega) (by omega) hb
            have e8 : (k * 2 + u / 4) * 4 + u % 4 = 8 * k + u := by omega
            refine Or.inr ⟨j, u, k, i, hj, hu, hk, hi, rfl, rfl, ?_, rfl, rfl, rfl, b3, ?_, fun x => ?_⟩
            · show M 1 j = nI k
              rw [hR.1.1 j hj]; exact a2
            · have b4 := (b1.2.1.2.2.2.1 i (k * 2 + u / 4) b2 (by omega) b3 (u % 4) (by omega)).1
              rw [e8] at b4
              exact b4.symm
            · refine ⟨b1.1, ?_, b1.2.2.1, b1.2.2.2⟩
              have b5 := ca_RC_st b1.2.1 (w := u % 4) x b2 (show k * 2 + u / 4 < 16 by omega) (by omega) b3
              rw [e8] at b5
              exact b5
theorem ca_sim_store (hR : ca_R S M) (hx : ca_Xstore v w x S r S') (hm : ca_Mstore v w x M r' M') : r = r' ∧ ca_R S' M' := by
  obtain ⟨r1, T, hT, hx⟩ := hx
  obtain ⟨r2, U, hU, hm⟩ := hm
  rcases ca_sim_open hR hT hU with ⟨c, rfl, c2, c3⟩ | ⟨j, u, k, i, hj, hu, hk, hi, rfl, rfl, c1, rfl, rfl, c2, c3, c4, c5⟩
  · rcases hx with ⟨-, rfl, rfl⟩ | ⟨n, hn, e, -⟩
    · rcases hm with ⟨-, rfl, rfl⟩ | ⟨e, -⟩
      · exact ⟨c2.symm, c3⟩
      · exact absurd e (by decide +kernel)
    · rw [e] at c
      exact absurd c (nI_pos (by omega))
  · rcases hx with ⟨c, -⟩ | ⟨n, hn, e, rfl, rfl⟩
    · exact absurd c (nI_pos (by omega))
    · have e1 : i * 4 + u % 4 = n := ca_inj (by omega) (by omega) e
      subst e1
      rcases hm with ⟨e, -⟩ | ⟨-, j', u', k', hj', hu', hk', e2, e3, e4, rfl, rfl⟩
      · exact absurd e (by decide +kernel)
      · have e2 : j = j' := ca_inj (by omega) (by omega) e2
        have e3 : u = u' := ca_inj (by omega) (by omega) e3
        subst e2
        subst e3
        have e5 : k = k' := ca_inj (by omega) (by omega) (by rw [← c1, e4])
        subst e5
        exact ⟨c2.symm, c5 x⟩
theorem ca_sim_trade (hR : ca_R S M) (hx : ca_Xtrade v w x S r S') (hm : ca_Mtrade v w x M r' M') : r = r' ∧ ca_R S' M' := by
  obtain ⟨r1, T, hT, hx⟩ := hx
  obtain ⟨r2, U, hU, hm⟩ := hm
  rcases ca_sim_open hR hT hU with ⟨c, rfl, c2, c3⟩ | ⟨j, u, k, i, hj, hu, hk, hi, rfl, rfl, c1, rfl, rfl, c2, c3, c4, c5⟩
  · rcases hx with ⟨-, rfl, rfl⟩ | ⟨n, hn, e, -⟩
    · rcases hm with ⟨-, rfl, rfl⟩ | ⟨e, -⟩
      · exact ⟨rfl, c3⟩
      · exact absurd e (by decide +kernel)
    · rw [e] at c
      exact absurd c (nI_pos (by omega))
  · rcases hx with ⟨c, -⟩ | ⟨n, hn, e, rfl, rfl⟩
    · exact absurd c (nI_pos (by omega))
    · have e1 : i * 4 + u % 4 = n := ca_inj (by omega) (by omega) e
      subst e1
      rcases hm with ⟨e, -⟩ | ⟨-, j', u', k', hj', hu', hk', e2, e3, e4, rfl, rfl⟩
      · exact absurd e (by decide +kernel)
      · have e2 : j = j' := ca_inj (by omega) (by omega) e2
        have e3 : u = u' := ca_inj (by omega) (by omega) e3
        subst e2
        subst e3
        have e5 : k = k' := ca_inj (by omega) (by omega) (by rw [← c1, e4])
        subst e5
        exact ⟨c4, c5 x⟩
/-! the memory, directly -/
theorem ca_sim_word (hR : ca_R S M) (hx : ca_Xword f w S r S') (hm : ca_Mword f w M r' M') : r = r' ∧ ca_R S' M' := by
  rcases hx with ⟨nb, rfl, rfl⟩ | ⟨k, u, hk, hu, rfl, rfl, hs, rfl⟩
  · rcases hm with ⟨-, rfl, rfl⟩ | ⟨j, u, hj, hu, e1, e2, -⟩
    · exact ⟨rfl, hR⟩
    · exact absurd ⟨⟨j, hj, e1⟩, ⟨u, hu, e2⟩⟩ nb
  · rcases hm with ⟨nb, -, -⟩ | ⟨k', u', hk', hu', e1, e2, rfl, rfl⟩
    · exact absurd ⟨⟨k, hk, rfl⟩, ⟨u, hu, rfl⟩⟩ nb
    · have e1 : k = k' := ca_inj (by omega) (by omega) e1
      have e2 : u = u' := ca_inj (by omega) (by omega) e2
      subst e1
      subst e2
      obtain ⟨a1, a2, -, -⟩ := ca_S0_sim hR (by omega) hs
      have a3 := a2 (u % 4) (by omega)
      rw [show (k * 2 + u / 4) * 4 + u % 4 = k * 8 + u by omega] at a3
      refine ⟨?_, a1⟩
      rw [← a3]
      congr 1
      omega
theorem ca_sim_setWord (hR : ca_R S M) (hx : ca_XsetWord f w x S r S') (hm : ca_MsetWord f w x M r' M') : r = r' ∧ ca_R S' M' := by
  rcases hx with ⟨nb, rfl, rfl⟩ | ⟨k, u, hk, hu, rfl, rfl, rfl, T, hs, rfl⟩
  · rcases hm with ⟨-, rfl, rfl⟩ | ⟨j, u, hj, hu, e1, e2, -⟩
    · exact ⟨rfl, hR⟩
    · exact absurd ⟨⟨j, hj, e1⟩, ⟨u, hu, e2⟩⟩ nb
  · rcases hm with ⟨nb, -, -⟩ | ⟨k', u', hk', hu', e1, e2, rfl, rfl⟩
    · exact absurd ⟨⟨k, hk, rfl⟩, ⟨u, hu, rfl⟩⟩ nb
    · have e1 : k = k' := ca_inj (by omega) (by omega) e1
      have e2 : u = u' := ca_inj (by omega) (by omega) e2
      subst e1
      subst e2
      obtain ⟨a1, a2, -, -⟩ := ca_S1_sim hR (by omega) hs
      refine ⟨rfl, a1.1, ?_, a1.2.2.1, a1.2.2.2⟩
      have b := ca_RC_me a1.2.1 (w := u % 4) x (show k * 2 + u / 4 < 16 by omega) (by omega) a2
      rw [show (k * 2 + u / 4) * 4 + u % 4 = k * 8 + u by omega] at b
      show ca_RC (upd (T 0) (k * 8 + u) x) (T 6) (T 7) (T 9) (upd (M 0) (8 * k + u) x)
      rw [show 8 * k + u = k * 8 + u by omega]
      exact b
theorem ca_CF_sim {k u : Nat} (hR : ca_R S M) (hk : k < 8) (hu : u < 8) : ∀ (n : Nat) (T : ca_St), n ≤ 2 → ca_CF k u S n T → ca_R T M ∧ (∀ e : Nat, e < n → ca_UP T M (u * 2 + e)) ∧ ∀ e : Nat, e < n → ca_NC T (k * 2 + e)
  | 0, T, _, h => by
    have h : T = S := h
    rw [h]
    exact ⟨hR, fun e he => absurd he (by omega), fun e he => absurd he (by omega)⟩
  | n + 1, T, hn, h => by
    obtain ⟨T1, T2, h1, h2, h3⟩ := h
    obtain ⟨a1, a2, a3⟩ := ca_CF_sim hR hk hu n T1 (by omega) h1
    obtain ⟨b1, b2, b3, b4⟩ := ca_S0_sim a1 (by omega) h2
    obtain ⟨c1, c2, c3, c4⟩ := ca_S1_sim b1 (by omega) h3
    refine ⟨c1, fun e he => ?_, fun e he => ?_⟩
    · by_cases q : e = n
      · rw [q]; exact c3 _ (by omega) b2
      · exact c3 _ (by omega) (b3 _ (by omega) (a2 e (by omega)))
    · by_cases q : e = n
      · rw [q]; exact c2
      · exact c4 _ (by omega) (b4 _ (by omega) (a3 e (by omega)))
theorem ca_sim_copyFrame (hR : ca_R S M) (hx : ca_XcopyFrame f g S r S') (hm : ca_McopyFrame f g M r' M') : r = r' ∧ ca_R S' M' := by
  rcases hx with ⟨nb, rfl, rfl⟩ | ⟨k, u, hk, hu, rfl, rfl, T, hs, rfl, rfl⟩
  · rcases hm with ⟨-, rfl, rfl⟩ | ⟨j, u, hj, hu, e1, e2, -⟩
    · exact ⟨rfl, hR⟩
    · exact absurd ⟨⟨j, hj, e1⟩, ⟨u, hu, e2⟩⟩ nb
  · rcases hm with ⟨nb, -, -⟩ | ⟨k', u', hk', hu', e1, e2, rfl, rfl⟩
    · exact absurd ⟨⟨k, hk, rfl⟩, ⟨u, hu, rfl⟩⟩ nb
    · have e1 : k = k' := ca_inj (by omega) (by omega) e1
      have e2 : u = u' := ca_inj (by omega) (by omega) e2
      subst e1
      subst e2
      obtain ⟨a1, a2, a3⟩ := ca_CF_sim hR hk hu 2 T (by decide) hs
      have up : ∀ e : Nat, e < 2 → ca_UP T M (k * 2 + e) := fun e he => a1.2.1.2.2.2.2 (k * 2 + e) (by omega) (a3 e he)
      have w1 : ∀ i : Nat, i < 8 → T 0 (k * 8 + i) = M 0 (8 * k + i) := by
        intro i hi
        have z := up (i / 4) (by omega) (i % 4) (by omega)
        rw [show (k * 2 + i / 4) * 4 + i % 4 = k * 8 + i by omega] at z
        rw [← z]
        congr 1
        omega
      have w2 : ∀ i : Nat, i < 8 → T 0 (u * 8 + i) = M 0 (8 * u + i) := by
        intro i hi
        have z := a2 (i / 4) (by omega) (i % 4) (by omega)
        rw [show (u * 2 + i / 4) * 4 + i % 4 = u * 8 + i by omega] at z
        rw [← z]
        congr 1
        omega
      refine ⟨ca_cd_c 8 (fun i hi => ⟨w1 i hi, w2 i hi⟩), a1.1, ?_, a1.2.2.1, a1.2.2.2⟩
      refine ca_RC_cp a1.2.1 hk hu a3 a2 (m' := ca_cp T 0 (k * 8) 0 (u * 8) 8 0) (W' := ca_cp M 0 (8 * k) 0 (8 * u) 8 0) ?_ ?_ ?_ ?_
      · intro e w he hw
        rw [ca_cp_at, if_pos ⟨rfl, by omega, by omega⟩]
        congr 1
        omega
      · intro t w hw ht
        rw [ca_cp_at, if_neg (by omega)]
      · intro e w he hw
        rw [ca_cp_at, if_pos ⟨rfl, by omega, by omega⟩]
        congr 1
        omega
      · intro t w hw ht
        rw [ca_cp_at, if_neg (by omega)]
end OPS
end
section
set_option maxRecDepth 100000
/-! THE CONSTRUCTORS -/
def ca_00 : ca_St := fun _ _ => 0
/-- n places of the field k filled with x -/
def ca_fi (k : Nat) (x : Int32) (S : ca_St) : Nat → ca_St
  | 0 => S
  | n + 1 => ca_wr (ca_fi k x S n) k n x
def ca_S00 : ca_St := ca_fi 10 (-1) (ca_fi 6 (-1) (ca_fi 1 (-2) ca_00 16) 16) 4
def ca_M00 : ca_St := ca_fi 1 (-2) ca_00 16
def ca_li (l : List Nat) (k : Nat) : Nat := l.getD k 0
abbrev ca_U : Type := (Nat → Nat) × (Nat → ClassId)
def ca_GC (D : va_G) (wf : (Nat → Nat) → (Nat → ClassId) → ca_St → va_W) (tf : (Nat → ClassId) → List (ClassId × FieldType)) (S0 : ca_St) (A : Nat → Prop) (below : List Frame) (args : Array Value) (s : State) (mc ms : Nat) : State → Prop := MQ below (va_Qv (fun _ : ca_U => True) (fun u t => va_P D ca_cl (wf u.1 u.2 S0) t.heap ∧ va_K D ca_cl (tf u.2) t ∧ va_D A (wf u.1 u.2 S0)) A) args s mc ms A
/-- the contract of a constructor: the object's blank cell in, the object's world out, mc cells of ms slots made -/
def ca_MeC (l : Launch) (y : MethodName) (cc : ByteArray) (n : Nat) (D : va_G) (w0 : va_W) (wf : (Nat → Nat) → (Nat → ClassId) → ca_St → va_W) (tf : (Nat → ClassId) → List (ClassId × FieldType)) (h : Nat) (S0 : ca_St) (mc ms : Nat) : Prop := ∀ sz : Nat, Met l y (ws_ y cc n none) { frames := 1, cells := mc, slots := ms, locals := 12 } (va_Pc [.ref h] (fun U => U.heap.size = sz ∧ va_P D ca_cl w0 U.heap ∧ va_K D ca_cl [] U ∧ va_D (fun _ => True) w0)) (va_Qv (fun _ : ca_U => True) (fun u t => va_P D ca_cl (wf u.1 u.2 S0) t.heap ∧ va_K D ca_cl (tf u.2) t ∧ va_D (va_A w0 sz) (wf u.1 u.2 S0)) (va_A w0 sz)) mc ms (va_A w0 sz)
theorem ca_startC {l : Launch} {y : MethodName} {cc : ByteArray} {n : Nat} {D : va_G} {w0 : va_W} {wf : (Nat → Nat) → (Nat → ClassId) → ca_St → va_W} {tf : (Nat → ClassId) → List (ClassId × FieldType)} {h : Nat} {S0 : ca_St} {mc ms : Nat} (hy : plainName y.cls = true) (hy2 : y.name = "<init>") (hn : (lg_sl [.ref h]).length ≤ n)
    (body : ∀ (p : Program) (e : Env) (s : State) (m : MethodId) (args : Array Value) (below : List Frame) (meth : Method) (c : Code) (A : Nat → Prop) (ls : Array Slot), ca_C p m meth c cc n none y.cls s args → meth.name = "<init>" → va_K D ca_cl [] s → va_P D ca_cl w0 s.heap → va_D A w0 → (∀ q : Nat, s.heap.size ≤ q → A q) → lv_has ls n (lv_args 0 [.ref h]) → W p l e { frames := 1, cells := mc, slots := ms, locals := 12 } s m args below meth c s.heap [] 0 0 (ca_GC D wf tf S0 A below args s mc ms) (F0 m 0 ls [])) : ca_MeC l y cc n D w0 wf tf h S0 mc ms := by
  intro sz
  refine Met.ofW (cc := cc) (maxL := n) (ret := none) hy rfl ?_
  intro p e s m args below meth c s₁ B hml hv
  obtain ⟨rfl, hsz, hP, hK, hD0⟩ := hv
  have hts := atoms_spec (ws := ws_ y cc n none) B.pre
  have hts : ∀ w ∈ lw_all, w.before _ s = true := fun w h => hts w (List.mem_cons_of_mem _ h)
  have hown : s.vm.findClass y.cls = some m.cls := findClass_of_methodNamed B.named
  have hin : meth.name = "<init>" := (name_of_methodNamed B.named B.method).1.trans hy2
  subst hsz
  have hl := lv_entry ([.ref h] : List Value) (n := n) hn
  rw [lg_entry_eq]
  exact body p e s m _ below meth c _ _ ⟨B.exec, B.bytes, B.returns, B.notSynchronized, hts, hown, hml⟩ hin hK hP (hD0.self (sz := s.heap.size)) (fun q h => Or.inr h) hl
theorem ca_vretC {p : Program} {l : Launch} {e : Env} {R : Room} {s : State} {m : MethodId} {args : Array Value} {below : List Frame} {meth : Method} {c : Code} {H : Heap} {locs : List Loc} {cc : ByteArray} {pc : Nat} {ls : Array Slot} {D : va_G} {A : Nat → Prop} {n : Nat} {own : String} {wf : (Nat → Nat) → (Nat → ClassId) → ca_St → va_W} {tf : (Nat → ClassId) → List (ClassId × FieldType)} {S S0 : ca_St} {mc ms : Nat} {a : Nat → Nat} {d : Nat → ClassId} (hS : S = S0) (C : ca_C p m meth c cc n none own s args) (X : ca_I D (wf a d) (tf d) A s H locs S) (hdg : decode cc pc = .ok (.return_, 1)) : W p l e R s m args below meth c H locs mc ms (ca_GC D wf tf S0 A below args s mc ms) (F0 m pc ls []) := by
  subst hS
  exact W.vret C.1 C.2.1 C.2.2.1 (fun t ht hW => ⟨⟨(a, d), rfl, trivial, by rw [ht]; exact X.2.1, va_K.moved hW.alike X.1, X.2.2.1⟩, X.2.2.2.1.F ht⟩) X.2.2.2.1.2.2 hdg C.2.2.2.1
end
section
set_option maxRecDepth 100000
/-! THE START: the two fresh objects are related -/
theorem ca_S00_1 : ∀ i, i < 16 → ca_S00 1 i = -2 := by decide +kernel
theorem ca_S00_6 : ∀ i, i < 16 → ca_S00 6 i = -1 := by decide +kernel
theorem ca_S00_10 : ∀ i, i < 4 → ca_S00 10 i = -1 := by decide +kernel
theorem ca_M00_1 : ∀ i, i < 16 → ca_M00 1 i = -2 := by decide +kernel
theorem ca_R00 : ca_R ca_S00 ca_M00 := by
  refine ⟨⟨fun v hv => by rw [ca_M00_1 v hv, ca_S00_1 v hv], fun j hj => Or.inl (ca_S00_1 j hj), fun v _ _ => rfl, fun v _ => Or.inl rfl, fun v _ => rfl, fun v _ => rfl, fun v _ => Or.inl rfl⟩, ⟨fun i hi => Or.inl (ca_S00_6 i hi), fun i i' hi _ _ h => absurd (ca_S00_6 i hi) h, fun i _ => Or.inl rfl, fun i t hi ht h => ?_, fun t _ _ w _ => rfl⟩, fun e he => Or.inl (ca_S00_10 e he), rfl⟩
  rw [ca_S00_6 i hi] at h
  exact absurd h.symm (ca_nm1 (by omega))
theorem ca_and31 (x : Int32) : ∃ k : Nat, k < 32 ∧ x &&& nI 31 = nI k := by
  have e : nI x.toBitVec.toNat = x := Int32.toBitVec_inj.mp (by simp [nI, Int32.ofNat])
  have h := pk_andN (n := x.toBitVec.toNat) x.toBitVec.isLt (m := nI 31) 5 (by decide +kernel)
  rw [e] at h
  exact ⟨_, Nat.mod_lt _ (by decide), h⟩
theorem ca_gt4 {i L : Nat} (hL : L ≤ 256) (hi : i ≤ 300) (h : ¬ nI L - nI 4 < nI i) : i + 4 ≤ L := by
  rcases Nat.lt_or_ge L 4 with q | q
  · refine absurd ?_ h
    have h1 : (nI L - nI 4).toInt < 0 := by
      rcases (show L = 0 ∨ L = 1 ∨ L = 2 ∨ L = 3 by omega) with rfl | rfl | rfl | rfl <;> decide +kernel
    rw [Int32.lt_iff_toInt_lt, nI_toInt (by omega)]
    omega
  · have e : nI L - nI 4 = nI (L - 4) := by
      rw [show nI L = nI (L - 4) + nI 4 by rw [nI_add, show L - 4 + 4 = L by omega], Int32.add_sub_cancel]
    rw [e] at h
    rcases Nat.lt_or_ge (L - 4) i with q2 | q2
    · exact absurd (nI_lt q2 (by omega)) h
    · omega
theorem ca_inc4 (i : Nat) : nI i + Int32.ofInt 4 = nI (i + 4) := by
  rw [show Int32.ofInt 4 = nI 4 by decide +kernel]; exact nI_add i 4
end
section
set_option maxRecDepth 100000
/-! THE CLAIM OUT OF ONE WALK OF THE LAW'S BODY. Your part is whole_start (and what it stands on); all else here is the same for every law, but numbers. -/
def R_law : String := "VipCacheLaw"
def lw_P (b : Addr) (xs : List Int32) (args : Array Value) (s : State) : Prop := args = #[.ref b] ∧ s.IntsAt b xs ∧ xs.length ≤ 256 ∧ (Jvm.Cond.and given_1 narrow_1).before args s = true
def lw_Q (_ : Array Value) (s : State) (o : Outcome) (t : State) : Prop := o = .returned (some (.int 1)) ∧ Framed s o t [] 600000 7290000
def lw_Z (below : List Frame) (a : Array Value) (s : State) : State → Prop := fun t => ∃ o, t.status = .running ∧ Ended t below o ∧ lw_Q a s o t
/-- the law's own end, with 1 on the stack, nothing written that was there before, its room as the claim has it -/
theorem lw_ret {p : Program} {l : Launch} {e : Env} {s : State} {m : MethodId} {below : List Frame} {meth : Method} {c : Code} {b : Nat} (hx : p.tables.exec = Jvm.exec) (hb : c.code = code) (hr : meth.sig.returnType = ret) (hlocks : meth.locks = false) {pc : Nat} {H : Heap} {ls : Array Slot} (hdg : decode code pc = .ok (.ireturn, 1)) : W p l e room_1 s m #[Value.ref b] below meth c H [] 600000 7290000 (lw_Z below #[Value.ref b] s) (F0 m pc ls [.int 1]) := by
  intro T hT X
  obtain ⟨fs, hret, hrun, hended, hW, hframe⟩ := X.leave (v := some (.int 1)) (hlocks := hlocks) (fun h => by rw [hr] at h; cases h)
  have hmeth' : T.vm.method? m = some meth := X.method'
  refine ⟨T.setFrames fs, ?_, .returned (some (.int 1)), hrun, hended, rfl, ⟨_, rfl⟩, hW, hframe⟩
  jvm_step X.here [X.here.top, hx, hb, hdg, hmeth', hr, ret, narrow_b1]
  (try refine ⟨rfl, ?_⟩); (try refine ⟨rfl, ?_⟩)
  first | (intro acts; rw [hret _ acts rfl rfl rfl]) | rw [hret _ _ rfl rfl rfl]
  exact Steps.refl _
/-- what holds at the law's entry: the machine, the code, the tables' words (any of lw_tbl by 'hts w (by decide +kernel)'), the script of L ints xs at the cell b, what the Statement gives of the start (any of its parts by flat_of_before) -/
def lw_At (p : Program) (s : State) (m : MethodId) (meth : Method) (c : Code) (b L : Nat) (xs : Nat → Int32) : Prop :=
  p.tables.exec = Jvm.exec ∧ c.code = code ∧ meth.sig.returnType = ret ∧ c.maxLocals = 4 ∧ s.vm.findClass R_law = some m.cls ∧ (∀ w ∈ lw_tbl, w.before #[Value.ref b] s = true) ∧ va_X b L xs s s.heap ∧ b < s.heap.size ∧ meth.locks = false ∧ (Jvm.Cond.and given_1 narrow_1).before #[Value.ref b] s = true
end
section
set_option maxRecDepth 100000
/-! THE LAW'S WORLD: both objects, side by side -/
def ca_Lw (D : va_G) (h : Nat) (a : Nat → Nat) (d : Nat → ClassId) (h' : Nat) (a' : Nat → Nat) (d' : Nat → ClassId) (s : State) (H : Heap) (locs : List Loc) (S M : ca_St) : Prop := va_K D ca_cl (ca_TX d ++ ca_TM d') s ∧ va_P D ca_cl (ca_X h a d S ++ ca_M h' a' d' M) H ∧ va_D (fun q : Nat => s.heap.size ≤ q) (ca_X h a d S ++ ca_M h' a' d' M) ∧ va_S (fun q : Nat => s.heap.size ≤ q) s.heap H locs
section CAL
variable {p : Program} {l : Launch} {e : Env} {R : Room} {s : State} {m : MethodId} {args : Array Value} {below : List Frame} {meth : Method} {c : Code} {H : Heap} {locs : List Loc} {cells slots : Nat} {Q : State → Prop} {cc : ByteArray} {pc : Nat} {ls : Array Slot} {rest : List Value} {D : va_G} {S M : ca_St} {h : Nat} {a : Nat → Nat} {d : Nat → ClassId} {h' : Nat} {a' : Nat → Nat} {d' : Nat → ClassId}
theorem ca_lcX {nL maxL n index : Nat} {ret ret2 : Option FieldType} {own : String} {y : MethodName} {bytes : ByteArray} {rm : Room} {As : List Value} {post : Int32 → ca_St → Prop} {st0 : List Value} (hC : ca_C p m meth c cc nL ret2 own s args) (hM : ca_Met l y bytes maxL ret rm D (ca_X h a d) (ca_TX d) (.ref h :: As) S post) (cw : CallW R s args own RX0 index y bytes maxL ret (ws_ y bytes maxL ret) rm 0 0 n) (X : ca_Lw D h a d h' a' d' s H locs S M) (hn : As.length = n) (hsize : ls.size = nL) (hstack : st0 = As.reverse ++ .ref h :: rest) (hroom : (rest.map fun v => v.category).sum ≤ 8) (hdg : decode cc pc = .ok (.invokevirtual index, 3)) (hf : cells ≤ R.cells ∧ slots ≤ R.slots)
    (kk : ∀ (r : Int32) (S' : ca_St) (H1 : Heap) (locs1 : List Loc), post r S' → ca_Lw D h a d h' a' d' s H1 locs1 S' M → W p l e R s m args below meth c H1 locs1 cells slots Q (F0 m (pc + 3) ls (.int r :: rest))) : W p l e R s m args below meth c H locs cells slots Q (F0 m pc ls st0) := by
  obtain ⟨hx, hb, -, -, hts, hown, hml⟩ := hC
  obtain ⟨hK, hP, hD, hS⟩ := X
  have hA : ∀ q : Nat, s.heap.size ≤ q → (fun q : Nat => s.heap.size ≤ q) q := fun _ h => h
  have hPc := hP.sub (ws' := ca_X h a d S) [0, 1, 2, 3, 4, 5, 6, 7, 8, 9, 10, 11, 12, 13, 14] rfl
  have hDc := hD.sub (ws' := ca_X h a d S) [0, 1, 2, 3, 4, 5, 6, 7, 8, 9, 10, 11, 12, 13, 14] (by decide) rfl
  have hKc := hK.sub (tys' := ca_TX d) [0, 1, 2, 3, 4, 5, 6, 7, 8, 9, 10, 11, 12, 13] rfl
  have hFc := va_free (wc := ca_X h a d S) hD hS hA [0, 1, 2, 3, 4, 5, 6, 7, 8, 9, 10, 11, 12, 13, 14] rfl
  refine va_calli (va_runV (As := As) (rest := rest) ⟨hx, hb, hml, hown, hts⟩ (hM H.size) cw ⟨fun a U g mk q => by obtain ⟨q0, q1, qP, qK, qD⟩ := q; exact ⟨q0, q1, qP, va_K.moved (u := U) (U := U.calling g mk a) (Vm.Alike.refl U.vm) qK, qD⟩, va_recv hKc hPc (ci := 0) (q0 := 0) rfl rfl, fun U hU hW => ⟨rfl, by rw [hU], by rw [hU]; exact hPc, va_K.moved hW.alike hKc, hDc.weaken (fun _ _ _ _ => trivial)⟩⟩ rfl hn hsize hstack (lv_room hroom) hdg hf) hS (fun q _ h => hFc q h) hFc (fun r u t H1 locs1 ht hvm hp hB hz hk hS => ?_)
  obtain ⟨hP1, hK1, hD1⟩ := hB
  rw [ht] at hP1
  obtain ⟨hP, hD⟩ := va_join (wr := ca_M h' a' d' M) (w1 := ca_X h a d u) hP hD [0, 1, 2, 3, 4, 5, 6, 7, 8, 9, 10, 11, 12, 13, 14] [15, 16, 17, 18, 19, 20] rfl rfl (by decide) (by decide) hk hFc hP1 hD1
  exact kk r u H1 locs1 hp ⟨hK, hP.sub [6, 7, 8, 9, 10, 11, 12, 13, 14, 15, 16, 17, 18, 19, 20, 0, 1, 2, 3, 4, 5] rfl, hD.sub [6, 7, 8, 9, 10, 11, 12, 13, 14, 15, 16, 17, 18, 19, 20, 0, 1, 2, 3, 4, 5] (by decide) rfl, hS⟩
theorem ca_lcM {nL maxL n index : Nat} {ret ret2 : Option FieldType} {own : String} {y : MethodName} {bytes : ByteArray} {rm : Room} {As : List Value} {post : Int32 → ca_St → Prop} {st0 : List Value} (hC : ca_C p m meth c cc nL ret2 own s args) (hM : ca_Met l y bytes maxL ret rm D (ca_M h' a' d') (ca_TM d') (.ref h' :: As) M post) (cw : CallW R s args own RX1 index y bytes maxL ret (ws_ y bytes maxL ret) rm 0 0 n) (X : ca_Lw D h a d h' a' d' s H locs S M) (hn : As.length = n) (hsize : ls.size = nL) (hstack : st0 = As.reverse ++ .ref h' :: rest) (hroom : (rest.map fun v => v.category).sum ≤ 8) (hdg : decode cc pc = .ok (.invokevirtual index, 3)) (hf : cells ≤ R.cells ∧ slots ≤ R.slots)
    (kk : ∀ (r : Int32) (M' : ca_St) (H1 : Heap) (locs1 : List Loc), post r M' → ca_Lw D h a d h' a' d' s H1 locs1 S M' → W p l e R s m args below meth c H1 locs1 cells slots Q (F0 m (pc + 3) ls (.int r :: rest))) : W p l e R s m args below meth c H locs cells slots Q (F0 m pc ls st0) := by
  obtain ⟨hx, hb, -, -, hts, hown, hml⟩ := hC
  obtain ⟨hK, hP, hD, hS⟩ := X
  have hA : ∀ q : Nat, s.heap.size ≤ q → (fun q : Nat => s.heap.size ≤ q) q := fun _ h => h
  have hPc := hP.sub (ws' := ca_M h' a' d' M) [15, 16, 17, 18, 19, 20] rfl
  have hDc := hD.sub (ws' := ca_M h' a' d' M) [15, 16, 17, 18, 19, 20] (by decide) rfl
  have hKc := hK.sub (tys' := ca_TM d') [14, 15, 16, 17, 18] rfl
  have hFc := va_free (wc := ca_M h' a' d' M) hD hS hA [15, 16, 17, 18, 19, 20] rfl
  refine va_calli (va_runV (As := As) (rest := rest) ⟨hx, hb, hml, hown, hts⟩ (hM H.size) cw ⟨fun a U g mk q => by obtain ⟨q0, q1, qP, qK, qD⟩ := q; exact ⟨q0, q1, qP, va_K.moved (u := U) (U := U.calling g mk a) (Vm.Alike.refl U.vm) qK, qD⟩, va_recv hKc hPc (ci := 1) (q0 := 0) rfl rfl, fun U hU hW => ⟨rfl, by rw [hU], by rw [hU]; exact hPc, va_K.moved hW.alike hKc, hDc.weaken (fun _ _ _ _ => trivial)⟩⟩ rfl hn hsize hstack (lv_room hroom) hdg hf) hS (fun q _ h => hFc q h) hFc (fun r u t H1 locs1 ht hvm hp hB hz hk hS => ?_)
  obtain ⟨hP1, hK1, hD1⟩ := hB
  rw [ht] at hP1
  obtain ⟨hP, hD⟩ := va_join (wr := ca_X h a d S) (w1 := ca_M h' a' d' u) hP hD [15, 16, 17, 18, 19, 20] [0, 1, 2, 3, 4, 5, 6, 7, 8, 9, 10, 11, 12, 13, 14] rfl rfl (by decide) (by decide) hk hFc hP1 hD1
  exact kk r u H1 locs1 hp ⟨hK, hP, hD, hS⟩
theorem ca_lcXv {nL maxL n index : Nat} {ret2 : Option FieldType} {own : String} {y : MethodName} {bytes : ByteArray} {rm : Room} {As : List Value} {post : ca_St → Prop} {st0 : List Value} (hC : ca_C p m meth c cc nL ret2 own s args) (hM : ca_MeV l y bytes maxL rm D (ca_X h a d) (ca_TX d) (.ref h :: As) S post) (cw : CallW R s args own RX0 index y bytes maxL none (ws_ y bytes maxL none) rm 0 0 n) (X : ca_Lw D h a d h' a' d' s H locs S M) (hn : As.length = n) (hsize : ls.size = nL) (hstack : st0 = As.reverse ++ .ref h :: rest) (hroom : (rest.map fun v => v.category).sum ≤ 8) (hdg : decode cc pc = .ok (.invokevirtual index, 3)) (hf : cells ≤ R.cells ∧ slots ≤ R.slots)
    (kk : ∀ (S' : ca_St) (H1 : Heap) (locs1 : List Loc), post S' → ca_Lw D h a d h' a' d' s H1 locs1 S' M → W p l e R s m args below meth c H1 locs1 cells slots Q (F0 m (pc + 3) ls rest)) : W p l e R s m args below meth c H locs cells slots Q (F0 m pc ls st0) := by
  obtain ⟨hx, hb, -, -, hts, hown, hml⟩ := hC
  obtain ⟨hK, hP, hD, hS⟩ := X
  have hA : ∀ q : Nat, s.heap.size ≤ q → (fun q : Nat => s.heap.size ≤ q) q := fun _ h => h
  have hPc := hP.sub (ws' := ca_X h a d S) [0, 1, 2, 3, 4, 5, 6, 7, 8, 9, 10, 11, 12, 13, 14] rfl
  have hDc := hD.sub (ws' := ca_X h a d S) [0, 1, 2, 3, 4, 5, 6, 7, 8, 9, 10, 11, 12, 13, 14] (by decide) rfl
  have hKc := hK.sub (tys' := ca_TX d) [0, 1, 2, 3, 4, 5, 6, 7, 8, 9, 10, 11, 12, 13] rfl
  have hFc := va_free (wc := ca_X h a d S) hD hS hA [0, 1, 2, 3, 4, 5, 6, 7, 8, 9, 10, 11, 12, 13, 14] rfl
  refine va_callv (va_runV (As := As) (rest := rest) ⟨hx, hb, hml, hown, hts⟩ (hM H.size) cw ⟨fun a U g mk q => by obtain ⟨q0, q1, qP, qK, qD⟩ := q; exact ⟨q0, q1, qP, va_K.moved (u := U) (U := U.calling g mk a) (Vm.Alike.refl U.vm) qK, qD⟩, va_recv hKc hPc (ci := 0) (q0 := 0) rfl rfl, fun U hU hW => ⟨rfl, by rw [hU], by rw [hU]; exact hPc, va_K.moved hW.alike hKc, hDc.weaken (fun _ _ _ _ => trivial)⟩⟩ rfl hn hsize hstack (lv_room hroom) hdg hf) hS (fun q _ h => hFc q h) hFc (fun u t H1 locs1 ht hvm hp hB hz hk hS => ?_)
  obtain ⟨hP1, hK1, hD1⟩ := hB
  rw [ht] at hP1
  obtain ⟨hP, hD⟩ := va_join (wr := ca_M h' a' d' M) (w1 := ca_X h a d u) hP hD [0, 1, 2, 3, 4, 5, 6, 7, 8, 9, 10, 11, 12, 13, 14] [15, 16, 17, 18, 19, 20] rfl rfl (by decide) (by decide) hk hFc hP1 hD1
  exact kk u H1 locs1 hp ⟨hK, hP.sub [6, 7, 8, 9, 10, 11, 12, 13, 14, 15, 16, 17, 18, 19, 20, 0, 1, 2, 3, 4, 5] rfl, hD.sub [6, 7, 8, 9, 10, 11, 12, 13, 14, 15, 16, 17, 18, 19, 20, 0, 1, 2, 3, 4, 5] (by decide) rfl, hS⟩
theorem ca_lcMv {nL maxL n index : Nat} {ret2 : Option FieldType} {own : String} {y : MethodName} {bytes : ByteArray} {rm : Room} {As : List Value} {post : ca_St → Prop} {st0 : List Value} (hC : ca_C p m meth c cc nL ret2 own s args) (hM : ca_MeV l y bytes maxL rm D (ca_M h' a' d') (ca_TM d') (.ref h' :: As) M post) (cw : CallW R s args own RX1 index y bytes maxL none (ws_ y bytes maxL none) rm 0 0 n) (X : ca_Lw D h a d h' a' d' s H locs S M) (hn : As.length = n) (hsize : ls.size = nL) (hstack : st0 = As.reverse ++ .ref h' :: rest) (hroom : (rest.map fun v => v.category).sum ≤ 8) (hdg : decode cc pc = .ok (.invokevirtual index, 3)) (hf : cells ≤ R.cells ∧ slots ≤ R.slots)
    (kk : ∀ (M' : ca_St) (H1 : Heap) (locs1 : List Loc), post M' → ca_Lw D h a d h' a' d' s H1 locs1 S M' → W p l e R s m args below meth c H1 locs1 cells slots Q (F0 m (pc + 3) ls rest)) : W p l e R s m args below meth c H locs cells slots Q (F0 m pc ls st0) := by
  obtain ⟨hx, hb, -, -, hts, hown, hml⟩ := hC
  obtain ⟨hK, hP, hD, hS⟩ := X
  have hA : ∀ q : Nat, s.heap.size ≤ q → (fun q : Nat => s.heap.size ≤ q) q := fun _ h => h
  have hPc := hP.sub (ws' := ca_M h' a' d' M) [15, 16, 17, 18, 19, 20] rfl
  have hDc := hD.sub (ws' := ca_M h' a' d' M) [15, 16, 17, 18, 19, 20] (by decide) rfl
  have hKc := hK.sub (tys' := ca_TM d') [14, 15, 16, 17, 18] rfl
  have hFc := va_free (wc := ca_M h' a' d' M) hD hS hA [15, 16, 17, 18, 19, 20] rfl
  refine va_callv (va_runV (As := As) (rest := rest) ⟨hx, hb, hml, hown, hts⟩ (hM H.size) cw ⟨fun a U g mk q => by obtain ⟨q0, q1, qP, qK, qD⟩ := q; exact ⟨q0, q1, qP, va_K.moved (u := U) (U := U.calling g mk a) (Vm.Alike.refl U.vm) qK, qD⟩, va_recv hKc hPc (ci := 1) (q0 := 0) rfl rfl, fun U hU hW => ⟨rfl, by rw [hU], by rw [hU]; exact hPc, va_K.moved hW.alike hKc, hDc.weaken (fun _ _ _ _ => trivial)⟩⟩ rfl hn hsize hstack (lv_room hroom) hdg hf) hS (fun q _ h => hFc q h) hFc (fun u t H1 locs1 ht hvm hp hB hz hk hS => ?_)
  obtain ⟨hP1, hK1, hD1⟩ := hB
  rw [ht] at hP1
  obtain ⟨hP, hD⟩ := va_join (wr := ca_X h a d S) (w1 := ca_M h' a' d' u) hP hD [15, 16, 17, 18, 19, 20] [0, 1, 2, 3, 4, 5, 6, 7, 8, 9, 10, 11, 12, 13, 14] rfl rfl (by decide) (by decide) hk hFc hP1 hD1
  exact kk u H1 locs1 hp ⟨hK, hP, hD, hS⟩
theorem ca_C0 {b L : Nat} {xs : Nat → Int32} (C0 : lw_At p s m meth c b L xs) : ca_C p m meth c code 4 ret R_law s #[Value.ref b] := by
  obtain ⟨hx, hb, hr, hml, hown, hts0, hX, hbl, hlocks, hgv⟩ := C0
  exact ⟨hx, hb, hr, hlocks, fun w h => hts0 w (lw_all_tbl h), hown, hml⟩
/-- a word of the script -/
theorem ca_sl {b L j : Nat} {xs : Nat → Int32} (hL : L ≤ 256) (C0 : lw_At p s m meth c b L xs) (X : ca_Lw D h a d h' a' d' s H locs S M) (hj : j < L) (hdg : decode code pc = .ok (.iaload, 1)) (kk : W p l e R s m #[Value.ref b] below meth c H locs cells slots Q (F0 m (pc + 1) ls (.int (xs j) :: rest))) : W p l e R s m #[Value.ref b] below meth c H locs cells slots Q (F0 m pc ls (.int (nI j) :: .ref b :: rest)) := by
  obtain ⟨hx, hb, hr, hml, hown, hts0, hX, hbl, hlocks, hgv⟩ := C0
  have hbA : ¬ (fun q : Nat => s.heap.size ≤ q) b := Nat.not_le.mpr hbl
  refine va_sld hx hb hX hbl hbA X.2.2.2 (vp_in_nI hj (by omega)) hdg ?_
  rw [nI_clamp (by omega)]
  exact kk
end CAL
end
section
set_option maxRecDepth 100000
/-! ONE CASE OF THE LAW'S SWITCH EACH -/
section CAO
variable {p : Program} {l : Launch} {e : Env} {s : State} {m : MethodId} {below : List Frame} {meth : Method} {c : Code} {H : Heap} {locs : List Loc} {Q : State → Prop} {ls : Array Slot} {D : va_G} {S M : ca_St} {h : Nat} {a : Nat → Nat} {d : Nat → ClassId} {h' : Nat} {a' : Nat → Nat} {d' : Nat → ClassId} {b L : Nat} {xs : Nat → Int32}
set_option maxHeartbeats 4000000 in
theorem ca_op_map (hL : L ≤ 256) (C0 : lw_At p s m meth c b L xs) {i : Nat} (hi : i + 4 ≤ L) (hR : ca_R S M) (X : ca_Lw D h a d h' a' d' s H locs S M) (hl : lv_has ls 4 [(0, .ref b), (1, .ref h), (2, .ref h'), (3, .int (nI i))]) (kk : ∀ (S' M' : ca_St) (H : Heap) (locs : List Loc), ca_R S' M' → ca_Lw D h a d h' a' d' s H locs S' M' → W p l e room_1 s m #[Value.ref b] below meth c H locs 600000 7290000 Q (F0 m 622 ls [])) : W p l e room_1 s m #[Value.ref b] below meth c H locs 600000 7290000 Q (F0 m 120 ls []) := by
  have C := ca_C0 C0
  have hx := C.1
  have hb := C.2.1
  refine lv_aload_n hx hb dL_law_120 rfl (lv_at hl 1 rfl) ?_
  refine lv_aload_n hx hb dL_law_121 rfl (lv_at hl 0 rfl) ?_
  refine lv_iload_n hx hb dL_law_122 rfl (lv_at hl 3 rfl) ?_
  refine lv_iconst (v := nI 1) hx hb dL_law_123 (by decide +kernel) ?_
  refine ca_addN (i := i) (j := 1) hx hb dL_law_124 ?_
  refine ca_sl (j := i + 1) hL C0 X (by omega) dL_law_125 ?_
  refine lv_aload_n hx hb dL_law_126 rfl (lv_at hl 0 rfl) ?_
  refine lv_iload_n hx hb dL_law_127 rfl (lv_at hl 3 rfl) ?_
  refine lv_iconst (v := nI 2) hx hb dL_law_128 (by decide +kernel) ?_
  refine ca_addN (i := i) (j := 2) hx hb dL_law_129 ?_
  refine ca_sl (j := i + 2) hL C0 X (by omega) dL_law_130 ?_
  refine lv_aload_n hx hb dL_law_131 rfl (lv_at hl 0 rfl) ?_
  refine lv_iload_n hx hb dL_law_132 rfl (lv_at hl 3 rfl) ?_
  refine lv_iconst (v := nI 3) hx hb dL_law_133 (by decide +kernel) ?_
  refine ca_addN (i := i) (j := 3) hx hb dL_law_134 ?_
  refine ca_sl (j := i + 3) hL C0 X (by omega) dL_law_135 ?_
  refine ca_lcX (As := [.int (xs (i + 1)), .int (xs (i + 2)), .int (xs (i + 3))]) (rest := []) C (ca_cX_map l D h a d S (xs (i + 1)) (xs (i + 2)) (xs (i + 3))) (cwV 3 C.2.2.2.2.1 (lw_V q80 q81 q82 q19 q83) rfl rfl rfl (by decide +kernel) ⟨Nat.le_of_ble_eq_true rfl, Nat.le_of_ble_eq_true rfl⟩) X rfl hl.1 rfl (Nat.le_of_ble_eq_true rfl) dL_law_136 ⟨Nat.le_refl _, Nat.le_refl _⟩ (fun r S' H locs hp X => ?_)
  refine lv_aload_n hx hb dL_law_139 rfl (lv_at hl 2 rfl) ?_
  refine lv_aload_n hx hb dL_law_140 rfl (lv_at hl 0 rfl) ?_
  refine lv_iload_n hx hb dL_law_141 rfl (lv_at hl 3 rfl) ?_
  refine lv_iconst (v := nI 1) hx hb dL_law_142 (by decide +kernel) ?_
  refine ca_addN (i := i) (j := 1) hx hb dL_law_143 ?_
  refine ca_sl (j := i + 1) hL C0 X (by omega) dL_law_144 ?_
  refine lv_aload_n hx hb dL_law_145 rfl (lv_at hl 0 rfl) ?_
  refine lv_iload_n hx hb dL_law_146 rfl (lv_at hl 3 rfl) ?_
  refine lv_iconst (v := nI 2) hx hb dL_law_147 (by decide +kernel) ?_
  refine ca_addN (i := i) (j := 2) hx hb dL_law_148 ?_
  refine ca_sl (j := i + 2) hL C0 X (by omega) dL_law_149 ?_
  refine lv_aload_n hx hb dL_law_150 rfl (lv_at hl 0 rfl) ?_
  refine lv_iload_n hx hb dL_law_151 rfl (lv_at hl 3 rfl) ?_
  refine lv_iconst (v := nI 3) hx hb dL_law_152 (by decide +kernel) ?_
  refine ca_addN (i := i) (j := 3) hx hb dL_law_153 ?_
  refine ca_sl (j := i + 3) hL C0 X (by omega) dL_law_154 ?_
  refine ca_lcM (As := [.int (xs (i + 1)), .int (xs (i + 2)), .int (xs (i + 3))]) (rest := [.int r]) C (ca_cM_map l D h' a' d' M (xs (i + 1)) (xs (i + 2)) (xs (i + 3))) (cwV 3 C.2.2.2.2.1 (lw_V q234 q235 q236 q20 q237) rfl rfl rfl (by decide +kernel) ⟨Nat.le_of_ble_eq_true rfl, Nat.le_of_ble_eq_true rfl⟩) X rfl hl.1 rfl (Nat.le_of_ble_eq_true rfl) dL_law_155 ⟨Nat.le_refl _, Nat.le_refl _⟩ (fun r' M' H locs hq X => ?_)
  obtain ⟨e1, hR1⟩ := ca_sim_map hR hp hq
  refine lv_icmp_eq (tgt := 622) hx hb dL_law_158 (by decide) (fun _ => ?_) (fun c1 => absurd e1 c1)
  exact kk _ _ _ _ hR1 X
set_option maxHeartbeats 4000000 in
theorem ca_op_unmap (hL : L ≤ 256) (C0 : lw_At p s m meth c b L xs) {i : Nat} (hi : i + 4 ≤ L) (hR : ca_R S M) (X : ca_Lw D h a d h' a' d' s H locs S M) (hl : lv_has ls 4 [(0, .ref b), (1, .ref h), (2, .ref h'), (3, .int (nI i))]) (kk : ∀ (S' M' : ca_St) (H : Heap) (locs : List Loc), ca_R S' M' → ca_Lw D h a d h' a' d' s H locs S' M' → W p l e room_1 s m #[Value.ref b] below meth c H locs 600000 7290000 Q (F0 m 622 ls [])) : W p l e room_1 s m #[Value.ref b] below meth c H locs 600000 7290000 Q (F0 m 163 ls []) := by
  have C := ca_C0 C0
  have hx := C.1
  have hb := C.2.1
  refine lv_aload_n hx hb dL_law_163 rfl (lv_at hl 1 rfl) ?_
  refine lv_aload_n hx hb dL_law_164 rfl (lv_at hl 0 rfl) ?_
  refine lv_iload_n hx hb dL_law_165 rfl (lv_at hl 3 rfl) ?_
  refine lv_iconst (v := nI 1) hx hb dL_law_166 (by decide +kernel) ?_
  refine ca_addN (i := i) (j := 1) hx hb dL_law_167 ?_
  refine ca_sl (j := i + 1) hL C0 X (by omega) dL_law_168 ?_
  refine ca_lcX (As := [.int (xs (i + 1))]) (rest := []) C (ca_cX_unmap l D h a d S (xs (i + 1))) (cwV 1 C.2.2.2.2.1 (lw_V q96 q97 q98 q19 q99) rfl rfl rfl (by decide +kernel) ⟨Nat.le_of_ble_eq_true rfl, Nat.le_of_ble_eq_true rfl⟩) X rfl hl.1 rfl (Nat.le_of_ble_eq_true rfl) dL_law_169 ⟨Nat.le_refl _, Nat.le_refl _⟩ (fun r S' H locs hp X => ?_)
  refine lv_aload_n hx hb dL_law_172 rfl (lv_at hl 2 rfl) ?_
  refine lv_aload_n hx hb dL_law_173 rfl (lv_at hl 0 rfl) ?_
  refine lv_iload_n hx hb dL_law_174 rfl (lv_at hl 3 rfl) ?_
  refine lv_iconst (v := nI 1) hx hb dL_law_175 (by decide +kernel) ?_
  refine ca_addN (i := i) (j := 1) hx hb dL_law_176 ?_
  refine ca_sl (j := i + 1) hL C0 X (by omega) dL_law_177 ?_
  refine ca_lcM (As := [.int (xs (i + 1))]) (rest := [.int r]) C (ca_cM_unmap l D h' a' d' M (xs (i + 1))) (cwV 1 C.2.2.2.2.1 (lw_V q250 q251 q252 q20 q253) rfl rfl rfl (by decide +kernel) ⟨Nat.le_of_ble_eq_true rfl, Nat.le_of_ble_eq_true rfl⟩) X rfl hl.1 rfl (Nat.le_of_ble_eq_true rfl) dL_law_178 ⟨Nat.le_refl _, Nat.le_refl _⟩ (fun r' M' H locs hq X => ?_)
  obtain ⟨e1, hR1⟩ := ca_sim_unmap hR hp hq
  refine lv_icmp_eq (tgt := 622) hx hb dL_law_181 (by decide) (fun _ => ?_) (fun c1 => absurd e1 c1)
  exact kk _ _ _ _ hR1 X
set_option maxHeartbeats 4000000 in
theorem ca_op_frameOf (hL : L ≤ 256) (C0 : lw_At p s m meth c b L xs) {i : Nat} (hi : i + 4 ≤ L) (hR : ca_R S M) (X : ca_Lw D h a d h' a' d' s H locs S M) (hl : lv_has ls 4 [(0, .ref b), (1, .ref h), (2, .ref h'), (3, .int (nI i))]) (kk : ∀ (S' M' : ca_St) (H : Heap) (locs : List Loc), ca_R S' M' → ca_Lw D h a d h' a' d' s H locs S' M' → W p l e room_1 s m #[Value.ref b] below meth c H locs 600000 7290000 Q (F0 m 622 ls [])) : W p l e room_1 s m #[Value.ref b] below meth c H locs 600000 7290000 Q (F0 m 186 ls []) := by
  have C := ca_C0 C0
  have hx := C.1
  have hb := C.2.1
  refine lv_aload_n hx hb dL_law_186 rfl (lv_at hl 1 rfl) ?_
  refine lv_aload_n hx hb dL_law_187 rfl (lv_at hl 0 rfl) ?_
  refine lv_iload_n hx hb dL_law_188 rfl (lv_at hl 3 rfl) ?_
  refine lv_iconst (v := nI 1) hx hb dL_law_189 (by decide +kernel) ?_
  refine ca_addN (i := i) (j := 1) hx hb dL_law_190 ?_
  refine ca_sl (j := i + 1) hL C0 X (by omega) dL_law_191 ?_
  refine ca_lcX (As := [.int (xs (i + 1))]) (rest := []) C (ca_cX_frameOf l D h a d S (xs (i + 1))) (cwV 1 C.2.2.2.2.1 (lw_V q100 q101 q102 q19 q103) rfl rfl rfl (by decide +kernel) ⟨Nat.le_of_ble_eq_true rfl, Nat.le_of_ble_eq_true rfl⟩) X rfl hl.1 rfl (Nat.le_of_ble_eq_true rfl) dL_law_192 ⟨Nat.le_refl _, Nat.le_refl _⟩ (fun r S' H locs hp X => ?_)
  refine lv_aload_n hx hb dL_law_195 rfl (lv_at hl 2 rfl) ?_
  refine lv_aload_n hx hb dL_law_196 rfl (lv_at hl 0 rfl) ?_
  refine lv_iload_n hx hb dL_law_197 rfl (lv_at hl 3 rfl) ?_
  refine lv_iconst (v := nI 1) hx hb dL_law_198 (by decide +kernel) ?_
  refine ca_addN (i := i) (j := 1) hx hb dL_law_199 ?_
  refine ca_sl (j := i + 1) hL C0 X (by omega) dL_law_200 ?_
  refine ca_lcM (As := [.int (xs (i + 1))]) (rest := [.int r]) C (ca_cM_frameOf l D h' a' d' M (xs (i + 1))) (cwV 1 C.2.2.2.2.1 (lw_V q254 q255 q256 q20 q257) rfl rfl rfl (by decide +kernel) ⟨Nat.le_of_ble_eq_true rfl, Nat.le_of_ble_eq_true rfl⟩) X rfl hl.1 rfl (Nat.le_of_ble_eq_true rfl) dL_law_201 ⟨Nat.le_refl _, Nat.le_refl _⟩ (fun r' M' H locs hq X => ?_)
  obtain ⟨e1, hR1⟩ := ca_sim_frameOf hR hp hq
  refine lv_icmp_eq (tgt := 622) hx hb dL_law_204 (by decide) (fun _ => ?_) (fun c1 => absurd e1 c1)
  exact kk _ _ _ _ hR1 X
set_option maxHeartbeats 4000000 in
theorem ca_op_allow (hL : L ≤ 256) (C0 : lw_At p s m meth c b L xs) {i : Nat} (hi : i + 4 ≤ L) (hR : ca_R S M) (X : ca_Lw D h a d h' a' d' s H locs S M) (hl : lv_has ls 4 [(0, .ref b), (1, .ref h), (2, .ref h'), (3, .int (nI i))]) (kk : ∀ (S' M' : ca_St) (H : Heap) (locs : List Loc), ca_R S' M' → ca_Lw D h a d h' a' d' s H locs S' M' → W p l e room_1 s m #[Value.ref b] below meth c H locs 600000 7290000 Q (F0 m 622 ls [])) : W p l e room_1 s m #[Value.ref b] below meth c H locs 600000 7290000 Q (F0 m 209 ls []) := by
  have C := ca_C0 C0
  have hx := C.1
  have hb := C.2.1
  refine lv_aload_n hx hb dL_law_209 rfl (lv_at hl 1 rfl) ?_
  refine lv_aload_n hx hb dL_law_210 rfl (lv_at hl 0 rfl) ?_
  refine lv_iload_n hx hb dL_law_211 rfl (lv_at hl 3 rfl) ?_
  refine lv_iconst (v := nI 1) hx hb dL_law_212 (by decide +kernel) ?_
  refine ca_addN (i := i) (j := 1) hx hb dL_law_213 ?_
  refine ca_sl (j := i + 1) hL C0 X (by omega) dL_law_214 ?_
  refine lv_aload_n hx hb dL_law_215 rfl (lv_at hl 0 rfl) ?_
  refine lv_iload_n hx hb dL_law_216 rfl (lv_at hl 3 rfl) ?_
  refine lv_iconst (v := nI 2) hx hb dL_law_217 (by decide +kernel) ?_
  refine ca_addN (i := i) (j := 2) hx hb dL_law_218 ?_
  refine ca_sl (j := i + 2) hL C0 X (by omega) dL_law_219 ?_
  refine ca_lcX (As := [.int (xs (i + 1)), .int (xs (i + 2))]) (rest := []) C (ca_cX_allow l D h a d S (xs (i + 1)) (xs (i + 2))) (cwV 2 C.2.2.2.2.1 (lw_V q104 q105 q106 q19 q107) rfl rfl rfl (by decide +kernel) ⟨Nat.le_of_ble_eq_true rfl, Nat.le_of_ble_eq_true rfl⟩) X rfl hl.1 rfl (Nat.le_of_ble_eq_true rfl) dL_law_220 ⟨Nat.le_refl _, Nat.le_refl _⟩ (fun r S' H locs hp X => ?_)
  refine lv_aload_n hx hb dL_law_223 rfl (lv_at hl 2 rfl) ?_
  refine lv_aload_n hx hb dL_law_224 rfl (lv_at hl 0 rfl) ?_
  refine lv_iload_n hx hb dL_law_225 rfl (lv_at hl 3 rfl) ?_
  refine lv_iconst (v := nI 1) hx hb dL_law_226 (by decide +kernel) ?_
  refine ca_addN (i := i) (j := 1) hx hb dL_law_227 ?_
  refine ca_sl (j := i + 1) hL C0 X (by omega) dL_law_228 ?_
  refine lv_aload_n hx hb dL_law_229 rfl (lv_at hl 0 rfl) ?_
  refine lv_iload_n hx hb dL_law_230 rfl (lv_at hl 3 rfl) ?_
  refine lv_iconst (v := nI 2) hx hb dL_law_231 (by decide +kernel) ?_
  refine ca_addN (i := i) (j := 2) hx hb dL_law_232 ?_
  refine ca_sl (j := i + 2) hL C0 X (by omega) dL_law_233 ?_
  refine ca_lcM (As := [.int (xs (i + 1)), .int (xs (i + 2))]) (rest := [.int r]) C (ca_cM_allow l D h' a' d' M (xs (i + 1)) (xs (i + 2))) (cwV 2 C.2.2.2.2.1 (lw_V q258 q259 q260 q20 q261) rfl rfl rfl (by decide +kernel) ⟨Nat.le_of_ble_eq_true rfl, Nat.le_of_ble_eq_true rfl⟩) X rfl hl.1 rfl (Nat.le_of_ble_eq_true rfl) dL_law_234 ⟨Nat.le_refl _, Nat.le_refl _⟩ (fun r' M' H locs hq X => ?_)
  obtain ⟨e1, hR1⟩ := ca_sim_allow hR hp hq
  refine lv_icmp_eq (tgt := 622) hx hb dL_law_237 (by decide) (fun _ => ?_) (fun c1 => absurd e1 c1)
  exact kk _ _ _ _ hR1 X
set_option maxHeartbeats 4000000 in
theorem ca_op_load (hL : L ≤ 256) (C0 : lw_At p s m meth c b L xs) {i : Nat} (hi : i + 4 ≤ L) (hR : ca_R S M) (X : ca_Lw D h a d h' a' d' s H locs S M) (hl : lv_has ls 4 [(0, .ref b), (1, .ref h), (2, .ref h'), (3, .int (nI i))]) (kk : ∀ (S' M' : ca_St) (H : Heap) (locs : List Loc), ca_R S' M' → ca_Lw D h a d h' a' d' s H locs S' M' → W p l e room_1 s m #[Value.ref b] below meth c H locs 600000 7290000 Q (F0 m 622 ls [])) : W p l e room_1 s m #[Value.ref b] below meth c H locs 600000 7290000 Q (F0 m 242 ls []) := by
  have C := ca_C0 C0
  have hx := C.1
  have hb := C.2.1
  refine lv_aload_n hx hb dL_law_242 rfl (lv_at hl 1 rfl) ?_
  refine lv_aload_n hx hb dL_law_243 rfl (lv_at hl 0 rfl) ?_
  refine lv_iload_n hx hb dL_law_244 rfl (lv_at hl 3 rfl) ?_
  refine lv_iconst (v := nI 1) hx hb dL_law_245 (by decide +kernel) ?_
  refine ca_addN (i := i) (j := 1) hx hb dL_law_246 ?_
  refine ca_sl (j := i + 1) hL C0 X (by omega) dL_law_247 ?_
  refine lv_aload_n hx hb dL_law_248 rfl (lv_at hl 0 rfl) ?_
  refine lv_iload_n hx hb dL_law_249 rfl (lv_at hl 3 rfl) ?_
  refine lv_iconst (v := nI 2) hx hb dL_law_250 (by decide +kernel) ?_
  refine ca_addN (i := i) (j := 2) hx hb dL_law_251 ?_
  refine ca_sl (j := i + 2) hL C0 X (by omega) dL_law_252 ?_
  refine ca_lcX (As := [.int (xs (i + 1)), .int (xs (i + 2))]) (rest := []) C (ca_cX_load l D h a d S (xs (i + 1)) (xs (i + 2)) (ca_R_N hR) (ca_R_F hR) (ca_R_E hR)) (cwV 2 C.2.2.2.2.1 (lw_V q108 q109 q110 q19 q111) rfl rfl rfl (by decide +kernel) ⟨Nat.le_of_ble_eq_true rfl, Nat.le_of_ble_eq_true rfl⟩) X rfl hl.1 rfl (Nat.le_of_ble_eq_true rfl) dL_law_253 ⟨Nat.le_refl _, Nat.le_refl _⟩ (fun r S' H locs hp X => ?_)
  refine lv_aload_n hx hb dL_law_256 rfl (lv_at hl 2 rfl) ?_
  refine lv_aload_n hx hb dL_law_257 rfl (lv_at hl 0 rfl) ?_
  refine lv_iload_n hx hb dL_law_258 rfl (lv_at hl 3 rfl) ?_
  refine lv_iconst (v := nI 1) hx hb dL_law_259 (by decide +kernel) ?_
  refine ca_addN (i := i) (j := 1) hx hb dL_law_260 ?_
  refine ca_sl (j := i + 1) hL C0 X (by omega) dL_law_261 ?_
  refine lv_aload_n hx hb dL_law_262 rfl (lv_at hl 0 rfl) ?_
  refine lv_iload_n hx hb dL_law_263 rfl (lv_at hl 3 rfl) ?_
  refine lv_iconst (v := nI 2) hx hb dL_law_264 (by decide +kernel) ?_
  refine ca_addN (i := i) (j := 2) hx hb dL_law_265 ?_
  refine ca_sl (j := i + 2) hL C0 X (by omega) dL_law_266 ?_
  refine ca_lcM (As := [.int (xs (i + 1)), .int (xs (i + 2))]) (rest := [.int r]) C (ca_cM_load l D h' a' d' M (xs (i + 1)) (xs (i + 2)) (ca_R_FM hR)) (cwV 2 C.2.2.2.2.1 (lw_V q262 q263 q264 q20 q265) rfl rfl rfl (by decide +kernel) ⟨Nat.le_of_ble_eq_true rfl, Nat.le_of_ble_eq_true rfl⟩) X rfl hl.1 rfl (Nat.le_of_ble_eq_true rfl) dL_law_267 ⟨Nat.le_refl _, Nat.le_refl _⟩ (fun r' M' H locs hq X => ?_)
  obtain ⟨e1, hR1⟩ := ca_sim_load hR hp hq
  refine lv_icmp_eq (tgt := 622) hx hb dL_law_270 (by decide) (fun _ => ?_) (fun c1 => absurd e1 c1)
  exact kk _ _ _ _ hR1 X
set_option maxHeartbeats 4000000 in
theorem ca_op_store (hL : L ≤ 256) (C0 : lw_At p s m meth c b L xs) {i : Nat} (hi : i + 4 ≤ L) (hR : ca_R S M) (X : ca_Lw D h a d h' a' d' s H locs S M) (hl : lv_has ls 4 [(0, .ref b), (1, .ref h), (2, .ref h'), (3, .int (nI i))]) (kk : ∀ (S' M' : ca_St) (H : Heap) (locs : List Loc), ca_R S' M' → ca_Lw D h a d h' a' d' s H locs S' M' → W p l e room_1 s m #[Value.ref b] below meth c H locs 600000 7290000 Q (F0 m 622 ls [])) : W p l e room_1 s m #[Value.ref b] below meth c H locs 600000 7290000 Q (F0 m 275 ls []) := by
  have C := ca_C0 C0
  have hx := C.1
  have hb := C.2.1
  refine lv_aload_n hx hb dL_law_275 rfl (lv_at hl 1 rfl) ?_
  refine lv_aload_n hx hb dL_law_276 rfl (lv_at hl 0 rfl) ?_
  refine lv_iload_n hx hb dL_law_277 rfl (lv_at hl 3 rfl) ?_
  refine lv_iconst (v := nI 1) hx hb dL_law_278 (by decide +kernel) ?_
  refine ca_addN (i := i) (j := 1) hx hb dL_law_279 ?_
  refine ca_sl (j := i + 1) hL C0 X (by omega) dL_law_280 ?_
  refine lv_aload_n hx hb dL_law_281 rfl (lv_at hl 0 rfl) ?_
  refine lv_iload_n hx hb dL_law_282 rfl (lv_at hl 3 rfl) ?_
  refine lv_iconst (v := nI 2) hx hb dL_law_283 (by decide +kernel) ?_
  refine ca_addN (i := i) (j := 2) hx hb dL_law_284 ?_
  refine ca_sl (j := i + 2) hL C0 X (by omega) dL_law_285 ?_
  refine lv_aload_n hx hb dL_law_286 rfl (lv_at hl 0 rfl) ?_
  refine lv_iload_n hx hb dL_law_287 rfl (lv_at hl 3 rfl) ?_
  refine lv_iconst (v := nI 3) hx hb dL_law_288 (by decide +kernel) ?_
  refine ca_addN (i := i) (j := 3) hx hb dL_law_289 ?_
  refine ca_sl (j := i + 3) hL C0 X (by omega) dL_law_290 ?_
  refine ca_lcX (As := [.int (xs (i + 1)), .int (xs (i + 2)), .int (xs (i + 3))]) (rest := []) C (ca_cX_store l D h a d S (xs (i + 1)) (xs (i + 2)) (xs (i + 3)) (ca_R_N hR) (ca_R_F hR) (ca_R_E hR)) (cwV 3 C.2.2.2.2.1 (lw_V q148 q149 q150 q19 q151) rfl rfl rfl (by decide +kernel) ⟨Nat.le_of_ble_eq_true rfl, Nat.le_of_ble_eq_true rfl⟩) X rfl hl.1 rfl (Nat.le_of_ble_eq_true rfl) dL_law_291 ⟨Nat.le_refl _, Nat.le_refl _⟩ (fun r S' H locs hp X => ?_)
  refine lv_aload_n hx hb dL_law_294 rfl (lv_at hl 2 rfl) ?_
  refine lv_aload_n hx hb dL_law_295 rfl (lv_at hl 0 rfl) ?_
  refine lv_iload_n hx hb dL_law_296 rfl (lv_at hl 3 rfl) ?_
  refine lv_iconst (v := nI 1) hx hb dL_law_297 (by decide +kernel) ?_
  refine ca_addN (i := i) (j := 1) hx hb dL_law_298 ?_
  refine ca_sl (j := i + 1) hL C0 X (by omega) dL_law_299 ?_
  refine lv_aload_n hx hb dL_law_300 rfl (lv_at hl 0 rfl) ?_
  refine lv_iload_n hx hb dL_law_301 rfl (lv_at hl 3 rfl) ?_
  refine lv_iconst (v := nI 2) hx hb dL_law_302 (by decide +kernel) ?_
  refine ca_addN (i := i) (j := 2) hx hb dL_law_303 ?_
  refine ca_sl (j := i + 2) hL C0 X (by omega) dL_law_304 ?_
  refine lv_aload_n hx hb dL_law_305 rfl (lv_at hl 0 rfl) ?_
  refine lv_iload_n hx hb dL_law_306 rfl (lv_at hl 3 rfl) ?_
  refine lv_iconst (v := nI 3) hx hb dL_law_307 (by decide +kernel) ?_
  refine ca_addN (i := i) (j := 3) hx hb dL_law_308 ?_
  refine ca_sl (j := i + 3) hL C0 X (by omega) dL_law_309 ?_
  refine ca_lcM (As := [.int (xs (i + 1)), .int (xs (i + 2)), .int (xs (i + 3))]) (rest := [.int r]) C (ca_cM_store l D h' a' d' M (xs (i + 1)) (xs (i + 2)) (xs (i + 3)) (ca_R_FM hR)) (cwV 3 C.2.2.2.2.1 (lw_V q266 q267 q268 q20 q269) rfl rfl rfl (by decide +kernel) ⟨Nat.le_of_ble_eq_true rfl, Nat.le_of_ble_eq_true rfl⟩) X rfl hl.1 rfl (Nat.le_of_ble_eq_true rfl) dL_law_310 ⟨Nat.le_refl _, Nat.le_refl _⟩ (fun r' M' H locs hq X => ?_)
  obtain ⟨e1, hR1⟩ := ca_sim_store hR hp hq
  refine lv_icmp_eq (tgt := 622) hx hb dL_law_313 (by decide) (fun _ => ?_) (fun c1 => absurd e1 c1)
  exact kk _ _ _ _ hR1 X
set_option maxHeartbeats 4000000 in
theorem ca_op_trade (hL : L ≤ 256) (C0 : lw_At p s m meth c b L xs) {i : Nat} (hi : i + 4 ≤ L) (hR : ca_R S M) (X : ca_Lw D h a d h' a' d' s H locs S M) (hl : lv_has ls 4 [(0, .ref b), (1, .ref h), (2, .ref h'), (3, .int (nI i))]) (kk : ∀ (S' M' : ca_St) (H : Heap) (locs : List Loc), ca_R S' M' → ca_Lw D h a d h' a' d' s H locs S' M' → W p l e room_1 s m #[Value.ref b] below meth c H locs 600000 7290000 Q (F0 m 622 ls [])) : W p l e room_1 s m #[Value.ref b] below meth c H locs 600000 7290000 Q (F0 m 318 ls []) := by
  have C := ca_C0 C0
  have hx := C.1
  have hb := C.2.1
  refine lv_aload_n hx hb dL_law_318 rfl (lv_at hl 1 rfl) ?_
  refine lv_aload_n hx hb dL_law_319 rfl (lv_at hl 0 rfl) ?_
  refine lv_iload_n hx hb dL_law_320 rfl (lv_at hl 3 rfl) ?_
  refine lv_iconst (v := nI 1) hx hb dL_law_321 (by decide +kernel) ?_
  refine ca_addN (i := i) (j := 1) hx hb dL_law_322 ?_
  refine ca_sl (j := i + 1) hL C0 X (by omega) dL_law_323 ?_
  refine lv_aload_n hx hb dL_law_324 rfl (lv_at hl 0 rfl) ?_
  refine lv_iload_n hx hb dL_law_325 rfl (lv_at hl 3 rfl) ?_
  refine lv_iconst (v := nI 2) hx hb dL_law_326 (by decide +kernel) ?_
  refine ca_addN (i := i) (j := 2) hx hb dL_law_327 ?_
  refine ca_sl (j := i + 2) hL C0 X (by omega) dL_law_328 ?_
  refine lv_aload_n hx hb dL_law_329 rfl (lv_at hl 0 rfl) ?_
  refine lv_iload_n hx hb dL_law_330 rfl (lv_at hl 3 rfl) ?_
  refine lv_iconst (v := nI 3) hx hb dL_law_331 (by decide +kernel) ?_
  refine ca_addN (i := i) (j := 3) hx hb dL_law_332 ?_
  refine ca_sl (j := i + 3) hL C0 X (by omega) dL_law_333 ?_
  refine ca_lcX (As := [.int (xs (i + 1)), .int (xs (i + 2)), .int (xs (i + 3))]) (rest := []) C (ca_cX_trade l D h a d S (xs (i + 1)) (xs (i + 2)) (xs (i + 3)) (ca_R_N hR) (ca_R_F hR) (ca_R_E hR)) (cwV 3 C.2.2.2.2.1 (lw_V q156 q157 q158 q19 q159) rfl rfl rfl (by decide +kernel) ⟨Nat.le_of_ble_eq_true rfl, Nat.le_of_ble_eq_true rfl⟩) X rfl hl.1 rfl (Nat.le_of_ble_eq_true rfl) dL_law_334 ⟨Nat.le_refl _, Nat.le_refl _⟩ (fun r S' H locs hp X => ?_)
  refine lv_aload_n hx hb dL_law_337 rfl (lv_at hl 2 rfl) ?_
  refine lv_aload_n hx hb dL_law_338 rfl (lv_at hl 0 rfl) ?_
  refine lv_iload_n hx hb dL_law_339 rfl (lv_at hl 3 rfl) ?_
  refine lv_iconst (v := nI 1) hx hb dL_law_340 (by decide +kernel) ?_
  refine ca_addN (i := i) (j := 1) hx hb dL_law_341 ?_
  refine ca_sl (j := i + 1) hL C0 X (by omega) dL_law_342 ?_
  refine lv_aload_n hx hb dL_law_343 rfl (lv_at hl 0 rfl) ?_
  refine lv_iload_n hx hb dL_law_344 rfl (lv_at hl 3 rfl) ?_
  refine lv_iconst (v := nI 2) hx hb dL_law_345 (by decide +kernel) ?_
  refine ca_addN (i := i) (j := 2) hx hb dL_law_346 ?_
  refine ca_sl (j := i + 2) hL C0 X (by omega) dL_law_347 ?_
  refine lv_aload_n hx hb dL_law_348 rfl (lv_at hl 0 rfl) ?_
  refine lv_iload_n hx hb dL_law_349 rfl (lv_at hl 3 rfl) ?_
  refine lv_iconst (v := nI 3) hx hb dL_law_350 (by decide +kernel) ?_
  refine ca_addN (i := i) (j := 3) hx hb dL_law_351 ?_
  refine ca_sl (j := i + 3) hL C0 X (by omega) dL_law_352 ?_
  refine ca_lcM (As := [.int (xs (i + 1)), .int (xs (i + 2)), .int (xs (i + 3))]) (rest := [.int r]) C (ca_cM_trade l D h' a' d' M (xs (i + 1)) (xs (i + 2)) (xs (i + 3)) (ca_R_FM hR)) (cwV 3 C.2.2.2.2.1 (lw_V q274 q275 q276 q20 q277) rfl rfl rfl (by decide +kernel) ⟨Nat.le_of_ble_eq_true rfl, Nat.le_of_ble_eq_true rfl⟩) X rfl hl.1 rfl (Nat.le_of_ble_eq_true rfl) dL_law_353 ⟨Nat.le_refl _, Nat.le_refl _⟩ (fun r' M' H locs hq X => ?_)
  obtain ⟨e1, hR1⟩ := ca_sim_trade hR hp hq
  refine lv_icmp_eq (tgt := 622) hx hb dL_law_356 (by decide) (fun _ => ?_) (fun c1 => absurd e1 c1)
  exact kk _ _ _ _ hR1 X
set_option maxHeartbeats 4000000 in
theorem ca_op_fault (hL : L ≤ 256) (C0 : lw_At p s m meth c b L xs) {i : Nat} (hi : i + 4 ≤ L) (hR : ca_R S M) (X : ca_Lw D h a d h' a' d' s H locs S M) (hl : lv_has ls 4 [(0, .ref b), (1, .ref h), (2, .ref h'), (3, .int (nI i))]) (kk : ∀ (S' M' : ca_St) (H : Heap) (locs : List Loc), ca_R S' M' → ca_Lw D h a d h' a' d' s H locs S' M' → W p l e room_1 s m #[Value.ref b] below meth c H locs 600000 7290000 Q (F0 m 622 ls [])) : W p l e room_1 s m #[Value.ref b] below meth c H locs 600000 7290000 Q (F0 m 361 ls []) := by
  have C := ca_C0 C0
  have hx := C.1
  have hb := C.2.1
  refine lv_aload_n hx hb dL_law_361 rfl (lv_at hl 1 rfl) ?_
  refine ca_lcX (As := []) (rest := []) C (ca_cX_fault l D h a d S) (cwV 0 C.2.2.2.2.1 (lw_V q160 q161 q162 q19 q163) rfl rfl rfl (by decide +kernel) ⟨Nat.le_of_ble_eq_true rfl, Nat.le_of_ble_eq_true rfl⟩) X rfl hl.1 rfl (Nat.le_of_ble_eq_true rfl) dL_law_362 ⟨Nat.le_refl _, Nat.le_refl _⟩ (fun r S' H locs hp X => ?_)
  refine lv_aload_n hx hb dL_law_365 rfl (lv_at hl 2 rfl) ?_
  refine ca_lcM (As := []) (rest := [.int r]) C (ca_cM_fault l D h' a' d' M) (cwV 0 C.2.2.2.2.1 (lw_V q278 q279 q280 q20 q281) rfl rfl rfl (by decide +kernel) ⟨Nat.le_of_ble_eq_true rfl, Nat.le_of_ble_eq_true rfl⟩) X rfl hl.1 rfl (Nat.le_of_ble_eq_true rfl) dL_law_366 ⟨Nat.le_refl _, Nat.le_refl _⟩ (fun r' M' H locs hq X => ?_)
  obtain ⟨e1, hR1⟩ := ca_sim_fault hR hp hq
  refine lv_icmp_eq (tgt := 622) hx hb dL_law_369 (by decide) (fun _ => ?_) (fun c1 => absurd e1 c1)
  exact kk _ _ _ _ hR1 X
set_option maxHeartbeats 4000000 in
theorem ca_op_word (hL : L ≤ 256) (C0 : lw_At p s m meth c b L xs) {i : Nat} (hi : i + 4 ≤ L) (hR : ca_R S M) (X : ca_Lw D h a d h' a' d' s H locs S M) (hl : lv_has ls 4 [(0, .ref b), (1, .ref h), (2, .ref h'), (3, .int (nI i))]) (kk : ∀ (S' M' : ca_St) (H : Heap) (locs : List Loc), ca_R S' M' → ca_Lw D h a d h' a' d' s H locs S' M' → W p l e room_1 s m #[Value.ref b] below meth c H locs 600000 7290000 Q (F0 m 622 ls [])) : W p l e room_1 s m #[Value.ref b] below meth c H locs 600000 7290000 Q (F0 m 374 ls []) := by
  have C := ca_C0 C0
  have hx := C.1
  have hb := C.2.1
  refine lv_aload_n hx hb dL_law_374 rfl (lv_at hl 1 rfl) ?_
  refine lv_aload_n hx hb dL_law_375 rfl (lv_at hl 0 rfl) ?_
  refine lv_iload_n hx hb dL_law_376 rfl (lv_at hl 3 rfl) ?_
  refine lv_iconst (v := nI 1) hx hb dL_law_377 (by decide +kernel) ?_
  refine ca_addN (i := i) (j := 1) hx hb dL_law_378 ?_
  refine ca_sl (j := i + 1) hL C0 X (by omega) dL_law_379 ?_
  refine lv_aload_n hx hb dL_law_380 rfl (lv_at hl 0 rfl) ?_
  refine lv_iload_n hx hb dL_law_381 rfl (lv_at hl 3 rfl) ?_
  refine lv_iconst (v := nI 2) hx hb dL_law_382 (by decide +kernel) ?_
  refine ca_addN (i := i) (j := 2) hx hb dL_law_383 ?_
  refine ca_sl (j := i + 2) hL C0 X (by omega) dL_law_384 ?_
  refine ca_lcX (As := [.int (xs (i + 1)), .int (xs (i + 2))]) (rest := []) C (ca_cX_word l D h a d S (xs (i + 1)) (xs (i + 2)) (ca_R_N hR)) (cwV 2 C.2.2.2.2.1 (lw_V q164 q165 q166 q19 q167) rfl rfl rfl (by decide +kernel) ⟨Nat.le_of_ble_eq_true rfl, Nat.le_of_ble_eq_true rfl⟩) X rfl hl.1 rfl (Nat.le_of_ble_eq_true rfl) dL_law_385 ⟨Nat.le_refl _, Nat.le_refl _⟩ (fun r S' H locs hp X => ?_)
  refine lv_aload_n hx hb dL_law_388 rfl (lv_at hl 2 rfl) ?_
  refine lv_aload_n hx hb dL_law_389 rfl (lv_at hl 0 rfl) ?_
  refine lv_iload_n hx hb dL_law_390 rfl (lv_at hl 3 rfl) ?_
  refine lv_iconst (v := nI 1) hx hb dL_law_391 (by decide +kernel) ?_
  refine ca_addN (i := i) (j := 1) hx hb dL_law_392 ?_
  refine ca_sl (j := i + 1) hL C0 X (by omega) dL_law_393 ?_
  refine lv_aload_n hx hb dL_law_394 rfl (lv_at hl 0 rfl) ?_
  refine lv_iload_n hx hb dL_law_395 rfl (lv_at hl 3 rfl) ?_
  refine lv_iconst (v := nI 2) hx hb dL_law_396 (by decide +kernel) ?_
  refine ca_addN (i := i) (j := 2) hx hb dL_law_397 ?_
  refine ca_sl (j := i + 2) hL C0 X (by omega) dL_law_398 ?_
  refine ca_lcM (As := [.int (xs (i + 1)), .int (xs (i + 2))]) (rest := [.int r]) C (ca_cM_word l D h' a' d' M (xs (i + 1)) (xs (i + 2))) (cwV 2 C.2.2.2.2.1 (lw_V q282 q283 q284 q20 q285) rfl rfl rfl (by decide +kernel) ⟨Nat.le_of_ble_eq_true rfl, Nat.le_of_ble_eq_true rfl⟩) X rfl hl.1 rfl (Nat.le_of_ble_eq_true rfl) dL_law_399 ⟨Nat.le_refl _, Nat.le_refl _⟩ (fun r' M' H locs hq X => ?_)
  obtain ⟨e1, hR1⟩ := ca_sim_word hR hp hq
  refine lv_icmp_eq (tgt := 622) hx hb dL_law_402 (by decide) (fun _ => ?_) (fun c1 => absurd e1 c1)
  exact kk _ _ _ _ hR1 X
set_option maxHeartbeats 4000000 in
theorem ca_op_setWord (hL : L ≤ 256) (C0 : lw_At p s m meth c b L xs) {i : Nat} (hi : i + 4 ≤ L) (hR : ca_R S M) (X : ca_Lw D h a d h' a' d' s H locs S M) (hl : lv_has ls 4 [(0, .ref b), (1, .ref h), (2, .ref h'), (3, .int (nI i))]) (kk : ∀ (S' M' : ca_St) (H : Heap) (locs : List Loc), ca_R S' M' → ca_Lw D h a d h' a' d' s H locs S' M' → W p l e room_1 s m #[Value.ref b] below meth c H locs 600000 7290000 Q (F0 m 622 ls [])) : W p l e room_1 s m #[Value.ref b] below meth c H locs 600000 7290000 Q (F0 m 407 ls []) := by
  have C := ca_C0 C0
  have hx := C.1
  have hb := C.2.1
  refine lv_aload_n hx hb dL_law_407 rfl (lv_at hl 1 rfl) ?_
  refine lv_aload_n hx hb dL_law_408 rfl (lv_at hl 0 rfl) ?_
  refine lv_iload_n hx hb dL_law_409 rfl (lv_at hl 3 rfl) ?_
  refine lv_iconst (v := nI 1) hx hb dL_law_410 (by decide +kernel) ?_
  refine ca_addN (i := i) (j := 1) hx hb dL_law_411 ?_
  refine ca_sl (j := i + 1) hL C0 X (by omega) dL_law_412 ?_
  refine lv_aload_n hx hb dL_law_413 rfl (lv_at hl 0 rfl) ?_
  refine lv_iload_n hx hb dL_law_414 rfl (lv_at hl 3 rfl) ?_
  refine lv_iconst (v := nI 2) hx hb dL_law_415 (by decide +kernel) ?_
  refine ca_addN (i := i) (j := 2) hx hb dL_law_416 ?_
  refine ca_sl (j := i + 2) hL C0 X (by omega) dL_law_417 ?_
  refine lv_aload_n hx hb dL_law_418 rfl (lv_at hl 0 rfl) ?_
  refine lv_iload_n hx hb dL_law_419 rfl (lv_at hl 3 rfl) ?_
  refine lv_iconst (v := nI 3) hx hb dL_law_420 (by decide +kernel) ?_
  refine ca_addN (i := i) (j := 3) hx hb dL_law_421 ?_
  refine ca_sl (j := i + 3) hL C0 X (by omega) dL_law_422 ?_
  refine ca_lcX (As := [.int (xs (i + 1)), .int (xs (i + 2)), .int (xs (i + 3))]) (rest := []) C (ca_cX_setWord l D h a d S (xs (i + 1)) (xs (i + 2)) (xs (i + 3)) (ca_R_N hR)) (cwV 3 C.2.2.2.2.1 (lw_V q172 q173 q174 q19 q175) rfl rfl rfl (by decide +kernel) ⟨Nat.le_of_ble_eq_true rfl, Nat.le_of_ble_eq_true rfl⟩) X rfl hl.1 rfl (Nat.le_of_ble_eq_true rfl) dL_law_423 ⟨Nat.le_refl _, Nat.le_refl _⟩ (fun r S' H locs hp X => ?_)
  refine lv_aload_n hx hb dL_law_426 rfl (lv_at hl 2 rfl) ?_
  refine lv_aload_n hx hb dL_law_427 rfl (lv_at hl 0 rfl) ?_
  refine lv_iload_n hx hb dL_law_428 rfl (lv_at hl 3 rfl) ?_
  refine lv_iconst (v := nI 1) hx hb dL_law_429 (by decide +kernel) ?_
  refine ca_addN (i := i) (j := 1) hx hb dL_law_430 ?_
  refine ca_sl (j := i + 1) hL C0 X (by omega) dL_law_431 ?_
  refine lv_aload_n hx hb dL_law_432 rfl (lv_at hl 0 rfl) ?_
  refine lv_iload_n hx hb dL_law_433 rfl (lv_at hl 3 rfl) ?_
  refine lv_iconst (v := nI 2) hx hb dL_law_434 (by decide +kernel) ?_
  refine ca_addN (i := i) (j := 2) hx hb dL_law_435 ?_
  refine ca_sl (j := i + 2) hL C0 X (by omega) dL_law_436 ?_
  refine lv_aload_n hx hb dL_law_437 rfl (lv_at hl 0 rfl) ?_
  refine lv_iload_n hx hb dL_law_438 rfl (lv_at hl 3 rfl) ?_
  refine lv_iconst (v := nI 3) hx hb dL_law_439 (by decide +kernel) ?_
  refine ca_addN (i := i) (j := 3) hx hb dL_law_440 ?_
  refine ca_sl (j := i + 3) hL C0 X (by omega) dL_law_441 ?_
  refine ca_lcM (As := [.int (xs (i + 1)), .int (xs (i + 2)), .int (xs (i + 3))]) (rest := [.int r]) C (ca_cM_setWord l D h' a' d' M (xs (i + 1)) (xs (i + 2)) (xs (i + 3))) (cwV 3 C.2.2.2.2.1 (lw_V q286 q287 q288 q20 q289) rfl rfl rfl (by decide +kernel) ⟨Nat.le_of_ble_eq_true rfl, Nat.le_of_ble_eq_true rfl⟩) X rfl hl.1 rfl (Nat.le_of_ble_eq_true rfl) dL_law_442 ⟨Nat.le_refl _, Nat.le_refl _⟩ (fun r' M' H locs hq X => ?_)
  obtain ⟨e1, hR1⟩ := ca_sim_setWord hR hp hq
  refine lv_icmp_eq (tgt := 622) hx hb dL_law_445 (by decide) (fun _ => ?_) (fun c1 => absurd e1 c1)
  exact kk _ _ _ _ hR1 X
set_option maxHeartbeats 4000000 in
theorem ca_op_copyFrame (hL : L ≤ 256) (C0 : lw_At p s m meth c b L xs) {i : Nat} (hi : i + 4 ≤ L) (hR : ca_R S M) (X : ca_Lw D h a d h' a' d' s H locs S M) (hl : lv_has ls 4 [(0, .ref b), (1, .ref h), (2, .ref h'), (3, .int (nI i))]) (kk : ∀ (S' M' : ca_St) (H : Heap) (locs : List Loc), ca_R S' M' → ca_Lw D h a d h' a' d' s H locs S' M' → W p l e room_1 s m #[Value.ref b] below meth c H locs 600000 7290000 Q (F0 m 622 ls [])) : W p l e room_1 s m #[Value.ref b] below meth c H locs 600000 7290000 Q (F0 m 450 ls []) := by
  have C := ca_C0 C0
  have hx := C.1
  have hb := C.2.1
  refine lv_aload_n hx hb dL_law_450 rfl (lv_at hl 1 rfl) ?_
  refine lv_aload_n hx hb dL_law_451 rfl (lv_at hl 0 rfl) ?_
  refine lv_iload_n hx hb dL_law_452 rfl (lv_at hl 3 rfl) ?_
  refine lv_iconst (v := nI 1) hx hb dL_law_453 (by decide +kernel) ?_
  refine ca_addN (i := i) (j := 1) hx hb dL_law_454 ?_
  refine ca_sl (j := i + 1) hL C0 X (by omega) dL_law_455 ?_
  refine lv_aload_n hx hb dL_law_456 rfl (lv_at hl 0 rfl) ?_
  refine lv_iload_n hx hb dL_law_457 rfl (lv_at hl 3 rfl) ?_
  refine lv_iconst (v := nI 2) hx hb dL_law_458 (by decide +kernel) ?_
  refine ca_addN (i := i) (j := 2) hx hb dL_law_459 ?_
  refine ca_sl (j := i + 2) hL C0 X (by omega) dL_law_460 ?_
  refine ca_lcX (As := [.int (xs (i + 1)), .int (xs (i + 2))]) (rest := []) C (ca_cX_copyFrame l D h a d S (xs (i + 1)) (xs (i + 2)) (ca_R_N hR)) (cwV 2 C.2.2.2.2.1 (lw_V q176 q177 q178 q19 q179) rfl rfl rfl (by decide +kernel) ⟨Nat.le_of_ble_eq_true rfl, Nat.le_of_ble_eq_true rfl⟩) X rfl hl.1 rfl (Nat.le_of_ble_eq_true rfl) dL_law_461 ⟨Nat.le_refl _, Nat.le_refl _⟩ (fun r S' H locs hp X => ?_)
  refine lv_aload_n hx hb dL_law_464 rfl (lv_at hl 2 rfl) ?_
  refine lv_aload_n hx hb dL_law_465 rfl (lv_at hl 0 rfl) ?_
  refine lv_iload_n hx hb dL_law_466 rfl (lv_at hl 3 rfl) ?_
  refine lv_iconst (v := nI 1) hx hb dL_law_467 (by decide +kernel) ?_
  refine ca_addN (i := i) (j := 1) hx hb dL_law_468 ?_
  refine ca_sl (j := i + 1) hL C0 X (by omega) dL_law_469 ?_
  refine lv_aload_n hx hb dL_law_470 rfl (lv_at hl 0 rfl) ?_
  refine lv_iload_n hx hb dL_law_471 rfl (lv_at hl 3 rfl) ?_
  refine lv_iconst (v := nI 2) hx hb dL_law_472 (by decide +kernel) ?_
  refine ca_addN (i := i) (j := 2) hx hb dL_law_473 ?_
  refine ca_sl (j := i + 2) hL C0 X (by omega) dL_law_474 ?_
  refine ca_lcM (As := [.int (xs (i + 1)), .int (xs (i + 2))]) (rest := [.int r]) C (ca_cM_copyFrame l D h' a' d' M (xs (i + 1)) (xs (i + 2))) (cwV 2 C.2.2.2.2.1 (lw_V q290 q291 q292 q20 q293) rfl rfl rfl (by decide +kernel) ⟨Nat.le_of_ble_eq_true rfl, Nat.le_of_ble_eq_true rfl⟩) X rfl hl.1 rfl (Nat.le_of_ble_eq_true rfl) dL_law_475 ⟨Nat.le_refl _, Nat.le_refl _⟩ (fun r' M' H locs hq X => ?_)
  obtain ⟨e1, hR1⟩ := ca_sim_copyFrame hR hp hq
  refine lv_icmp_eq (tgt := 622) hx hb dL_law_478 (by decide) (fun _ => ?_) (fun c1 => absurd e1 c1)
  exact kk _ _ _ _ hR1 X
set_option maxHeartbeats 4000000 in
theorem ca_op_marks (hL : L ≤ 256) (C0 : lw_At p s m meth c b L xs) {i : Nat} (hi : i + 4 ≤ L) (hR : ca_R S M) (X : ca_Lw D h a d h' a' d' s H locs S M) (hl : lv_has ls 4 [(0, .ref b), (1, .ref h), (2, .ref h'), (3, .int (nI i))]) (kk : ∀ (S' M' : ca_St) (H : Heap) (locs : List Loc), ca_R S' M' → ca_Lw D h a d h' a' d' s H locs S' M' → W p l e room_1 s m #[Value.ref b] below meth c H locs 600000 7290000 Q (F0 m 622 ls [])) : W p l e room_1 s m #[Value.ref b] below meth c H locs 600000 7290000 Q (F0 m 483 ls []) := by
  have C := ca_C0 C0
  have hx := C.1
  have hb := C.2.1
  refine lv_aload_n hx hb dL_law_483 rfl (lv_at hl 1 rfl) ?_
  refine lv_aload_n hx hb dL_law_484 rfl (lv_at hl 0 rfl) ?_
  refine lv_iload_n hx hb dL_law_485 rfl (lv_at hl 3 rfl) ?_
  refine lv_iconst (v := nI 1) hx hb dL_law_486 (by decide +kernel) ?_
  refine ca_addN (i := i) (j := 1) hx hb dL_law_487 ?_
  refine ca_sl (j := i + 1) hL C0 X (by omega) dL_law_488 ?_
  refine ca_lcX (As := [.int (xs (i + 1))]) (rest := []) C (ca_cX_marks l D h a d S (xs (i + 1))) (cwV 1 C.2.2.2.2.1 (lw_V q180 q181 q182 q19 q183) rfl rfl rfl (by decide +kernel) ⟨Nat.le_of_ble_eq_true rfl, Nat.le_of_ble_eq_true rfl⟩) X rfl hl.1 rfl (Nat.le_of_ble_eq_true rfl) dL_law_489 ⟨Nat.le_refl _, Nat.le_refl _⟩ (fun r S' H locs hp X => ?_)
  refine lv_aload_n hx hb dL_law_492 rfl (lv_at hl 2 rfl) ?_
  refine lv_aload_n hx hb dL_law_493 rfl (lv_at hl 0 rfl) ?_
  refine lv_iload_n hx hb dL_law_494 rfl (lv_at hl 3 rfl) ?_
  refine lv_iconst (v := nI 1) hx hb dL_law_495 (by decide +kernel) ?_
  refine ca_addN (i := i) (j := 1) hx hb dL_law_496 ?_
  refine ca_sl (j := i + 1) hL C0 X (by omega) dL_law_497 ?_
  refine ca_lcM (As := [.int (xs (i + 1))]) (rest := [.int r]) C (ca_cM_marks l D h' a' d' M (xs (i + 1))) (cwV 1 C.2.2.2.2.1 (lw_V q294 q295 q296 q20 q297) rfl rfl rfl (by decide +kernel) ⟨Nat.le_of_ble_eq_true rfl, Nat.le_of_ble_eq_true rfl⟩) X rfl hl.1 rfl (Nat.le_of_ble_eq_true rfl) dL_law_498 ⟨Nat.le_refl _, Nat.le_refl _⟩ (fun r' M' H locs hq X => ?_)
  obtain ⟨e1, hR1⟩ := ca_sim_marks hR hp hq
  refine lv_icmp_eq (tgt := 622) hx hb dL_law_501 (by decide) (fun _ => ?_) (fun c1 => absurd e1 c1)
  exact kk _ _ _ _ hR1 X
set_option maxHeartbeats 4000000 in
theorem ca_op_clearMarks (hL : L ≤ 256) (C0 : lw_At p s m meth c b L xs) {i : Nat} (hi : i + 4 ≤ L) (hR : ca_R S M) (X : ca_Lw D h a d h' a' d' s H locs S M) (hl : lv_has ls 4 [(0, .ref b), (1, .ref h), (2, .ref h'), (3, .int (nI i))]) (kk : ∀ (S' M' : ca_St) (H : Heap) (locs : List Loc), ca_R S' M' → ca_Lw D h a d h' a' d' s H locs S' M' → W p l e room_1 s m #[Value.ref b] below meth c H locs 600000 7290000 Q (F0 m 622 ls [])) : W p l e room_1 s m #[Value.ref b] below meth c H locs 600000 7290000 Q (F0 m 506 ls []) := by
  have C := ca_C0 C0
  have hx := C.1
  have hb := C.2.1
  refine lv_aload_n hx hb dL_law_506 rfl (lv_at hl 1 rfl) ?_
  refine lv_aload_n hx hb dL_law_507 rfl (lv_at hl 0 rfl) ?_
  refine lv_iload_n hx hb dL_law_508 rfl (lv_at hl 3 rfl) ?_
  refine lv_iconst (v := nI 1) hx hb dL_law_509 (by decide +kernel) ?_
  refine ca_addN (i := i) (j := 1) hx hb dL_law_510 ?_
  refine ca_sl (j := i + 1) hL C0 X (by omega) dL_law_511 ?_
  refine ca_lcX (As := [.int (xs (i + 1))]) (rest := []) C (ca_cX_clearMarks l D h a d S (xs (i + 1))) (cwV 1 C.2.2.2.2.1 (lw_V q184 q185 q186 q19 q187) rfl rfl rfl (by decide +kernel) ⟨Nat.le_of_ble_eq_true rfl, Nat.le_of_ble_eq_true rfl⟩) X rfl hl.1 rfl (Nat.le_of_ble_eq_true rfl) dL_law_512 ⟨Nat.le_refl _, Nat.le_refl _⟩ (fun r S' H locs hp X => ?_)
  refine lv_aload_n hx hb dL_law_515 rfl (lv_at hl 2 rfl) ?_
  refine lv_aload_n hx hb dL_law_516 rfl (lv_at hl 0 rfl) ?_
  refine lv_iload_n hx hb dL_law_517 rfl (lv_at hl 3 rfl) ?_
  refine lv_iconst (v := nI 1) hx hb dL_law_518 (by decide +kernel) ?_
  refine ca_addN (i := i) (j := 1) hx hb dL_law_519 ?_
  refine ca_sl (j := i + 1) hL C0 X (by omega) dL_law_520 ?_
  refine ca_lcM (As := [.int (xs (i + 1))]) (rest := [.int r]) C (ca_cM_clearMarks l D h' a' d' M (xs (i + 1))) (cwV 1 C.2.2.2.2.1 (lw_V q298 q299 q300 q20 q301) rfl rfl rfl (by decide +kernel) ⟨Nat.le_of_ble_eq_true rfl, Nat.le_of_ble_eq_true rfl⟩) X rfl hl.1 rfl (Nat.le_of_ble_eq_true rfl) dL_law_521 ⟨Nat.le_refl _, Nat.le_refl _⟩ (fun r' M' H locs hq X => ?_)
  obtain ⟨e1, hR1⟩ := ca_sim_clearMarks hR hp hq
  refine lv_icmp_eq (tgt := 622) hx hb dL_law_524 (by decide) (fun _ => ?_) (fun c1 => absurd e1 c1)
  exact kk _ _ _ _ hR1 X
set_option maxHeartbeats 4000000 in
theorem ca_op_shown (hL : L ≤ 256) (C0 : lw_At p s m meth c b L xs) {i : Nat} (hi : i + 4 ≤ L) (hR : ca_R S M) (X : ca_Lw D h a d h' a' d' s H locs S M) (hl : lv_has ls 4 [(0, .ref b), (1, .ref h), (2, .ref h'), (3, .int (nI i))]) (kk : ∀ (S' M' : ca_St) (H : Heap) (locs : List Loc), ca_R S' M' → ca_Lw D h a d h' a' d' s H locs S' M' → W p l e room_1 s m #[Value.ref b] below meth c H locs 600000 7290000 Q (F0 m 622 ls [])) : W p l e room_1 s m #[Value.ref b] below meth c H locs 600000 7290000 Q (F0 m 529 ls []) := by
  have C := ca_C0 C0
  have hx := C.1
  have hb := C.2.1
  refine lv_aload_n hx hb dL_law_529 rfl (lv_at hl 1 rfl) ?_
  refine lv_aload_n hx hb dL_law_530 rfl (lv_at hl 0 rfl) ?_
  refine lv_iload_n hx hb dL_law_531 rfl (lv_at hl 3 rfl) ?_
  refine lv_iconst (v := nI 1) hx hb dL_law_532 (by decide +kernel) ?_
  refine ca_addN (i := i) (j := 1) hx hb dL_law_533 ?_
  refine ca_sl (j := i + 1) hL C0 X (by omega) dL_law_534 ?_
  refine ca_lcX (As := [.int (xs (i + 1))]) (rest := []) C (ca_cX_shown l D h a d S (xs (i + 1))) (cwV 1 C.2.2.2.2.1 (lw_V q189 q190 q191 q19 q192) rfl rfl rfl (by decide +kernel) ⟨Nat.le_of_ble_eq_true rfl, Nat.le_of_ble_eq_true rfl⟩) X rfl hl.1 rfl (Nat.le_of_ble_eq_true rfl) dL_law_535 ⟨Nat.le_refl _, Nat.le_refl _⟩ (fun r S' H locs hp X => ?_)
  refine lv_aload_n hx hb dL_law_538 rfl (lv_at hl 2 rfl) ?_
  refine lv_aload_n hx hb dL_law_539 rfl (lv_at hl 0 rfl) ?_
  refine lv_iload_n hx hb dL_law_540 rfl (lv_at hl 3 rfl) ?_
  refine lv_iconst (v := nI 1) hx hb dL_law_541 (by decide +kernel) ?_
  refine ca_addN (i := i) (j := 1) hx hb dL_law_542 ?_
  refine ca_sl (j := i + 1) hL C0 X (by omega) dL_law_543 ?_
  refine ca_lcM (As := [.int (xs (i + 1))]) (rest := [.int r]) C (ca_cM_shown l D h' a' d' M (xs (i + 1))) (cwV 1 C.2.2.2.2.1 (lw_V q303 q304 q305 q20 q306) rfl rfl rfl (by decide +kernel) ⟨Nat.le_of_ble_eq_true rfl, Nat.le_of_ble_eq_true rfl⟩) X rfl hl.1 rfl (Nat.le_of_ble_eq_true rfl) dL_law_544 ⟨Nat.le_refl _, Nat.le_refl _⟩ (fun r' M' H locs hq X => ?_)
  obtain ⟨e1, hR1⟩ := ca_sim_shown hR hp hq
  refine lv_icmp_eq (tgt := 622) hx hb dL_law_547 (by decide) (fun _ => ?_) (fun c1 => absurd e1 c1)
  exact kk _ _ _ _ hR1 X
set_option maxHeartbeats 4000000 in
theorem ca_op_dirtyPages (hL : L ≤ 256) (C0 : lw_At p s m meth c b L xs) {i : Nat} (hi : i + 4 ≤ L) (hR : ca_R S M) (X : ca_Lw D h a d h' a' d' s H locs S M) (hl : lv_has ls 4 [(0, .ref b), (1, .ref h), (2, .ref h'), (3, .int (nI i))]) (kk : ∀ (S' M' : ca_St) (H : Heap) (locs : List Loc), ca_R S' M' → ca_Lw D h a d h' a' d' s H locs S' M' → W p l e room_1 s m #[Value.ref b] below meth c H locs 600000 7290000 Q (F0 m 622 ls [])) : W p l e room_1 s m #[Value.ref b] below meth c H locs 600000 7290000 Q (F0 m 552 ls []) := by
  have C := ca_C0 C0
  have hx := C.1
  have hb := C.2.1
  refine lv_aload_n hx hb dL_law_552 rfl (lv_at hl 1 rfl) ?_
  refine ca_lcX (As := []) (rest := []) C (ca_cX_dirtyPages l D h a d S) (cwV 0 C.2.2.2.2.1 (lw_V q193 q194 q195 q19 q196) rfl rfl rfl (by decide +kernel) ⟨Nat.le_of_ble_eq_true rfl, Nat.le_of_ble_eq_true rfl⟩) X rfl hl.1 rfl (Nat.le_of_ble_eq_true rfl) dL_law_553 ⟨Nat.le_refl _, Nat.le_refl _⟩ (fun r S' H locs hp X => ?_)
  refine lv_aload_n hx hb dL_law_556 rfl (lv_at hl 2 rfl) ?_
  refine ca_lcM (As := []) (rest := [.int r]) C (ca_cM_dirtyPages l D h' a' d' M) (cwV 0 C.2.2.2.2.1 (lw_V q307 q308 q309 q20 q310) rfl rfl rfl (by decide +kernel) ⟨Nat.le_of_ble_eq_true rfl, Nat.le_of_ble_eq_true rfl⟩) X rfl hl.1 rfl (Nat.le_of_ble_eq_true rfl) dL_law_557 ⟨Nat.le_refl _, Nat.le_refl _⟩ (fun r' M' H locs hq X => ?_)
  obtain ⟨e1, hR1⟩ := ca_sim_dirtyPages hR hp hq
  refine lv_icmp_eq (tgt := 622) hx hb dL_law_560 (by decide) (fun _ => ?_) (fun c1 => absurd e1 c1)
  exact kk _ _ _ _ hR1 X
set_option maxHeartbeats 4000000 in
theorem ca_op_flush (hL : L ≤ 256) (C0 : lw_At p s m meth c b L xs) {i : Nat} (hi : i + 4 ≤ L) (hR : ca_R S M) (X : ca_Lw D h a d h' a' d' s H locs S M) (hl : lv_has ls 4 [(0, .ref b), (1, .ref h), (2, .ref h'), (3, .int (nI i))]) (kk : ∀ (S' M' : ca_St) (H : Heap) (locs : List Loc), ca_R S' M' → ca_Lw D h a d h' a' d' s H locs S' M' → W p l e room_1 s m #[Value.ref b] below meth c H locs 600000 7290000 Q (F0 m 622 ls [])) : W p l e room_1 s m #[Value.ref b] below meth c H locs 600000 7290000 Q (F0 m 565 ls []) := by
  have C := ca_C0 C0
  have hx := C.1
  have hb := C.2.1
  refine lv_aload_n hx hb dL_law_565 rfl (lv_at hl 1 rfl) ?_
  refine ca_lcXv (As := []) (rest := []) C (ca_cX_flush l D h a d S (ca_R_N hR)) (cwV 0 C.2.2.2.2.1 (lw_V q197 q198 q199 q19 q200) rfl rfl rfl (by decide +kernel) ⟨Nat.le_of_ble_eq_true rfl, Nat.le_of_ble_eq_true rfl⟩) X rfl hl.1 rfl (Nat.le_of_ble_eq_true rfl) dL_law_566 ⟨Nat.le_refl _, Nat.le_refl _⟩ (fun S' H locs hp X => ?_)
  refine lv_aload_n hx hb dL_law_569 rfl (lv_at hl 2 rfl) ?_
  refine ca_lcMv (As := []) (rest := []) C (ca_cM_flush l D h' a' d' M) (cwV 0 C.2.2.2.2.1 (lw_V q311 q312 q313 q20 q314) rfl rfl rfl (by decide +kernel) ⟨Nat.le_of_ble_eq_true rfl, Nat.le_of_ble_eq_true rfl⟩) X rfl hl.1 rfl (Nat.le_of_ble_eq_true rfl) dL_law_570 ⟨Nat.le_refl _, Nat.le_refl _⟩ (fun M' H locs hq X => ?_)
  have hR1 := ca_sim_flush hR hp hq
  refine lv_goto (tgt := 622) hx hb dL_law_573 (by decide) ?_
  exact kk _ _ _ _ hR1 X
set_option maxHeartbeats 4000000 in
theorem ca_op_forget (hL : L ≤ 256) (C0 : lw_At p s m meth c b L xs) {i : Nat} (hi : i + 4 ≤ L) (hR : ca_R S M) (X : ca_Lw D h a d h' a' d' s H locs S M) (hl : lv_has ls 4 [(0, .ref b), (1, .ref h), (2, .ref h'), (3, .int (nI i))]) (kk : ∀ (S' M' : ca_St) (H : Heap) (locs : List Loc), ca_R S' M' → ca_Lw D h a d h' a' d' s H locs S' M' → W p l e room_1 s m #[Value.ref b] below meth c H locs 600000 7290000 Q (F0 m 622 ls [])) : W p l e room_1 s m #[Value.ref b] below meth c H locs 600000 7290000 Q (F0 m 576 ls []) := by
  have C := ca_C0 C0
  have hx := C.1
  have hb := C.2.1
  refine lv_aload_n hx hb dL_law_576 rfl (lv_at hl 1 rfl) ?_
  refine lv_aload_n hx hb dL_law_577 rfl (lv_at hl 0 rfl) ?_
  refine lv_iload_n hx hb dL_law_578 rfl (lv_at hl 3 rfl) ?_
  refine lv_iconst (v := nI 1) hx hb dL_law_579 (by decide +kernel) ?_
  refine ca_addN (i := i) (j := 1) hx hb dL_law_580 ?_
  refine ca_sl (j := i + 1) hL C0 X (by omega) dL_law_581 ?_
  refine ca_lcX (As := [.int (xs (i + 1))]) (rest := []) C (ca_cX_forget l D h a d S (xs (i + 1))) (cwV 1 C.2.2.2.2.1 (lw_V q201 q202 q203 q19 q204) rfl rfl rfl (by decide +kernel) ⟨Nat.le_of_ble_eq_true rfl, Nat.le_of_ble_eq_true rfl⟩) X rfl hl.1 rfl (Nat.le_of_ble_eq_true rfl) dL_law_582 ⟨Nat.le_refl _, Nat.le_refl _⟩ (fun r S' H locs hp X => ?_)
  refine lv_aload_n hx hb dL_law_585 rfl (lv_at hl 2 rfl) ?_
  refine lv_aload_n hx hb dL_law_586 rfl (lv_at hl 0 rfl) ?_
  refine lv_iload_n hx hb dL_law_587 rfl (lv_at hl 3 rfl) ?_
  refine lv_iconst (v := nI 1) hx hb dL_law_588 (by decide +kernel) ?_
  refine ca_addN (i := i) (j := 1) hx hb dL_law_589 ?_
  refine ca_sl (j := i + 1) hL C0 X (by omega) dL_law_590 ?_
  refine ca_lcM (As := [.int (xs (i + 1))]) (rest := [.int r]) C (ca_cM_forget l D h' a' d' M (xs (i + 1))) (cwV 1 C.2.2.2.2.1 (lw_V q315 q316 q317 q20 q318) rfl rfl rfl (by decide +kernel) ⟨Nat.le_of_ble_eq_true rfl, Nat.le_of_ble_eq_true rfl⟩) X rfl hl.1 rfl (Nat.le_of_ble_eq_true rfl) dL_law_591 ⟨Nat.le_refl _, Nat.le_refl _⟩ (fun r' M' H locs hq X => ?_)
  obtain ⟨e1, hR1⟩ := ca_sim_forget hR hp hq
  refine lv_icmp_eq (tgt := 622) hx hb dL_law_594 (by decide) (fun _ => ?_) (fun c1 => absurd e1 c1)
  exact kk _ _ _ _ hR1 X
set_option maxHeartbeats 4000000 in
theorem ca_op_warm (hL : L ≤ 256) (C0 : lw_At p s m meth c b L xs) {i : Nat} (hi : i + 4 ≤ L) (hR : ca_R S M) (X : ca_Lw D h a d h' a' d' s H locs S M) (hl : lv_has ls 4 [(0, .ref b), (1, .ref h), (2, .ref h'), (3, .int (nI i))]) (kk : ∀ (S' M' : ca_St) (H : Heap) (locs : List Loc), ca_R S' M' → ca_Lw D h a d h' a' d' s H locs S' M' → W p l e room_1 s m #[Value.ref b] below meth c H locs 600000 7290000 Q (F0 m 622 ls [])) : W p l e room_1 s m #[Value.ref b] below meth c H locs 600000 7290000 Q (F0 m 599 ls []) := by
  have C := ca_C0 C0
  have hx := C.1
  have hb := C.2.1
  refine lv_aload_n hx hb dL_law_599 rfl (lv_at hl 1 rfl) ?_
  refine lv_aload_n hx hb dL_law_600 rfl (lv_at hl 0 rfl) ?_
  refine lv_iload_n hx hb dL_law_601 rfl (lv_at hl 3 rfl) ?_
  refine lv_iconst (v := nI 1) hx hb dL_law_602 (by decide +kernel) ?_
  refine ca_addN (i := i) (j := 1) hx hb dL_law_603 ?_
  refine ca_sl (j := i + 1) hL C0 X (by omega) dL_law_604 ?_
  refine ca_lcX (As := [.int (xs (i + 1))]) (rest := []) C (ca_cX_warm l D h a d S (xs (i + 1)) (ca_R_N hR)) (cwV 1 C.2.2.2.2.1 (lw_V q205 q206 q207 q19 q208) rfl rfl rfl (by decide +kernel) ⟨Nat.le_of_ble_eq_true rfl, Nat.le_of_ble_eq_true rfl⟩) X rfl hl.1 rfl (Nat.le_of_ble_eq_true rfl) dL_law_605 ⟨Nat.le_refl _, Nat.le_refl _⟩ (fun r S' H locs hp X => ?_)
  refine lv_aload_n hx hb dL_law_608 rfl (lv_at hl 2 rfl) ?_
  refine lv_aload_n hx hb dL_law_609 rfl (lv_at hl 0 rfl) ?_
  refine lv_iload_n hx hb dL_law_610 rfl (lv_at hl 3 rfl) ?_
  refine lv_iconst (v := nI 1) hx hb dL_law_611 (by decide +kernel) ?_
  refine ca_addN (i := i) (j := 1) hx hb dL_law_612 ?_
  refine ca_sl (j := i + 1) hL C0 X (by omega) dL_law_613 ?_
  refine ca_lcM (As := [.int (xs (i + 1))]) (rest := [.int r]) C (ca_cM_warm l D h' a' d' M (xs (i + 1))) (cwV 1 C.2.2.2.2.1 (lw_V q319 q320 q321 q20 q322) rfl rfl rfl (by decide +kernel) ⟨Nat.le_of_ble_eq_true rfl, Nat.le_of_ble_eq_true rfl⟩) X rfl hl.1 rfl (Nat.le_of_ble_eq_true rfl) dL_law_614 ⟨Nat.le_refl _, Nat.le_refl _⟩ (fun r' M' H locs hq X => ?_)
  obtain ⟨e1, hR1⟩ := ca_sim_warm hR hp hq
  refine lv_icmp_eq (tgt := 622) hx hb dL_law_617 (by decide) (fun _ => ?_) (fun c1 => absurd e1 c1)
  exact kk _ _ _ _ hR1 X
end CAO
end
section
set_option maxRecDepth 100000
set_option maxHeartbeats 4000000 in
/-- the law's loop -/
theorem ca_loop {p : Program} {l : Launch} {e : Env} {s : State} {m : MethodId} {below : List Frame} {meth : Method} {c : Code} {b L : Nat} {xs : Nat → Int32} {D : va_G} {h : Nat} {a : Nat → Nat} {d : Nat → ClassId} {h' : Nat} {a' : Nat → Nat} {d' : Nat → ClassId} (hL : L ≤ 256) (C0 : lw_At p s m meth c b L xs) : ∀ (n i : Nat), L + 5 ≤ i + n → i ≤ L + 4 → ∀ (S M : ca_St) (H : Heap) (locs : List Loc) (ls : Array Slot), ca_R S M → ca_Lw D h a d h' a' d' s H locs S M → lv_has ls 4 [(0, .ref b), (1, .ref h), (2, .ref h'), (3, .int (nI i))] → W p l e room_1 s m #[Value.ref b] below meth c H locs 600000 7290000 (lw_Z below #[Value.ref b] s) (F0 m 18 ls []) := by
  have C := ca_C0 C0
  have hx := C.1
  have hb := C.2.1
  intro n
  induction n with
  | zero =>
    intro i h1 h2
    exact absurd h1 (by omega)
  | succ n ih =>
    intro i hn hi S M H locs ls hR X hl
    have hbA : ¬ (fun q : Nat => s.heap.size ≤ q) b := Nat.not_le.mpr C0.2.2.2.2.2.2.2.1
    refine lv_iload_n hx hb dL_law_18 rfl (lv_at hl 3 rfl) ?_
    refine lv_aload_n hx hb dL_law_19 rfl (lv_at hl 0 rfl) ?_
    refine va_slen hx hb C0.2.2.2.2.2.2.1 C0.2.2.2.2.2.2.2.1 hbA X.2.2.2 dL_law_20 ?_
    refine lv_iconst (v := nI 4) hx hb dL_law_21 (by decide +kernel) ?_
    refine lv_isub hx hb dL_law_22 ?_
    refine lv_icmp_gt (tgt := 628) hx hb dL_law_23 (by decide) (fun c_23 => ?_) (fun c_23 => ?_)
    · refine lv_iconst (v := 1) hx hb dL_law_628 (by decide) ?_
      refine va_forget (fun q hq => X.2.2.2.2.2 q hq) ?_
      exact lw_ret hx hb C.2.2.1 C.2.2.2.1 dL_law_629
    · have hi4 : i + 4 ≤ L := ca_gt4 hL (by omega) c_23
      refine lv_aload_n hx hb dL_law_26 rfl (lv_at hl 0 rfl) ?_
      refine lv_iload_n hx hb dL_law_27 rfl (lv_at hl 3 rfl) ?_
      refine ca_sl (j := i) hL C0 X (by omega) dL_law_28 ?_
      refine lv_bipush (v := nI 31) hx hb dL_law_29 (by decide +kernel) ?_
      refine lv_iand hx hb dL_law_31 ?_
      have kk : ∀ (S' M' : ca_St) (H : Heap) (locs : List Loc), ca_R S' M' → ca_Lw D h a d h' a' d' s H locs S' M' → W p l e room_1 s m #[Value.ref b] below meth c H locs 600000 7290000 (lw_Z below #[Value.ref b] s) (F0 m 622 ls []) := by
        intro S M H locs hR X
        refine lv_iinc (v := nI (i + 4)) (lv' := [(3, .int (nI (i + 4))), (0, .ref b), (1, .ref h), (2, .ref h')]) hx hb dL_law_622 hl (k := 3) rfl (ca_inc4 i) (by decide) rfl (fun ls hl => ?_)
        refine lv_goto (tgt := 18) hx hb dL_law_625 (by decide) ?_
        exact ih (i + 4) (by omega) (by omega) S M H locs ls hR X (lv_sub hl [1, 2, 3, 0] rfl)
      obtain ⟨k, hk, ek⟩ := ca_and31 (xs i)
      refine ca_top ek ?_
      rcases (show k = 0 ∨ k = 1 ∨ k = 2 ∨ k = 3 ∨ k = 4 ∨ k = 5 ∨ k = 6 ∨ k = 7 ∨ k = 8 ∨ k = 9 ∨ k = 10 ∨ k = 11 ∨ k = 12 ∨ k = 13 ∨ k = 14 ∨ k = 15 ∨ k = 16 ∨ k = 17 ∨ 18 ≤ k by omega) with rfl | rfl | rfl | rfl | rfl | rfl | rfl | rfl | rfl | rfl | rfl | rfl | rfl | rfl | rfl | rfl | rfl | rfl | h18
      · exact lv_tableIn (off := 88) (tgt := 120) hx hb dL_law_32 (by decide +kernel) (by decide +kernel) (by decide +kernel) (by decide) (ca_op_map hL C0 hi4 hR X hl kk)
      · exact lv_tableIn (off := 131) (tgt := 163) hx hb dL_law_32 (by decide +kernel) (by decide +kernel) (by decide +kernel) (by decide) (ca_op_unmap hL C0 hi4 hR X hl kk)
      · exact lv_tableIn (off := 154) (tgt := 186) hx hb dL_law_32 (by decide +kernel) (by decide +kernel) (by decide +kernel) (by decide) (ca_op_frameOf hL C0 hi4 hR X hl kk)
      · exact lv_tableIn (off := 177) (tgt := 209) hx hb dL_law_32 (by decide +kernel) (by decide +kernel) (by decide +kernel) (by decide) (ca_op_allow hL C0 hi4 hR X hl kk)
      · exact lv_tableIn (off := 210) (tgt := 242) hx hb dL_law_32 (by decide +kernel) (by decide +kernel) (by decide +kernel) (by decide) (ca_op_load hL C0 hi4 hR X hl kk)
      · exact lv_tableIn (off := 243) (tgt := 275) hx hb dL_law_32 (by decide +kernel) (by decide +kernel) (by decide +kernel) (by decide) (ca_op_store hL C0 hi4 hR X hl kk)
      · exact lv_tableIn (off := 286) (tgt := 318) hx hb dL_law_32 (by decide +kernel) (by decide +kernel) (by decide +kernel) (by decide) (ca_op_trade hL C0 hi4 hR X hl kk)
      · exact lv_tableIn (off := 329) (tgt := 361) hx hb dL_law_32 (by decide +kernel) (by decide +kernel) (by decide +kernel) (by decide) (ca_op_fault hL C0 hi4 hR X hl kk)
      · exact lv_tableIn (off := 342) (tgt := 374) hx hb dL_law_32 (by decide +kernel) (by decide +kernel) (by decide +kernel) (by decide) (ca_op_word hL C0 hi4 hR X hl kk)
      · exact lv_tableIn (off := 375) (tgt := 407) hx hb dL_law_32 (by decide +kernel) (by decide +kernel) (by decide +kernel) (by decide) (ca_op_setWord hL C0 hi4 hR X hl kk)
      · exact lv_tableIn (off := 418) (tgt := 450) hx hb dL_law_32 (by decide +kernel) (by decide +kernel) (by decide +kernel) (by decide) (ca_op_copyFrame hL C0 hi4 hR X hl kk)
      · exact lv_tableIn (off := 451) (tgt := 483) hx hb dL_law_32 (by decide +kernel) (by decide +kernel) (by decide +kernel) (by decide) (ca_op_marks hL C0 hi4 hR X hl kk)
      · exact lv_tableIn (off := 474) (tgt := 506) hx hb dL_law_32 (by decide +kernel) (by decide +kernel) (by decide +kernel) (by decide) (ca_op_clearMarks hL C0 hi4 hR X hl kk)
      · exact lv_tableIn (off := 497) (tgt := 529) hx hb dL_law_32 (by decide +kernel) (by decide +kernel) (by decide +kernel) (by decide) (ca_op_shown hL C0 hi4 hR X hl kk)
      · exact lv_tableIn (off := 520) (tgt := 552) hx hb dL_law_32 (by decide +kernel) (by decide +kernel) (by decide +kernel) (by decide) (ca_op_dirtyPages hL C0 hi4 hR X hl kk)
      · exact lv_tableIn (off := 533) (tgt := 565) hx hb dL_law_32 (by decide +kernel) (by decide +kernel) (by decide +kernel) (by decide) (ca_op_flush hL C0 hi4 hR X hl kk)
      · exact lv_tableIn (off := 544) (tgt := 576) hx hb dL_law_32 (by decide +kernel) (by decide +kernel) (by decide +kernel) (by decide) (ca_op_forget hL C0 hi4 hR X hl kk)
      · exact lv_tableIn (off := 567) (tgt := 599) hx hb dL_law_32 (by decide +kernel) (by decide +kernel) (by decide +kernel) (by decide) (ca_op_warm hL C0 hi4 hR X hl kk)
      · exact lv_tableOut (tgt := 622) hx hb dL_law_32 (Or.inr (by rw [nI_toInt (by omega)]; omega)) (by decide) (kk S M H locs hR X)
end
section
set_option maxRecDepth 100000
abbrev ca_bM (h : Nat) : va_W := [(h, .inr (1, [.null, .null, .null, .null, .null, .int 0]))]
set_option maxHeartbeats 8000000 in
set_option maxRecDepth 100000 in
theorem ca_cM_init (l : Launch) (D : va_G) (h : Nat) : ca_MeC l yX1_init cX1_init 2 D (ca_bM h) (ca_M h) ca_TM h ca_M00 5 128 := by
  refine ca_startC (by decide) rfl (Nat.le_of_ble_eq_true rfl) ?_
  intro p e s m args below meth c A ls C hin hK hP hD hA hl
  have hx := C.1
  have hb := C.2.1
  have hts := C.2.2.2.2.1
  have hown := C.2.2.2.2.2.1
  have hml := C.2.2.2.2.2.2
  have hS : va_S A s.heap s.heap [] := va_S.rf
  have hl : lv_has ls 2 [(0, .ref h)] := hl
  refine lv_aload_n hx hb dX1_init_0 rfl (lv_at hl 0 rfl) ?_
  refine W.objInit hx hb hown (hts _ q214) (hts _ q27) (hts _ q28) rfl (by rw [hml]; exact hl.1) rfl dX1_init_1 (Nat.le_of_ble_eq_true rfl) (Nat.le_of_ble_eq_true rfl) ?_
  refine W.eq (g2 := F0 m 4 ls []) rfl ?_
  refine lv_aload_n hx hb dX1_init_4 rfl (lv_at hl 0 rfl) ?_
  refine lv_bipush (v := nI 64) hx hb dX1_init_5 (by decide +kernel) ?_
  refine va_newa (atype := .int) (ty := .int) (N' := 64) (a0 := (64, .inl (fun _ => 0))) hx hb (hts _ q78) rfl hK hP hD hS hA (fun _ => rfl) (by decide +kernel) (by decide +kernel) (by decide +kernel) (Nat.le_of_ble_eq_true rfl) (Nat.le_of_ble_eq_true rfl) dX1_init_7 (fun q0 d0 H hK hP hD hS => ?_)
  have hK : va_K D ca_cl [(d0, .int)] s := hK
  have hP : va_P D ca_cl [(h, .inr (1, [.null, .null, .null, .null, .null, .int 0])), (q0, .inl (d0, 64, .inl (fun _ => 0)))] H := hP
  have hD : va_D A [(h, .inr (1, [.null, .null, .null, .null, .null, .int 0])), (q0, .inl (d0, 64, .inl (fun _ => 0)))] := hD
  refine W.widen (k := 1) (n := 64) (Nat.le_of_ble_eq_true rfl) (Nat.le_of_ble_eq_true rfl) ?_
  refine va_putF (D := D) (ci := 1) (v := .ref q0) (ty := .array .int) (C := RX1) (T := TX1) (N := 6) hx hb hts in_X1 tyX1 tyX1_ok nmX1 hown hK hP hD hS 0 rfl rfl 0 (by decide) (hts _ q215) (fun _ h9 => h9) rfl hin rfl (by decide +kernel) rfl rfl (Nat.le_of_ble_eq_true rfl) dX1_init_9 (fun H locs hP hD hS => ?_)
  have hP : va_P D ca_cl [(h, .inr (1, [.ref q0, .null, .null, .null, .null, .int 0])), (q0, .inl (d0, 64, .inl (fun _ => 0)))] H := hP
  have hD : va_D A [(h, .inr (1, [.ref q0, .null, .null, .null, .null, .int 0])), (q0, .inl (d0, 64, .inl (fun _ => 0)))] := hD
  refine lv_aload_n hx hb dX1_init_12 rfl (lv_at hl 0 rfl) ?_
  refine lv_bipush (v := nI 16) hx hb dX1_init_13 (by decide +kernel) ?_
  refine va_newa (atype := .int) (ty := .int) (N' := 16) (a0 := (16, .inl (fun _ => 0))) hx hb (hts _ q78) rfl hK hP hD hS hA (fun _ => rfl) (by decide +kernel) (by decide +kernel) (by decide +kernel) (Nat.le_of_ble_eq_true rfl) (Nat.le_of_ble_eq_true rfl) dX1_init_15 (fun q1 d1 H hK hP hD hS => ?_)
  have hK : va_K D ca_cl [(d0, .int), (d1, .int)] s := hK
  have hP : va_P D ca_cl [(h, .inr (1, [.ref q0, .null, .null, .null, .null, .int 0])), (q0, .inl (d0, 64, .inl (fun _ => 0))), (q1, .inl (d1, 16, .inl (fun _ => 0)))] H := hP
  have hD : va_D A [(h, .inr (1, [.ref q0, .null, .null, .null, .null, .int 0])), (q0, .inl (d0, 64, .inl (fun _ => 0))), (q1, .inl (d1, 16, .inl (fun _ => 0)))] := hD
  refine W.widen (k := 2) (n := 80) (Nat.le_of_ble_eq_true rfl) (Nat.le_of_ble_eq_true rfl) ?_
  refine va_putF (D := D) (ci := 1) (v := .ref q1) (ty := .array .int) (C := RX1) (T := TX1) (N := 6) hx hb hts in_X1 tyX1 tyX1_ok nmX1 hown hK hP hD hS 0 rfl rfl 1 (by decide) (hts _ q216) (fun _ h9 => h9) rfl hin rfl (by decide +kernel) rfl rfl (Nat.le_of_ble_eq_true rfl) dX1_init_17 (fun H locs hP hD hS => ?_)
  have hP : va_P D ca_cl [(h, .inr (1, [.ref q0, .ref q1, .null, .null, .null, .int 0])), (q0, .inl (d0, 64, .inl (fun _ => 0))), (q1, .inl (d1, 16, .inl (fun _ => 0)))] H := hP
  have hD : va_D A [(h, .inr (1, [.ref q0, .ref q1, .null, .null, .null, .int 0])), (q0, .inl (d0, 64, .inl (fun _ => 0))), (q1, .inl (d1, 16, .inl (fun _ => 0)))] := hD
  refine lv_aload_n hx hb dX1_init_20 rfl (lv_at hl 0 rfl) ?_
  refine lv_bipush (v := nI 16) hx hb dX1_init_21 (by decide +kernel) ?_
  refine va_newa (atype := .boolean) (ty := .boolean) (N' := 16) (a0 := (16, .inl (fun _ => 0))) hx hb (hts _ q79) rfl hK hP hD hS hA (fun _ => rfl) (by decide +kernel) (by decide +kernel) (by decide +kernel) (Nat.le_of_ble_eq_true rfl) (Nat.le_of_ble_eq_true rfl) dX1_init_23 (fun q2 d2 H hK hP hD hS => ?_)
  have hK : va_K D ca_cl [(d0, .int), (d1, .int), (d2, .boolean)] s := hK
  have hP : va_P D ca_cl [(h, .inr (1, [.ref q0, .ref q1, .null, .null, .null, .int 0])), (q0, .inl (d0, 64, .inl (fun _ => 0))), (q1, .inl (d1, 16, .inl (fun _ => 0))), (q2, .inl (d2, 16, .inl (fun _ => 0)))] H := hP
  have hD : va_D A [(h, .inr (1, [.ref q0, .ref q1, .null, .null, .null, .int 0])), (q0, .inl (d0, 64, .inl (fun _ => 0))), (q1, .inl (d1, 16, .inl (fun _ => 0))), (q2, .inl (d2, 16, .inl (fun _ => 0)))] := hD
  refine W.widen (k := 3) (n := 96) (Nat.le_of_ble_eq_true rfl) (Nat.le_of_ble_eq_true rfl) ?_
  refine va_putF (D := D) (ci := 1) (v := .ref q2) (ty := .array .boolean) (C := RX1) (T := TX1) (N := 6) hx hb hts in_X1 tyX1 tyX1_ok nmX1 hown hK hP hD hS 0 rfl rfl 2 (by decide) (hts _ q217) (fun _ h9 => h9) rfl hin rfl (by decide +kernel) rfl rfl (Nat.le_of_ble_eq_true rfl) dX1_init_25 (fun H locs hP hD hS => ?_)
  have hP : va_P D ca_cl [(h, .inr (1, [.ref q0, .ref q1, .ref q2, .null, .null, .int 0])), (q0, .inl (d0, 64, .inl (fun _ => 0))), (q1, .inl (d1, 16, .inl (fun _ => 0))), (q2, .inl (d2, 16, .inl (fun _ => 0)))] H := hP
  have hD : va_D A [(h, .inr (1, [.ref q0, .ref q1, .ref q2, .null, .null, .int 0])), (q0, .inl (d0, 64, .inl (fun _ => 0))), (q1, .inl (d1, 16, .inl (fun _ => 0))), (q2, .inl (d2, 16, .inl (fun _ => 0)))] := hD
  refine lv_aload_n hx hb dX1_init_28 rfl (lv_at hl 0 rfl) ?_
  refine lv_bipush (v := nI 16) hx hb dX1_init_29 (by decide +kernel) ?_
  refine va_newa (atype := .boolean) (ty := .boolean) (N' := 16) (a0 := (16, .inl (fun _ => 0))) hx hb (hts _ q79) rfl hK hP hD hS hA (fun _ => rfl) (by decide +kernel) (by decide +kernel) (by decide +kernel) (Nat.le_of_ble_eq_true rfl) (Nat.le_of_ble_eq_true rfl) dX1_init_31 (fun q3 d3 H hK hP hD hS => ?_)
  have hK : va_K D ca_cl [(d0, .int), (d1, .int), (d2, .boolean), (d3, .boolean)] s := hK
  have hP : va_P D ca_cl [(h, .inr (1, [.ref q0, .ref q1, .ref q2, .null, .null, .int 0])), (q0, .inl (d0, 64, .inl (fun _ => 0))), (q1, .inl (d1, 16, .inl (fun _ => 0))), (q2, .inl (d2, 16, .inl (fun _ => 0))), (q3, .inl (d3, 16, .inl (fun _ => 0)))] H := hP
  have hD : va_D A [(h, .inr (1, [.ref q0, .ref q1, .ref q2, .null, .null, .int 0])), (q0, .inl (d0, 64, .inl (fun _ => 0))), (q1, .inl (d1, 16, .inl (fun _ => 0))), (q2, .inl (d2, 16, .inl (fun _ => 0))), (q3, .inl (d3, 16, .inl (fun _ => 0)))] := hD
  refine W.widen (k := 4) (n := 112) (Nat.le_of_ble_eq_true rfl) (Nat.le_of_ble_eq_true rfl) ?_
  refine va_putF (D := D) (ci := 1) (v := .ref q3) (ty := .array .boolean) (C := RX1) (T := TX1) (N := 6) hx hb hts in_X1 tyX1 tyX1_ok nmX1 hown hK hP hD hS 0 rfl rfl 3 (by decide) (hts _ q218) (fun _ h9 => h9) rfl hin rfl (by decide +kernel) rfl rfl (Nat.le_of_ble_eq_true rfl) dX1_init_33 (fun H locs hP hD hS => ?_)
  have hP : va_P D ca_cl [(h, .inr (1, [.ref q0, .ref q1, .ref q2, .ref q3, .null, .int 0])), (q0, .inl (d0, 64, .inl (fun _ => 0))), (q1, .inl (d1, 16, .inl (fun _ => 0))), (q2, .inl (d2, 16, .inl (fun _ => 0))), (q3, .inl (d3, 16, .inl (fun _ => 0)))] H := hP
  have hD : va_D A [(h, .inr (1, [.ref q0, .ref q1, .ref q2, .ref q3, .null, .int 0])), (q0, .inl (d0, 64, .inl (fun _ => 0))), (q1, .inl (d1, 16, .inl (fun _ => 0))), (q2, .inl (d2, 16, .inl (fun _ => 0))), (q3, .inl (d3, 16, .inl (fun _ => 0)))] := hD
  refine lv_aload_n hx hb dX1_init_36 rfl (lv_at hl 0 rfl) ?_
  refine lv_bipush (v := nI 16) hx hb dX1_init_37 (by decide +kernel) ?_
  refine va_newa (atype := .boolean) (ty := .boolean) (N' := 16) (a0 := (16, .inl (fun _ => 0))) hx hb (hts _ q79) rfl hK hP hD hS hA (fun _ => rfl) (by decide +kernel) (by decide +kernel) (by decide +kernel) (Nat.le_of_ble_eq_true rfl) (Nat.le_of_ble_eq_true rfl) dX1_init_39 (fun q4 d4 H hK hP hD hS => ?_)
  have hK : va_K D ca_cl [(d0, .int), (d1, .int), (d2, .boolean), (d3, .boolean), (d4, .boolean)] s := hK
  have hP : va_P D ca_cl [(h, .inr (1, [.ref q0, .ref q1, .ref q2, .ref q3, .null, .int 0])), (q0, .inl (d0, 64, .inl (fun _ => 0))), (q1, .inl (d1, 16, .inl (fun _ => 0))), (q2, .inl (d2, 16, .inl (fun _ => 0))), (q3, .inl (d3, 16, .inl (fun _ => 0))), (q4, .inl (d4, 16, .inl (fun _ => 0)))] H := hP
  have hD : va_D A [(h, .inr (1, [.ref q0, .ref q1, .ref q2, .ref q3, .null, .int 0])), (q0, .inl (d0, 64, .inl (fun _ => 0))), (q1, .inl (d1, 16, .inl (fun _ => 0))), (q2, .inl (d2, 16, .inl (fun _ => 0))), (q3, .inl (d3, 16, .inl (fun _ => 0))), (q4, .inl (d4, 16, .inl (fun _ => 0)))] := hD
  refine W.widen (k := 5) (n := 128) (Nat.le_of_ble_eq_true rfl) (Nat.le_of_ble_eq_true rfl) ?_
  refine va_putF (D := D) (ci := 1) (v := .ref q4) (ty := .array .boolean) (C := RX1) (T := TX1) (N := 6) hx hb hts in_X1 tyX1 tyX1_ok nmX1 hown hK hP hD hS 0 rfl rfl 4 (by decide) (hts _ q219) (fun _ h9 => h9) rfl hin rfl (by decide +kernel) rfl rfl (Nat.le_of_ble_eq_true rfl) dX1_init_41 (fun H locs hP hD hS => ?_)
  have hP : va_P D ca_cl [(h, .inr (1, [.ref q0, .ref q1, .ref q2, .ref q3, .ref q4, .int 0])), (q0, .inl (d0, 64, .inl (fun _ => 0))), (q1, .inl (d1, 16, .inl (fun _ => 0))), (q2, .inl (d2, 16, .inl (fun _ => 0))), (q3, .inl (d3, 16, .inl (fun _ => 0))), (q4, .inl (d4, 16, .inl (fun _ => 0)))] H := hP
  have hD : va_D A [(h, .inr (1, [.ref q0, .ref q1, .ref q2, .ref q3, .ref q4, .int 0])), (q0, .inl (d0, 64, .inl (fun _ => 0))), (q1, .inl (d1, 16, .inl (fun _ => 0))), (q2, .inl (d2, 16, .inl (fun _ => 0))), (q3, .inl (d3, 16, .inl (fun _ => 0))), (q4, .inl (d4, 16, .inl (fun _ => 0)))] := hD
  obtain ⟨a, ha⟩ : ∃ a : Nat → Nat, a = ca_li [q0, q1, q2, q3, q4, 0] := ⟨_, rfl⟩
  obtain ⟨d, hd⟩ : ∃ d : Nat → ClassId, d = ca_li [d0, d1, d2, d3, d4, 0] := ⟨_, rfl⟩
  have X : ca_I D (ca_M h a d) (ca_TM d) A s H locs ca_00 := by
    subst ha
    subst hd
    exact ⟨hK, hP, hD, hS, hA⟩
  refine lv_iconst (v := nI 0) hx hb dX1_init_44 (by decide +kernel) ?_
  refine lv_istore_n (lv' := [(1, .int (nI 0)), (0, .ref h)]) hx hb dX1_init_45 rfl hl (by decide) rfl (fun ls hl => ?_)
  have loop_46 : ∀ (nn i : Nat), 16 - i = nn → i ≤ 16 → ∀ (H : Heap) (locs : List Loc) (ls : Array Slot), ca_I D (ca_M h a d) (ca_TM d) A s H locs (ca_fi 1 (-2) ca_00 i) → lv_has ls 2 [(0, .ref h), (1, .int (nI i))] → W p l e { frames := 1, cells := 5, slots := 128, locals := 12 } s m args below meth c H locs 5 128 (ca_GC D (ca_M h) ca_TM ca_M00 A below args s 5 128) (F0 m 46 ls []) := by
    intro nn
    induction nn using Nat.strongRecOn with
    | _ nn ih_46 =>
      intro i hnn hk_46 H locs ls X hl
      refine lv_iload_n hx hb dX1_init_46 rfl (lv_at hl 1 rfl) ?_
      refine lv_bipush (v := nI 16) hx hb dX1_init_47 (by decide +kernel) ?_
      refine ca_geN (i := i) (n := 16) (tgt := 66) hx hb (by omega) (by omega) dX1_init_49 (by decide) (fun c_49 => ?_) (fun c_49 => ?_)
      · skip
        obtain rfl : i = 16 := by omega
        exact ca_vretC (wf := ca_M h) (tf := ca_TM) (S0 := ca_M00) (a := a) (d := d) (S := ca_fi 1 (-2) ca_00 16) (by unfold ca_M00; rfl) C X dX1_init_66
      · skip
        refine lv_aload_n hx hb dX1_init_52 rfl (lv_at hl 0 rfl) ?_
        refine ca_gM1 C rfl X dX1_init_53 ?_
        refine lv_iload_n hx hb dX1_init_56 rfl (lv_at hl 1 rfl) ?_
        refine lv_bipush (v := (-2)) hx hb dX1_init_57 (by decide +kernel) ?_
        refine ca_sM1 (j := i) (x := (-2)) C X (by omega) dX1_init_59 (fun H locs X => ?_)
        refine lv_iinc (v := nI (i + 1)) (lv' := [(1, .int (nI (i + 1))), (0, .ref h)]) hx hb dX1_init_60 hl (k := 1) rfl (ca_inc i) (by decide) rfl (fun ls hl => ?_)
        refine lv_goto (tgt := 46) hx hb dX1_init_63 (by decide) ?_
        exact ih_46 (16 - (i + 1)) (by omega) (i + 1) rfl (by omega) _ _ _ X (lv_sub hl [1, 0] rfl)
  exact loop_46 16 0 rfl (Nat.zero_le _) _ _ _ X (lv_sub hl [1, 0] rfl)
end
section
set_option maxRecDepth 100000
abbrev ca_bX (h : Nat) : va_W := [(h, .inr (0, [.null, .null, .null, .null, .null, .int 0, .null, .null, .null, .null, .null, .null, .null, .null, .null, .int 0]))]
set_option maxHeartbeats 8000000 in
set_option maxRecDepth 100000 in
theorem ca_cX_init (l : Launch) (D : va_G) (h : Nat) : ca_MeC l yX0_init cX0_init 2 D (ca_bX h) (ca_X h) ca_TX h ca_S00 14 260 := by
  refine ca_startC (by decide) rfl (Nat.le_of_ble_eq_true rfl) ?_
  intro p e s m args below meth c A ls C hin hK hP hD hA hl
  have hx := C.1
  have hb := C.2.1
  have hts := C.2.2.2.2.1
  have hown := C.2.2.2.2.2.1
  have hml := C.2.2.2.2.2.2
  have hS : va_S A s.heap s.heap [] := va_S.rf
  have hl : lv_has ls 2 [(0, .ref h)] := hl
  refine lv_aload_n hx hb dX0_init_0 rfl (lv_at hl 0 rfl) ?_
  refine W.objInit hx hb hown (hts _ q26) (hts _ q27) (hts _ q28) rfl (by rw [hml]; exact hl.1) rfl dX0_init_1 (Nat.le_of_ble_eq_true rfl) (Nat.le_of_ble_eq_true rfl) ?_
  refine W.eq (g2 := F0 m 4 ls []) rfl ?_
  refine lv_aload_n hx hb dX0_init_4 rfl (lv_at hl 0 rfl) ?_
  refine lv_bipush (v := nI 64) hx hb dX0_init_5 (by decide +kernel) ?_
  refine va_newa (atype := .int) (ty := .int) (N' := 64) (a0 := (64, .inl (fun _ => 0))) hx hb (hts _ q78) rfl hK hP hD hS hA (fun _ => rfl) (by decide +kernel) (by decide +kernel) (by decide +kernel) (Nat.le_of_ble_eq_true rfl) (Nat.le_of_ble_eq_true rfl) dX0_init_7 (fun q0 d0 H hK hP hD hS => ?_)
  have hK : va_K D ca_cl [(d0, .int)] s := hK
  have hP : va_P D ca_cl [(h, .inr (0, [.null, .null, .null, .null, .null, .int 0, .null, .null, .null, .null, .null, .null, .null, .null, .null, .int 0])), (q0, .inl (d0, 64, .inl (fun _ => 0)))] H := hP
  have hD : va_D A [(h, .inr (0, [.null, .null, .null, .null, .null, .int 0, .null, .null, .null, .null, .null, .null, .null, .null, .null, .int 0])), (q0, .inl (d0, 64, .inl (fun _ => 0)))] := hD
  refine W.widen (k := 1) (n := 64) (Nat.le_of_ble_eq_true rfl) (Nat.le_of_ble_eq_true rfl) ?_
  refine va_putF (D := D) (ci := 0) (v := .ref q0) (ty := .array .int) (C := RX0) (T := TX0) (N := 16) hx hb hts in_X0 tyX0 tyX0_ok nmX0 hown hK hP hD hS 0 rfl rfl 0 (by decide) (hts _ q29) (fun _ h9 => h9) rfl hin rfl (by decide +kernel) rfl rfl (Nat.le_of_ble_eq_true rfl) dX0_init_9 (fun H locs hP hD hS => ?_)
  have hP : va_P D ca_cl [(h, .inr (0, [.ref q0, .null, .null, .null, .null, .int 0, .null, .null, .null, .null, .null, .null, .null, .null, .null, .int 0])), (q0, .inl (d0, 64, .inl (fun _ => 0)))] H := hP
  have hD : va_D A [(h, .inr (0, [.ref q0, .null, .null, .null, .null, .int 0, .null, .null, .null, .null, .null, .null, .null, .null, .null, .int 0])), (q0, .inl (d0, 64, .inl (fun _ => 0)))] := hD
  refine lv_aload_n hx hb dX0_init_12 rfl (lv_at hl 0 rfl) ?_
  refine lv_bipush (v := nI 16) hx hb dX0_init_13 (by decide +kernel) ?_
  refine va_newa (atype := .int) (ty := .int) (N' := 16) (a0 := (16, .inl (fun _ => 0))) hx hb (hts _ q78) rfl hK hP hD hS hA (fun _ => rfl) (by decide +kernel) (by decide +kernel) (by decide +kernel) (Nat.le_of_ble_eq_true rfl) (Nat.le_of_ble_eq_true rfl) dX0_init_15 (fun q1 d1 H hK hP hD hS => ?_)
  have hK : va_K D ca_cl [(d0, .int), (d1, .int)] s := hK
  have hP : va_P D ca_cl [(h, .inr (0, [.ref q0, .null, .null, .null, .null, .int 0, .null, .null, .null, .null, .null, .null, .null, .null, .null, .int 0])), (q0, .inl (d0, 64, .inl (fun _ => 0))), (q1, .inl (d1, 16, .inl (fun _ => 0)))] H := hP
  have hD : va_D A [(h, .inr (0, [.ref q0, .null, .null, .null, .null, .int 0, .null, .null, .null, .null, .null, .null, .null, .null, .null, .int 0])), (q0, .inl (d0, 64, .inl (fun _ => 0))), (q1, .inl (d1, 16, .inl (fun _ => 0)))] := hD
  refine W.widen (k := 2) (n := 80) (Nat.le_of_ble_eq_true rfl) (Nat.le_of_ble_eq_true rfl) ?_
  refine va_putF (D := D) (ci := 0) (v := .ref q1) (ty := .array .int) (C := RX0) (T := TX0) (N := 16) hx hb hts in_X0 tyX0 tyX0_ok nmX0 hown hK hP hD hS 0 rfl rfl 1 (by decide) (hts _ q30) (fun _ h9 => h9) rfl hin rfl (by decide +kernel) rfl rfl (Nat.le_of_ble_eq_true rfl) dX0_init_17 (fun H locs hP hD hS => ?_)
  have hP : va_P D ca_cl [(h, .inr (0, [.ref q0, .ref q1, .null, .null, .null, .int 0, .null, .null, .null, .null, .null, .null, .null, .null, .null, .int 0])), (q0, .inl (d0, 64, .inl (fun _ => 0))), (q1, .inl (d1, 16, .inl (fun _ => 0)))] H := hP
  have hD : va_D A [(h, .inr (0, [.ref q0, .ref q1, .null, .null, .null, .int 0, .null, .null, .null, .null, .null, .null, .null, .null, .null, .int 0])), (q0, .inl (d0, 64, .inl (fun _ => 0))), (q1, .inl (d1, 16, .inl (fun _ => 0)))] := hD
  refine lv_aload_n hx hb dX0_init_20 rfl (lv_at hl 0 rfl) ?_
  refine lv_bipush (v := nI 16) hx hb dX0_init_21 (by decide +kernel) ?_
  refine va_newa (atype := .boolean) (ty := .boolean) (N' := 16) (a0 := (16, .inl (fun _ => 0))) hx hb (hts _ q79) rfl hK hP hD hS hA (fun _ => rfl) (by decide +kernel) (by decide +kernel) (by decide +kernel) (Nat.le_of_ble_eq_true rfl) (Nat.le_of_ble_eq_true rfl) dX0_init_23 (fun q2 d2 H hK hP hD hS => ?_)
  have hK : va_K D ca_cl [(d0, .int), (d1, .int), (d2, .boolean)] s := hK
  have hP : va_P D ca_cl [(h, .inr (0, [.ref q0, .ref q1, .null, .null, .null, .int 0, .null, .null, .null, .null, .null, .null, .null, .null, .null, .int 0])), (q0, .inl (d0, 64, .inl (fun _ => 0))), (q1, .inl (d1, 16, .inl (fun _ => 0))), (q2, .inl (d2, 16, .inl (fun _ => 0)))] H := hP
  have hD : va_D A [(h, .inr (0, [.ref q0, .ref q1, .null, .null, .null, .int 0, .null, .null, .null, .null, .null, .null, .null, .null, .null, .int 0])), (q0, .inl (d0, 64, .inl (fun _ => 0))), (q1, .inl (d1, 16, .inl (fun _ => 0))), (q2, .inl (d2, 16, .inl (fun _ => 0)))] := hD
  refine W.widen (k := 3) (n := 96) (Nat.le_of_ble_eq_true rfl) (Nat.le_of_ble_eq_true rfl) ?_
  refine va_putF (D := D) (ci := 0) (v := .ref q2) (ty := .array .boolean) (C := RX0) (T := TX0) (N := 16) hx hb hts in_X0 tyX0 tyX0_ok nmX0 hown hK hP hD hS 0 rfl rfl 2 (by decide) (hts _ q31) (fun _ h9 => h9) rfl hin rfl (by decide +kernel) rfl rfl (Nat.le_of_ble_eq_true rfl) dX0_init_25 (fun H locs hP hD hS => ?_)
  have hP : va_P D ca_cl [(h, .inr (0, [.ref q0, .ref q1, .ref q2, .null, .null, .int 0, .null, .null, .null, .null, .null, .null, .null, .null, .null, .int 0])), (q0, .inl (d0, 64, .inl (fun _ => 0))), (q1, .inl (d1, 16, .inl (fun _ => 0))), (q2, .inl (d2, 16, .inl (fun _ => 0)))] H := hP
  have hD : va_D A [(h, .inr (0, [.ref q0, .ref q1, .ref q2, .null, .null, .int 0, .null, .null, .null, .null, .null, .null, .null, .null, .null, .int 0])), (q0, .inl (d0, 64, .inl (fun _ => 0))), (q1, .inl (d1, 16, .inl (fun _ => 0))), (q2, .inl (d2, 16, .inl (fun _ => 0)))] := hD
  refine lv_aload_n hx hb dX0_init_28 rfl (lv_at hl 0 rfl) ?_
  refine lv_bipush (v := nI 16) hx hb dX0_init_29 (by decide +kernel) ?_
  refine va_newa (atype := .boolean) (ty := .boolean) (N' := 16) (a0 := (16, .inl (fun _ => 0))) hx hb (hts _ q79) rfl hK hP hD hS hA (fun _ => rfl) (by decide +kernel) (by decide +kernel) (by decide +kernel) (Nat.le_of_ble_eq_true rfl) (Nat.le_of_ble_eq_true rfl) dX0_init_31 (fun q3 d3 H hK hP hD hS => ?_)
  have hK : va_K D ca_cl [(d0, .int), (d1, .int), (d2, .boolean), (d3, .boolean)] s := hK
  have hP : va_P D ca_cl [(h, .inr (0, [.ref q0, .ref q1, .ref q2, .null, .null, .int 0, .null, .null, .null, .null, .null, .null, .null, .null, .null, .int 0])), (q0, .inl (d0, 64, .inl (fun _ => 0))), (q1, .inl (d1, 16, .inl (fun _ => 0))), (q2, .inl (d2, 16, .inl (fun _ => 0))), (q3, .inl (d3, 16, .inl (fun _ => 0)))] H := hP
  have hD : va_D A [(h, .inr (0, [.ref q0, .ref q1, .ref q2, .null, .null, .int 0, .null, .null, .null, .null, .null, .null, .null, .null, .null, .int 0])), (q0, .inl (d0, 64, .inl (fun _ => 0))), (q1, .inl (d1, 16, .inl (fun _ => 0))), (q2, .inl (d2, 16, .inl (fun _ => 0))), (q3, .inl (d3, 16, .inl (fun _ => 0)))] := hD
  refine W.widen (k := 4) (n := 112) (Nat.le_of_ble_eq_true rfl) (Nat.le_of_ble_eq_true rfl) ?_
  refine va_putF (D := D) (ci := 0) (v := .ref q3) (ty := .array .boolean) (C := RX0) (T := TX0) (N := 16) hx hb hts in_X0 tyX0 tyX0_ok nmX0 hown hK hP hD hS 0 rfl rfl 3 (by decide) (hts _ q32) (fun _ h9 => h9) rfl hin rfl (by decide +kernel) rfl rfl (Nat.le_of_ble_eq_true rfl) dX0_init_33 (fun H locs hP hD hS => ?_)
  have hP : va_P D ca_cl [(h, .inr (0, [.ref q0, .ref q1, .ref q2, .ref q3, .null, .int 0, .null, .null, .null, .null, .null, .null, .null, .null, .null, .int 0])), (q0, .inl (d0, 64, .inl (fun _ => 0))), (q1, .inl (d1, 16, .inl (fun _ => 0))), (q2, .inl (d2, 16, .inl (fun _ => 0))), (q3, .inl (d3, 16, .inl (fun _ => 0)))] H := hP
  have hD : va_D A [(h, .inr (0, [.ref q0, .ref q1, .ref q2, .ref q3, .null, .int 0, .null, .null, .null, .null, .null, .null, .null, .null, .null, .int 0])), (q0, .inl (d0, 64, .inl (fun _ => 0))), (q1, .inl (d1, 16, .inl (fun _ => 0))), (q2, .inl (d2, 16, .inl (fun _ => 0))), (q3, .inl (d3, 16, .inl (fun _ => 0)))] := hD
  refine lv_aload_n hx hb dX0_init_36 rfl (lv_at hl 0 rfl) ?_
  refine lv_bipush (v := nI 16) hx hb dX0_init_37 (by decide +kernel) ?_
  refine va_newa (atype := .boolean) (ty := .boolean) (N' := 16) (a0 := (16, .inl (fun _ => 0))) hx hb (hts _ q79) rfl hK hP hD hS hA (fun _ => rfl) (by decide +kernel) (by decide +kernel) (by decide +kernel) (Nat.le_of_ble_eq_true rfl) (Nat.le_of_ble_eq_true rfl) dX0_init_39 (fun q4 d4 H hK hP hD hS => ?_)
  have hK : va_K D ca_cl [(d0, .int), (d1, .int), (d2, .boolean), (d3, .boolean), (d4, .boolean)] s := hK
  have hP : va_P D ca_cl [(h, .inr (0, [.ref q0, .ref q1, .ref q2, .ref q3, .null, .int 0, .null, .null, .null, .null, .null, .null, .null, .null, .null, .int 0])), (q0, .inl (d0, 64, .inl (fun _ => 0))), (q1, .inl (d1, 16, .inl (fun _ => 0))), (q2, .inl (d2, 16, .inl (fun _ => 0))), (q3, .inl (d3, 16, .inl (fun _ => 0))), (q4, .inl (d4, 16, .inl (fun _ => 0)))] H := hP
  have hD : va_D A [(h, .inr (0, [.ref q0, .ref q1, .ref q2, .ref q3, .null, .int 0, .null, .null, .null, .null, .null, .null, .null, .null, .null, .int 0])), (q0, .inl (d0, 64, .inl (fun _ => 0))), (q1, .inl (d1, 16, .inl (fun _ => 0))), (q2, .inl (d2, 16, .inl (fun _ => 0))), (q3, .inl (d3, 16, .inl (fun _ => 0))), (q4, .inl (d4, 16, .inl (fun _ => 0)))] := hD
  refine W.widen (k := 5) (n := 128) (Nat.le_of_ble_eq_true rfl) (Nat.le_of_ble_eq_true rfl) ?_
  refine va_putF (D := D) (ci := 0) (v := .ref q4) (ty := .array .boolean) (C := RX0) (T := TX0) (N := 16) hx hb hts in_X0 tyX0 tyX0_ok nmX0 hown hK hP hD hS 0 rfl rfl 4 (by decide) (hts _ q33) (fun _ h9 => h9) rfl hin rfl (by decide +kernel) rfl rfl (Nat.le_of_ble_eq_true rfl) dX0_init_41 (fun H locs hP hD hS => ?_)
  have hP : va_P D ca_cl [(h, .inr (0, [.ref q0, .ref q1, .ref q2, .ref q3, .ref q4, .int 0, .null, .null, .null, .null, .null, .null, .null, .null, .null, .int 0])), (q0, .inl (d0, 64, .inl (fun _ => 0))), (q1, .inl (d1, 16, .inl (fun _ => 0))), (q2, .inl (d2, 16, .inl (fun _ => 0))), (q3, .inl (d3, 16, .inl (fun _ => 0))), (q4, .inl (d4, 16, .inl (fun _ => 0)))] H := hP
  have hD : va_D A [(h, .inr (0, [.ref q0, .ref q1, .ref q2, .ref q3, .ref q4, .int 0, .null, .null, .null, .null, .null, .null, .null, .null, .null, .int 0])), (q0, .inl (d0, 64, .inl (fun _ => 0))), (q1, .inl (d1, 16, .inl (fun _ => 0))), (q2, .inl (d2, 16, .inl (fun _ => 0))), (q3, .inl (d3, 16, .inl (fun _ => 0))), (q4, .inl (d4, 16, .inl (fun _ => 0)))] := hD
  refine lv_aload_n hx hb dX0_init_44 rfl (lv_at hl 0 rfl) ?_
  refine lv_bipush (v := nI 16) hx hb dX0_init_45 (by decide +kernel) ?_
  refine va_newa (atype := .int) (ty := .int) (N' := 16) (a0 := (16, .inl (fun _ => 0))) hx hb (hts _ q78) rfl hK hP hD hS hA (fun _ => rfl) (by decide +kernel) (by decide +kernel) (by decide +kernel) (Nat.le_of_ble_eq_true rfl) (Nat.le_of_ble_eq_true rfl) dX0_init_47 (fun q6 d6 H hK hP hD hS => ?_)
  have hK : va_K D ca_cl [(d0, .int), (d1, .int), (d2, .boolean), (d3, .boolean), (d4, .boolean), (d6, .int)] s := hK
  have hP : va_P D ca_cl [(h, .inr (0, [.ref q0, .ref q1, .ref q2, .ref q3, .ref q4, .int 0, .null, .null, .null, .null, .null, .null, .null, .null, .null, .int 0])), (q0, .inl (d0, 64, .inl (fun _ => 0))), (q1, .inl (d1, 16, .inl (fun _ => 0))), (q2, .inl (d2, 16, .inl (fun _ => 0))), (q3, .inl (d3, 16, .inl (fun _ => 0))), (q4, .inl (d4, 16, .inl (fun _ => 0))), (q6, .inl (d6, 16, .inl (fun _ => 0)))] H := hP
  have hD : va_D A [(h, .inr (0, [.ref q0, .ref q1, .ref q2, .ref q3, .ref q4, .int 0, .null, .null, .null, .null, .null, .null, .null, .null, .null, .int 0])), (q0, .inl (d0, 64, .inl (fun _ => 0))), (q1, .inl (d1, 16, .inl (fun _ => 0))), (q2, .inl (d2, 16, .inl (fun _ => 0))), (q3, .inl (d3, 16, .inl (fun _ => 0))), (q4, .inl (d4, 16, .inl (fun _ => 0))), (q6, .inl (d6, 16, .inl (fun _ => 0)))] := hD
  refine W.widen (k := 6) (n := 144) (Nat.le_of_ble_eq_true rfl) (Nat.le_of_ble_eq_true rfl) ?_
  refine va_putF (D := D) (ci := 0) (v := .ref q6) (ty := .array .int) (C := RX0) (T := TX0) (N := 16) hx hb hts in_X0 tyX0 tyX0_ok nmX0 hown hK hP hD hS 0 rfl rfl 6 (by decide) (hts _ q35) (fun _ h9 => h9) rfl hin rfl (by decide +kernel) rfl rfl (Nat.le_of_ble_eq_true rfl) dX0_init_49 (fun H locs hP hD hS => ?_)
  have hP : va_P D ca_cl [(h, .inr (0, [.ref q0, .ref q1, .ref q2, .ref q3, .ref q4, .int 0, .ref q6, .null, .null, .null, .null, .null, .null, .null, .null, .int 0])), (q0, .inl (d0, 64, .inl (fun _ => 0))), (q1, .inl (d1, 16, .inl (fun _ => 0))), (q2, .inl (d2, 16, .inl (fun _ => 0))), (q3, .inl (d3, 16, .inl (fun _ => 0))), (q4, .inl (d4, 16, .inl (fun _ => 0))), (q6, .inl (d6, 16, .inl (fun _ => 0)))] H := hP
  have hD : va_D A [(h, .inr (0, [.ref q0, .ref q1, .ref q2, .ref q3, .ref q4, .int 0, .ref q6, .null, .null, .null, .null, .null, .null, .null, .null, .int 0])), (q0, .inl (d0, 64, .inl (fun _ => 0))), (q1, .inl (d1, 16, .inl (fun _ => 0))), (q2, .inl (d2, 16, .inl (fun _ => 0))), (q3, .inl (d3, 16, .inl (fun _ => 0))), (q4, .inl (d4, 16, .inl (fun _ => 0))), (q6, .inl (d6, 16, .inl (fun _ => 0)))] := hD
  refine lv_aload_n hx hb dX0_init_52 rfl (lv_at hl 0 rfl) ?_
  refine lv_bipush (v := nI 16) hx hb dX0_init_53 (by decide +kernel) ?_
  refine va_newa (atype := .boolean) (ty := .boolean) (N' := 16) (a0 := (16, .inl (fun _ => 0))) hx hb (hts _ q79) rfl hK hP hD hS hA (fun _ => rfl) (by decide +kernel) (by decide +kernel) (by decide +kernel) (Nat.le_of_ble_eq_true rfl) (Nat.le_of_ble_eq_true rfl) dX0_init_55 (fun q7 d7 H hK hP hD hS => ?_)
  have hK : va_K D ca_cl [(d0, .int), (d1, .int), (d2, .boolean), (d3, .boolean), (d4, .boolean), (d6, .int), (d7, .boolean)] s := hK
  have hP : va_P D ca_cl [(h, .inr (0, [.ref q0, .ref q1, .ref q2, .ref q3, .ref q4, .int 0, .ref q6, .null, .null, .null, .null, .null, .null, .null, .null, .int 0])), (q0, .inl (d0, 64, .inl (fun _ => 0))), (q1, .inl (d1, 16, .inl (fun _ => 0))), (q2, .inl (d2, 16, .inl (fun _ => 0))), (q3, .inl (d3, 16, .inl (fun _ => 0))), (q4, .inl (d4, 16, .inl (fun _ => 0))), (q6, .inl (d6, 16, .inl (fun _ => 0))), (q7, .inl (d7, 16, .inl (fun _ => 0)))] H := hP
  have hD : va_D A [(h, .inr (0, [.ref q0, .ref q1, .ref q2, .ref q3, .ref q4, .int 0, .ref q6, .null, .null, .null, .null, .null, .null, .null, .null, .int 0])), (q0, .inl (d0, 64, .inl (fun _ => 0))), (q1, .inl (d1, 16, .inl (fun _ => 0))), (q2, .inl (d2, 16, .inl (fun _ => 0))), (q3, .inl (d3, 16, .inl (fun _ => 0))), (q4, .inl (d4, 16, .inl (fun _ => 0))), (q6, .inl (d6, 16, .inl (fun _ => 0))), (q7, .inl (d7, 16, .inl (fun _ => 0)))] := hD
  refine W.widen (k := 7) (n := 160) (Nat.le_of_ble_eq_true rfl) (Nat.le_of_ble_eq_true rfl) ?_
  refine va_putF (D := D) (ci := 0) (v := .ref q7) (ty := .array .boolean) (C := RX0) (T := TX0) (N := 16) hx hb hts in_X0 tyX0 tyX0_ok nmX0 hown hK hP hD hS 0 rfl rfl 7 (by decide) (hts _ q36) (fun _ h9 => h9) rfl hin rfl (by decide +kernel) rfl rfl (Nat.le_of_ble_eq_true rfl) dX0_init_57 (fun H locs hP hD hS => ?_)
  have hP : va_P D ca_cl [(h, .inr (0, [.ref q0, .ref q1, .ref q2, .ref q3, .ref q4, .int 0, .ref q6, .ref q7, .null, .null, .null, .null, .null, .null, .null, .int 0])), (q0, .inl (d0, 64, .inl (fun _ => 0))), (q1, .inl (d1, 16, .inl (fun _ => 0))), (q2, .inl (d2, 16, .inl (fun _ => 0))), (q3, .inl (d3, 16, .inl (fun _ => 0))), (q4, .inl (d4, 16, .inl (fun _ => 0))), (q6, .inl (d6, 16, .inl (fun _ => 0))), (q7, .inl (d7, 16, .inl (fun _ => 0)))] H := hP
  have hD : va_D A [(h, .inr (0, [.ref q0, .ref q1, .ref q2, .ref q3, .ref q4, .int 0, .ref q6, .ref q7, .null, .null, .null, .null, .null, .null, .null, .int 0])), (q0, .inl (d0, 64, .inl (fun _ => 0))), (q1, .inl (d1, 16, .inl (fun _ => 0))), (q2, .inl (d2, 16, .inl (fun _ => 0))), (q3, .inl (d3, 16, .inl (fun _ => 0))), (q4, .inl (d4, 16, .inl (fun _ => 0))), (q6, .inl (d6, 16, .inl (fun _ => 0))), (q7, .inl (d7, 16, .inl (fun _ => 0)))] := hD
  refine lv_aload_n hx hb dX0_init_60 rfl (lv_at hl 0 rfl) ?_
  refine lv_bipush (v := nI 16) hx hb dX0_init_61 (by decide +kernel) ?_
  refine va_newa (atype := .int) (ty := .int) (N' := 16) (a0 := (16, .inl (fun _ => 0))) hx hb (hts _ q78) rfl hK hP hD hS hA (fun _ => rfl) (by decide +kernel) (by decide +kernel) (by decide +kernel) (Nat.le_of_ble_eq_true rfl) (Nat.le_of_ble_eq_true rfl) dX0_init_63 (fun q8 d8 H hK hP hD hS => ?_)
  have hK : va_K D ca_cl [(d0, .int), (d1, .int), (d2, .boolean), (d3, .boolean), (d4, .boolean), (d6, .int), (d7, .boolean), (d8, .int)] s := hK
  have hP : va_P D ca_cl [(h, .inr (0, [.ref q0, .ref q1, .ref q2, .ref q3, .ref q4, .int 0, .ref q6, .ref q7, .null, .null, .null, .null, .null, .null, .null, .int 0])), (q0, .inl (d0, 64, .inl (fun _ => 0))), (q1, .inl (d1, 16, .inl (fun _ => 0))), (q2, .inl (d2, 16, .inl (fun _ => 0))), (q3, .inl (d3, 16, .inl (fun _ => 0))), (q4, .inl (d4, 16, .inl (fun _ => 0))), (q6, .inl (d6, 16, .inl (fun _ => 0))), (q7, .inl (d7, 16, .inl (fun _ => 0))), (q8, .inl (d8, 16, .inl (fun _ => 0)))] H := hP
  have hD : va_D A [(h, .inr (0, [.ref q0, .ref q1, .ref q2, .ref q3, .ref q4, .int 0, .ref q6, .ref q7, .null, .null, .null, .null, .null, .null, .null, .int 0])), (q0, .inl (d0, 64, .inl (fun _ => 0))), (q1, .inl (d1, 16, .inl (fun _ => 0))), (q2, .inl (d2, 16, .inl (fun _ => 0))), (q3, .inl (d3, 16, .inl (fun _ => 0))), (q4, .inl (d4, 16, .inl (fun _ => 0))), (q6, .inl (d6, 16, .inl (fun _ => 0))), (q7, .inl (d7, 16, .inl (fun _ => 0))), (q8, .inl (d8, 16, .inl (fun _ => 0)))] := hD
  refine W.widen (k := 8) (n := 176) (Nat.le_of_ble_eq_true rfl) (Nat.le_of_ble_eq_true rfl) ?_
  refine va_putF (D := D) (ci := 0) (v := .ref q8) (ty := .array .int) (C := RX0) (T := TX0) (N := 16) hx hb hts in_X0 tyX0 tyX0_ok nmX0 hown hK hP hD hS 0 rfl rfl 8 (by decide) (hts _ q37) (fun _ h9 => h9) rfl hin rfl (by decide +kernel) rfl rfl (Nat.le_of_ble_eq_true rfl) dX0_init_65 (fun H locs hP hD hS => ?_)
  have hP : va_P D ca_cl [(h, .inr (0, [.ref q0, .ref q1, .ref q2, .ref q3, .ref q4, .int 0, .ref q6, .ref q7, .ref q8, .null, .null, .null, .null, .null, .null, .int 0])), (q0, .inl (d0, 64, .inl (fun _ => 0))), (q1, .inl (d1, 16, .inl (fun _ => 0))), (q2, .inl (d2, 16, .inl (fun _ => 0))), (q3, .inl (d3, 16, .inl (fun _ => 0))), (q4, .inl (d4, 16, .inl (fun _ => 0))), (q6, .inl (d6, 16, .inl (fun _ => 0))), (q7, .inl (d7, 16, .inl (fun _ => 0))), (q8, .inl (d8, 16, .inl (fun _ => 0)))] H := hP
  have hD : va_D A [(h, .inr (0, [.ref q0, .ref q1, .ref q2, .ref q3, .ref q4, .int 0, .ref q6, .ref q7, .ref q8, .null, .null, .null, .null, .null, .null, .int 0])), (q0, .inl (d0, 64, .inl (fun _ => 0))), (q1, .inl (d1, 16, .inl (fun _ => 0))), (q2, .inl (d2, 16, .inl (fun _ => 0))), (q3, .inl (d3, 16, .inl (fun _ => 0))), (q4, .inl (d4, 16, .inl (fun _ => 0))), (q6, .inl (d6, 16, .inl (fun _ => 0))), (q7, .inl (d7, 16, .inl (fun _ => 0))), (q8, .inl (d8, 16, .inl (fun _ => 0)))] := hD
  refine lv_aload_n hx hb dX0_init_68 rfl (lv_at hl 0 rfl) ?_
  refine lv_bipush (v := nI 64) hx hb dX0_init_69 (by decide +kernel) ?_
  refine va_newa (atype := .int) (ty := .int) (N' := 64) (a0 := (64, .inl (fun _ => 0))) hx hb (hts _ q78) rfl hK hP hD hS hA (fun _ => rfl) (by decide +kernel) (by decide +kernel) (by decide +kernel) (Nat.le_of_ble_eq_true rfl) (Nat.le_of_ble_eq_true rfl) dX0_init_71 (fun q9 d9 H hK hP hD hS => ?_)
  have hK : va_K D ca_cl [(d0, .int), (d1, .int), (d2, .boolean), (d3, .boolean), (d4, .boolean), (d6, .int), (d7, .boolean), (d8, .int), (d9, .int)] s := hK
  have hP : va_P D ca_cl [(h, .inr (0, [.ref q0, .ref q1, .ref q2, .ref q3, .ref q4, .int 0, .ref q6, .ref q7, .ref q8, .null, .null, .null, .null, .null, .null, .int 0])), (q0, .inl (d0, 64, .inl (fun _ => 0))), (q1, .inl (d1, 16, .inl (fun _ => 0))), (q2, .inl (d2, 16, .inl (fun _ => 0))), (q3, .inl (d3, 16, .inl (fun _ => 0))), (q4, .inl (d4, 16, .inl (fun _ => 0))), (q6, .inl (d6, 16, .inl (fun _ => 0))), (q7, .inl (d7, 16, .inl (fun _ => 0))), (q8, .inl (d8, 16, .inl (fun _ => 0))), (q9, .inl (d9, 64, .inl (fun _ => 0)))] H := hP
  have hD : va_D A [(h, .inr (0, [.ref q0, .ref q1, .ref q2, .ref q3, .ref q4, .int 0, .ref q6, .ref q7, .ref q8, .null, .null, .null, .null, .null, .null, .int 0])), (q0, .inl (d0, 64, .inl (fun _ => 0))), (q1, .inl (d1, 16, .inl (fun _ => 0))), (q2, .inl (d2, 16, .inl (fun _ => 0))), (q3, .inl (d3, 16, .inl (fun _ => 0))), (q4, .inl (d4, 16, .inl (fun _ => 0))), (q6, .inl (d6, 16, .inl (fun _ => 0))), (q7, .inl (d7, 16, .inl (fun _ => 0))), (q8, .inl (d8, 16, .inl (fun _ => 0))), (q9, .inl (d9, 64, .inl (fun _ => 0)))] := hD
  refine W.widen (k := 9) (n := 240) (Nat.le_of_ble_eq_true rfl) (Nat.le_of_ble_eq_true rfl) ?_
  refine va_putF (D := D) (ci := 0) (v := .ref q9) (ty := .array .int) (C := RX0) (T := TX0) (N := 16) hx hb hts in_X0 tyX0 tyX0_ok nmX0 hown hK hP hD hS 0 rfl rfl 9 (by decide) (hts _ q38) (fun _ h9 => h9) rfl hin rfl (by decide +kernel) rfl rfl (Nat.le_of_ble_eq_true rfl) dX0_init_73 (fun H locs hP hD hS => ?_)
  have hP : va_P D ca_cl [(h, .inr (0, [.ref q0, .ref q1, .ref q2, .ref q3, .ref q4, .int 0, .ref q6, .ref q7, .ref q8, .ref q9, .null, .null, .null, .null, .null, .int 0])), (q0, .inl (d0, 64, .inl (fun _ => 0))), (q1, .inl (d1, 16, .inl (fun _ => 0))), (q2, .inl (d2, 16, .inl (fun _ => 0))), (q3, .inl (d3, 16, .inl (fun _ => 0))), (q4, .inl (d4, 16, .inl (fun _ => 0))), (q6, .inl (d6, 16, .inl (fun _ => 0))), (q7, .inl (d7, 16, .inl (fun _ => 0))), (q8, .inl (d8, 16, .inl (fun _ => 0))), (q9, .inl (d9, 64, .inl (fun _ => 0)))] H := hP
  have hD : va_D A [(h, .inr (0, [.ref q0, .ref q1, .ref q2, .ref q3, .ref q4, .int 0, .ref q6, .ref q7, .ref q8, .ref q9, .null, .null, .null, .null, .null, .int 0])), (q0, .inl (d0, 64, .inl (fun _ => 0))), (q1, .inl (d1, 16, .inl (fun _ => 0))), (q2, .inl (d2, 16, .inl (fun _ => 0))), (q3, .inl (d3, 16, .inl (fun _ => 0))), (q4, .inl (d4, 16, .inl (fun _ => 0))), (q6, .inl (d6, 16, .inl (fun _ => 0))), (q7, .inl (d7, 16, .inl (fun _ => 0))), (q8, .inl (d8, 16, .inl (fun _ => 0))), (q9, .inl (d9, 64, .inl (fun _ => 0)))] := hD
  refine lv_aload_n hx hb dX0_init_76 rfl (lv_at hl 0 rfl) ?_
  refine lv_iconst (v := nI 4) hx hb dX0_init_77 (by decide +kernel) ?_
  refine va_newa (atype := .int) (ty := .int) (N' := 4) (a0 := (4, .inl (fun _ => 0))) hx hb (hts _ q78) rfl hK hP hD hS hA (fun _ => rfl) (by decide +kernel) (by decide +kernel) (by decide +kernel) (Nat.le_of_ble_eq_true rfl) (Nat.le_of_ble_eq_true rfl) dX0_init_78 (fun q10 d10 H hK hP hD hS => ?_)
  have hK : va_K D ca_cl [(d0, .int), (d1, .int), (d2, .boolean), (d3, .boolean), (d4, .boolean), (d6, .int), (d7, .boolean), (d8, .int), (d9, .int), (d10, .int)] s := hK
  have hP : va_P D ca_cl [(h, .inr (0, [.ref q0, .ref q1, .ref q2, .ref q3, .ref q4, .int 0, .ref q6, .ref q7, .ref q8, .ref q9, .null, .null, .null, .null, .null, .int 0])), (q0, .inl (d0, 64, .inl (fun _ => 0))), (q1, .inl (d1, 16, .inl (fun _ => 0))), (q2, .inl (d2, 16, .inl (fun _ => 0))), (q3, .inl (d3, 16, .inl (fun _ => 0))), (q4, .inl (d4, 16, .inl (fun _ => 0))), (q6, .inl (d6, 16, .inl (fun _ => 0))), (q7, .inl (d7, 16, .inl (fun _ => 0))), (q8, .inl (d8, 16, .inl (fun _ => 0))), (q9, .inl (d9, 64, .inl (fun _ => 0))), (q10, .inl (d10, 4, .inl (fun _ => 0)))] H := hP
  have hD : va_D A [(h, .inr (0, [.ref q0, .ref q1, .ref q2, .ref q3, .ref q4, .int 0, .ref q6, .ref q7, .ref q8, .ref q9, .null, .null, .null, .null, .null, .int 0])), (q0, .inl (d0, 64, .inl (fun _ => 0))), (q1, .inl (d1, 16, .inl (fun _ => 0))), (q2, .inl (d2, 16, .inl (fun _ => 0))), (q3, .inl (d3, 16, .inl (fun _ => 0))), (q4, .inl (d4, 16, .inl (fun _ => 0))), (q6, .inl (d6, 16, .inl (fun _ => 0))), (q7, .inl (d7, 16, .inl (fun _ => 0))), (q8, .inl (d8, 16, .inl (fun _ => 0))), (q9, .inl (d9, 64, .inl (fun _ => 0))), (q10, .inl (d10, 4, .inl (fun _ => 0)))] := hD
  refine W.widen (k := 10) (n := 244) (Nat.le_of_ble_eq_true rfl) (Nat.le_of_ble_eq_true rfl) ?_
  refine va_putF (D := D) (ci := 0) (v := .ref q10) (ty := .array .int) (C := RX0) (T := TX0) (N := 16) hx hb hts in_X0 tyX0 tyX0_ok nmX0 hown hK hP hD hS 0 rfl rfl 10 (by decide) (hts _ q39) (fun _ h9 => h9) rfl hin rfl (by decide +kernel) rfl rfl (Nat.le_of_ble_eq_true rfl) dX0_init_80 (fun H locs hP hD hS => ?_)
  have hP : va_P D ca_cl [(h, .inr (0, [.ref q0, .ref q1, .ref q2, .ref q3, .ref q4, .int 0, .ref q6, .ref q7, .ref q8, .ref q9, .ref q10, .null, .null, .null, .null, .int 0])), (q0, .inl (d0, 64, .inl (fun _ => 0))), (q1, .inl (d1, 16, .inl (fun _ => 0))), (q2, .inl (d2, 16, .inl (fun _ => 0))), (q3, .inl (d3, 16, .inl (fun _ => 0))), (q4, .inl (d4, 16, .inl (fun _ => 0))), (q6, .inl (d6, 16, .inl (fun _ => 0))), (q7, .inl (d7, 16, .inl (fun _ => 0))), (q8, .inl (d8, 16, .inl (fun _ => 0))), (q9, .inl (d9, 64, .inl (fun _ => 0))), (q10, .inl (d10, 4, .inl (fun _ => 0)))] H := hP
  have hD : va_D A [(h, .inr (0, [.ref q0, .ref q1, .ref q2, .ref q3, .ref q4, .int 0, .ref q6, .ref q7, .ref q8, .ref q9, .ref q10, .null, .null, .null, .null, .int 0])), (q0, .inl (d0, 64, .inl (fun _ => 0))), (q1, .inl (d1, 16, .inl (fun _ => 0))), (q2, .inl (d2, 16, .inl (fun _ => 0))), (q3, .inl (d3, 16, .inl (fun _ => 0))), (q4, .inl (d4, 16, .inl (fun _ => 0))), (q6, .inl (d6, 16, .inl (fun _ => 0))), (q7, .inl (d7, 16, .inl (fun _ => 0))), (q8, .inl (d8, 16, .inl (fun _ => 0))), (q9, .inl (d9, 64, .inl (fun _ => 0))), (q10, .inl (d10, 4, .inl (fun _ => 0)))] := hD
  refine lv_aload_n hx hb dX0_init_83 rfl (lv_at hl 0 rfl) ?_
  refine lv_iconst (v := nI 4) hx hb dX0_init_84 (by decide +kernel) ?_
  refine va_newa (atype := .int) (ty := .int) (N' := 4) (a0 := (4, .inl (fun _ => 0))) hx hb (hts _ q78) rfl hK hP hD hS hA (fun _ => rfl) (by decide +kernel) (by decide +kernel) (by decide +kernel) (Nat.le_of_ble_eq_true rfl) (Nat.le_of_ble_eq_true rfl) dX0_init_85 (fun q11 d11 H hK hP hD hS => ?_)
  have hK : va_K D ca_cl [(d0, .int), (d1, .int), (d2, .boolean), (d3, .boolean), (d4, .boolean), (d6, .int), (d7, .boolean), (d8, .int), (d9, .int), (d10, .int), (d11, .int)] s := hK
  have hP : va_P D ca_cl [(h, .inr (0, [.ref q0, .ref q1, .ref q2, .ref q3, .ref q4, .int 0, .ref q6, .ref q7, .ref q8, .ref q9, .ref q10, .null, .null, .null, .null, .int 0])), (q0, .inl (d0, 64, .inl (fun _ => 0))), (q1, .inl (d1, 16, .inl (fun _ => 0))), (q2, .inl (d2, 16, .inl (fun _ => 0))), (q3, .inl (d3, 16, .inl (fun _ => 0))), (q4, .inl (d4, 16, .inl (fun _ => 0))), (q6, .inl (d6, 16, .inl (fun _ => 0))), (q7, .inl (d7, 16, .inl (fun _ => 0))), (q8, .inl (d8, 16, .inl (fun _ => 0))), (q9, .inl (d9, 64, .inl (fun _ => 0))), (q10, .inl (d10, 4, .inl (fun _ => 0))), (q11, .inl (d11, 4, .inl (fun _ => 0)))] H := hP
  have hD : va_D A [(h, .inr (0, [.ref q0, .ref q1, .ref q2, .ref q3, .ref q4, .int 0, .ref q6, .ref q7, .ref q8, .ref q9, .ref q10, .null, .null, .null, .null, .int 0])), (q0, .inl (d0, 64, .inl (fun _ => 0))), (q1, .inl (d1, 16, .inl (fun _ => 0))), (q2, .inl (d2, 16, .inl (fun _ => 0))), (q3, .inl (d3, 16, .inl (fun _ => 0))), (q4, .inl (d4, 16, .inl (fun _ => 0))), (q6, .inl (d6, 16, .inl (fun _ => 0))), (q7, .inl (d7, 16, .inl (fun _ => 0))), (q8, .inl (d8, 16, .inl (fun _ => 0))), (q9, .inl (d9, 64, .inl (fun _ => 0))), (q10, .inl (d10, 4, .inl (fun _ => 0))), (q11, .inl (d11, 4, .inl (fun _ => 0)))] := hD
  refine W.widen (k := 11) (n := 248) (Nat.le_of_ble_eq_true rfl) (Nat.le_of_ble_eq_true rfl) ?_
  refine va_putF (D := D) (ci := 0) (v := .ref q11) (ty := .array .int) (C := RX0) (T := TX0) (N := 16) hx hb hts in_X0 tyX0 tyX0_ok nmX0 hown hK hP hD hS 0 rfl rfl 11 (by decide) (hts _ q40) (fun _ h9 => h9) rfl hin rfl (by decide +kernel) rfl rfl (Nat.le_of_ble_eq_true rfl) dX0_init_87 (fun H locs hP hD hS => ?_)
  have hP : va_P D ca_cl [(h, .inr (0, [.ref q0, .ref q1, .ref q2, .ref q3, .ref q4, .int 0, .ref q6, .ref q7, .ref q8, .ref q9, .ref q10, .ref q11, .null, .null, .null, .int 0])), (q0, .inl (d0, 64, .inl (fun _ => 0))), (q1, .inl (d1, 16, .inl (fun _ => 0))), (q2, .inl (d2, 16, .inl (fun _ => 0))), (q3, .inl (d3, 16, .inl (fun _ => 0))), (q4, .inl (d4, 16, .inl (fun _ => 0))), (q6, .inl (d6, 16, .inl (fun _ => 0))), (q7, .inl (d7, 16, .inl (fun _ => 0))), (q8, .inl (d8, 16, .inl (fun _ => 0))), (q9, .inl (d9, 64, .inl (fun _ => 0))), (q10, .inl (d10, 4, .inl (fun _ => 0))), (q11, .inl (d11, 4, .inl (fun _ => 0)))] H := hP
  have hD : va_D A [(h, .inr (0, [.ref q0, .ref q1, .ref q2, .ref q3, .ref q4, .int 0, .ref q6, .ref q7, .ref q8, .ref q9, .ref q10, .ref q11, .null, .null, .null, .int 0])), (q0, .inl (d0, 64, .inl (fun _ => 0))), (q1, .inl (d1, 16, .inl (fun _ => 0))), (q2, .inl (d2, 16, .inl (fun _ => 0))), (q3, .inl (d3, 16, .inl (fun _ => 0))), (q4, .inl (d4, 16, .inl (fun _ => 0))), (q6, .inl (d6, 16, .inl (fun _ => 0))), (q7, .inl (d7, 16, .inl (fun _ => 0))), (q8, .inl (d8, 16, .inl (fun _ => 0))), (q9, .inl (d9, 64, .inl (fun _ => 0))), (q10, .inl (d10, 4, .inl (fun _ => 0))), (q11, .inl (d11, 4, .inl (fun _ => 0)))] := hD
  refine lv_aload_n hx hb dX0_init_90 rfl (lv_at hl 0 rfl) ?_
  refine lv_iconst (v := nI 4) hx hb dX0_init_91 (by decide +kernel) ?_
  refine va_newa (atype := .boolean) (ty := .boolean) (N' := 4) (a0 := (4, .inl (fun _ => 0))) hx hb (hts _ q79) rfl hK hP hD hS hA (fun _ => rfl) (by decide +kernel) (by decide +kernel) (by decide +kernel) (Nat.le_of_ble_eq_true rfl) (Nat.le_of_ble_eq_true rfl) dX0_init_92 (fun q12 d12 H hK hP hD hS => ?_)
  have hK : va_K D ca_cl [(d0, .int), (d1, .int), (d2, .boolean), (d3, .boolean), (d4, .boolean), (d6, .int), (d7, .boolean), (d8, .int), (d9, .int), (d10, .int), (d11, .int), (d12, .boolean)] s := hK
  have hP : va_P D ca_cl [(h, .inr (0, [.ref q0, .ref q1, .ref q2, .ref q3, .ref q4, .int 0, .ref q6, .ref q7, .ref q8, .ref q9, .ref q10, .ref q11, .null, .null, .null, .int 0])), (q0, .inl (d0, 64, .inl (fun _ => 0))), (q1, .inl (d1, 16, .inl (fun _ => 0))), (q2, .inl (d2, 16, .inl (fun _ => 0))), (q3, .inl (d3, 16, .inl (fun _ => 0))), (q4, .inl (d4, 16, .inl (fun _ => 0))), (q6, .inl (d6, 16, .inl (fun _ => 0))), (q7, .inl (d7, 16, .inl (fun _ => 0))), (q8, .inl (d8, 16, .inl (fun _ => 0))), (q9, .inl (d9, 64, .inl (fun _ => 0))), (q10, .inl (d10, 4, .inl (fun _ => 0))), (q11, .inl (d11, 4, .inl (fun _ => 0))), (q12, .inl (d12, 4, .inl (fun _ => 0)))] H := hP
  have hD : va_D A [(h, .inr (0, [.ref q0, .ref q1, .ref q2, .ref q3, .ref q4, .int 0, .ref q6, .ref q7, .ref q8, .ref q9, .ref q10, .ref q11, .null, .null, .null, .int 0])), (q0, .inl (d0, 64, .inl (fun _ => 0))), (q1, .inl (d1, 16, .inl (fun _ => 0))), (q2, .inl (d2, 16, .inl (fun _ => 0))), (q3, .inl (d3, 16, .inl (fun _ => 0))), (q4, .inl (d4, 16, .inl (fun _ => 0))), (q6, .inl (d6, 16, .inl (fun _ => 0))), (q7, .inl (d7, 16, .inl (fun _ => 0))), (q8, .inl (d8, 16, .inl (fun _ => 0))), (q9, .inl (d9, 64, .inl (fun _ => 0))), (q10, .inl (d10, 4, .inl (fun _ => 0))), (q11, .inl (d11, 4, .inl (fun _ => 0))), (q12, .inl (d12, 4, .inl (fun _ => 0)))] := hD
  refine W.widen (k := 12) (n := 252) (Nat.le_of_ble_eq_true rfl) (Nat.le_of_ble_eq_true rfl) ?_
  refine va_putF (D := D) (ci := 0) (v := .ref q12) (ty := .array .boolean) (C := RX0) (T := TX0) (N := 16) hx hb hts in_X0 tyX0 tyX0_ok nmX0 hown hK hP hD hS 0 rfl rfl 12 (by decide) (hts _ q41) (fun _ h9 => h9) rfl hin rfl (by decide +kernel) rfl rfl (Nat.le_of_ble_eq_true rfl) dX0_init_94 (fun H locs hP hD hS => ?_)
  have hP : va_P D ca_cl [(h, .inr (0, [.ref q0, .ref q1, .ref q2, .ref q3, .ref q4, .int 0, .ref q6, .ref q7, .ref q8, .ref q9, .ref q10, .ref q11, .ref q12, .null, .null, .int 0])), (q0, .inl (d0, 64, .inl (fun _ => 0))), (q1, .inl (d1, 16, .inl (fun _ => 0))), (q2, .inl (d2, 16, .inl (fun _ => 0))), (q3, .inl (d3, 16, .inl (fun _ => 0))), (q4, .inl (d4, 16, .inl (fun _ => 0))), (q6, .inl (d6, 16, .inl (fun _ => 0))), (q7, .inl (d7, 16, .inl (fun _ => 0))), (q8, .inl (d8, 16, .inl (fun _ => 0))), (q9, .inl (d9, 64, .inl (fun _ => 0))), (q10, .inl (d10, 4, .inl (fun _ => 0))), (q11, .inl (d11, 4, .inl (fun _ => 0))), (q12, .inl (d12, 4, .inl (fun _ => 0)))] H := hP
  have hD : va_D A [(h, .inr (0, [.ref q0, .ref q1, .ref q2, .ref q3, .ref q4, .int 0, .ref q6, .ref q7, .ref q8, .ref q9, .ref q10, .ref q11, .ref q12, .null, .null, .int 0])), (q0, .inl (d0, 64, .inl (fun _ => 0))), (q1, .inl (d1, 16, .inl (fun _ => 0))), (q2, .inl (d2, 16, .inl (fun _ => 0))), (q3, .inl (d3, 16, .inl (fun _ => 0))), (q4, .inl (d4, 16, .inl (fun _ => 0))), (q6, .inl (d6, 16, .inl (fun _ => 0))), (q7, .inl (d7, 16, .inl (fun _ => 0))), (q8, .inl (d8, 16, .inl (fun _ => 0))), (q9, .inl (d9, 64, .inl (fun _ => 0))), (q10, .inl (d10, 4, .inl (fun _ => 0))), (q11, .inl (d11, 4, .inl (fun _ => 0))), (q12, .inl (d12, 4, .inl (fun _ => 0)))] := hD
  refine lv_aload_n hx hb dX0_init_97 rfl (lv_at hl 0 rfl) ?_
  refine lv_iconst (v := nI 4) hx hb dX0_init_98 (by decide +kernel) ?_
  refine va_newa (atype := .boolean) (ty := .boolean) (N' := 4) (a0 := (4, .inl (fun _ => 0))) hx hb (hts _ q79) rfl hK hP hD hS hA (fun _ => rfl) (by decide +kernel) (by decide +kernel) (by decide +kernel) (Nat.le_of_ble_eq_true rfl) (Nat.le_of_ble_eq_true rfl) dX0_init_99 (fun q13 d13 H hK hP hD hS => ?_)
  have hK : va_K D ca_cl [(d0, .int), (d1, .int), (d2, .boolean), (d3, .boolean), (d4, .boolean), (d6, .int), (d7, .boolean), (d8, .int), (d9, .int), (d10, .int), (d11, .int), (d12, .boolean), (d13, .boolean)] s := hK
  have hP : va_P D ca_cl [(h, .inr (0, [.ref q0, .ref q1, .ref q2, .ref q3, .ref q4, .int 0, .ref q6, .ref q7, .ref q8, .ref q9, .ref q10, .ref q11, .ref q12, .null, .null, .int 0])), (q0, .inl (d0, 64, .inl (fun _ => 0))), (q1, .inl (d1, 16, .inl (fun _ => 0))), (q2, .inl (d2, 16, .inl (fun _ => 0))), (q3, .inl (d3, 16, .inl (fun _ => 0))), (q4, .inl (d4, 16, .inl (fun _ => 0))), (q6, .inl (d6, 16, .inl (fun _ => 0))), (q7, .inl (d7, 16, .inl (fun _ => 0))), (q8, .inl (d8, 16, .inl (fun _ => 0))), (q9, .inl (d9, 64, .inl (fun _ => 0))), (q10, .inl (d10, 4, .inl (fun _ => 0))), (q11, .inl (d11, 4, .inl (fun _ => 0))), (q12, .inl (d12, 4, .inl (fun _ => 0))), (q13, .inl (d13, 4, .inl (fun _ => 0)))] H := hP
  have hD : va_D A [(h, .inr (0, [.ref q0, .ref q1, .ref q2, .ref q3, .ref q4, .int 0, .ref q6, .ref q7, .ref q8, .ref q9, .ref q10, .ref q11, .ref q12, .null, .null, .int 0])), (q0, .inl (d0, 64, .inl (fun _ => 0))), (q1, .inl (d1, 16, .inl (fun _ => 0))), (q2, .inl (d2, 16, .inl (fun _ => 0))), (q3, .inl (d3, 16, .inl (fun _ => 0))), (q4, .inl (d4, 16, .inl (fun _ => 0))), (q6, .inl (d6, 16, .inl (fun _ => 0))), (q7, .inl (d7, 16, .inl (fun _ => 0))), (q8, .inl (d8, 16, .inl (fun _ => 0))), (q9, .inl (d9, 64, .inl (fun _ => 0))), (q10, .inl (d10, 4, .inl (fun _ => 0))), (q11, .inl (d11, 4, .inl (fun _ => 0))), (q12, .inl (d12, 4, .inl (fun _ => 0))), (q13, .inl (d13, 4, .inl (fun _ => 0)))] := hD
  refine W.widen (k := 13) (n := 256) (Nat.le_of_ble_eq_true rfl) (Nat.le_of_ble_eq_true rfl) ?_
  refine va_putF (D := D) (ci := 0) (v := .ref q13) (ty := .array .boolean) (C := RX0) (T := TX0) (N := 16) hx hb hts in_X0 tyX0 tyX0_ok nmX0 hown hK hP hD hS 0 rfl rfl 13 (by decide) (hts _ q42) (fun _ h9 => h9) rfl hin rfl (by decide +kernel) rfl rfl (Nat.le_of_ble_eq_true rfl) dX0_init_101 (fun H locs hP hD hS => ?_)
  have hP : va_P D ca_cl [(h, .inr (0, [.ref q0, .ref q1, .ref q2, .ref q3, .ref q4, .int 0, .ref q6, .ref q7, .ref q8, .ref q9, .ref q10, .ref q11, .ref q12, .ref q13, .null, .int 0])), (q0, .inl (d0, 64, .inl (fun _ => 0))), (q1, .inl (d1, 16, .inl (fun _ => 0))), (q2, .inl (d2, 16, .inl (fun _ => 0))), (q3, .inl (d3, 16, .inl (fun _ => 0))), (q4, .inl (d4, 16, .inl (fun _ => 0))), (q6, .inl (d6, 16, .inl (fun _ => 0))), (q7, .inl (d7, 16, .inl (fun _ => 0))), (q8, .inl (d8, 16, .inl (fun _ => 0))), (q9, .inl (d9, 64, .inl (fun _ => 0))), (q10, .inl (d10, 4, .inl (fun _ => 0))), (q11, .inl (d11, 4, .inl (fun _ => 0))), (q12, .inl (d12, 4, .inl (fun _ => 0))), (q13, .inl (d13, 4, .inl (fun _ => 0)))] H := hP
  have hD : va_D A [(h, .inr (0, [.ref q0, .ref q1, .ref q2, .ref q3, .ref q4, .int 0, .ref q6, .ref q7, .ref q8, .ref q9, .ref q10, .ref q11, .ref q12, .ref q13, .null, .int 0])), (q0, .inl (d0, 64, .inl (fun _ => 0))), (q1, .inl (d1, 16, .inl (fun _ => 0))), (q2, .inl (d2, 16, .inl (fun _ => 0))), (q3, .inl (d3, 16, .inl (fun _ => 0))), (q4, .inl (d4, 16, .inl (fun _ => 0))), (q6, .inl (d6, 16, .inl (fun _ => 0))), (q7, .inl (d7, 16, .inl (fun _ => 0))), (q8, .inl (d8, 16, .inl (fun _ => 0))), (q9, .inl (d9, 64, .inl (fun _ => 0))), (q10, .inl (d10, 4, .inl (fun _ => 0))), (q11, .inl (d11, 4, .inl (fun _ => 0))), (q12, .inl (d12, 4, .inl (fun _ => 0))), (q13, .inl (d13, 4, .inl (fun _ => 0)))] := hD
  refine lv_aload_n hx hb dX0_init_104 rfl (lv_at hl 0 rfl) ?_
  refine lv_iconst (v := nI 4) hx hb dX0_init_105 (by decide +kernel) ?_
  refine va_newa (atype := .int) (ty := .int) (N' := 4) (a0 := (4, .inl (fun _ => 0))) hx hb (hts _ q78) rfl hK hP hD hS hA (fun _ => rfl) (by decide +kernel) (by decide +kernel) (by decide +kernel) (Nat.le_of_ble_eq_true rfl) (Nat.le_of_ble_eq_true rfl) dX0_init_106 (fun q14 d14 H hK hP hD hS => ?_)
  have hK : va_K D ca_cl [(d0, .int), (d1, .int), (d2, .boolean), (d3, .boolean), (d4, .boolean), (d6, .int), (d7, .boolean), (d8, .int), (d9, .int), (d10, .int), (d11, .int), (d12, .boolean), (d13, .boolean), (d14, .int)] s := hK
  have hP : va_P D ca_cl [(h, .inr (0, [.ref q0, .ref q1, .ref q2, .ref q3, .ref q4, .int 0, .ref q6, .ref q7, .ref q8, .ref q9, .ref q10, .ref q11, .ref q12, .ref q13, .null, .int 0])), (q0, .inl (d0, 64, .inl (fun _ => 0))), (q1, .inl (d1, 16, .inl (fun _ => 0))), (q2, .inl (d2, 16, .inl (fun _ => 0))), (q3, .inl (d3, 16, .inl (fun _ => 0))), (q4, .inl (d4, 16, .inl (fun _ => 0))), (q6, .inl (d6, 16, .inl (fun _ => 0))), (q7, .inl (d7, 16, .inl (fun _ => 0))), (q8, .inl (d8, 16, .inl (fun _ => 0))), (q9, .inl (d9, 64, .inl (fun _ => 0))), (q10, .inl (d10, 4, .inl (fun _ => 0))), (q11, .inl (d11, 4, .inl (fun _ => 0))), (q12, .inl (d12, 4, .inl (fun _ => 0))), (q13, .inl (d13, 4, .inl (fun _ => 0))), (q14, .inl (d14, 4, .inl (fun _ => 0)))] H := hP
  have hD : va_D A [(h, .inr (0, [.ref q0, .ref q1, .ref q2, .ref q3, .ref q4, .int 0, .ref q6, .ref q7, .ref q8, .ref q9, .ref q10, .ref q11, .ref q12, .ref q13, .null, .int 0])), (q0, .inl (d0, 64, .inl (fun _ => 0))), (q1, .inl (d1, 16, .inl (fun _ => 0))), (q2, .inl (d2, 16, .inl (fun _ => 0))), (q3, .inl (d3, 16, .inl (fun _ => 0))), (q4, .inl (d4, 16, .inl (fun _ => 0))), (q6, .inl (d6, 16, .inl (fun _ => 0))), (q7, .inl (d7, 16, .inl (fun _ => 0))), (q8, .inl (d8, 16, .inl (fun _ => 0))), (q9, .inl (d9, 64, .inl (fun _ => 0))), (q10, .inl (d10, 4, .inl (fun _ => 0))), (q11, .inl (d11, 4, .inl (fun _ => 0))), (q12, .inl (d12, 4, .inl (fun _ => 0))), (q13, .inl (d13, 4, .inl (fun _ => 0))), (q14, .inl (d14, 4, .inl (fun _ => 0)))] := hD
  refine W.widen (k := 14) (n := 260) (Nat.le_of_ble_eq_true rfl) (Nat.le_of_ble_eq_true rfl) ?_
  refine va_putF (D := D) (ci := 0) (v := .ref q14) (ty := .array .int) (C := RX0) (T := TX0) (N := 16) hx hb hts in_X0 tyX0 tyX0_ok nmX0 hown hK hP hD hS 0 rfl rfl 14 (by decide) (hts _ q43) (fun _ h9 => h9) rfl hin rfl (by decide +kernel) rfl rfl (Nat.le_of_ble_eq_true rfl) dX0_init_108 (fun H locs hP hD hS => ?_)
  have hP : va_P D ca_cl [(h, .inr (0, [.ref q0, .ref q1, .ref q2, .ref q3, .ref q4, .int 0, .ref q6, .ref q7, .ref q8, .ref q9, .ref q10, .ref q11, .ref q12, .ref q13, .ref q14, .int 0])), (q0, .inl (d0, 64, .inl (fun _ => 0))), (q1, .inl (d1, 16, .inl (fun _ => 0))), (q2, .inl (d2, 16, .inl (fun _ => 0))), (q3, .inl (d3, 16, .inl (fun _ => 0))), (q4, .inl (d4, 16, .inl (fun _ => 0))), (q6, .inl (d6, 16, .inl (fun _ => 0))), (q7, .inl (d7, 16, .inl (fun _ => 0))), (q8, .inl (d8, 16, .inl (fun _ => 0))), (q9, .inl (d9, 64, .inl (fun _ => 0))), (q10, .inl (d10, 4, .inl (fun _ => 0))), (q11, .inl (d11, 4, .inl (fun _ => 0))), (q12, .inl (d12, 4, .inl (fun _ => 0))), (q13, .inl (d13, 4, .inl (fun _ => 0))), (q14, .inl (d14, 4, .inl (fun _ => 0)))] H := hP
  have hD : va_D A [(h, .inr (0, [.ref q0, .ref q1, .ref q2, .ref q3, .ref q4, .int 0, .ref q6, .ref q7, .ref q8, .ref q9, .ref q10, .ref q11, .ref q12, .ref q13, .ref q14, .int 0])), (q0, .inl (d0, 64, .inl (fun _ => 0))), (q1, .inl (d1, 16, .inl (fun _ => 0))), (q2, .inl (d2, 16, .inl (fun _ => 0))), (q3, .inl (d3, 16, .inl (fun _ => 0))), (q4, .inl (d4, 16, .inl (fun _ => 0))), (q6, .inl (d6, 16, .inl (fun _ => 0))), (q7, .inl (d7, 16, .inl (fun _ => 0))), (q8, .inl (d8, 16, .inl (fun _ => 0))), (q9, .inl (d9, 64, .inl (fun _ => 0))), (q10, .inl (d10, 4, .inl (fun _ => 0))), (q11, .inl (d11, 4, .inl (fun _ => 0))), (q12, .inl (d12, 4, .inl (fun _ => 0))), (q13, .inl (d13, 4, .inl (fun _ => 0))), (q14, .inl (d14, 4, .inl (fun _ => 0)))] := hD
  obtain ⟨a, ha⟩ : ∃ a : Nat → Nat, a = ca_li [q0, q1, q2, q3, q4, 0, q6, q7, q8, q9, q10, q11, q12, q13, q14, 0] := ⟨_, rfl⟩
  obtain ⟨d, hd⟩ : ∃ d : Nat → ClassId, d = ca_li [d0, d1, d2, d3, d4, 0, d6, d7, d8, d9, d10, d11, d12, d13, d14, 0] := ⟨_, rfl⟩
  have X : ca_I D (ca_X h a d) (ca_TX d) A s H locs ca_00 := by
    subst ha
    subst hd
    exact ⟨hK, hP, hD, hS, hA⟩
  refine lv_iconst (v := nI 0) hx hb dX0_init_111 (by decide +kernel) ?_
  refine lv_istore_n (lv' := [(1, .int (nI 0)), (0, .ref h)]) hx hb dX0_init_112 rfl hl (by decide) rfl (fun ls hl => ?_)
  have loop_113 : ∀ (nn i : Nat), 16 - i = nn → i ≤ 16 → ∀ (H : Heap) (locs : List Loc) (ls : Array Slot), ca_I D (ca_X h a d) (ca_TX d) A s H locs (ca_fi 1 (-2) ca_00 i) → lv_has ls 2 [(0, .ref h), (1, .int (nI i))] → W p l e { frames := 1, cells := 14, slots := 260, locals := 12 } s m args below meth c H locs 14 260 (ca_GC D (ca_X h) ca_TX ca_S00 A below args s 14 260) (F0 m 113 ls []) := by
    intro nn
    induction nn using Nat.strongRecOn with
    | _ nn ih_113 =>
      intro i hnn hk_113 H locs ls X hl
      refine lv_iload_n hx hb dX0_init_113 rfl (lv_at hl 1 rfl) ?_
      refine lv_bipush (v := nI 16) hx hb dX0_init_114 (by decide +kernel) ?_
      refine ca_geN (i := i) (n := 16) (tgt := 133) hx hb (by omega) (by omega) dX0_init_116 (by decide) (fun c_116 => ?_) (fun c_116 => ?_)
      · skip
        obtain rfl : i = 16 := by omega
        refine lv_iconst (v := nI 0) hx hb dX0_init_133 (by decide +kernel) ?_
        refine lv_istore_n (lv' := [(1, .int (nI 0)), (0, .ref h)]) hx hb dX0_init_134 rfl hl (by decide) rfl (fun ls hl => ?_)
        have loop_135 : ∀ (nn i2 : Nat), 16 - i2 = nn → i2 ≤ 16 → ∀ (H : Heap) (locs : List Loc) (ls : Array Slot), ca_I D (ca_X h a d) (ca_TX d) A s H locs (ca_fi 6 (-1) (ca_fi 1 (-2) ca_00 16) i2) → lv_has ls 2 [(0, .ref h), (1, .int (nI i2))] → W p l e { frames := 1, cells := 14, slots := 260, locals := 12 } s m args below meth c H locs 14 260 (ca_GC D (ca_X h) ca_TX ca_S00 A below args s 14 260) (F0 m 135 ls []) := by
          intro nn
          induction nn using Nat.strongRecOn with
          | _ nn ih_135 =>
            intro i2 hnn hk_135 H locs ls X hl
            refine lv_iload_n hx hb dX0_init_135 rfl (lv_at hl 1 rfl) ?_
            refine lv_bipush (v := nI 16) hx hb dX0_init_136 (by decide +kernel) ?_
            refine ca_geN (i := i2) (n := 16) (tgt := 154) hx hb (by omega) (by omega) dX0_init_138 (by decide) (fun c_138 => ?_) (fun c_138 => ?_)
            · skip
              obtain rfl : i2 = 16 := by omega
              refine lv_iconst (v := nI 0) hx hb dX0_init_154 (by decide +kernel) ?_
              refine lv_istore_n (lv' := [(1, .int (nI 0)), (0, .ref h)]) hx hb dX0_init_155 rfl hl (by decide) rfl (fun ls hl => ?_)
              have loop_156 : ∀ (nn i3 : Nat), 4 - i3 = nn → i3 ≤ 4 → ∀ (H : Heap) (locs : List Loc) (ls : Array Slot), ca_I D (ca_X h a d) (ca_TX d) A s H locs (ca_fi 10 (-1) (ca_fi 6 (-1) (ca_fi 1 (-2) ca_00 16) 16) i3) → lv_has ls 2 [(0, .ref h), (1, .int (nI i3))] → W p l e { frames := 1, cells := 14, slots := 260, locals := 12 } s m args below meth c H locs 14 260 (ca_GC D (ca_X h) ca_TX ca_S00 A below args s 14 260) (F0 m 156 ls []) := by
                intro nn
                induction nn using Nat.strongRecOn with
                | _ nn ih_156 =>
                  intro i3 hnn hk_156 H locs ls X hl
                  refine lv_iload_n hx hb dX0_init_156 rfl (lv_at hl 1 rfl) ?_
                  refine lv_iconst (v := nI 4) hx hb dX0_init_157 (by decide +kernel) ?_
                  refine ca_geN (i := i3) (n := 4) (tgt := 174) hx hb (by omega) (by omega) dX0_init_158 (by decide) (fun c_158 => ?_) (fun c_158 => ?_)
                  · skip
                    obtain rfl : i3 = 4 := by omega
                    exact ca_vretC (wf := ca_X h) (tf := ca_TX) (S0 := ca_S00) (a := a) (d := d) (S := ca_fi 10 (-1) (ca_fi 6 (-1) (ca_fi 1 (-2) ca_00 16) 16) 4) (by unfold ca_S00; rfl) C X dX0_init_174
                  · skip
                    refine lv_aload_n hx hb dX0_init_161 rfl (lv_at hl 0 rfl) ?_
                    refine ca_gX10 C rfl X dX0_init_162 ?_
                    refine lv_iload_n hx hb dX0_init_165 rfl (lv_at hl 1 rfl) ?_
                    refine lv_iconst (v := (-1)) hx hb dX0_init_166 (by decide +kernel) ?_
                    refine ca_sX10 (j := i3) (x := (-1)) C X (by omega) dX0_init_167 (fun H locs X => ?_)
                    refine lv_iinc (v := nI (i3 + 1)) (lv' := [(1, .int (nI (i3 + 1))), (0, .ref h)]) hx hb dX0_init_168 hl (k := 1) rfl (ca_inc i3) (by decide) rfl (fun ls hl => ?_)
                    refine lv_goto (tgt := 156) hx hb dX0_init_171 (by decide) ?_
                    exact ih_156 (4 - (i3 + 1)) (by omega) (i3 + 1) rfl (by omega) _ _ _ X (lv_sub hl [1, 0] rfl)
              exact loop_156 4 0 rfl (Nat.zero_le _) _ _ _ X (lv_sub hl [1, 0] rfl)
            · skip
              refine lv_aload_n hx hb dX0_init_141 rfl (lv_at hl 0 rfl) ?_
              refine ca_gX6 C rfl X dX0_init_142 ?_
              refine lv_iload_n hx hb dX0_init_145 rfl (lv_at hl 1 rfl) ?_
              refine lv_iconst (v := (-1)) hx hb dX0_init_146 (by decide +kernel) ?_
              refine ca_sX6 (j := i2) (x := (-1)) C X (by omega) dX0_init_147 (fun H locs X => ?_)
              refine lv_iinc (v := nI (i2 + 1)) (lv' := [(1, .int (nI (i2 + 1))), (0, .ref h)]) hx hb dX0_init_148 hl (k := 1) rfl (ca_inc i2) (by decide) rfl (fun ls hl => ?_)
              refine lv_goto (tgt := 135) hx hb dX0_init_151 (by decide) ?_
              exact ih_135 (16 - (i2 + 1)) (by omega) (i2 + 1) rfl (by omega) _ _ _ X (lv_sub hl [1, 0] rfl)
        exact loop_135 16 0 rfl (Nat.zero_le _) _ _ _ X (lv_sub hl [1, 0] rfl)
      · skip
        refine lv_aload_n hx hb dX0_init_119 rfl (lv_at hl 0 rfl) ?_
        refine ca_gX1 C rfl X dX0_init_120 ?_
        refine lv_iload_n hx hb dX0_init_123 rfl (lv_at hl 1 rfl) ?_
        refine lv_bipush (v := (-2)) hx hb dX0_init_124 (by decide +kernel) ?_
        refine ca_sX1 (j := i) (x := (-2)) C X (by omega) dX0_init_126 (fun H locs X => ?_)
        refine lv_iinc (v := nI (i + 1)) (lv' := [(1, .int (nI (i + 1))), (0, .ref h)]) hx hb dX0_init_127 hl (k := 1) rfl (ca_inc i) (by decide) rfl (fun ls hl => ?_)
        refine lv_goto (tgt := 113) hx hb dX0_init_130 (by decide) ?_
        exact ih_113 (16 - (i + 1)) (by omega) (i + 1) rfl (by omega) _ _ _ X (lv_sub hl [1, 0] rfl)
  exact loop_113 16 0 rfl (Nat.zero_le _) _ _ _ X (lv_sub hl [1, 0] rfl)
end
section
set_option maxRecDepth 100000
set_option maxHeartbeats 4000000 in
/-- from the entry, for every script of at most 256 ints, the law comes to its end with true -/
theorem whole_start {p : Program} {e : Env} {s : State} {m : MethodId} {below : List Frame} {meth : Method} {c : Code} (l : Launch) {b L : Nat} {xs : Nat → Int32} (hL : L ≤ 256) (C0 : lw_At p s m meth c b L xs) : W p l e room_1 s m #[Value.ref b] below meth c s.heap [] 0 0 (lw_Z below #[Value.ref b] s) (entryFrame m ([Value.ref b] : List Value).toArray 4) := by
  obtain ⟨hx, hb, hr, hml, hown, hts0, hX, hbl, hlocks, hgv⟩ := id C0
  have hts : ∀ w ∈ lw_all, w.before #[Value.ref b] s = true := fun w h => hts0 w (lw_all_tbl h)
  have hA : ∀ q : Nat, s.heap.size ≤ q → (fun q : Nat => s.heap.size ≤ q) q := fun _ h => h
  obtain ⟨c0, iS0, hKn0⟩ := u_known (C := RX0) (T := TX0) (N := 16) (n := 16) hts in_X0 (hts _ q22)
  obtain ⟨c1, iS1, hKn1⟩ := u_known (C := RX1) (T := TX1) (N := 6) (n := 6) hts in_X1 (hts _ q210)
  obtain ⟨dC, dI, hKc⟩ : ∃ (dC : Nat → ClassId) (dI : Nat → Nat → Nat), ∀ (k : Nat) (q : vw_C), ca_cl[k]? = some q → u_Kn s q.1 q.2.1 q.2.2 (dC k) (dI k) := by
    refine ⟨fun k => if k = 0 then c0 else c1, fun k => if k = 0 then iS0 else iS1, ?_⟩
    intro k q hq
    match k, hq with
    | 0, hq => cases hq; exact hKn0
    | 1, hq => cases hq; exact hKn1
    | k + 2, hq => simp [ca_cl] at hq
  have hS : va_S (fun q : Nat => s.heap.size ≤ q) s.heap s.heap [] := va_S.rf
  have hK : va_K (dC, dI) ca_cl [] s := ⟨hKc, fun k q h => by simp at h⟩
  have hP : va_P (dC, dI) ca_cl [] s.heap := fun k q h => by simp at h
  have hD : va_D (fun q : Nat => s.heap.size ≤ q) [] := ⟨fun i j p q h => by simp at h, fun k q h => by simp at h⟩
  have hl := lv_entry ([.ref b]) (n := 4) (Nat.le_of_ble_eq_true rfl)
  rw [lg_entry_eq]
  generalize (lg_sl ([.ref b]) ++ List.replicate (4 - (lg_sl ([.ref b])).length) Slot.unset).toArray = ls at hl ⊢
  have hl : lv_has ls 4 [(0, .ref b)] := hl
  refine va_new (ci := 0) (fs := [.null, .null, .null, .null, .null, .int 0, .null, .null, .null, .null, .null, .null, .null, .null, .null, .int 0]) (C := RX0) (T := TX0) (N := 16) hx hb hts in_X0 tyX0 tyX0_ok hown (hts _ q21) (hts _ q22) (hts _ q19) hK hP hD hS hA rfl (fun j hj => by rcases (show j = 0 ∨ j = 1 ∨ j = 2 ∨ j = 3 ∨ j = 4 ∨ j = 5 ∨ j = 6 ∨ j = 7 ∨ j = 8 ∨ j = 9 ∨ j = 10 ∨ j = 11 ∨ j = 12 ∨ j = 13 ∨ j = 14 ∨ j = 15 by omega) with rfl | rfl | rfl | rfl | rfl | rfl | rfl | rfl | rfl | rfl | rfl | rfl | rfl | rfl | rfl | rfl <;> rfl) (Nat.le_of_ble_eq_true rfl) (Nat.le_of_ble_eq_true rfl) dL_law_0 (fun qx H hP hD hS => ?_)
  have hP : va_P (dC, dI) ca_cl (ca_bX qx) H := hP
  have hD : va_D (fun q : Nat => s.heap.size ≤ q) (ca_bX qx) := hD
  refine W.widen (k := 1) (n := 16) (by omega) (by omega) ?_
  refine lv_dup hx hb dL_law_3 rfl ?_
  have hPc := hP.sub (ws' := ca_bX qx) [0] rfl
  have hDc := hD.sub (ws' := ca_bX qx) [0] (by decide) rfl
  have hKc := hK.sub (tys' := []) [] rfl
  have hFc := va_free (wc := ca_bX qx) hD hS hA [0] rfl
  refine va_callv (va_runI (As := []) (rest := [.ref qx]) ⟨hx, hb, hml, hown, hts⟩ (ca_cX_init l (dC, dI) qx H.size) (cwI 0 hts (lw_meth q25) rfl rfl rfl (hts _ q19) (hts _ q23) (hts _ q24) rfl (by decide +kernel) ⟨Nat.le_of_ble_eq_true rfl, Nat.le_of_ble_eq_true rfl⟩) ⟨fun a U g mk q => by obtain ⟨q0, q1, qP, qK, qD⟩ := q; exact ⟨q0, q1, qP, va_K.moved (u := U) (U := U.calling g mk a) (Vm.Alike.refl U.vm) qK, qD⟩, fun U hU hW => ⟨rfl, by rw [hU], by rw [hU]; exact hPc, va_K.moved hW.alike hKc, hDc.weaken (fun _ _ _ _ => trivial)⟩⟩ rfl rfl hl.1 rfl (lv_room (Nat.le_of_ble_eq_true rfl)) dL_law_4 ⟨Nat.le_of_ble_eq_true rfl, Nat.le_of_ble_eq_true rfl⟩) hS (fun q _ h => hFc q h) hFc (fun u t H1 locs ht hvm hw hB hz1 hk1 hS => ?_)
  obtain ⟨a, d⟩ := u
  obtain ⟨hP1, hK1, hD1⟩ := hB
  rw [ht] at hP1
  have hK1 := va_K.moved hvm.symm hK1
  obtain ⟨hP, hD⟩ := va_join (wr := []) (w1 := ca_X qx a d ca_S00) hP hD [0] [] rfl rfl (by decide) (by decide) hk1 hFc hP1 hD1
  have hK : va_K (dC, dI) ca_cl (ca_TX d) s := hK1
  generalize H1 = H at hP hS ⊢
  have hP : va_P (dC, dI) ca_cl (ca_X qx a d ca_S00) H := hP
  have hD : va_D (fun q : Nat => s.heap.size ≤ q) (ca_X qx a d ca_S00) := hD
  refine W.widen (k := 15) (n := 276) (by omega) (by omega) ?_
  refine lv_astore_n (lv' := [(1, .ref qx), (0, .ref b)]) hx hb dL_law_7 rfl hl (by decide) rfl (fun ls hl => ?_)
  refine va_new (ci := 1) (fs := [.null, .null, .null, .null, .null, .int 0]) (C := RX1) (T := TX1) (N := 6) hx hb hts in_X1 tyX1 tyX1_ok hown (hts _ q209) (hts _ q210) (hts _ q20) hK hP hD hS hA rfl (fun j hj => by rcases (show j = 0 ∨ j = 1 ∨ j = 2 ∨ j = 3 ∨ j = 4 ∨ j = 5 by omega) with rfl | rfl | rfl | rfl | rfl | rfl <;> rfl) (Nat.le_of_ble_eq_true rfl) (Nat.le_of_ble_eq_true rfl) dL_law_8 (fun qm H hP hD hS => ?_)
  have hP : va_P (dC, dI) ca_cl (ca_X qx a d ca_S00 ++ ca_bM qm) H := hP
  have hD : va_D (fun q : Nat => s.heap.size ≤ q) (ca_X qx a d ca_S00 ++ ca_bM qm) := hD
  refine W.widen (k := 16) (n := 282) (by omega) (by omega) ?_
  refine lv_dup hx hb dL_law_11 rfl ?_
  have hPc := hP.sub (ws' := ca_bM qm) [15] rfl
  have hDc := hD.sub (ws' := ca_bM qm) [15] (by decide) rfl
  have hKc := hK.sub (tys' := []) [] rfl
  have hFc := va_free (wc := ca_bM qm) hD hS hA [15] rfl
  refine va_callv (va_runI (As := []) (rest := [.ref qm]) ⟨hx, hb, hml, hown, hts⟩ (ca_cM_init l (dC, dI) qm H.size) (cwI 0 hts (lw_meth q213) rfl rfl rfl (hts _ q20) (hts _ q211) (hts _ q212) rfl (by decide +kernel) ⟨Nat.le_of_ble_eq_true rfl, Nat.le_of_ble_eq_true rfl⟩) ⟨fun a U g mk q => by obtain ⟨q0, q1, qP, qK, qD⟩ := q; exact ⟨q0, q1, qP, va_K.moved (u := U) (U := U.calling g mk a) (Vm.Alike.refl U.vm) qK, qD⟩, fun U hU hW => ⟨rfl, by rw [hU], by rw [hU]; exact hPc, va_K.moved hW.alike hKc, hDc.weaken (fun _ _ _ _ => trivial)⟩⟩ rfl rfl hl.1 rfl (lv_room (Nat.le_of_ble_eq_true rfl)) dL_law_12 ⟨Nat.le_of_ble_eq_true rfl, Nat.le_of_ble_eq_true rfl⟩) hS (fun q _ h => hFc q h) hFc (fun u t H1 locs ht hvm hw hB hz1 hk1 hS => ?_)
  obtain ⟨a', d'⟩ := u
  obtain ⟨hP1, hK1, hD1⟩ := hB
  rw [ht] at hP1
  have hK1 := va_K.moved hvm.symm hK1
  obtain ⟨hP, hD⟩ := va_join (wr := ca_X qx a d ca_S00) (w1 := ca_M qm a' d' ca_M00) hP hD [15] [0, 1, 2, 3, 4, 5, 6, 7, 8, 9, 10, 11, 12, 13, 14] rfl rfl (by decide) (by decide) hk1 hFc hP1 hD1
  have hK : va_K (dC, dI) ca_cl (ca_TX d ++ ca_TM d') s := hK.app hK1
  refine W.widen (k := 600000) (n := 7290000) (by omega) (by omega) ?_
  refine lv_astore_n (lv' := [(2, .ref qm), (1, .ref qx), (0, .ref b)]) hx hb dL_law_15 rfl hl (by decide) rfl (fun ls hl => ?_)
  refine lv_iconst (v := nI 0) hx hb dL_law_16 (by decide +kernel) ?_
  refine lv_istore_n (lv' := [(3, .int (nI 0)), (2, .ref qm), (1, .ref qx), (0, .ref b)]) hx hb dL_law_17 rfl hl (by decide) rfl (fun ls hl => ?_)
  exact ca_loop (D := (dC, dI)) (h := qx) (a := a) (d := d) (h' := qm) (a' := a') (d' := d') hL C0 (L + 5) 0 (by omega) (by omega) ca_S00 ca_M00 _ _ ls ca_R00 ⟨hK, hP, hD, hS⟩ (lv_sub hl [3, 2, 1, 0] rfl)
end
section
set_option maxHeartbeats 4000000 in
theorem lw_walk (l : Launch) (b : Addr) (xs : List Int32) : MetFree l x (headSpec (Jvm.Cond.code x code maxLocals ret :: tables_1) room_1) (lw_P b xs) (fun _ _ _ _ _ => True) lw_Q := by
  refine MetFree.of_bodyS (code := code) (maxLocals := maxLocals) (ret := ret) (by decide) ?_ ?_
  · intro args s m h hn
    obtain ⟨meth, c, h1, h2, h3, h4, h5, h6, -, -⟩ := Cond.code_spec hn (atoms_spec (ws := Jvm.Cond.code x code maxLocals ret :: tables_1) h _ List.mem_cons_self)
    exact ⟨meth, c, h1, h2, h3, h4, h5, h6⟩
  · intro p e s m args below meth c s₁ B hml0 hP _
    obtain ⟨rfl, hx, hbd, hgv⟩ := hP
    obtain ⟨scr, harrAt, hlist, hof, hsmall⟩ := hx
    obtain ⟨hcb, hkn, -, -⟩ := State.arrayAt?_spec harrAt
    have hown : s.vm.findClass R_law = some m.cls := findClass_of_methodNamed B.named
    have hts0 : ∀ c ∈ (Jvm.Cond.code x code maxLocals ret :: tables_1), c.before #[Value.ref b] s = true := atoms_spec (ws := Jvm.Cond.code x code maxLocals ret :: tables_1) B.pre
    have hts : ∀ w ∈ lw_tbl, w.before #[Value.ref b] s = true := k2_hts_sels lw_privs (fun w hw => hts0 w (List.mem_cons_of_mem _ hw)) lw_privs_ok
    have hml : c.maxLocals = 4 := B.maxLocals_eq (hts0 _ List.mem_cons_self)
    have X₀ : Stand p l e room_1 s m #[Value.ref b] below meth c s₁ [] 0 0 := Stand.of_body B
    have hh0 : s₁.heap = s.heap := by rw [B.state]; rfl
    have hsz : scr.slots.size = xs.length := by rw [← Array.length_toList, hlist, List.length_map]
    have hval : ∀ j : Nat, j < xs.length → scr.slots[j]? = some (.int (xs.getD j 0)) := fun j hj => by
      rw [← Array.getElem?_toList, hlist]
      simp [hj]
    have hbl : b < s.heap.size := (Array.getElem?_eq_some_iff.mp hcb).1
    have hX : va_X b xs.length (fun j => xs.getD j 0) s s.heap := ⟨scr, hcb, hof, hkn, hsz, hval⟩
    have K : W p l e room_1 s m #[Value.ref b] below meth c s₁.heap [] 0 0 (lw_Z below #[Value.ref b] s) (entryFrame m ([Value.ref b] : List Value).toArray 4) := by
      rw [hh0]
      exact whole_start l hbd ⟨B.exec, B.bytes, B.returns, hml, hown, hts, hX, hbl, B.notSynchronized, hgv⟩
    obtain ⟨t, a1, o, b1, b2, b3⟩ := K s₁ rfl X₀
    exact ⟨t, o, a1, b1, b2, b3⟩
theorem lw_pre_spec {args : Array Value} {s : State} (h : (Jvm.Cond.and given_1 narrow_1).before args s = true) (hr : rest_1_c.before args s = true) : ∃ (b : Addr) (xs : List Int32), lw_P b xs args s := by
  have hs := flat_of_before _ h
  have hq := flat_of_before _ hr
  have hc : (Cond.count 1).before args s = true := hs _ (by decide +kernel)
  have harr : (Cond.arrayOf (.arg 0) .int).before args s = true := hs _ (by decide +kernel)
  have hle : (Cond.le (.length (.arg 0)) (.int 256)).before args s = true := hs _ (by decide +kernel)
  have hlen : (Cond.isInt (.length (.arg 0))).before args s = true := hq _ (by decide +kernel)
  have hall : (Cond.all (.arg 0) (.isInt (.elem (.arg 0) (.index 0)))).before args s = true := hq _ (by decide +kernel)
  obtain ⟨b, xs, hb, hx⟩ := State.ints_of_pre rfl harr hlen hall
  have hsm : xs.length < 2 ^ 31 := hx.choose_spec.2.2.2
  have hev : (Term.length (.arg 0)).eval args s none [] s = some (.int xs.length.toInt32) := hx.length_eval hb
  have hv := Cond.le_ints hev (show (Term.int 256).eval args s none [] s = some (.int 256) from rfl)
  have hd : xs.length.toInt32 ≤ 256 := by
    simpa [Cond.before, Cond.holds, hv] using hle
  have hN : xs.length ≤ 256 := (Int32.ofNat_le_ofNat hsm (by decide)).mp (show Int32.ofNat xs.length ≤ Int32.ofNat 256 from hd)
  exact ⟨b, xs, Cond.one_arg hc (show args[0]? = some (.ref b) from hb), hx, hN, h⟩
theorem lw_comes (l : Launch) : Comes l x (Jvm.Cond.code x code maxLocals ret :: tables_1) room_1 (fun tb e args s => Calls_1 tb e args s ∧ rest_1 tb e args s ∧ Pre_1 tb e args s)
    (fun _ _ args s o t => lw_Q args s o t) := by
  intro p e ha hc hk s m args below hf hfit hheap happ hpre
  obtain ⟨b, xs, hP⟩ := lw_pre_spec hpre.2.2 hpre.2.1
  obtain ⟨k, o, h1, h2, h3, hQ⟩ := lw_walk l b xs p e ha hc hk s m args below hf ((Spec.applies_iff_loose hf).mp happ).1 hP trivial
  exact ⟨k, o, h1, h2, h3, hQ⟩
theorem lw_frame {s t : State} {o : Outcome} {args : Array Value} (h : Framed s o t [] 600000 7290000) :
    Framed s o t (fieldLocs frame_1_writes args s ++ arrayLocs frame_1_arrays args s ++ staticLocs frame_1_statics s) 600000 7290000 := h
theorem lw_limb (L : Cond) (hL : ∀ (args : Array Value) (s t : State), L.after args s (.returned (some (.int 1))) t = true) :
    ArmFor flags0 classFile x code maxLocals ret World_1 tables_1 room_1 Calls_1 rest_1 Pre_1
      (fun tb e a s o t => postC L tb e a s o t ∧ Framed s o t (fieldLocs frame_1_writes a s ++ arrayLocs frame_1_arrays a s ++ staticLocs frame_1_statics s) 600000 7290000) := by
  intro l _ _ _ p e ha hc hk s m args below hf hfit hheap happ hpre
  obtain ⟨k, o, h1, h2, h3, rfl, hF⟩ := lw_comes l p e ha hc hk s m args below hf hfit hheap happ hpre
  exact ⟨k, _, h1, h2, h3, hL args s _, lw_frame hF⟩
theorem i_vc : Claimed_1_1 ∧ Claimed_1_2 := ⟨lw_limb limb_1_1 (fun args s t => by simp [limb_1_1, Cond.after, Cond.holds, Cond.value]), lw_limb limb_1_2 (fun args s t => Cond.after_iff.mpr (by
  first | (rw [show limb_1_2 = Cond.eq .result (.int 1) from rfl, Cond.eq_ints (x := 1) (y := 1) rfl rfl]; simp; done) | (simp [limb_1_2, Cond.value, Term.eval]; done)))⟩
end
