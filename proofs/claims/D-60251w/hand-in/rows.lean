section
-- ===== PART A: goes FIRST, ahead of the names: the tables' words, and 'selects' of the private methods out of them =====
/-- a private method of a class that the tables say can be made, by its rows of tables_1 -/
def lw_okq (q : MethodName × Nat) : Prop := (q.1.cls ≠ "java/lang/invoke/MethodHandle" ∧ q.1.cls ≠ "java/lang/invoke/VarHandle") ∧ Cond.instantiable q.1.cls q.2 ∈ tables_1 ∧ Cond.privateMethod q.1 ∈ tables_1 ∧ Cond.instanceMethod q.1 ∈ tables_1
set_option maxRecDepth 100000
theorem lw_t1 {w : Cond} (h : w ∈ tables_1_1) : w ∈ tables_1 := List.mem_append_left _ h
theorem lw_t2 {w : Cond} (h : w ∈ tables_1_2) : w ∈ tables_1 := List.mem_append_right _ h
theorem lw_p0 : lw_okq (⟨"EnergyGame", "isVertex", "(I)Z"⟩, 12) := ⟨⟨by decide +kernel, by decide +kernel⟩, lw_t1 (List.mem_of_getElem? (i := 4) rfl), lw_t1 (List.mem_of_getElem? (i := 59) rfl), lw_t1 (List.mem_of_getElem? (i := 60) rfl)⟩
theorem lw_p1 : lw_okq (⟨"EnergyGame", "degree", "(I)I"⟩, 12) := ⟨⟨by decide +kernel, by decide +kernel⟩, lw_t1 (List.mem_of_getElem? (i := 4) rfl), lw_t1 (List.mem_of_getElem? (i := 67) rfl), lw_t1 (List.mem_of_getElem? (i := 68) rfl)⟩
theorem lw_p2 : lw_okq (⟨"EnergyGame", "isEdge", "(I)Z"⟩, 12) := ⟨⟨by decide +kernel, by decide +kernel⟩, lw_t1 (List.mem_of_getElem? (i := 4) rfl), lw_t1 (List.mem_of_getElem? (i := 75) rfl), lw_t1 (List.mem_of_getElem? (i := 76) rfl)⟩
theorem lw_p3 : lw_okq (⟨"EnergyGame", "refresh", "()V"⟩, 12) := ⟨⟨by decide +kernel, by decide +kernel⟩, lw_t1 (List.mem_of_getElem? (i := 4) rfl), lw_t1 (List.mem_of_getElem? (i := 91) rfl), lw_t1 (List.mem_of_getElem? (i := 92) rfl)⟩
theorem lw_p4 : lw_okq (⟨"EnergyGame", "solve", "()V"⟩, 12) := ⟨⟨by decide +kernel, by decide +kernel⟩, lw_t1 (List.mem_of_getElem? (i := 4) rfl), lw_t1 (List.mem_of_getElem? (i := 95) rfl), lw_t1 (List.mem_of_getElem? (i := 96) rfl)⟩
theorem lw_p5 : lw_okq (⟨"EnergyGame", "wantedAt", "(I)I"⟩, 12) := ⟨⟨by decide +kernel, by decide +kernel⟩, lw_t1 (List.mem_of_getElem? (i := 4) rfl), lw_t1 (List.mem_of_getElem? (i := 99) rfl), lw_t1 (List.mem_of_getElem? (i := 100) rfl)⟩
theorem lw_p6 : lw_okq (⟨"EnergyGame", "asked", "(I)I"⟩, 12) := ⟨⟨by decide +kernel, by decide +kernel⟩, lw_t1 (List.mem_of_getElem? (i := 4) rfl), lw_t1 (List.mem_of_getElem? (i := 103) rfl), lw_t1 (List.mem_of_getElem? (i := 104) rfl)⟩
theorem lw_p7 : lw_okq (⟨"EnergyGame", "shown", "(I)I"⟩, 12) := ⟨⟨by decide +kernel, by decide +kernel⟩, lw_t1 (List.mem_of_getElem? (i := 4) rfl), lw_t1 (List.mem_of_getElem? (i := 107) rfl), lw_t1 (List.mem_of_getElem? (i := 108) rfl)⟩
theorem lw_p8 : lw_okq (⟨"EnergyGame", "isGood", "(I)Z"⟩, 12) := ⟨⟨by decide +kernel, by decide +kernel⟩, lw_t1 (List.mem_of_getElem? (i := 4) rfl), lw_t1 (List.mem_of_getElem? (i := 123) rfl), lw_t1 (List.mem_of_getElem? (i := 124) rfl)⟩
theorem lw_p9 : lw_okq (⟨"EnergyGameModel", "bad", "(I)Z"⟩, 8) := ⟨⟨by decide +kernel, by decide +kernel⟩, lw_t1 (List.mem_of_getElem? (i := 151) rfl), lw_t1 (List.mem_of_getElem? (i := 190) rfl), lw_t1 (List.mem_of_getElem? (i := 191) rfl)⟩
theorem lw_p10 : lw_okq (⟨"EnergyGameModel", "badGain", "(I)Z"⟩, 8) := ⟨⟨by decide +kernel, by decide +kernel⟩, lw_t1 (List.mem_of_getElem? (i := 151) rfl), lw_t1 (List.mem_of_getElem? (i := 198) rfl), lw_t1 (List.mem_of_getElem? (i := 199) rfl)⟩
theorem lw_p11 : lw_okq (⟨"EnergyGameModel", "badEdge", "(I)Z"⟩, 8) := ⟨⟨by decide +kernel, by decide +kernel⟩, lw_t1 (List.mem_of_getElem? (i := 151) rfl), lw_t1 (List.mem_of_getElem? (i := 206) rfl), lw_t1 (List.mem_of_getElem? (i := 207) rfl)⟩
theorem lw_p12 : lw_okq (⟨"EnergyGameModel", "work", "(III)V"⟩, 8) := ⟨⟨by decide +kernel, by decide +kernel⟩, lw_t1 (List.mem_of_getElem? (i := 151) rfl), lw_t1 (List.mem_of_getElem? (i := 222) rfl), lw_t1 (List.mem_of_getElem? (i := 223) rfl)⟩
theorem lw_p13 : lw_okq (⟨"EnergyGameModel", "next", "(III)I"⟩, 8) := ⟨⟨by decide +kernel, by decide +kernel⟩, lw_t1 (List.mem_of_getElem? (i := 151) rfl), lw_t1 (List.mem_of_getElem? (i := 226) rfl), lw_t1 (List.mem_of_getElem? (i := 227) rfl)⟩
theorem lw_p14 : lw_okq (⟨"EnergyGameModel", "asks", "(I)I"⟩, 8) := ⟨⟨by decide +kernel, by decide +kernel⟩, lw_t1 (List.mem_of_getElem? (i := 151) rfl), lw_t1 (List.mem_of_getElem? (i := 230) rfl), lw_t1 (List.mem_of_getElem? (i := 231) rfl)⟩
theorem lw_p15 : lw_okq (⟨"EnergyGameModel", "told", "(I)I"⟩, 8) := ⟨⟨by decide +kernel, by decide +kernel⟩, lw_t1 (List.mem_of_getElem? (i := 151) rfl), lw_t1 (List.mem_of_getElem? (i := 234) rfl), lw_t1 (List.mem_of_getElem? (i := 235) rfl)⟩
def lw_privs_1 : List (MethodName × Nat) := [(⟨"EnergyGame", "isVertex", "(I)Z"⟩, 12), (⟨"EnergyGame", "degree", "(I)I"⟩, 12), (⟨"EnergyGame", "isEdge", "(I)Z"⟩, 12), (⟨"EnergyGame", "refresh", "()V"⟩, 12), (⟨"EnergyGame", "solve", "()V"⟩, 12), (⟨"EnergyGame", "wantedAt", "(I)I"⟩, 12), (⟨"EnergyGame", "asked", "(I)I"⟩, 12), (⟨"EnergyGame", "shown", "(I)I"⟩, 12), (⟨"EnergyGame", "isGood", "(I)Z"⟩, 12), (⟨"EnergyGameModel", "bad", "(I)Z"⟩, 8), (⟨"EnergyGameModel", "badGain", "(I)Z"⟩, 8), (⟨"EnergyGameModel", "badEdge", "(I)Z"⟩, 8), (⟨"EnergyGameModel", "work", "(III)V"⟩, 8), (⟨"EnergyGameModel", "next", "(III)I"⟩, 8), (⟨"EnergyGameModel", "asks", "(I)I"⟩, 8), (⟨"EnergyGameModel", "told", "(I)I"⟩, 8)]
theorem lw_r1 : ∀ q ∈ lw_privs_1, lw_okq q := List.forall_mem_cons.mpr ⟨lw_p0, List.forall_mem_cons.mpr ⟨lw_p1, List.forall_mem_cons.mpr ⟨lw_p2, List.forall_mem_cons.mpr ⟨lw_p3, List.forall_mem_cons.mpr ⟨lw_p4, List.forall_mem_cons.mpr ⟨lw_p5, List.forall_mem_cons.mpr ⟨lw_p6, List.forall_mem_cons.mpr ⟨lw_p7, List.forall_mem_cons.mpr ⟨lw_p8, List.forall_mem_cons.mpr ⟨lw_p9, List.forall_mem_cons.mpr ⟨lw_p10, List.forall_mem_cons.mpr ⟨lw_p11, List.forall_mem_cons.mpr ⟨lw_p12, List.forall_mem_cons.mpr ⟨lw_p13, List.forall_mem_cons.mpr ⟨lw_p14, List.forall_mem_cons.mpr ⟨lw_p15, fun _ h => absurd h List.not_mem_nil⟩⟩⟩⟩⟩⟩⟩⟩⟩⟩⟩⟩⟩⟩⟩⟩
theorem lw_p16 : lw_okq (⟨"EnergyGameModel", "chosen", "(I)I"⟩, 8) := ⟨⟨by decide +kernel, by decide +kernel⟩, lw_t1 (List.mem_of_getElem? (i := 151) rfl), lw_t2 (List.mem_of_getElem? (i := 10) rfl), lw_t2 (List.mem_of_getElem? (i := 11) rfl)⟩
theorem lw_p17 : lw_okq (⟨"EnergyGameModel", "good", "(I)Z"⟩, 8) := ⟨⟨by decide +kernel, by decide +kernel⟩, lw_t1 (List.mem_of_getElem? (i := 151) rfl), lw_t2 (List.mem_of_getElem? (i := 14) rfl), lw_t2 (List.mem_of_getElem? (i := 15) rfl)⟩
def lw_privs_2 : List (MethodName × Nat) := [(⟨"EnergyGameModel", "chosen", "(I)I"⟩, 8), (⟨"EnergyGameModel", "good", "(I)Z"⟩, 8)]
theorem lw_r2 : ∀ q ∈ lw_privs_2, lw_okq q := List.forall_mem_cons.mpr ⟨lw_p16, List.forall_mem_cons.mpr ⟨lw_p17, fun _ h => absurd h List.not_mem_nil⟩⟩
def lw_privs : List (MethodName × Nat) := lw_privs_1 ++ (lw_privs_2)
def lw_tbl : List Cond := k2_sels lw_privs ++ tables_1
theorem lw_privs_ok : ∀ q ∈ lw_privs, lw_okq q := by
  show ∀ q ∈ lw_privs_1 ++ (lw_privs_2), lw_okq q
  exact List.forall_mem_append.mpr ⟨lw_r1, lw_r2⟩
-- ===== ONE list of words for every method: the tables' words that hold all through a run =====
def lw_all : List Cond := lw_tbl.filter goodWord
/-- a word of the tables by its place: claim/WORDS.tsv -/
theorem lw_w {w : Cond} (i : Nat) (h : lw_tbl[i]? = some w) (g : goodWord w = true) : w ∈ lw_all := List.mem_filter.mpr ⟨List.mem_of_getElem? h, g⟩
theorem lw_all_tbl {w : Cond} (h : w ∈ lw_all) : w ∈ lw_tbl := (List.mem_filter.mp h).1
theorem lw_self : GoodIn lw_all lw_all := fun w h => ⟨h, good_of_word (List.mem_filter.mp h).2⟩
/-- a class's field words, by their places -/
theorem lw_in (ws : List Cond) (ps : List Nat) (hp : ws = ps.filterMap (fun i => lw_tbl[i]?)) (hg : ws.all goodWord = true) : ∀ w ∈ ws, w ∈ lw_all := by
  intro w h
  have h1 := List.all_eq_true.mp hg w h
  rw [hp] at h
  obtain ⟨i, -, hi⟩ := List.mem_filterMap.mp h
  exact lw_w i hi h1
/-- the words of a contract for the method y with code b, L locals, answer r -/
abbrev ws_ (y : MethodName) (b : ByteArray) (L : Nat) (r : Option FieldType) : List Cond := Cond.code y b L r :: lw_all
theorem lw_meth {y : MethodName} {b : ByteArray} {L : Nat} {r : Option FieldType} (h : Cond.code y b L r ∈ lw_all) : GoodIn lw_all (ws_ y b L r) := by
  intro w hw
  rcases List.mem_cons.mp hw with e | e
  · rw [e]
    exact lw_self _ h
  · exact lw_self _ e
theorem lw_app {a c : List Cond} (ha : ∀ w ∈ a, w ∈ lw_all) (hc : GoodIn lw_all c) : GoodIn lw_all (a ++ c) := by
  intro w hw
  rcases List.mem_append.mp hw with e | e
  · exact lw_self w (ha w e)
  · exact hc w e
/-- what a call through an object asks: cwV n hts (lw_V ..) -/
theorem lw_V {own : String} {idx : Nat} {C : String} {y : MethodName} {b : ByteArray} {L : Nat} {r : Option FieldType} (h1 : Cond.methodLink own idx y ∈ lw_all) (h2 : Cond.instanceMethod y ∈ lw_all) (h3 : Cond.selects C y y ∈ lw_all) (h4 : Cond.initialized C ∈ lw_all) (h5 : Cond.code y b L r ∈ lw_all) : GoodIn lw_all (wsV own idx C y (ws_ y b L r)) := by
  refine lw_app ?_ (lw_meth h5)
  intro w hw
  simp only [List.mem_cons, List.not_mem_nil, or_false] at hw
  rcases hw with e | e | e | e
  · rw [e]; exact h1
  · rw [e]; exact h2
  · rw [e]; exact h3
  · rw [e]; exact h4
/-- what a static call asks: va_cwS n hts (lw_S ..) -/
theorem lw_S {own : String} {idx : Nat} {y : MethodName} {b : ByteArray} {L : Nat} {r : Option FieldType} (h1 : Cond.methodLink own idx y ∈ lw_all) (h2 : Cond.static y ∈ lw_all) (h3 : Cond.initialized y.cls ∈ lw_all) (h4 : Cond.code y b L r ∈ lw_all) : GoodIn lw_all (va_wsS own idx y (ws_ y b L r)) := by
  refine lw_app ?_ (lw_meth h4)
  intro w hw
  simp only [List.mem_cons, List.not_mem_nil, or_false] at hw
  rcases hw with e | e | e
  · rw [e]; exact h1
  · rw [e]; exact h2
  · rw [e]; exact h3
/-- the words of a contract for a method WITH HANDLERS (hh: its table) -/
abbrev wsW_ (y : MethodName) (b : ByteArray) (L : Nat) (r : Option FieldType) (hh : List (Nat × Nat × Nat × Nat)) : List Cond := Cond.codeWith y b L r hh :: lw_all
theorem lw_methW {y : MethodName} {b : ByteArray} {L : Nat} {r : Option FieldType} {hh : List (Nat × Nat × Nat × Nat)} (h : Cond.codeWith y b L r hh ∈ lw_all) : GoodIn lw_all (wsW_ y b L r hh) := by
  intro w hw
  rcases List.mem_cons.mp hw with e | e
  · rw [e]
    exact lw_self _ h
  · exact lw_self _ e
/-- any list of words by their places (lw_in), good -/
theorem lw_good {ws : List Cond} (h : ∀ w ∈ ws, w ∈ lw_all) : GoodIn lw_all ws := fun w hw => lw_self w (h w hw)
/-- what a call of a method with handlers asks: vx_cwVW n hts (lw_VW ..), vx_cwSW n hts (lw_SW ..) -/
theorem lw_VW {own : String} {idx : Nat} {C : String} {y : MethodName} {b : ByteArray} {L : Nat} {r : Option FieldType} {hh : List (Nat × Nat × Nat × Nat)} (h1 : Cond.methodLink own idx y ∈ lw_all) (h2 : Cond.instanceMethod y ∈ lw_all) (h3 : Cond.selects C y y ∈ lw_all) (h4 : Cond.initialized C ∈ lw_all) (h5 : Cond.codeWith y b L r hh ∈ lw_all) : GoodIn lw_all (wsV own idx C y (wsW_ y b L r hh)) := by
  refine lw_app ?_ (lw_methW h5)
  intro w hw
  simp only [List.mem_cons, List.not_mem_nil, or_false] at hw
  rcases hw with e | e | e | e
  · rw [e]; exact h1
  · rw [e]; exact h2
  · rw [e]; exact h3
  · rw [e]; exact h4
theorem lw_SW {own : String} {idx : Nat} {y : MethodName} {b : ByteArray} {L : Nat} {r : Option FieldType} {hh : List (Nat × Nat × Nat × Nat)} (h1 : Cond.methodLink own idx y ∈ lw_all) (h2 : Cond.static y ∈ lw_all) (h3 : Cond.initialized y.cls ∈ lw_all) (h4 : Cond.codeWith y b L r hh ∈ lw_all) : GoodIn lw_all (va_wsS own idx y (wsW_ y b L r hh)) := by
  refine lw_app ?_ (lw_methW h4)
  intro w hw
  simp only [List.mem_cons, List.not_mem_nil, or_false] at hw
  rcases hw with e | e | e
  · rw [e]; exact h1
  · rw [e]; exact h2
  · rw [e]; exact h3
/-- a word by its place in its run of the tables -/
theorem lw_at {r : List Cond} (hr : ∀ w ∈ r, w ∈ lw_tbl) {w : Cond} (i : Nat) (h : r[i]? = some w) : w ∈ lw_tbl := hr w (List.mem_of_getElem? h)
theorem lw_g {w : Cond} (h : w ∈ lw_tbl) (g : goodWord w = true) : w ∈ lw_all := List.mem_filter.mpr ⟨h, g⟩
theorem lw_ms : ∀ w ∈ k2_sels lw_privs, w ∈ lw_tbl := fun w h => show w ∈ k2_sels lw_privs ++ tables_1 from List.mem_append_left _ h
theorem lw_m1 : ∀ w ∈ tables_1_1, w ∈ lw_tbl := fun w h => show w ∈ k2_sels lw_privs ++ tables_1 from List.mem_append_right (k2_sels lw_privs) (show w ∈ tables_1 from List.mem_append_left _ h)
theorem lw_m2 : ∀ w ∈ tables_1_2, w ∈ lw_tbl := fun w h => show w ∈ k2_sels lw_privs ++ tables_1 from List.mem_append_right (k2_sels lw_privs) (show w ∈ tables_1 from List.mem_append_right _ h)
theorem qs0 : (Cond.selects "EnergyGame" ⟨"EnergyGame", "isVertex", "(I)Z"⟩ ⟨"EnergyGame", "isVertex", "(I)Z"⟩) ∈ lw_all := lw_g (lw_at lw_ms 0 rfl) rfl
theorem qs1 : (Cond.selects "EnergyGame" ⟨"EnergyGame", "degree", "(I)I"⟩ ⟨"EnergyGame", "degree", "(I)I"⟩) ∈ lw_all := lw_g (lw_at lw_ms 1 rfl) rfl
theorem qs2 : (Cond.selects "EnergyGame" ⟨"EnergyGame", "isEdge", "(I)Z"⟩ ⟨"EnergyGame", "isEdge", "(I)Z"⟩) ∈ lw_all := lw_g (lw_at lw_ms 2 rfl) rfl
theorem qs3 : (Cond.selects "EnergyGame" ⟨"EnergyGame", "refresh", "()V"⟩ ⟨"EnergyGame", "refresh", "()V"⟩) ∈ lw_all := lw_g (lw_at lw_ms 3 rfl) rfl
theorem qs4 : (Cond.selects "EnergyGame" ⟨"EnergyGame", "solve", "()V"⟩ ⟨"EnergyGame", "solve", "()V"⟩) ∈ lw_all := lw_g (lw_at lw_ms 4 rfl) rfl
theorem qs5 : (Cond.selects "EnergyGame" ⟨"EnergyGame", "wantedAt", "(I)I"⟩ ⟨"EnergyGame", "wantedAt", "(I)I"⟩) ∈ lw_all := lw_g (lw_at lw_ms 5 rfl) rfl
theorem qs6 : (Cond.selects "EnergyGame" ⟨"EnergyGame", "asked", "(I)I"⟩ ⟨"EnergyGame", "asked", "(I)I"⟩) ∈ lw_all := lw_g (lw_at lw_ms 6 rfl) rfl
theorem qs7 : (Cond.selects "EnergyGame" ⟨"EnergyGame", "shown", "(I)I"⟩ ⟨"EnergyGame", "shown", "(I)I"⟩) ∈ lw_all := lw_g (lw_at lw_ms 7 rfl) rfl
theorem qs8 : (Cond.selects "EnergyGame" ⟨"EnergyGame", "isGood", "(I)Z"⟩ ⟨"EnergyGame", "isGood", "(I)Z"⟩) ∈ lw_all := lw_g (lw_at lw_ms 8 rfl) rfl
theorem qs9 : (Cond.selects "EnergyGameModel" ⟨"EnergyGameModel", "bad", "(I)Z"⟩ ⟨"EnergyGameModel", "bad", "(I)Z"⟩) ∈ lw_all := lw_g (lw_at lw_ms 9 rfl) rfl
theorem qs10 : (Cond.selects "EnergyGameModel" ⟨"EnergyGameModel", "badGain", "(I)Z"⟩ ⟨"EnergyGameModel", "badGain", "(I)Z"⟩) ∈ lw_all := lw_g (lw_at lw_ms 10 rfl) rfl
theorem qs11 : (Cond.selects "EnergyGameModel" ⟨"EnergyGameModel", "badEdge", "(I)Z"⟩ ⟨"EnergyGameModel", "badEdge", "(I)Z"⟩) ∈ lw_all := lw_g (lw_at lw_ms 11 rfl) rfl
theorem qs12 : (Cond.selects "EnergyGameModel" ⟨"EnergyGameModel", "work", "(III)V"⟩ ⟨"EnergyGameModel", "work", "(III)V"⟩) ∈ lw_all := lw_g (lw_at lw_ms 12 rfl) rfl
theorem qs13 : (Cond.selects "EnergyGameModel" ⟨"EnergyGameModel", "next", "(III)I"⟩ ⟨"EnergyGameModel", "next", "(III)I"⟩) ∈ lw_all := lw_g (lw_at lw_ms 13 rfl) rfl
theorem qs14 : (Cond.selects "EnergyGameModel" ⟨"EnergyGameModel", "asks", "(I)I"⟩ ⟨"EnergyGameModel", "asks", "(I)I"⟩) ∈ lw_all := lw_g (lw_at lw_ms 14 rfl) rfl
theorem qs15 : (Cond.selects "EnergyGameModel" ⟨"EnergyGameModel", "told", "(I)I"⟩ ⟨"EnergyGameModel", "told", "(I)I"⟩) ∈ lw_all := lw_g (lw_at lw_ms 15 rfl) rfl
theorem qs16 : (Cond.selects "EnergyGameModel" ⟨"EnergyGameModel", "chosen", "(I)I"⟩ ⟨"EnergyGameModel", "chosen", "(I)I"⟩) ∈ lw_all := lw_g (lw_at lw_ms 16 rfl) rfl
theorem qs17 : (Cond.selects "EnergyGameModel" ⟨"EnergyGameModel", "good", "(I)Z"⟩ ⟨"EnergyGameModel", "good", "(I)Z"⟩) ∈ lw_all := lw_g (lw_at lw_ms 17 rfl) rfl
end
section
/-! EnergyGame -/
set_option maxRecDepth 100000
def RX1 : String := "EnergyGame"
def TX1 : u_T := fun k => match k with
  | 0 => ("EnergyGame", "tails", "[I", true)
  | 1 => ("EnergyGame", "heads", "[I", true)
  | 2 => ("EnergyGame", "gains", "[I", true)
  | 3 => ("EnergyGame", "owner", "[I", true)
  | 4 => ("EnergyGame", "needs", "[I", true)
  | 5 => ("EnergyGame", "waits", "[Z", true)
  | 6 => ("EnergyGame", "queue", "[I", true)
  | 7 => ("EnergyGame", "n", "I", false)
  | 8 => ("EnergyGame", "count", "I", false)
  | 9 => ("EnergyGame", "top", "I", false)
  | 10 => ("EnergyGame", "skipped", "I", false)
  | _ => ("EnergyGame", "current", "Z", false)
def tyX1 : Nat → FieldType := fun k => match k with
  | 0 => .array .int
  | 1 => .array .int
  | 2 => .array .int
  | 3 => .array .int
  | 4 => .array .int
  | 5 => .array .boolean
  | 6 => .array .int
  | 7 => .int
  | 8 => .int
  | 9 => .int
  | 10 => .int
  | _ => .boolean
abbrev wsX10 : List Cond := u_ws RX1 TX1 12
theorem nmX1 : ∀ a, a < 12 → ∀ b, b < 12 → a ≠ b → (TX1 a).2.1 ≠ (TX1 b).2.1 := by decide +kernel
theorem tyX1_ok : ∀ k, k < 12 → parseFieldDescriptor (TX1 k).2.2.1 = some (tyX1 k) := by decide +kernel
abbrev cX1_init : ByteArray := prog_1_method_1_code
def yX1_init : MethodName := ⟨RX1, "<init>", "(I)V"⟩
theorem dX1_init_0 : decode cX1_init 0 = .ok (.aload_n 0, 1) := by decide +kernel
theorem dX1_init_1 : decode cX1_init 1 = .ok (.invokespecial 1, 3) := by decide +kernel
theorem dX1_init_4 : decode cX1_init 4 = .ok (.aload_n 0, 1) := by decide +kernel
theorem dX1_init_5 : decode cX1_init 5 = .ok (.bipush 14, 2) := by decide +kernel
theorem dX1_init_7 : decode cX1_init 7 = .ok (.newarray .int, 2) := by decide +kernel
theorem dX1_init_9 : decode cX1_init 9 = .ok (.putfield 7, 3) := by decide +kernel
theorem dX1_init_12 : decode cX1_init 12 = .ok (.aload_n 0, 1) := by decide +kernel
theorem dX1_init_13 : decode cX1_init 13 = .ok (.bipush 14, 2) := by decide +kernel
theorem dX1_init_15 : decode cX1_init 15 = .ok (.newarray .int, 2) := by decide +kernel
theorem dX1_init_17 : decode cX1_init 17 = .ok (.putfield 13, 3) := by decide +kernel
theorem dX1_init_20 : decode cX1_init 20 = .ok (.aload_n 0, 1) := by decide +kernel
theorem dX1_init_21 : decode cX1_init 21 = .ok (.bipush 14, 2) := by decide +kernel
theorem dX1_init_23 : decode cX1_init 23 = .ok (.newarray .int, 2) := by decide +kernel
theorem dX1_init_25 : decode cX1_init 25 = .ok (.putfield 16, 3) := by decide +kernel
theorem dX1_init_28 : decode cX1_init 28 = .ok (.aload_n 0, 1) := by decide +kernel
theorem dX1_init_29 : decode cX1_init 29 = .ok (.bipush 6, 2) := by decide +kernel
theorem dX1_init_31 : decode cX1_init 31 = .ok (.newarray .int, 2) := by decide +kernel
theorem dX1_init_33 : decode cX1_init 33 = .ok (.putfield 19, 3) := by decide +kernel
theorem dX1_init_36 : decode cX1_init 36 = .ok (.aload_n 0, 1) := by decide +kernel
theorem dX1_init_37 : decode cX1_init 37 = .ok (.bipush 6, 2) := by decide +kernel
theorem dX1_init_39 : decode cX1_init 39 = .ok (.newarray .int, 2) := by decide +kernel
theorem dX1_init_41 : decode cX1_init 41 = .ok (.putfield 22, 3) := by decide +kernel
theorem dX1_init_44 : decode cX1_init 44 = .ok (.aload_n 0, 1) := by decide +kernel
theorem dX1_init_45 : decode cX1_init 45 = .ok (.bipush 6, 2) := by decide +kernel
theorem dX1_init_47 : decode cX1_init 47 = .ok (.newarray .boolean, 2) := by decide +kernel
theorem dX1_init_49 : decode cX1_init 49 = .ok (.putfield 25, 3) := by decide +kernel
theorem dX1_init_52 : decode cX1_init 52 = .ok (.aload_n 0, 1) := by decide +kernel
theorem dX1_init_53 : decode cX1_init 53 = .ok (.bipush 8, 2) := by decide +kernel
theorem dX1_init_55 : decode cX1_init 55 = .ok (.newarray .int, 2) := by decide +kernel
theorem dX1_init_57 : decode cX1_init 57 = .ok (.putfield 29, 3) := by decide +kernel
theorem dX1_init_60 : decode cX1_init 60 = .ok (.aload_n 0, 1) := by decide +kernel
theorem dX1_init_61 : decode cX1_init 61 = .ok (.iload_n 1, 1) := by decide +kernel
theorem dX1_init_62 : decode cX1_init 62 = .ok (.iconst 2, 1) := by decide +kernel
theorem dX1_init_63 : decode cX1_init 63 = .ok (.if_icmp .ge 7, 3) := by decide +kernel
theorem dX1_init_66 : decode cX1_init 66 = .ok (.iconst 2, 1) := by decide +kernel
theorem dX1_init_67 : decode cX1_init 67 = .ok (.goto 4, 3) := by decide +kernel
theorem dX1_init_70 : decode cX1_init 70 = .ok (.iload_n 1, 1) := by decide +kernel
theorem dX1_init_71 : decode cX1_init 71 = .ok (.putfield 32, 3) := by decide +kernel
theorem dX1_init_74 : decode cX1_init 74 = .ok (.aload_n 0, 1) := by decide +kernel
theorem dX1_init_75 : decode cX1_init 75 = .ok (.getfield 32, 3) := by decide +kernel
theorem dX1_init_78 : decode cX1_init 78 = .ok (.bipush 6, 2) := by decide +kernel
theorem dX1_init_80 : decode cX1_init 80 = .ok (.if_icmp .le 9, 3) := by decide +kernel
theorem dX1_init_83 : decode cX1_init 83 = .ok (.aload_n 0, 1) := by decide +kernel
theorem dX1_init_84 : decode cX1_init 84 = .ok (.bipush 6, 2) := by decide +kernel
theorem dX1_init_86 : decode cX1_init 86 = .ok (.putfield 32, 3) := by decide +kernel
theorem dX1_init_89 : decode cX1_init 89 = .ok (.aload_n 0, 1) := by decide +kernel
theorem dX1_init_90 : decode cX1_init 90 = .ok (.bipush 6, 2) := by decide +kernel
theorem dX1_init_92 : decode cX1_init 92 = .ok (.aload_n 0, 1) := by decide +kernel
theorem dX1_init_93 : decode cX1_init 93 = .ok (.getfield 32, 3) := by decide +kernel
theorem dX1_init_96 : decode cX1_init 96 = .ok (.iconst 1, 1) := by decide +kernel
theorem dX1_init_97 : decode cX1_init 97 = .ok (.isub, 1) := by decide +kernel
theorem dX1_init_98 : decode cX1_init 98 = .ok (.imul, 1) := by decide +kernel
theorem dX1_init_99 : decode cX1_init 99 = .ok (.iconst 1, 1) := by decide +kernel
theorem dX1_init_100 : decode cX1_init 100 = .ok (.iadd, 1) := by decide +kernel
theorem dX1_init_101 : decode cX1_init 101 = .ok (.putfield 36, 3) := by decide +kernel
theorem dX1_init_104 : decode cX1_init 104 = .ok (.aload_n 0, 1) := by decide +kernel
theorem dX1_init_105 : decode cX1_init 105 = .ok (.iconst (-1), 1) := by decide +kernel
theorem dX1_init_106 : decode cX1_init 106 = .ok (.putfield 39, 3) := by decide +kernel
theorem dX1_init_109 : decode cX1_init 109 = .ok (.return_, 1) := by decide +kernel
abbrev cX1_vertices : ByteArray := prog_1_method_2_code
def yX1_vertices : MethodName := ⟨RX1, "vertices", "()I"⟩
theorem dX1_vertices_0 : decode cX1_vertices 0 = .ok (.aload_n 0, 1) := by decide +kernel
theorem dX1_vertices_1 : decode cX1_vertices 1 = .ok (.getfield 32, 3) := by decide +kernel
theorem dX1_vertices_4 : decode cX1_vertices 4 = .ok (.ireturn, 1) := by decide +kernel
abbrev cX1_give : ByteArray := prog_1_method_3_code
def yX1_give : MethodName := ⟨RX1, "give", "(II)I"⟩
theorem dX1_give_0 : decode cX1_give 0 = .ok (.aload_n 0, 1) := by decide +kernel
theorem dX1_give_1 : decode cX1_give 1 = .ok (.iload_n 1, 1) := by decide +kernel
theorem dX1_give_2 : decode cX1_give 2 = .ok (.invokevirtual 42, 3) := by decide +kernel
theorem dX1_give_5 : decode cX1_give 5 = .ok (.ifCond .ne 5, 3) := by decide +kernel
theorem dX1_give_8 : decode cX1_give 8 = .ok (.iconst (-1), 1) := by decide +kernel
theorem dX1_give_9 : decode cX1_give 9 = .ok (.ireturn, 1) := by decide +kernel
theorem dX1_give_10 : decode cX1_give 10 = .ok (.iload_n 2, 1) := by decide +kernel
theorem dX1_give_11 : decode cX1_give 11 = .ok (.ifCond .eq 11, 3) := by decide +kernel
theorem dX1_give_14 : decode cX1_give 14 = .ok (.iload_n 2, 1) := by decide +kernel
theorem dX1_give_15 : decode cX1_give 15 = .ok (.iconst 1, 1) := by decide +kernel
theorem dX1_give_16 : decode cX1_give 16 = .ok (.if_icmp .eq 6, 3) := by decide +kernel
theorem dX1_give_19 : decode cX1_give 19 = .ok (.bipush (-2), 2) := by decide +kernel
theorem dX1_give_21 : decode cX1_give 21 = .ok (.ireturn, 1) := by decide +kernel
theorem dX1_give_22 : decode cX1_give 22 = .ok (.aload_n 0, 1) := by decide +kernel
theorem dX1_give_23 : decode cX1_give 23 = .ok (.getfield 19, 3) := by decide +kernel
theorem dX1_give_26 : decode cX1_give 26 = .ok (.iload_n 1, 1) := by decide +kernel
theorem dX1_give_27 : decode cX1_give 27 = .ok (.iaload, 1) := by decide +kernel
theorem dX1_give_28 : decode cX1_give 28 = .ok (.istore_n 3, 1) := by decide +kernel
theorem dX1_give_29 : decode cX1_give 29 = .ok (.aload_n 0, 1) := by decide +kernel
theorem dX1_give_30 : decode cX1_give 30 = .ok (.getfield 19, 3) := by decide +kernel
theorem dX1_give_33 : decode cX1_give 33 = .ok (.iload_n 1, 1) := by decide +kernel
theorem dX1_give_34 : decode cX1_give 34 = .ok (.iload_n 2, 1) := by decide +kernel
theorem dX1_give_35 : decode cX1_give 35 = .ok (.iastore, 1) := by decide +kernel
theorem dX1_give_36 : decode cX1_give 36 = .ok (.aload_n 0, 1) := by decide +kernel
theorem dX1_give_37 : decode cX1_give 37 = .ok (.iconst 0, 1) := by decide +kernel
theorem dX1_give_38 : decode cX1_give 38 = .ok (.putfield 46, 3) := by decide +kernel
theorem dX1_give_41 : decode cX1_give 41 = .ok (.iload_n 3, 1) := by decide +kernel
theorem dX1_give_42 : decode cX1_give 42 = .ok (.ireturn, 1) := by decide +kernel
abbrev cX1_isVertex : ByteArray := prog_1_method_17_code
def yX1_isVertex : MethodName := ⟨RX1, "isVertex", "(I)Z"⟩
theorem dX1_isVertex_0 : decode cX1_isVertex 0 = .ok (.iload_n 1, 1) := by decide +kernel
theorem dX1_isVertex_1 : decode cX1_isVertex 1 = .ok (.ifCond .lt 15, 3) := by decide +kernel
theorem dX1_isVertex_4 : decode cX1_isVertex 4 = .ok (.iload_n 1, 1) := by decide +kernel
theorem dX1_isVertex_5 : decode cX1_isVertex 5 = .ok (.aload_n 0, 1) := by decide +kernel
theorem dX1_isVertex_6 : decode cX1_isVertex 6 = .ok (.getfield 32, 3) := by decide +kernel
theorem dX1_isVertex_9 : decode cX1_isVertex 9 = .ok (.if_icmp .ge 7, 3) := by decide +kernel
theorem dX1_isVertex_12 : decode cX1_isVertex 12 = .ok (.iconst 1, 1) := by decide +kernel
theorem dX1_isVertex_13 : decode cX1_isVertex 13 = .ok (.goto 4, 3) := by decide +kernel
theorem dX1_isVertex_16 : decode cX1_isVertex 16 = .ok (.iconst 0, 1) := by decide +kernel
theorem dX1_isVertex_17 : decode cX1_isVertex 17 = .ok (.ireturn, 1) := by decide +kernel
abbrev cX1_link : ByteArray := prog_1_method_4_code
def yX1_link : MethodName := ⟨RX1, "link", "(III)I"⟩
theorem dX1_link_0 : decode cX1_link 0 = .ok (.aload_n 0, 1) := by decide +kernel
theorem dX1_link_1 : decode cX1_link 1 = .ok (.iload_n 1, 1) := by decide +kernel
theorem dX1_link_2 : decode cX1_link 2 = .ok (.invokevirtual 42, 3) := by decide +kernel
theorem dX1_link_5 : decode cX1_link 5 = .ok (.ifCond .eq 11, 3) := by decide +kernel
theorem dX1_link_8 : decode cX1_link 8 = .ok (.aload_n 0, 1) := by decide +kernel
theorem dX1_link_9 : decode cX1_link 9 = .ok (.iload_n 2, 1) := by decide +kernel
theorem dX1_link_10 : decode cX1_link 10 = .ok (.invokevirtual 42, 3) := by decide +kernel
theorem dX1_link_13 : decode cX1_link 13 = .ok (.ifCond .ne 5, 3) := by decide +kernel
theorem dX1_link_16 : decode cX1_link 16 = .ok (.iconst (-1), 1) := by decide +kernel
theorem dX1_link_17 : decode cX1_link 17 = .ok (.ireturn, 1) := by decide +kernel
theorem dX1_link_18 : decode cX1_link 18 = .ok (.iload_n 3, 1) := by decide +kernel
theorem dX1_link_19 : decode cX1_link 19 = .ok (.bipush (-6), 2) := by decide +kernel
theorem dX1_link_21 : decode cX1_link 21 = .ok (.if_icmp .lt 9, 3) := by decide +kernel
theorem dX1_link_24 : decode cX1_link 24 = .ok (.iload_n 3, 1) := by decide +kernel
theorem dX1_link_25 : decode cX1_link 25 = .ok (.bipush 6, 2) := by decide +kernel
theorem dX1_link_27 : decode cX1_link 27 = .ok (.if_icmp .le 6, 3) := by decide +kernel
theorem dX1_link_30 : decode cX1_link 30 = .ok (.bipush (-2), 2) := by decide +kernel
theorem dX1_link_32 : decode cX1_link 32 = .ok (.ireturn, 1) := by decide +kernel
theorem dX1_link_33 : decode cX1_link 33 = .ok (.aload_n 0, 1) := by decide +kernel
theorem dX1_link_34 : decode cX1_link 34 = .ok (.getfield 50, 3) := by decide +kernel
theorem dX1_link_37 : decode cX1_link 37 = .ok (.bipush 14, 2) := by decide +kernel
theorem dX1_link_39 : decode cX1_link 39 = .ok (.if_icmp .ne 6, 3) := by decide +kernel
theorem dX1_link_42 : decode cX1_link 42 = .ok (.bipush (-3), 2) := by decide +kernel
theorem dX1_link_44 : decode cX1_link 44 = .ok (.ireturn, 1) := by decide +kernel
theorem dX1_link_45 : decode cX1_link 45 = .ok (.aload_n 0, 1) := by decide +kernel
theorem dX1_link_46 : decode cX1_link 46 = .ok (.iload_n 1, 1) := by decide +kernel
theorem dX1_link_47 : decode cX1_link 47 = .ok (.invokevirtual 53, 3) := by decide +kernel
theorem dX1_link_50 : decode cX1_link 50 = .ok (.iconst 3, 1) := by decide +kernel
theorem dX1_link_51 : decode cX1_link 51 = .ok (.if_icmp .ne 6, 3) := by decide +kernel
theorem dX1_link_54 : decode cX1_link 54 = .ok (.bipush (-4), 2) := by decide +kernel
theorem dX1_link_56 : decode cX1_link 56 = .ok (.ireturn, 1) := by decide +kernel
theorem dX1_link_57 : decode cX1_link 57 = .ok (.aload_n 0, 1) := by decide +kernel
theorem dX1_link_58 : decode cX1_link 58 = .ok (.getfield 7, 3) := by decide +kernel
theorem dX1_link_61 : decode cX1_link 61 = .ok (.aload_n 0, 1) := by decide +kernel
theorem dX1_link_62 : decode cX1_link 62 = .ok (.getfield 50, 3) := by decide +kernel
theorem dX1_link_65 : decode cX1_link 65 = .ok (.iload_n 1, 1) := by decide +kernel
theorem dX1_link_66 : decode cX1_link 66 = .ok (.iastore, 1) := by decide +kernel
theorem dX1_link_67 : decode cX1_link 67 = .ok (.aload_n 0, 1) := by decide +kernel
theorem dX1_link_68 : decode cX1_link 68 = .ok (.getfield 13, 3) := by decide +kernel
theorem dX1_link_71 : decode cX1_link 71 = .ok (.aload_n 0, 1) := by decide +kernel
theorem dX1_link_72 : decode cX1_link 72 = .ok (.getfield 50, 3) := by decide +kernel
theorem dX1_link_75 : decode cX1_link 75 = .ok (.iload_n 2, 1) := by decide +kernel
theorem dX1_link_76 : decode cX1_link 76 = .ok (.iastore, 1) := by decide +kernel
theorem dX1_link_77 : decode cX1_link 77 = .ok (.aload_n 0, 1) := by decide +kernel
theorem dX1_link_78 : decode cX1_link 78 = .ok (.getfield 16, 3) := by decide +kernel
theorem dX1_link_81 : decode cX1_link 81 = .ok (.aload_n 0, 1) := by decide +kernel
theorem dX1_link_82 : decode cX1_link 82 = .ok (.getfield 50, 3) := by decide +kernel
theorem dX1_link_85 : decode cX1_link 85 = .ok (.iload_n 3, 1) := by decide +kernel
theorem dX1_link_86 : decode cX1_link 86 = .ok (.iastore, 1) := by decide +kernel
theorem dX1_link_87 : decode cX1_link 87 = .ok (.aload_n 0, 1) := by decide +kernel
theorem dX1_link_88 : decode cX1_link 88 = .ok (.dup, 1) := by decide +kernel
theorem dX1_link_89 : decode cX1_link 89 = .ok (.getfield 50, 3) := by decide +kernel
theorem dX1_link_92 : decode cX1_link 92 = .ok (.iconst 1, 1) := by decide +kernel
theorem dX1_link_93 : decode cX1_link 93 = .ok (.iadd, 1) := by decide +kernel
theorem dX1_link_94 : decode cX1_link 94 = .ok (.putfield 50, 3) := by decide +kernel
theorem dX1_link_97 : decode cX1_link 97 = .ok (.aload_n 0, 1) := by decide +kernel
theorem dX1_link_98 : decode cX1_link 98 = .ok (.iconst 0, 1) := by decide +kernel
theorem dX1_link_99 : decode cX1_link 99 = .ok (.putfield 46, 3) := by decide +kernel
theorem dX1_link_102 : decode cX1_link 102 = .ok (.aload_n 0, 1) := by decide +kernel
theorem dX1_link_103 : decode cX1_link 103 = .ok (.getfield 50, 3) := by decide +kernel
theorem dX1_link_106 : decode cX1_link 106 = .ok (.iconst 1, 1) := by decide +kernel
theorem dX1_link_107 : decode cX1_link 107 = .ok (.isub, 1) := by decide +kernel
theorem dX1_link_108 : decode cX1_link 108 = .ok (.ireturn, 1) := by decide +kernel
abbrev cX1_degree : ByteArray := prog_1_method_19_code
def yX1_degree : MethodName := ⟨RX1, "degree", "(I)I"⟩
theorem dX1_degree_0 : decode cX1_degree 0 = .ok (.iconst 0, 1) := by decide +kernel
theorem dX1_degree_1 : decode cX1_degree 1 = .ok (.istore_n 2, 1) := by decide +kernel
theorem dX1_degree_2 : decode cX1_degree 2 = .ok (.iconst 0, 1) := by decide +kernel
theorem dX1_degree_3 : decode cX1_degree 3 = .ok (.istore_n 3, 1) := by decide +kernel
theorem dX1_degree_4 : decode cX1_degree 4 = .ok (.iload_n 3, 1) := by decide +kernel
theorem dX1_degree_5 : decode cX1_degree 5 = .ok (.aload_n 0, 1) := by decide +kernel
theorem dX1_degree_6 : decode cX1_degree 6 = .ok (.getfield 50, 3) := by decide +kernel
theorem dX1_degree_9 : decode cX1_degree 9 = .ok (.if_icmp .ge 27, 3) := by decide +kernel
theorem dX1_degree_12 : decode cX1_degree 12 = .ok (.iload_n 2, 1) := by decide +kernel
theorem dX1_degree_13 : decode cX1_degree 13 = .ok (.aload_n 0, 1) := by decide +kernel
theorem dX1_degree_14 : decode cX1_degree 14 = .ok (.getfield 7, 3) := by decide +kernel
theorem dX1_degree_17 : decode cX1_degree 17 = .ok (.iload_n 3, 1) := by decide +kernel
theorem dX1_degree_18 : decode cX1_degree 18 = .ok (.iaload, 1) := by decide +kernel
theorem dX1_degree_19 : decode cX1_degree 19 = .ok (.iload_n 1, 1) := by decide +kernel
theorem dX1_degree_20 : decode cX1_degree 20 = .ok (.if_icmp .ne 7, 3) := by decide +kernel
theorem dX1_degree_23 : decode cX1_degree 23 = .ok (.iconst 1, 1) := by decide +kernel
theorem dX1_degree_24 : decode cX1_degree 24 = .ok (.goto 4, 3) := by decide +kernel
theorem dX1_degree_27 : decode cX1_degree 27 = .ok (.iconst 0, 1) := by decide +kernel
theorem dX1_degree_28 : decode cX1_degree 28 = .ok (.iadd, 1) := by decide +kernel
theorem dX1_degree_29 : decode cX1_degree 29 = .ok (.istore_n 2, 1) := by decide +kernel
theorem dX1_degree_30 : decode cX1_degree 30 = .ok (.iinc 3 1, 3) := by decide +kernel
theorem dX1_degree_33 : decode cX1_degree 33 = .ok (.goto (-29), 3) := by decide +kernel
theorem dX1_degree_36 : decode cX1_degree 36 = .ok (.iload_n 2, 1) := by decide +kernel
theorem dX1_degree_37 : decode cX1_degree 37 = .ok (.ireturn, 1) := by decide +kernel
abbrev cX1_cut : ByteArray := prog_1_method_5_code
def yX1_cut : MethodName := ⟨RX1, "cut", "(I)I"⟩
theorem dX1_cut_0 : decode cX1_cut 0 = .ok (.aload_n 0, 1) := by decide +kernel
theorem dX1_cut_1 : decode cX1_cut 1 = .ok (.iload_n 1, 1) := by decide +kernel
theorem dX1_cut_2 : decode cX1_cut 2 = .ok (.invokevirtual 57, 3) := by decide +kernel
theorem dX1_cut_5 : decode cX1_cut 5 = .ok (.ifCond .ne 5, 3) := by decide +kernel
theorem dX1_cut_8 : decode cX1_cut 8 = .ok (.iconst (-1), 1) := by decide +kernel
theorem dX1_cut_9 : decode cX1_cut 9 = .ok (.ireturn, 1) := by decide +kernel
theorem dX1_cut_10 : decode cX1_cut 10 = .ok (.iload_n 1, 1) := by decide +kernel
theorem dX1_cut_11 : decode cX1_cut 11 = .ok (.iconst 1, 1) := by decide +kernel
theorem dX1_cut_12 : decode cX1_cut 12 = .ok (.iadd, 1) := by decide +kernel
theorem dX1_cut_13 : decode cX1_cut 13 = .ok (.istore_n 2, 1) := by decide +kernel
theorem dX1_cut_14 : decode cX1_cut 14 = .ok (.iload_n 2, 1) := by decide +kernel
theorem dX1_cut_15 : decode cX1_cut 15 = .ok (.aload_n 0, 1) := by decide +kernel
theorem dX1_cut_16 : decode cX1_cut 16 = .ok (.getfield 50, 3) := by decide +kernel
theorem dX1_cut_19 : decode cX1_cut 19 = .ok (.if_icmp .ge 51, 3) := by decide +kernel
theorem dX1_cut_22 : decode cX1_cut 22 = .ok (.aload_n 0, 1) := by decide +kernel
theorem dX1_cut_23 : decode cX1_cut 23 = .ok (.getfield 7, 3) := by decide +kernel
theorem dX1_cut_26 : decode cX1_cut 26 = .ok (.iload_n 2, 1) := by decide +kernel
theorem dX1_cut_27 : decode cX1_cut 27 = .ok (.iconst 1, 1) := by decide +kernel
theorem dX1_cut_28 : decode cX1_cut 28 = .ok (.isub, 1) := by decide +kernel
theorem dX1_cut_29 : decode cX1_cut 29 = .ok (.aload_n 0, 1) := by decide +kernel
theorem dX1_cut_30 : decode cX1_cut 30 = .ok (.getfield 7, 3) := by decide +kernel
theorem dX1_cut_33 : decode cX1_cut 33 = .ok (.iload_n 2, 1) := by decide +kernel
theorem dX1_cut_34 : decode cX1_cut 34 = .ok (.iaload, 1) := by decide +kernel
theorem dX1_cut_35 : decode cX1_cut 35 = .ok (.iastore, 1) := by decide +kernel
theorem dX1_cut_36 : decode cX1_cut 36 = .ok (.aload_n 0, 1) := by decide +kernel
theorem dX1_cut_37 : decode cX1_cut 37 = .ok (.getfield 13, 3) := by decide +kernel
theorem dX1_cut_40 : decode cX1_cut 40 = .ok (.iload_n 2, 1) := by decide +kernel
theorem dX1_cut_41 : decode cX1_cut 41 = .ok (.iconst 1, 1) := by decide +kernel
theorem dX1_cut_42 : decode cX1_cut 42 = .ok (.isub, 1) := by decide +kernel
theorem dX1_cut_43 : decode cX1_cut 43 = .ok (.aload_n 0, 1) := by decide +kernel
theorem dX1_cut_44 : decode cX1_cut 44 = .ok (.getfield 13, 3) := by decide +kernel
theorem dX1_cut_47 : decode cX1_cut 47 = .ok (.iload_n 2, 1) := by decide +kernel
theorem dX1_cut_48 : decode cX1_cut 48 = .ok (.iaload, 1) := by decide +kernel
theorem dX1_cut_49 : decode cX1_cut 49 = .ok (.iastore, 1) := by decide +kernel
theorem dX1_cut_50 : decode cX1_cut 50 = .ok (.aload_n 0, 1) := by decide +kernel
theorem dX1_cut_51 : decode cX1_cut 51 = .ok (.getfield 16, 3) := by decide +kernel
theorem dX1_cut_54 : decode cX1_cut 54 = .ok (.iload_n 2, 1) := by decide +kernel
theorem dX1_cut_55 : decode cX1_cut 55 = .ok (.iconst 1, 1) := by decide +kernel
theorem dX1_cut_56 : decode cX1_cut 56 = .ok (.isub, 1) := by decide +kernel
theorem dX1_cut_57 : decode cX1_cut 57 = .ok (.aload_n 0, 1) := by decide +kernel
theorem dX1_cut_58 : decode cX1_cut 58 = .ok (.getfield 16, 3) := by decide +kernel
theorem dX1_cut_61 : decode cX1_cut 61 = .ok (.iload_n 2, 1) := by decide +kernel
theorem dX1_cut_62 : decode cX1_cut 62 = .ok (.iaload, 1) := by decide +kernel
theorem dX1_cut_63 : decode cX1_cut 63 = .ok (.iastore, 1) := by decide +kernel
theorem dX1_cut_64 : decode cX1_cut 64 = .ok (.iinc 2 1, 3) := by decide +kernel
theorem dX1_cut_67 : decode cX1_cut 67 = .ok (.goto (-53), 3) := by decide +kernel
theorem dX1_cut_70 : decode cX1_cut 70 = .ok (.aload_n 0, 1) := by decide +kernel
theorem dX1_cut_71 : decode cX1_cut 71 = .ok (.dup, 1) := by decide +kernel
theorem dX1_cut_72 : decode cX1_cut 72 = .ok (.getfield 50, 3) := by decide +kernel
theorem dX1_cut_75 : decode cX1_cut 75 = .ok (.iconst 1, 1) := by decide +kernel
theorem dX1_cut_76 : decode cX1_cut 76 = .ok (.isub, 1) := by decide +kernel
theorem dX1_cut_77 : decode cX1_cut 77 = .ok (.putfield 50, 3) := by decide +kernel
theorem dX1_cut_80 : decode cX1_cut 80 = .ok (.aload_n 0, 1) := by decide +kernel
theorem dX1_cut_81 : decode cX1_cut 81 = .ok (.iconst 0, 1) := by decide +kernel
theorem dX1_cut_82 : decode cX1_cut 82 = .ok (.putfield 46, 3) := by decide +kernel
theorem dX1_cut_85 : decode cX1_cut 85 = .ok (.aload_n 0, 1) := by decide +kernel
theorem dX1_cut_86 : decode cX1_cut 86 = .ok (.getfield 50, 3) := by decide +kernel
theorem dX1_cut_89 : decode cX1_cut 89 = .ok (.ireturn, 1) := by decide +kernel
abbrev cX1_isEdge : ByteArray := prog_1_method_18_code
def yX1_isEdge : MethodName := ⟨RX1, "isEdge", "(I)Z"⟩
theorem dX1_isEdge_0 : decode cX1_isEdge 0 = .ok (.iload_n 1, 1) := by decide +kernel
theorem dX1_isEdge_1 : decode cX1_isEdge 1 = .ok (.ifCond .lt 15, 3) := by decide +kernel
theorem dX1_isEdge_4 : decode cX1_isEdge 4 = .ok (.iload_n 1, 1) := by decide +kernel
theorem dX1_isEdge_5 : decode cX1_isEdge 5 = .ok (.aload_n 0, 1) := by decide +kernel
theorem dX1_isEdge_6 : decode cX1_isEdge 6 = .ok (.getfield 50, 3) := by decide +kernel
theorem dX1_isEdge_9 : decode cX1_isEdge 9 = .ok (.if_icmp .ge 7, 3) := by decide +kernel
theorem dX1_isEdge_12 : decode cX1_isEdge 12 = .ok (.iconst 1, 1) := by decide +kernel
theorem dX1_isEdge_13 : decode cX1_isEdge 13 = .ok (.goto 4, 3) := by decide +kernel
theorem dX1_isEdge_16 : decode cX1_isEdge 16 = .ok (.iconst 0, 1) := by decide +kernel
theorem dX1_isEdge_17 : decode cX1_isEdge 17 = .ok (.ireturn, 1) := by decide +kernel
abbrev cX1_set : ByteArray := prog_1_method_6_code
def yX1_set : MethodName := ⟨RX1, "set", "(II)I"⟩
theorem dX1_set_0 : decode cX1_set 0 = .ok (.aload_n 0, 1) := by decide +kernel
theorem dX1_set_1 : decode cX1_set 1 = .ok (.iload_n 1, 1) := by decide +kernel
theorem dX1_set_2 : decode cX1_set 2 = .ok (.invokevirtual 57, 3) := by decide +kernel
theorem dX1_set_5 : decode cX1_set 5 = .ok (.ifCond .ne 5, 3) := by decide +kernel
theorem dX1_set_8 : decode cX1_set 8 = .ok (.iconst (-1), 1) := by decide +kernel
theorem dX1_set_9 : decode cX1_set 9 = .ok (.ireturn, 1) := by decide +kernel
theorem dX1_set_10 : decode cX1_set 10 = .ok (.iload_n 2, 1) := by decide +kernel
theorem dX1_set_11 : decode cX1_set 11 = .ok (.bipush (-6), 2) := by decide +kernel
theorem dX1_set_13 : decode cX1_set 13 = .ok (.if_icmp .lt 9, 3) := by decide +kernel
theorem dX1_set_16 : decode cX1_set 16 = .ok (.iload_n 2, 1) := by decide +kernel
theorem dX1_set_17 : decode cX1_set 17 = .ok (.bipush 6, 2) := by decide +kernel
theorem dX1_set_19 : decode cX1_set 19 = .ok (.if_icmp .le 6, 3) := by decide +kernel
theorem dX1_set_22 : decode cX1_set 22 = .ok (.bipush (-2), 2) := by decide +kernel
theorem dX1_set_24 : decode cX1_set 24 = .ok (.ireturn, 1) := by decide +kernel
theorem dX1_set_25 : decode cX1_set 25 = .ok (.aload_n 0, 1) := by decide +kernel
theorem dX1_set_26 : decode cX1_set 26 = .ok (.getfield 16, 3) := by decide +kernel
theorem dX1_set_29 : decode cX1_set 29 = .ok (.iload_n 1, 1) := by decide +kernel
theorem dX1_set_30 : decode cX1_set 30 = .ok (.iaload, 1) := by decide +kernel
theorem dX1_set_31 : decode cX1_set 31 = .ok (.istore_n 3, 1) := by decide +kernel
theorem dX1_set_32 : decode cX1_set 32 = .ok (.aload_n 0, 1) := by decide +kernel
theorem dX1_set_33 : decode cX1_set 33 = .ok (.getfield 16, 3) := by decide +kernel
theorem dX1_set_36 : decode cX1_set 36 = .ok (.iload_n 1, 1) := by decide +kernel
theorem dX1_set_37 : decode cX1_set 37 = .ok (.iload_n 2, 1) := by decide +kernel
theorem dX1_set_38 : decode cX1_set 38 = .ok (.iastore, 1) := by decide +kernel
theorem dX1_set_39 : decode cX1_set 39 = .ok (.aload_n 0, 1) := by decide +kernel
theorem dX1_set_40 : decode cX1_set 40 = .ok (.iconst 0, 1) := by decide +kernel
theorem dX1_set_41 : decode cX1_set 41 = .ok (.putfield 46, 3) := by decide +kernel
theorem dX1_set_44 : decode cX1_set 44 = .ok (.iload_n 3, 1) := by decide +kernel
theorem dX1_set_45 : decode cX1_set 45 = .ok (.ireturn, 1) := by decide +kernel
abbrev cX1_edges : ByteArray := prog_1_method_7_code
def yX1_edges : MethodName := ⟨RX1, "edges", "()I"⟩
theorem dX1_edges_0 : decode cX1_edges 0 = .ok (.aload_n 0, 1) := by decide +kernel
theorem dX1_edges_1 : decode cX1_edges 1 = .ok (.getfield 50, 3) := by decide +kernel
theorem dX1_edges_4 : decode cX1_edges 4 = .ok (.ireturn, 1) := by decide +kernel
abbrev cX1_need : ByteArray := prog_1_method_8_code
def yX1_need : MethodName := ⟨RX1, "need", "(I)I"⟩
theorem dX1_need_0 : decode cX1_need 0 = .ok (.aload_n 0, 1) := by decide +kernel
theorem dX1_need_1 : decode cX1_need 1 = .ok (.iload_n 1, 1) := by decide +kernel
theorem dX1_need_2 : decode cX1_need 2 = .ok (.invokevirtual 42, 3) := by decide +kernel
theorem dX1_need_5 : decode cX1_need 5 = .ok (.ifCond .ne 5, 3) := by decide +kernel
theorem dX1_need_8 : decode cX1_need 8 = .ok (.iconst (-1), 1) := by decide +kernel
theorem dX1_need_9 : decode cX1_need 9 = .ok (.ireturn, 1) := by decide +kernel
theorem dX1_need_10 : decode cX1_need 10 = .ok (.aload_n 0, 1) := by decide +kernel
theorem dX1_need_11 : decode cX1_need 11 = .ok (.invokevirtual 60, 3) := by decide +kernel
theorem dX1_need_14 : decode cX1_need 14 = .ok (.aload_n 0, 1) := by decide +kernel
theorem dX1_need_15 : decode cX1_need 15 = .ok (.iload_n 1, 1) := by decide +kernel
theorem dX1_need_16 : decode cX1_need 16 = .ok (.invokevirtual 63, 3) := by decide +kernel
theorem dX1_need_19 : decode cX1_need 19 = .ok (.ireturn, 1) := by decide +kernel
abbrev cX1_refresh : ByteArray := prog_1_method_23_code
def yX1_refresh : MethodName := ⟨RX1, "refresh", "()V"⟩
theorem dX1_refresh_0 : decode cX1_refresh 0 = .ok (.aload_n 0, 1) := by decide +kernel
theorem dX1_refresh_1 : decode cX1_refresh 1 = .ok (.getfield 46, 3) := by decide +kernel
theorem dX1_refresh_4 : decode cX1_refresh 4 = .ok (.ifCond .ne 12, 3) := by decide +kernel
theorem dX1_refresh_7 : decode cX1_refresh 7 = .ok (.aload_n 0, 1) := by decide +kernel
theorem dX1_refresh_8 : decode cX1_refresh 8 = .ok (.invokevirtual 69, 3) := by decide +kernel
theorem dX1_refresh_11 : decode cX1_refresh 11 = .ok (.aload_n 0, 1) := by decide +kernel
theorem dX1_refresh_12 : decode cX1_refresh 12 = .ok (.iconst 1, 1) := by decide +kernel
theorem dX1_refresh_13 : decode cX1_refresh 13 = .ok (.putfield 46, 3) := by decide +kernel
theorem dX1_refresh_16 : decode cX1_refresh 16 = .ok (.return_, 1) := by decide +kernel
abbrev cX1_solve : ByteArray := prog_1_method_24_code
def yX1_solve : MethodName := ⟨RX1, "solve", "()V"⟩
theorem dX1_solve_0 : decode cX1_solve 0 = .ok (.iconst 0, 1) := by decide +kernel
theorem dX1_solve_1 : decode cX1_solve 1 = .ok (.istore_n 1, 1) := by decide +kernel
theorem dX1_solve_2 : decode cX1_solve 2 = .ok (.iconst 0, 1) := by decide +kernel
theorem dX1_solve_3 : decode cX1_solve 3 = .ok (.istore_n 2, 1) := by decide +kernel
theorem dX1_solve_4 : decode cX1_solve 4 = .ok (.iconst 0, 1) := by decide +kernel
theorem dX1_solve_5 : decode cX1_solve 5 = .ok (.istore_n 3, 1) := by decide +kernel
theorem dX1_solve_6 : decode cX1_solve 6 = .ok (.iload_n 3, 1) := by decide +kernel
theorem dX1_solve_7 : decode cX1_solve 7 = .ok (.aload_n 0, 1) := by decide +kernel
theorem dX1_solve_8 : decode cX1_solve 8 = .ok (.getfield 32, 3) := by decide +kernel
theorem dX1_solve_11 : decode cX1_solve 11 = .ok (.if_icmp .ge 33, 3) := by decide +kernel
theorem dX1_solve_14 : decode cX1_solve 14 = .ok (.aload_n 0, 1) := by decide +kernel
theorem dX1_solve_15 : decode cX1_solve 15 = .ok (.getfield 22, 3) := by decide +kernel
theorem dX1_solve_18 : decode cX1_solve 18 = .ok (.iload_n 3, 1) := by decide +kernel
theorem dX1_solve_19 : decode cX1_solve 19 = .ok (.iconst 0, 1) := by decide +kernel
theorem dX1_solve_20 : decode cX1_solve 20 = .ok (.iastore, 1) := by decide +kernel
theorem dX1_solve_21 : decode cX1_solve 21 = .ok (.aload_n 0, 1) := by decide +kernel
theorem dX1_solve_22 : decode cX1_solve 22 = .ok (.getfield 25, 3) := by decide +kernel
theorem dX1_solve_25 : decode cX1_solve 25 = .ok (.iload_n 3, 1) := by decide +kernel
theorem dX1_solve_26 : decode cX1_solve 26 = .ok (.iconst 1, 1) := by decide +kernel
theorem dX1_solve_27 : decode cX1_solve 27 = .ok (.bastore, 1) := by decide +kernel
theorem dX1_solve_28 : decode cX1_solve 28 = .ok (.aload_n 0, 1) := by decide +kernel
theorem dX1_solve_29 : decode cX1_solve 29 = .ok (.getfield 29, 3) := by decide +kernel
theorem dX1_solve_32 : decode cX1_solve 32 = .ok (.iload_n 2, 1) := by decide +kernel
theorem dX1_solve_33 : decode cX1_solve 33 = .ok (.iload_n 3, 1) := by decide +kernel
theorem dX1_solve_34 : decode cX1_solve 34 = .ok (.iastore, 1) := by decide +kernel
theorem dX1_solve_35 : decode cX1_solve 35 = .ok (.iinc 2 1, 3) := by decide +kernel
theorem dX1_solve_38 : decode cX1_solve 38 = .ok (.iinc 3 1, 3) := by decide +kernel
theorem dX1_solve_41 : decode cX1_solve 41 = .ok (.goto (-35), 3) := by decide +kernel
theorem dX1_solve_44 : decode cX1_solve 44 = .ok (.iconst 0, 1) := by decide +kernel
theorem dX1_solve_45 : decode cX1_solve 45 = .ok (.istore_n 3, 1) := by decide +kernel
theorem dX1_solve_46 : decode cX1_solve 46 = .ok (.iload_n 3, 1) := by decide +kernel
theorem dX1_solve_47 : decode cX1_solve 47 = .ok (.sipush 1200, 3) := by decide +kernel
theorem dX1_solve_50 : decode cX1_solve 50 = .ok (.if_icmp .ge 150, 3) := by decide +kernel
theorem dX1_solve_53 : decode cX1_solve 53 = .ok (.iload_n 1, 1) := by decide +kernel
theorem dX1_solve_54 : decode cX1_solve 54 = .ok (.iload_n 2, 1) := by decide +kernel
theorem dX1_solve_55 : decode cX1_solve 55 = .ok (.if_icmp .eq 145, 3) := by decide +kernel
theorem dX1_solve_58 : decode cX1_solve 58 = .ok (.aload_n 0, 1) := by decide +kernel
theorem dX1_solve_59 : decode cX1_solve 59 = .ok (.getfield 29, 3) := by decide +kernel
theorem dX1_solve_62 : decode cX1_solve 62 = .ok (.iload_n 1, 1) := by decide +kernel
theorem dX1_solve_63 : decode cX1_solve 63 = .ok (.bipush 7, 2) := by decide +kernel
theorem dX1_solve_65 : decode cX1_solve 65 = .ok (.iand, 1) := by decide +kernel
theorem dX1_solve_66 : decode cX1_solve 66 = .ok (.iaload, 1) := by decide +kernel
theorem dX1_solve_67 : decode cX1_solve 67 = .ok (.istore 4, 2) := by decide +kernel
theorem dX1_solve_69 : decode cX1_solve 69 = .ok (.iload_n 1, 1) := by decide +kernel
theorem dX1_solve_70 : decode cX1_solve 70 = .ok (.iconst 1, 1) := by decide +kernel
theorem dX1_solve_71 : decode cX1_solve 71 = .ok (.iadd, 1) := by decide +kernel
theorem dX1_solve_72 : decode cX1_solve 72 = .ok (.bipush 7, 2) := by decide +kernel
theorem dX1_solve_74 : decode cX1_solve 74 = .ok (.iand, 1) := by decide +kernel
theorem dX1_solve_75 : decode cX1_solve 75 = .ok (.istore_n 1, 1) := by decide +kernel
theorem dX1_solve_76 : decode cX1_solve 76 = .ok (.aload_n 0, 1) := by decide +kernel
theorem dX1_solve_77 : decode cX1_solve 77 = .ok (.getfield 25, 3) := by decide +kernel
theorem dX1_solve_80 : decode cX1_solve 80 = .ok (.iload 4, 2) := by decide +kernel
theorem dX1_solve_82 : decode cX1_solve 82 = .ok (.iconst 0, 1) := by decide +kernel
theorem dX1_solve_83 : decode cX1_solve 83 = .ok (.bastore, 1) := by decide +kernel
theorem dX1_solve_84 : decode cX1_solve 84 = .ok (.aload_n 0, 1) := by decide +kernel
theorem dX1_solve_85 : decode cX1_solve 85 = .ok (.iload 4, 2) := by decide +kernel
theorem dX1_solve_87 : decode cX1_solve 87 = .ok (.invokevirtual 78, 3) := by decide +kernel
theorem dX1_solve_90 : decode cX1_solve 90 = .ok (.istore 5, 2) := by decide +kernel
theorem dX1_solve_92 : decode cX1_solve 92 = .ok (.iload 5, 2) := by decide +kernel
theorem dX1_solve_94 : decode cX1_solve 94 = .ok (.aload_n 0, 1) := by decide +kernel
theorem dX1_solve_95 : decode cX1_solve 95 = .ok (.getfield 22, 3) := by decide +kernel
theorem dX1_solve_98 : decode cX1_solve 98 = .ok (.iload 4, 2) := by decide +kernel
theorem dX1_solve_100 : decode cX1_solve 100 = .ok (.iaload, 1) := by decide +kernel
theorem dX1_solve_101 : decode cX1_solve 101 = .ok (.if_icmp .le 93, 3) := by decide +kernel
theorem dX1_solve_104 : decode cX1_solve 104 = .ok (.aload_n 0, 1) := by decide +kernel
theorem dX1_solve_105 : decode cX1_solve 105 = .ok (.getfield 22, 3) := by decide +kernel
theorem dX1_solve_108 : decode cX1_solve 108 = .ok (.iload 4, 2) := by decide +kernel
theorem dX1_solve_110 : decode cX1_solve 110 = .ok (.iload 5, 2) := by decide +kernel
theorem dX1_solve_112 : decode cX1_solve 112 = .ok (.iastore, 1) := by decide +kernel
theorem dX1_solve_113 : decode cX1_solve 113 = .ok (.iconst 0, 1) := by decide +kernel
theorem dX1_solve_114 : decode cX1_solve 114 = .ok (.istore 6, 2) := by decide +kernel
theorem dX1_solve_116 : decode cX1_solve 116 = .ok (.iload 6, 2) := by decide +kernel
theorem dX1_solve_118 : decode cX1_solve 118 = .ok (.aload_n 0, 1) := by decide +kernel
theorem dX1_solve_119 : decode cX1_solve 119 = .ok (.getfield 50, 3) := by decide +kernel
theorem dX1_solve_122 : decode cX1_solve 122 = .ok (.if_icmp .ge 72, 3) := by decide +kernel
theorem dX1_solve_125 : decode cX1_solve 125 = .ok (.aload_n 0, 1) := by decide +kernel
theorem dX1_solve_126 : decode cX1_solve 126 = .ok (.getfield 13, 3) := by decide +kernel
theorem dX1_solve_129 : decode cX1_solve 129 = .ok (.iload 6, 2) := by decide +kernel
theorem dX1_solve_131 : decode cX1_solve 131 = .ok (.iaload, 1) := by decide +kernel
theorem dX1_solve_132 : decode cX1_solve 132 = .ok (.iload 4, 2) := by decide +kernel
theorem dX1_solve_134 : decode cX1_solve 134 = .ok (.if_icmp .ne 54, 3) := by decide +kernel
theorem dX1_solve_137 : decode cX1_solve 137 = .ok (.aload_n 0, 1) := by decide +kernel
theorem dX1_solve_138 : decode cX1_solve 138 = .ok (.getfield 25, 3) := by decide +kernel
theorem dX1_solve_141 : decode cX1_solve 141 = .ok (.aload_n 0, 1) := by decide +kernel
theorem dX1_solve_142 : decode cX1_solve 142 = .ok (.getfield 7, 3) := by decide +kernel
theorem dX1_solve_145 : decode cX1_solve 145 = .ok (.iload 6, 2) := by decide +kernel
theorem dX1_solve_147 : decode cX1_solve 147 = .ok (.iaload, 1) := by decide +kernel
theorem dX1_solve_148 : decode cX1_solve 148 = .ok (.baload, 1) := by decide +kernel
theorem dX1_solve_149 : decode cX1_solve 149 = .ok (.ifCond .ne 39, 3) := by decide +kernel
theorem dX1_solve_152 : decode cX1_solve 152 = .ok (.aload_n 0, 1) := by decide +kernel
theorem dX1_solve_153 : decode cX1_solve 153 = .ok (.getfield 25, 3) := by decide +kernel
theorem dX1_solve_156 : decode cX1_solve 156 = .ok (.aload_n 0, 1) := by decide +kernel
theorem dX1_solve_157 : decode cX1_solve 157 = .ok (.getfield 7, 3) := by decide +kernel
theorem dX1_solve_160 : decode cX1_solve 160 = .ok (.iload 6, 2) := by decide +kernel
theorem dX1_solve_162 : decode cX1_solve 162 = .ok (.iaload, 1) := by decide +kernel
theorem dX1_solve_163 : decode cX1_solve 163 = .ok (.iconst 1, 1) := by decide +kernel
theorem dX1_solve_164 : decode cX1_solve 164 = .ok (.bastore, 1) := by decide +kernel
theorem dX1_solve_165 : decode cX1_solve 165 = .ok (.aload_n 0, 1) := by decide +kernel
theorem dX1_solve_166 : decode cX1_solve 166 = .ok (.getfield 29, 3) := by decide +kernel
theorem dX1_solve_169 : decode cX1_solve 169 = .ok (.iload_n 2, 1) := by decide +kernel
theorem dX1_solve_170 : decode cX1_solve 170 = .ok (.bipush 7, 2) := by decide +kernel
theorem dX1_solve_172 : decode cX1_solve 172 = .ok (.iand, 1) := by decide +kernel
theorem dX1_solve_173 : decode cX1_solve 173 = .ok (.aload_n 0, 1) := by decide +kernel
theorem dX1_solve_174 : decode cX1_solve 174 = .ok (.getfield 7, 3) := by decide +kernel
theorem dX1_solve_177 : decode cX1_solve 177 = .ok (.iload 6, 2) := by decide +kernel
theorem dX1_solve_179 : decode cX1_solve 179 = .ok (.iaload, 1) := by decide +kernel
theorem dX1_solve_180 : decode cX1_solve 180 = .ok (.iastore, 1) := by decide +kernel
theorem dX1_solve_181 : decode cX1_solve 181 = .ok (.iload_n 2, 1) := by decide +kernel
theorem dX1_solve_182 : decode cX1_solve 182 = .ok (.iconst 1, 1) := by decide +kernel
theorem dX1_solve_183 : decode cX1_solve 183 = .ok (.iadd, 1) := by decide +kernel
theorem dX1_solve_184 : decode cX1_solve 184 = .ok (.bipush 7, 2) := by decide +kernel
theorem dX1_solve_186 : decode cX1_solve 186 = .ok (.iand, 1) := by decide +kernel
theorem dX1_solve_187 : decode cX1_solve 187 = .ok (.istore_n 2, 1) := by decide +kernel
theorem dX1_solve_188 : decode cX1_solve 188 = .ok (.iinc 6 1, 3) := by decide +kernel
theorem dX1_solve_191 : decode cX1_solve 191 = .ok (.goto (-75), 3) := by decide +kernel
theorem dX1_solve_194 : decode cX1_solve 194 = .ok (.iinc 3 1, 3) := by decide +kernel
theorem dX1_solve_197 : decode cX1_solve 197 = .ok (.goto (-151), 3) := by decide +kernel
theorem dX1_solve_200 : decode cX1_solve 200 = .ok (.return_, 1) := by decide +kernel
abbrev cX1_wantedAt : ByteArray := prog_1_method_25_code
def yX1_wantedAt : MethodName := ⟨RX1, "wantedAt", "(I)I"⟩
theorem dX1_wantedAt_0 : decode cX1_wantedAt 0 = .ok (.iconst (-1), 1) := by decide +kernel
theorem dX1_wantedAt_1 : decode cX1_wantedAt 1 = .ok (.istore_n 2, 1) := by decide +kernel
theorem dX1_wantedAt_2 : decode cX1_wantedAt 2 = .ok (.iconst 0, 1) := by decide +kernel
theorem dX1_wantedAt_3 : decode cX1_wantedAt 3 = .ok (.istore_n 3, 1) := by decide +kernel
theorem dX1_wantedAt_4 : decode cX1_wantedAt 4 = .ok (.iload_n 3, 1) := by decide +kernel
theorem dX1_wantedAt_5 : decode cX1_wantedAt 5 = .ok (.aload_n 0, 1) := by decide +kernel
theorem dX1_wantedAt_6 : decode cX1_wantedAt 6 = .ok (.getfield 50, 3) := by decide +kernel
theorem dX1_wantedAt_9 : decode cX1_wantedAt 9 = .ok (.if_icmp .ge 81, 3) := by decide +kernel
theorem dX1_wantedAt_12 : decode cX1_wantedAt 12 = .ok (.aload_n 0, 1) := by decide +kernel
theorem dX1_wantedAt_13 : decode cX1_wantedAt 13 = .ok (.getfield 7, 3) := by decide +kernel
theorem dX1_wantedAt_16 : decode cX1_wantedAt 16 = .ok (.iload_n 3, 1) := by decide +kernel
theorem dX1_wantedAt_17 : decode cX1_wantedAt 17 = .ok (.iaload, 1) := by decide +kernel
theorem dX1_wantedAt_18 : decode cX1_wantedAt 18 = .ok (.iload_n 1, 1) := by decide +kernel
theorem dX1_wantedAt_19 : decode cX1_wantedAt 19 = .ok (.if_icmp .ne 65, 3) := by decide +kernel
theorem dX1_wantedAt_22 : decode cX1_wantedAt 22 = .ok (.iload_n 3, 1) := by decide +kernel
theorem dX1_wantedAt_23 : decode cX1_wantedAt 23 = .ok (.aload_n 0, 1) := by decide +kernel
theorem dX1_wantedAt_24 : decode cX1_wantedAt 24 = .ok (.getfield 39, 3) := by decide +kernel
theorem dX1_wantedAt_27 : decode cX1_wantedAt 27 = .ok (.if_icmp .eq 57, 3) := by decide +kernel
theorem dX1_wantedAt_30 : decode cX1_wantedAt 30 = .ok (.aload_n 0, 1) := by decide +kernel
theorem dX1_wantedAt_31 : decode cX1_wantedAt 31 = .ok (.iload_n 3, 1) := by decide +kernel
theorem dX1_wantedAt_32 : decode cX1_wantedAt 32 = .ok (.invokevirtual 75, 3) := by decide +kernel
theorem dX1_wantedAt_35 : decode cX1_wantedAt 35 = .ok (.istore 4, 2) := by decide +kernel
theorem dX1_wantedAt_37 : decode cX1_wantedAt 37 = .ok (.iload_n 2, 1) := by decide +kernel
theorem dX1_wantedAt_38 : decode cX1_wantedAt 38 = .ok (.ifCond .lt 27, 3) := by decide +kernel
theorem dX1_wantedAt_41 : decode cX1_wantedAt 41 = .ok (.aload_n 0, 1) := by decide +kernel
theorem dX1_wantedAt_42 : decode cX1_wantedAt 42 = .ok (.getfield 19, 3) := by decide +kernel
theorem dX1_wantedAt_45 : decode cX1_wantedAt 45 = .ok (.iload_n 1, 1) := by decide +kernel
theorem dX1_wantedAt_46 : decode cX1_wantedAt 46 = .ok (.iaload, 1) := by decide +kernel
theorem dX1_wantedAt_47 : decode cX1_wantedAt 47 = .ok (.ifCond .ne 12, 3) := by decide +kernel
theorem dX1_wantedAt_50 : decode cX1_wantedAt 50 = .ok (.iload 4, 2) := by decide +kernel
theorem dX1_wantedAt_52 : decode cX1_wantedAt 52 = .ok (.iload_n 2, 1) := by decide +kernel
theorem dX1_wantedAt_53 : decode cX1_wantedAt 53 = .ok (.if_icmp .ge 16, 3) := by decide +kernel
theorem dX1_wantedAt_56 : decode cX1_wantedAt 56 = .ok (.goto 9, 3) := by decide +kernel
theorem dX1_wantedAt_59 : decode cX1_wantedAt 59 = .ok (.iload 4, 2) := by decide +kernel
theorem dX1_wantedAt_61 : decode cX1_wantedAt 61 = .ok (.iload_n 2, 1) := by decide +kernel
theorem dX1_wantedAt_62 : decode cX1_wantedAt 62 = .ok (.if_icmp .le 7, 3) := by decide +kernel
theorem dX1_wantedAt_65 : decode cX1_wantedAt 65 = .ok (.iconst 1, 1) := by decide +kernel
theorem dX1_wantedAt_66 : decode cX1_wantedAt 66 = .ok (.goto 4, 3) := by decide +kernel
theorem dX1_wantedAt_69 : decode cX1_wantedAt 69 = .ok (.iconst 0, 1) := by decide +kernel
theorem dX1_wantedAt_70 : decode cX1_wantedAt 70 = .ok (.istore 5, 2) := by decide +kernel
theorem dX1_wantedAt_72 : decode cX1_wantedAt 72 = .ok (.iload 5, 2) := by decide +kernel
theorem dX1_wantedAt_74 : decode cX1_wantedAt 74 = .ok (.ifCond .eq 8, 3) := by decide +kernel
theorem dX1_wantedAt_77 : decode cX1_wantedAt 77 = .ok (.iload 4, 2) := by decide +kernel
theorem dX1_wantedAt_79 : decode cX1_wantedAt 79 = .ok (.goto 4, 3) := by decide +kernel
theorem dX1_wantedAt_82 : decode cX1_wantedAt 82 = .ok (.iload_n 2, 1) := by decide +kernel
theorem dX1_wantedAt_83 : decode cX1_wantedAt 83 = .ok (.istore_n 2, 1) := by decide +kernel
theorem dX1_wantedAt_84 : decode cX1_wantedAt 84 = .ok (.iinc 3 1, 3) := by decide +kernel
theorem dX1_wantedAt_87 : decode cX1_wantedAt 87 = .ok (.goto (-83), 3) := by decide +kernel
theorem dX1_wantedAt_90 : decode cX1_wantedAt 90 = .ok (.iload_n 2, 1) := by decide +kernel
theorem dX1_wantedAt_91 : decode cX1_wantedAt 91 = .ok (.ifCond .ge 7, 3) := by decide +kernel
theorem dX1_wantedAt_94 : decode cX1_wantedAt 94 = .ok (.iconst 0, 1) := by decide +kernel
theorem dX1_wantedAt_95 : decode cX1_wantedAt 95 = .ok (.goto 4, 3) := by decide +kernel
theorem dX1_wantedAt_98 : decode cX1_wantedAt 98 = .ok (.iload_n 2, 1) := by decide +kernel
theorem dX1_wantedAt_99 : decode cX1_wantedAt 99 = .ok (.ireturn, 1) := by decide +kernel
abbrev cX1_asked : ByteArray := prog_1_method_22_code
def yX1_asked : MethodName := ⟨RX1, "asked", "(I)I"⟩
theorem dX1_asked_0 : decode cX1_asked 0 = .ok (.aload_n 0, 1) := by decide +kernel
theorem dX1_asked_1 : decode cX1_asked 1 = .ok (.getfield 22, 3) := by decide +kernel
theorem dX1_asked_4 : decode cX1_asked 4 = .ok (.aload_n 0, 1) := by decide +kernel
theorem dX1_asked_5 : decode cX1_asked 5 = .ok (.getfield 13, 3) := by decide +kernel
theorem dX1_asked_8 : decode cX1_asked 8 = .ok (.iload_n 1, 1) := by decide +kernel
theorem dX1_asked_9 : decode cX1_asked 9 = .ok (.iaload, 1) := by decide +kernel
theorem dX1_asked_10 : decode cX1_asked 10 = .ok (.iaload, 1) := by decide +kernel
theorem dX1_asked_11 : decode cX1_asked 11 = .ok (.istore_n 2, 1) := by decide +kernel
theorem dX1_asked_12 : decode cX1_asked 12 = .ok (.iload_n 2, 1) := by decide +kernel
theorem dX1_asked_13 : decode cX1_asked 13 = .ok (.aload_n 0, 1) := by decide +kernel
theorem dX1_asked_14 : decode cX1_asked 14 = .ok (.getfield 36, 3) := by decide +kernel
theorem dX1_asked_17 : decode cX1_asked 17 = .ok (.if_icmp .ne 8, 3) := by decide +kernel
theorem dX1_asked_20 : decode cX1_asked 20 = .ok (.aload_n 0, 1) := by decide +kernel
theorem dX1_asked_21 : decode cX1_asked 21 = .ok (.getfield 36, 3) := by decide +kernel
theorem dX1_asked_24 : decode cX1_asked 24 = .ok (.ireturn, 1) := by decide +kernel
theorem dX1_asked_25 : decode cX1_asked 25 = .ok (.iload_n 2, 1) := by decide +kernel
theorem dX1_asked_26 : decode cX1_asked 26 = .ok (.aload_n 0, 1) := by decide +kernel
theorem dX1_asked_27 : decode cX1_asked 27 = .ok (.getfield 16, 3) := by decide +kernel
theorem dX1_asked_30 : decode cX1_asked 30 = .ok (.iload_n 1, 1) := by decide +kernel
theorem dX1_asked_31 : decode cX1_asked 31 = .ok (.iaload, 1) := by decide +kernel
theorem dX1_asked_32 : decode cX1_asked 32 = .ok (.isub, 1) := by decide +kernel
theorem dX1_asked_33 : decode cX1_asked 33 = .ok (.istore_n 3, 1) := by decide +kernel
theorem dX1_asked_34 : decode cX1_asked 34 = .ok (.iload_n 3, 1) := by decide +kernel
theorem dX1_asked_35 : decode cX1_asked 35 = .ok (.ifCond .ge 5, 3) := by decide +kernel
theorem dX1_asked_38 : decode cX1_asked 38 = .ok (.iconst 0, 1) := by decide +kernel
theorem dX1_asked_39 : decode cX1_asked 39 = .ok (.ireturn, 1) := by decide +kernel
theorem dX1_asked_40 : decode cX1_asked 40 = .ok (.iload_n 3, 1) := by decide +kernel
theorem dX1_asked_41 : decode cX1_asked 41 = .ok (.aload_n 0, 1) := by decide +kernel
theorem dX1_asked_42 : decode cX1_asked 42 = .ok (.getfield 36, 3) := by decide +kernel
theorem dX1_asked_45 : decode cX1_asked 45 = .ok (.if_icmp .ge 7, 3) := by decide +kernel
theorem dX1_asked_48 : decode cX1_asked 48 = .ok (.iload_n 3, 1) := by decide +kernel
theorem dX1_asked_49 : decode cX1_asked 49 = .ok (.goto 7, 3) := by decide +kernel
theorem dX1_asked_52 : decode cX1_asked 52 = .ok (.aload_n 0, 1) := by decide +kernel
theorem dX1_asked_53 : decode cX1_asked 53 = .ok (.getfield 36, 3) := by decide +kernel
theorem dX1_asked_56 : decode cX1_asked 56 = .ok (.ireturn, 1) := by decide +kernel
abbrev cX1_shown : ByteArray := prog_1_method_20_code
def yX1_shown : MethodName := ⟨RX1, "shown", "(I)I"⟩
theorem dX1_shown_0 : decode cX1_shown 0 = .ok (.aload_n 0, 1) := by decide +kernel
theorem dX1_shown_1 : decode cX1_shown 1 = .ok (.getfield 22, 3) := by decide +kernel
theorem dX1_shown_4 : decode cX1_shown 4 = .ok (.iload_n 1, 1) := by decide +kernel
theorem dX1_shown_5 : decode cX1_shown 5 = .ok (.iaload, 1) := by decide +kernel
theorem dX1_shown_6 : decode cX1_shown 6 = .ok (.aload_n 0, 1) := by decide +kernel
theorem dX1_shown_7 : decode cX1_shown 7 = .ok (.getfield 36, 3) := by decide +kernel
theorem dX1_shown_10 : decode cX1_shown 10 = .ok (.if_icmp .ne 8, 3) := by decide +kernel
theorem dX1_shown_13 : decode cX1_shown 13 = .ok (.bipush (-2), 2) := by decide +kernel
theorem dX1_shown_15 : decode cX1_shown 15 = .ok (.goto 9, 3) := by decide +kernel
theorem dX1_shown_18 : decode cX1_shown 18 = .ok (.aload_n 0, 1) := by decide +kernel
theorem dX1_shown_19 : decode cX1_shown 19 = .ok (.getfield 22, 3) := by decide +kernel
theorem dX1_shown_22 : decode cX1_shown 22 = .ok (.iload_n 1, 1) := by decide +kernel
theorem dX1_shown_23 : decode cX1_shown 23 = .ok (.iaload, 1) := by decide +kernel
theorem dX1_shown_24 : decode cX1_shown 24 = .ok (.ireturn, 1) := by decide +kernel
abbrev cX1_safe : ByteArray := prog_1_method_9_code
def yX1_safe : MethodName := ⟨RX1, "safe", "(I)I"⟩
theorem dX1_safe_0 : decode cX1_safe 0 = .ok (.aload_n 0, 1) := by decide +kernel
theorem dX1_safe_1 : decode cX1_safe 1 = .ok (.invokevirtual 60, 3) := by decide +kernel
theorem dX1_safe_4 : decode cX1_safe 4 = .ok (.iconst 0, 1) := by decide +kernel
theorem dX1_safe_5 : decode cX1_safe 5 = .ok (.istore_n 2, 1) := by decide +kernel
theorem dX1_safe_6 : decode cX1_safe 6 = .ok (.iconst 0, 1) := by decide +kernel
theorem dX1_safe_7 : decode cX1_safe 7 = .ok (.istore_n 3, 1) := by decide +kernel
theorem dX1_safe_8 : decode cX1_safe 8 = .ok (.iload_n 3, 1) := by decide +kernel
theorem dX1_safe_9 : decode cX1_safe 9 = .ok (.aload_n 0, 1) := by decide +kernel
theorem dX1_safe_10 : decode cX1_safe 10 = .ok (.getfield 32, 3) := by decide +kernel
theorem dX1_safe_13 : decode cX1_safe 13 = .ok (.if_icmp .ge 38, 3) := by decide +kernel
theorem dX1_safe_16 : decode cX1_safe 16 = .ok (.aload_n 0, 1) := by decide +kernel
theorem dX1_safe_17 : decode cX1_safe 17 = .ok (.getfield 22, 3) := by decide +kernel
theorem dX1_safe_20 : decode cX1_safe 20 = .ok (.iload_n 3, 1) := by decide +kernel
theorem dX1_safe_21 : decode cX1_safe 21 = .ok (.iaload, 1) := by decide +kernel
theorem dX1_safe_22 : decode cX1_safe 22 = .ok (.aload_n 0, 1) := by decide +kernel
theorem dX1_safe_23 : decode cX1_safe 23 = .ok (.getfield 36, 3) := by decide +kernel
theorem dX1_safe_26 : decode cX1_safe 26 = .ok (.if_icmp .ge 19, 3) := by decide +kernel
theorem dX1_safe_29 : decode cX1_safe 29 = .ok (.aload_n 0, 1) := by decide +kernel
theorem dX1_safe_30 : decode cX1_safe 30 = .ok (.getfield 22, 3) := by decide +kernel
theorem dX1_safe_33 : decode cX1_safe 33 = .ok (.iload_n 3, 1) := by decide +kernel
theorem dX1_safe_34 : decode cX1_safe 34 = .ok (.iaload, 1) := by decide +kernel
theorem dX1_safe_35 : decode cX1_safe 35 = .ok (.iload_n 1, 1) := by decide +kernel
theorem dX1_safe_36 : decode cX1_safe 36 = .ok (.if_icmp .gt 9, 3) := by decide +kernel
theorem dX1_safe_39 : decode cX1_safe 39 = .ok (.iload_n 2, 1) := by decide +kernel
theorem dX1_safe_40 : decode cX1_safe 40 = .ok (.iconst 1, 1) := by decide +kernel
theorem dX1_safe_41 : decode cX1_safe 41 = .ok (.iload_n 3, 1) := by decide +kernel
theorem dX1_safe_42 : decode cX1_safe 42 = .ok (.ishl, 1) := by decide +kernel
theorem dX1_safe_43 : decode cX1_safe 43 = .ok (.ior, 1) := by decide +kernel
theorem dX1_safe_44 : decode cX1_safe 44 = .ok (.istore_n 2, 1) := by decide +kernel
theorem dX1_safe_45 : decode cX1_safe 45 = .ok (.iinc 3 1, 3) := by decide +kernel
theorem dX1_safe_48 : decode cX1_safe 48 = .ok (.goto (-40), 3) := by decide +kernel
theorem dX1_safe_51 : decode cX1_safe 51 = .ok (.iload_n 2, 1) := by decide +kernel
theorem dX1_safe_52 : decode cX1_safe 52 = .ok (.ireturn, 1) := by decide +kernel
abbrev cX1_hopeless : ByteArray := prog_1_method_10_code
def yX1_hopeless : MethodName := ⟨RX1, "hopeless", "()I"⟩
theorem dX1_hopeless_0 : decode cX1_hopeless 0 = .ok (.aload_n 0, 1) := by decide +kernel
theorem dX1_hopeless_1 : decode cX1_hopeless 1 = .ok (.invokevirtual 60, 3) := by decide +kernel
theorem dX1_hopeless_4 : decode cX1_hopeless 4 = .ok (.iconst 0, 1) := by decide +kernel
theorem dX1_hopeless_5 : decode cX1_hopeless 5 = .ok (.istore_n 1, 1) := by decide +kernel
theorem dX1_hopeless_6 : decode cX1_hopeless 6 = .ok (.iconst 0, 1) := by decide +kernel
theorem dX1_hopeless_7 : decode cX1_hopeless 7 = .ok (.istore_n 2, 1) := by decide +kernel
theorem dX1_hopeless_8 : decode cX1_hopeless 8 = .ok (.iload_n 2, 1) := by decide +kernel
theorem dX1_hopeless_9 : decode cX1_hopeless 9 = .ok (.aload_n 0, 1) := by decide +kernel
theorem dX1_hopeless_10 : decode cX1_hopeless 10 = .ok (.getfield 32, 3) := by decide +kernel
theorem dX1_hopeless_13 : decode cX1_hopeless 13 = .ok (.if_icmp .ge 30, 3) := by decide +kernel
theorem dX1_hopeless_16 : decode cX1_hopeless 16 = .ok (.iload_n 1, 1) := by decide +kernel
theorem dX1_hopeless_17 : decode cX1_hopeless 17 = .ok (.aload_n 0, 1) := by decide +kernel
theorem dX1_hopeless_18 : decode cX1_hopeless 18 = .ok (.getfield 22, 3) := by decide +kernel
theorem dX1_hopeless_21 : decode cX1_hopeless 21 = .ok (.iload_n 2, 1) := by decide +kernel
theorem dX1_hopeless_22 : decode cX1_hopeless 22 = .ok (.iaload, 1) := by decide +kernel
theorem dX1_hopeless_23 : decode cX1_hopeless 23 = .ok (.aload_n 0, 1) := by decide +kernel
theorem dX1_hopeless_24 : decode cX1_hopeless 24 = .ok (.getfield 36, 3) := by decide +kernel
theorem dX1_hopeless_27 : decode cX1_hopeless 27 = .ok (.if_icmp .ne 7, 3) := by decide +kernel
theorem dX1_hopeless_30 : decode cX1_hopeless 30 = .ok (.iconst 1, 1) := by decide +kernel
theorem dX1_hopeless_31 : decode cX1_hopeless 31 = .ok (.goto 4, 3) := by decide +kernel
theorem dX1_hopeless_34 : decode cX1_hopeless 34 = .ok (.iconst 0, 1) := by decide +kernel
theorem dX1_hopeless_35 : decode cX1_hopeless 35 = .ok (.iadd, 1) := by decide +kernel
theorem dX1_hopeless_36 : decode cX1_hopeless 36 = .ok (.istore_n 1, 1) := by decide +kernel
theorem dX1_hopeless_37 : decode cX1_hopeless 37 = .ok (.iinc 2 1, 3) := by decide +kernel
theorem dX1_hopeless_40 : decode cX1_hopeless 40 = .ok (.goto (-32), 3) := by decide +kernel
theorem dX1_hopeless_43 : decode cX1_hopeless 43 = .ok (.iload_n 1, 1) := by decide +kernel
theorem dX1_hopeless_44 : decode cX1_hopeless 44 = .ok (.ireturn, 1) := by decide +kernel
abbrev cX1_choice : ByteArray := prog_1_method_11_code
def yX1_choice : MethodName := ⟨RX1, "choice", "(I)I"⟩
theorem dX1_choice_0 : decode cX1_choice 0 = .ok (.aload_n 0, 1) := by decide +kernel
theorem dX1_choice_1 : decode cX1_choice 1 = .ok (.iload_n 1, 1) := by decide +kernel
theorem dX1_choice_2 : decode cX1_choice 2 = .ok (.invokevirtual 42, 3) := by decide +kernel
theorem dX1_choice_5 : decode cX1_choice 5 = .ok (.ifCond .ne 5, 3) := by decide +kernel
theorem dX1_choice_8 : decode cX1_choice 8 = .ok (.iconst (-1), 1) := by decide +kernel
theorem dX1_choice_9 : decode cX1_choice 9 = .ok (.ireturn, 1) := by decide +kernel
theorem dX1_choice_10 : decode cX1_choice 10 = .ok (.aload_n 0, 1) := by decide +kernel
theorem dX1_choice_11 : decode cX1_choice 11 = .ok (.invokevirtual 60, 3) := by decide +kernel
theorem dX1_choice_14 : decode cX1_choice 14 = .ok (.iconst 0, 1) := by decide +kernel
theorem dX1_choice_15 : decode cX1_choice 15 = .ok (.istore_n 2, 1) := by decide +kernel
theorem dX1_choice_16 : decode cX1_choice 16 = .ok (.iload_n 2, 1) := by decide +kernel
theorem dX1_choice_17 : decode cX1_choice 17 = .ok (.aload_n 0, 1) := by decide +kernel
theorem dX1_choice_18 : decode cX1_choice 18 = .ok (.getfield 50, 3) := by decide +kernel
theorem dX1_choice_21 : decode cX1_choice 21 = .ok (.if_icmp .ge 29, 3) := by decide +kernel
theorem dX1_choice_24 : decode cX1_choice 24 = .ok (.aload_n 0, 1) := by decide +kernel
theorem dX1_choice_25 : decode cX1_choice 25 = .ok (.getfield 7, 3) := by decide +kernel
theorem dX1_choice_28 : decode cX1_choice 28 = .ok (.iload_n 2, 1) := by decide +kernel
theorem dX1_choice_29 : decode cX1_choice 29 = .ok (.iaload, 1) := by decide +kernel
theorem dX1_choice_30 : decode cX1_choice 30 = .ok (.iload_n 1, 1) := by decide +kernel
theorem dX1_choice_31 : decode cX1_choice 31 = .ok (.if_icmp .ne 13, 3) := by decide +kernel
theorem dX1_choice_34 : decode cX1_choice 34 = .ok (.aload_n 0, 1) := by decide +kernel
theorem dX1_choice_35 : decode cX1_choice 35 = .ok (.iload_n 2, 1) := by decide +kernel
theorem dX1_choice_36 : decode cX1_choice 36 = .ok (.invokevirtual 66, 3) := by decide +kernel
theorem dX1_choice_39 : decode cX1_choice 39 = .ok (.ifCond .eq 5, 3) := by decide +kernel
theorem dX1_choice_42 : decode cX1_choice 42 = .ok (.iload_n 2, 1) := by decide +kernel
theorem dX1_choice_43 : decode cX1_choice 43 = .ok (.ireturn, 1) := by decide +kernel
theorem dX1_choice_44 : decode cX1_choice 44 = .ok (.iinc 2 1, 3) := by decide +kernel
theorem dX1_choice_47 : decode cX1_choice 47 = .ok (.goto (-31), 3) := by decide +kernel
theorem dX1_choice_50 : decode cX1_choice 50 = .ok (.bipush (-2), 2) := by decide +kernel
theorem dX1_choice_52 : decode cX1_choice 52 = .ok (.ireturn, 1) := by decide +kernel
abbrev cX1_isGood : ByteArray := prog_1_method_21_code
def yX1_isGood : MethodName := ⟨RX1, "isGood", "(I)Z"⟩
theorem dX1_isGood_0 : decode cX1_isGood 0 = .ok (.aload_n 0, 1) := by decide +kernel
theorem dX1_isGood_1 : decode cX1_isGood 1 = .ok (.getfield 7, 3) := by decide +kernel
theorem dX1_isGood_4 : decode cX1_isGood 4 = .ok (.iload_n 1, 1) := by decide +kernel
theorem dX1_isGood_5 : decode cX1_isGood 5 = .ok (.iaload, 1) := by decide +kernel
theorem dX1_isGood_6 : decode cX1_isGood 6 = .ok (.istore_n 2, 1) := by decide +kernel
theorem dX1_isGood_7 : decode cX1_isGood 7 = .ok (.aload_n 0, 1) := by decide +kernel
theorem dX1_isGood_8 : decode cX1_isGood 8 = .ok (.getfield 13, 3) := by decide +kernel
theorem dX1_isGood_11 : decode cX1_isGood 11 = .ok (.iload_n 1, 1) := by decide +kernel
theorem dX1_isGood_12 : decode cX1_isGood 12 = .ok (.iaload, 1) := by decide +kernel
theorem dX1_isGood_13 : decode cX1_isGood 13 = .ok (.istore_n 3, 1) := by decide +kernel
theorem dX1_isGood_14 : decode cX1_isGood 14 = .ok (.aload_n 0, 1) := by decide +kernel
theorem dX1_isGood_15 : decode cX1_isGood 15 = .ok (.getfield 22, 3) := by decide +kernel
theorem dX1_isGood_18 : decode cX1_isGood 18 = .ok (.iload_n 2, 1) := by decide +kernel
theorem dX1_isGood_19 : decode cX1_isGood 19 = .ok (.iaload, 1) := by decide +kernel
theorem dX1_isGood_20 : decode cX1_isGood 20 = .ok (.aload_n 0, 1) := by decide +kernel
theorem dX1_isGood_21 : decode cX1_isGood 21 = .ok (.getfield 36, 3) := by decide +kernel
theorem dX1_isGood_24 : decode cX1_isGood 24 = .ok (.if_icmp .ne 32, 3) := by decide +kernel
theorem dX1_isGood_27 : decode cX1_isGood 27 = .ok (.aload_n 0, 1) := by decide +kernel
theorem dX1_isGood_28 : decode cX1_isGood 28 = .ok (.getfield 19, 3) := by decide +kernel
theorem dX1_isGood_31 : decode cX1_isGood 31 = .ok (.iload_n 2, 1) := by decide +kernel
theorem dX1_isGood_32 : decode cX1_isGood 32 = .ok (.iaload, 1) := by decide +kernel
theorem dX1_isGood_33 : decode cX1_isGood 33 = .ok (.iconst 1, 1) := by decide +kernel
theorem dX1_isGood_34 : decode cX1_isGood 34 = .ok (.if_icmp .ne 20, 3) := by decide +kernel
theorem dX1_isGood_37 : decode cX1_isGood 37 = .ok (.aload_n 0, 1) := by decide +kernel
theorem dX1_isGood_38 : decode cX1_isGood 38 = .ok (.getfield 22, 3) := by decide +kernel
theorem dX1_isGood_41 : decode cX1_isGood 41 = .ok (.iload_n 3, 1) := by decide +kernel
theorem dX1_isGood_42 : decode cX1_isGood 42 = .ok (.iaload, 1) := by decide +kernel
theorem dX1_isGood_43 : decode cX1_isGood 43 = .ok (.aload_n 0, 1) := by decide +kernel
theorem dX1_isGood_44 : decode cX1_isGood 44 = .ok (.getfield 36, 3) := by decide +kernel
theorem dX1_isGood_47 : decode cX1_isGood 47 = .ok (.if_icmp .ne 7, 3) := by decide +kernel
theorem dX1_isGood_50 : decode cX1_isGood 50 = .ok (.iconst 1, 1) := by decide +kernel
theorem dX1_isGood_51 : decode cX1_isGood 51 = .ok (.goto 4, 3) := by decide +kernel
theorem dX1_isGood_54 : decode cX1_isGood 54 = .ok (.iconst 0, 1) := by decide +kernel
theorem dX1_isGood_55 : decode cX1_isGood 55 = .ok (.ireturn, 1) := by decide +kernel
theorem dX1_isGood_56 : decode cX1_isGood 56 = .ok (.aload_n 0, 1) := by decide +kernel
theorem dX1_isGood_57 : decode cX1_isGood 57 = .ok (.iload_n 1, 1) := by decide +kernel
theorem dX1_isGood_58 : decode cX1_isGood 58 = .ok (.invokevirtual 75, 3) := by decide +kernel
theorem dX1_isGood_61 : decode cX1_isGood 61 = .ok (.aload_n 0, 1) := by decide +kernel
theorem dX1_isGood_62 : decode cX1_isGood 62 = .ok (.getfield 22, 3) := by decide +kernel
theorem dX1_isGood_65 : decode cX1_isGood 65 = .ok (.iload_n 2, 1) := by decide +kernel
theorem dX1_isGood_66 : decode cX1_isGood 66 = .ok (.iaload, 1) := by decide +kernel
theorem dX1_isGood_67 : decode cX1_isGood 67 = .ok (.if_icmp .ne 20, 3) := by decide +kernel
theorem dX1_isGood_70 : decode cX1_isGood 70 = .ok (.aload_n 0, 1) := by decide +kernel
theorem dX1_isGood_71 : decode cX1_isGood 71 = .ok (.getfield 22, 3) := by decide +kernel
theorem dX1_isGood_74 : decode cX1_isGood 74 = .ok (.iload_n 3, 1) := by decide +kernel
theorem dX1_isGood_75 : decode cX1_isGood 75 = .ok (.iaload, 1) := by decide +kernel
theorem dX1_isGood_76 : decode cX1_isGood 76 = .ok (.aload_n 0, 1) := by decide +kernel
theorem dX1_isGood_77 : decode cX1_isGood 77 = .ok (.getfield 36, 3) := by decide +kernel
theorem dX1_isGood_80 : decode cX1_isGood 80 = .ok (.if_icmp .ge 7, 3) := by decide +kernel
theorem dX1_isGood_83 : decode cX1_isGood 83 = .ok (.iconst 1, 1) := by decide +kernel
theorem dX1_isGood_84 : decode cX1_isGood 84 = .ok (.goto 4, 3) := by decide +kernel
theorem dX1_isGood_87 : decode cX1_isGood 87 = .ok (.iconst 0, 1) := by decide +kernel
theorem dX1_isGood_88 : decode cX1_isGood 88 = .ok (.ireturn, 1) := by decide +kernel
abbrev cX1_choices : ByteArray := prog_1_method_12_code
def yX1_choices : MethodName := ⟨RX1, "choices", "(I)I"⟩
theorem dX1_choices_0 : decode cX1_choices 0 = .ok (.aload_n 0, 1) := by decide +kernel
theorem dX1_choices_1 : decode cX1_choices 1 = .ok (.iload_n 1, 1) := by decide +kernel
theorem dX1_choices_2 : decode cX1_choices 2 = .ok (.invokevirtual 42, 3) := by decide +kernel
theorem dX1_choices_5 : decode cX1_choices 5 = .ok (.ifCond .ne 5, 3) := by decide +kernel
theorem dX1_choices_8 : decode cX1_choices 8 = .ok (.iconst (-1), 1) := by decide +kernel
theorem dX1_choices_9 : decode cX1_choices 9 = .ok (.ireturn, 1) := by decide +kernel
theorem dX1_choices_10 : decode cX1_choices 10 = .ok (.aload_n 0, 1) := by decide +kernel
theorem dX1_choices_11 : decode cX1_choices 11 = .ok (.invokevirtual 60, 3) := by decide +kernel
theorem dX1_choices_14 : decode cX1_choices 14 = .ok (.iconst 0, 1) := by decide +kernel
theorem dX1_choices_15 : decode cX1_choices 15 = .ok (.istore_n 2, 1) := by decide +kernel
theorem dX1_choices_16 : decode cX1_choices 16 = .ok (.iconst 0, 1) := by decide +kernel
theorem dX1_choices_17 : decode cX1_choices 17 = .ok (.istore_n 3, 1) := by decide +kernel
theorem dX1_choices_18 : decode cX1_choices 18 = .ok (.iload_n 3, 1) := by decide +kernel
theorem dX1_choices_19 : decode cX1_choices 19 = .ok (.aload_n 0, 1) := by decide +kernel
theorem dX1_choices_20 : decode cX1_choices 20 = .ok (.getfield 50, 3) := by decide +kernel
theorem dX1_choices_23 : decode cX1_choices 23 = .ok (.if_icmp .ge 35, 3) := by decide +kernel
theorem dX1_choices_26 : decode cX1_choices 26 = .ok (.iload_n 2, 1) := by decide +kernel
theorem dX1_choices_27 : decode cX1_choices 27 = .ok (.aload_n 0, 1) := by decide +kernel
theorem dX1_choices_28 : decode cX1_choices 28 = .ok (.getfield 7, 3) := by decide +kernel
theorem dX1_choices_31 : decode cX1_choices 31 = .ok (.iload_n 3, 1) := by decide +kernel
theorem dX1_choices_32 : decode cX1_choices 32 = .ok (.iaload, 1) := by decide +kernel
theorem dX1_choices_33 : decode cX1_choices 33 = .ok (.iload_n 1, 1) := by decide +kernel
theorem dX1_choices_34 : decode cX1_choices 34 = .ok (.if_icmp .ne 15, 3) := by decide +kernel
theorem dX1_choices_37 : decode cX1_choices 37 = .ok (.aload_n 0, 1) := by decide +kernel
theorem dX1_choices_38 : decode cX1_choices 38 = .ok (.iload_n 3, 1) := by decide +kernel
theorem dX1_choices_39 : decode cX1_choices 39 = .ok (.invokevirtual 66, 3) := by decide +kernel
theorem dX1_choices_42 : decode cX1_choices 42 = .ok (.ifCond .eq 7, 3) := by decide +kernel
theorem dX1_choices_45 : decode cX1_choices 45 = .ok (.iconst 1, 1) := by decide +kernel
theorem dX1_choices_46 : decode cX1_choices 46 = .ok (.goto 4, 3) := by decide +kernel
theorem dX1_choices_49 : decode cX1_choices 49 = .ok (.iconst 0, 1) := by decide +kernel
theorem dX1_choices_50 : decode cX1_choices 50 = .ok (.iadd, 1) := by decide +kernel
theorem dX1_choices_51 : decode cX1_choices 51 = .ok (.istore_n 2, 1) := by decide +kernel
theorem dX1_choices_52 : decode cX1_choices 52 = .ok (.iinc 3 1, 3) := by decide +kernel
theorem dX1_choices_55 : decode cX1_choices 55 = .ok (.goto (-37), 3) := by decide +kernel
theorem dX1_choices_58 : decode cX1_choices 58 = .ok (.iload_n 2, 1) := by decide +kernel
theorem dX1_choices_59 : decode cX1_choices 59 = .ok (.ireturn, 1) := by decide +kernel
abbrev cX1_needWithout : ByteArray := prog_1_method_13_code
def yX1_needWithout : MethodName := ⟨RX1, "needWithout", "(II)I"⟩
theorem dX1_needWithout_0 : decode cX1_needWithout 0 = .ok (.aload_n 0, 1) := by decide +kernel
theorem dX1_needWithout_1 : decode cX1_needWithout 1 = .ok (.iload_n 1, 1) := by decide +kernel
theorem dX1_needWithout_2 : decode cX1_needWithout 2 = .ok (.invokevirtual 42, 3) := by decide +kernel
theorem dX1_needWithout_5 : decode cX1_needWithout 5 = .ok (.ifCond .ne 5, 3) := by decide +kernel
theorem dX1_needWithout_8 : decode cX1_needWithout 8 = .ok (.iconst (-1), 1) := by decide +kernel
theorem dX1_needWithout_9 : decode cX1_needWithout 9 = .ok (.ireturn, 1) := by decide +kernel
theorem dX1_needWithout_10 : decode cX1_needWithout 10 = .ok (.aload_n 0, 1) := by decide +kernel
theorem dX1_needWithout_11 : decode cX1_needWithout 11 = .ok (.iload_n 2, 1) := by decide +kernel
theorem dX1_needWithout_12 : decode cX1_needWithout 12 = .ok (.invokevirtual 57, 3) := by decide +kernel
theorem dX1_needWithout_15 : decode cX1_needWithout 15 = .ok (.ifCond .ne 6, 3) := by decide +kernel
theorem dX1_needWithout_18 : decode cX1_needWithout 18 = .ok (.bipush (-3), 2) := by decide +kernel
theorem dX1_needWithout_20 : decode cX1_needWithout 20 = .ok (.ireturn, 1) := by decide +kernel
theorem dX1_needWithout_21 : decode cX1_needWithout 21 = .ok (.aload_n 0, 1) := by decide +kernel
theorem dX1_needWithout_22 : decode cX1_needWithout 22 = .ok (.iload_n 2, 1) := by decide +kernel
theorem dX1_needWithout_23 : decode cX1_needWithout 23 = .ok (.putfield 39, 3) := by decide +kernel
theorem dX1_needWithout_26 : decode cX1_needWithout 26 = .ok (.aload_n 0, 1) := by decide +kernel
theorem dX1_needWithout_27 : decode cX1_needWithout 27 = .ok (.invokevirtual 69, 3) := by decide +kernel
theorem dX1_needWithout_30 : decode cX1_needWithout 30 = .ok (.aload_n 0, 1) := by decide +kernel
theorem dX1_needWithout_31 : decode cX1_needWithout 31 = .ok (.iconst (-1), 1) := by decide +kernel
theorem dX1_needWithout_32 : decode cX1_needWithout 32 = .ok (.putfield 39, 3) := by decide +kernel
theorem dX1_needWithout_35 : decode cX1_needWithout 35 = .ok (.aload_n 0, 1) := by decide +kernel
theorem dX1_needWithout_36 : decode cX1_needWithout 36 = .ok (.iconst 0, 1) := by decide +kernel
theorem dX1_needWithout_37 : decode cX1_needWithout 37 = .ok (.putfield 46, 3) := by decide +kernel
theorem dX1_needWithout_40 : decode cX1_needWithout 40 = .ok (.aload_n 0, 1) := by decide +kernel
theorem dX1_needWithout_41 : decode cX1_needWithout 41 = .ok (.iload_n 1, 1) := by decide +kernel
theorem dX1_needWithout_42 : decode cX1_needWithout 42 = .ok (.invokevirtual 63, 3) := by decide +kernel
theorem dX1_needWithout_45 : decode cX1_needWithout 45 = .ok (.ireturn, 1) := by decide +kernel
abbrev cX1_needOf : ByteArray := prog_1_method_14_code
def yX1_needOf : MethodName := ⟨RX1, "needOf", "(II)I"⟩
theorem dX1_needOf_0 : decode cX1_needOf 0 = .ok (.aload_n 0, 1) := by decide +kernel
theorem dX1_needOf_1 : decode cX1_needOf 1 = .ok (.iload_n 1, 1) := by decide +kernel
theorem dX1_needOf_2 : decode cX1_needOf 2 = .ok (.invokevirtual 42, 3) := by decide +kernel
theorem dX1_needOf_5 : decode cX1_needOf 5 = .ok (.ifCond .ne 5, 3) := by decide +kernel
theorem dX1_needOf_8 : decode cX1_needOf 8 = .ok (.iconst (-1), 1) := by decide +kernel
theorem dX1_needOf_9 : decode cX1_needOf 9 = .ok (.ireturn, 1) := by decide +kernel
theorem dX1_needOf_10 : decode cX1_needOf 10 = .ok (.iload_n 2, 1) := by decide +kernel
theorem dX1_needOf_11 : decode cX1_needOf 11 = .ok (.ifCond .eq 11, 3) := by decide +kernel
theorem dX1_needOf_14 : decode cX1_needOf 14 = .ok (.iload_n 2, 1) := by decide +kernel
theorem dX1_needOf_15 : decode cX1_needOf 15 = .ok (.iconst 1, 1) := by decide +kernel
theorem dX1_needOf_16 : decode cX1_needOf 16 = .ok (.if_icmp .eq 6, 3) := by decide +kernel
theorem dX1_needOf_19 : decode cX1_needOf 19 = .ok (.bipush (-3), 2) := by decide +kernel
theorem dX1_needOf_21 : decode cX1_needOf 21 = .ok (.ireturn, 1) := by decide +kernel
theorem dX1_needOf_22 : decode cX1_needOf 22 = .ok (.aload_n 0, 1) := by decide +kernel
theorem dX1_needOf_23 : decode cX1_needOf 23 = .ok (.getfield 19, 3) := by decide +kernel
theorem dX1_needOf_26 : decode cX1_needOf 26 = .ok (.iload_n 1, 1) := by decide +kernel
theorem dX1_needOf_27 : decode cX1_needOf 27 = .ok (.iaload, 1) := by decide +kernel
theorem dX1_needOf_28 : decode cX1_needOf 28 = .ok (.istore_n 3, 1) := by decide +kernel
theorem dX1_needOf_29 : decode cX1_needOf 29 = .ok (.aload_n 0, 1) := by decide +kernel
theorem dX1_needOf_30 : decode cX1_needOf 30 = .ok (.getfield 19, 3) := by decide +kernel
theorem dX1_needOf_33 : decode cX1_needOf 33 = .ok (.iload_n 1, 1) := by decide +kernel
theorem dX1_needOf_34 : decode cX1_needOf 34 = .ok (.iload_n 2, 1) := by decide +kernel
theorem dX1_needOf_35 : decode cX1_needOf 35 = .ok (.iastore, 1) := by decide +kernel
theorem dX1_needOf_36 : decode cX1_needOf 36 = .ok (.aload_n 0, 1) := by decide +kernel
theorem dX1_needOf_37 : decode cX1_needOf 37 = .ok (.invokevirtual 69, 3) := by decide +kernel
theorem dX1_needOf_40 : decode cX1_needOf 40 = .ok (.aload_n 0, 1) := by decide +kernel
theorem dX1_needOf_41 : decode cX1_needOf 41 = .ok (.getfield 19, 3) := by decide +kernel
theorem dX1_needOf_44 : decode cX1_needOf 44 = .ok (.iload_n 1, 1) := by decide +kernel
theorem dX1_needOf_45 : decode cX1_needOf 45 = .ok (.iload_n 3, 1) := by decide +kernel
theorem dX1_needOf_46 : decode cX1_needOf 46 = .ok (.iastore, 1) := by decide +kernel
theorem dX1_needOf_47 : decode cX1_needOf 47 = .ok (.aload_n 0, 1) := by decide +kernel
theorem dX1_needOf_48 : decode cX1_needOf 48 = .ok (.iconst 0, 1) := by decide +kernel
theorem dX1_needOf_49 : decode cX1_needOf 49 = .ok (.putfield 46, 3) := by decide +kernel
theorem dX1_needOf_52 : decode cX1_needOf 52 = .ok (.aload_n 0, 1) := by decide +kernel
theorem dX1_needOf_53 : decode cX1_needOf 53 = .ok (.iload_n 1, 1) := by decide +kernel
theorem dX1_needOf_54 : decode cX1_needOf 54 = .ok (.invokevirtual 63, 3) := by decide +kernel
theorem dX1_needOf_57 : decode cX1_needOf 57 = .ok (.ireturn, 1) := by decide +kernel
abbrev cX1_greatest : ByteArray := prog_1_method_15_code
def yX1_greatest : MethodName := ⟨RX1, "greatest", "()I"⟩
theorem dX1_greatest_0 : decode cX1_greatest 0 = .ok (.aload_n 0, 1) := by decide +kernel
theorem dX1_greatest_1 : decode cX1_greatest 1 = .ok (.invokevirtual 60, 3) := by decide +kernel
theorem dX1_greatest_4 : decode cX1_greatest 4 = .ok (.iconst 0, 1) := by decide +kernel
theorem dX1_greatest_5 : decode cX1_greatest 5 = .ok (.istore_n 1, 1) := by decide +kernel
theorem dX1_greatest_6 : decode cX1_greatest 6 = .ok (.iconst 0, 1) := by decide +kernel
theorem dX1_greatest_7 : decode cX1_greatest 7 = .ok (.istore_n 2, 1) := by decide +kernel
theorem dX1_greatest_8 : decode cX1_greatest 8 = .ok (.iload_n 2, 1) := by decide +kernel
theorem dX1_greatest_9 : decode cX1_greatest 9 = .ok (.aload_n 0, 1) := by decide +kernel
theorem dX1_greatest_10 : decode cX1_greatest 10 = .ok (.getfield 32, 3) := by decide +kernel
theorem dX1_greatest_13 : decode cX1_greatest 13 = .ok (.if_icmp .ge 39, 3) := by decide +kernel
theorem dX1_greatest_16 : decode cX1_greatest 16 = .ok (.aload_n 0, 1) := by decide +kernel
theorem dX1_greatest_17 : decode cX1_greatest 17 = .ok (.getfield 22, 3) := by decide +kernel
theorem dX1_greatest_20 : decode cX1_greatest 20 = .ok (.iload_n 2, 1) := by decide +kernel
theorem dX1_greatest_21 : decode cX1_greatest 21 = .ok (.iaload, 1) := by decide +kernel
theorem dX1_greatest_22 : decode cX1_greatest 22 = .ok (.aload_n 0, 1) := by decide +kernel
theorem dX1_greatest_23 : decode cX1_greatest 23 = .ok (.getfield 36, 3) := by decide +kernel
theorem dX1_greatest_26 : decode cX1_greatest 26 = .ok (.if_icmp .ge 20, 3) := by decide +kernel
theorem dX1_greatest_29 : decode cX1_greatest 29 = .ok (.aload_n 0, 1) := by decide +kernel
theorem dX1_greatest_30 : decode cX1_greatest 30 = .ok (.getfield 22, 3) := by decide +kernel
theorem dX1_greatest_33 : decode cX1_greatest 33 = .ok (.iload_n 2, 1) := by decide +kernel
theorem dX1_greatest_34 : decode cX1_greatest 34 = .ok (.iaload, 1) := by decide +kernel
theorem dX1_greatest_35 : decode cX1_greatest 35 = .ok (.iload_n 1, 1) := by decide +kernel
theorem dX1_greatest_36 : decode cX1_greatest 36 = .ok (.if_icmp .le 10, 3) := by decide +kernel
theorem dX1_greatest_39 : decode cX1_greatest 39 = .ok (.aload_n 0, 1) := by decide +kernel
theorem dX1_greatest_40 : decode cX1_greatest 40 = .ok (.getfield 22, 3) := by decide +kernel
theorem dX1_greatest_43 : decode cX1_greatest 43 = .ok (.iload_n 2, 1) := by decide +kernel
theorem dX1_greatest_44 : decode cX1_greatest 44 = .ok (.iaload, 1) := by decide +kernel
theorem dX1_greatest_45 : decode cX1_greatest 45 = .ok (.istore_n 1, 1) := by decide +kernel
theorem dX1_greatest_46 : decode cX1_greatest 46 = .ok (.iinc 2 1, 3) := by decide +kernel
theorem dX1_greatest_49 : decode cX1_greatest 49 = .ok (.goto (-41), 3) := by decide +kernel
theorem dX1_greatest_52 : decode cX1_greatest 52 = .ok (.iload_n 1, 1) := by decide +kernel
theorem dX1_greatest_53 : decode cX1_greatest 53 = .ok (.ireturn, 1) := by decide +kernel
abbrev cX1_store : ByteArray := prog_1_method_16_code
def yX1_store : MethodName := ⟨RX1, "store", "(II)I"⟩
theorem dX1_store_0 : decode cX1_store 0 = .ok (.aload_n 0, 1) := by decide +kernel
theorem dX1_store_1 : decode cX1_store 1 = .ok (.iload_n 1, 1) := by decide +kernel
theorem dX1_store_2 : decode cX1_store 2 = .ok (.invokevirtual 42, 3) := by decide +kernel
theorem dX1_store_5 : decode cX1_store 5 = .ok (.ifCond .ne 7, 3) := by decide +kernel
theorem dX1_store_8 : decode cX1_store 8 = .ok (.sipush (-1000), 3) := by decide +kernel
theorem dX1_store_11 : decode cX1_store 11 = .ok (.ireturn, 1) := by decide +kernel
theorem dX1_store_12 : decode cX1_store 12 = .ok (.iload_n 2, 1) := by decide +kernel
theorem dX1_store_13 : decode cX1_store 13 = .ok (.bipush 7, 2) := by decide +kernel
theorem dX1_store_15 : decode cX1_store 15 = .ok (.ishr, 1) := by decide +kernel
theorem dX1_store_16 : decode cX1_store 16 = .ok (.istore_n 3, 1) := by decide +kernel
theorem dX1_store_17 : decode cX1_store 17 = .ok (.iload_n 2, 1) := by decide +kernel
theorem dX1_store_18 : decode cX1_store 18 = .ok (.bipush 127, 2) := by decide +kernel
theorem dX1_store_20 : decode cX1_store 20 = .ok (.iand, 1) := by decide +kernel
theorem dX1_store_21 : decode cX1_store 21 = .ok (.istore 4, 2) := by decide +kernel
theorem dX1_store_23 : decode cX1_store 23 = .ok (.iload_n 2, 1) := by decide +kernel
theorem dX1_store_24 : decode cX1_store 24 = .ok (.ifCond .lt 16, 3) := by decide +kernel
theorem dX1_store_27 : decode cX1_store 27 = .ok (.iload 4, 2) := by decide +kernel
theorem dX1_store_29 : decode cX1_store 29 = .ok (.bipush 100, 2) := by decide +kernel
theorem dX1_store_31 : decode cX1_store 31 = .ok (.if_icmp .gt 9, 3) := by decide +kernel
theorem dX1_store_34 : decode cX1_store 34 = .ok (.iload_n 3, 1) := by decide +kernel
theorem dX1_store_35 : decode cX1_store 35 = .ok (.bipush 30, 2) := by decide +kernel
theorem dX1_store_37 : decode cX1_store 37 = .ok (.if_icmp .le 7, 3) := by decide +kernel
theorem dX1_store_40 : decode cX1_store 40 = .ok (.sipush (-2000), 3) := by decide +kernel
theorem dX1_store_43 : decode cX1_store 43 = .ok (.ireturn, 1) := by decide +kernel
theorem dX1_store_44 : decode cX1_store 44 = .ok (.iload_n 1, 1) := by decide +kernel
theorem dX1_store_45 : decode cX1_store 45 = .ok (.istore 5, 2) := by decide +kernel
theorem dX1_store_47 : decode cX1_store 47 = .ok (.iload 4, 2) := by decide +kernel
theorem dX1_store_49 : decode cX1_store 49 = .ok (.istore 6, 2) := by decide +kernel
theorem dX1_store_51 : decode cX1_store 51 = .ok (.iconst 0, 1) := by decide +kernel
theorem dX1_store_52 : decode cX1_store 52 = .ok (.istore 7, 2) := by decide +kernel
theorem dX1_store_54 : decode cX1_store 54 = .ok (.iload 7, 2) := by decide +kernel
theorem dX1_store_56 : decode cX1_store 56 = .ok (.iload_n 3, 1) := by decide +kernel
theorem dX1_store_57 : decode cX1_store 57 = .ok (.if_icmp .ge 46, 3) := by decide +kernel
theorem dX1_store_60 : decode cX1_store 60 = .ok (.aload_n 0, 1) := by decide +kernel
theorem dX1_store_61 : decode cX1_store 61 = .ok (.iload 5, 2) := by decide +kernel
theorem dX1_store_63 : decode cX1_store 63 = .ok (.invokevirtual 72, 3) := by decide +kernel
theorem dX1_store_66 : decode cX1_store 66 = .ok (.istore 8, 2) := by decide +kernel
theorem dX1_store_68 : decode cX1_store 68 = .ok (.iload 8, 2) := by decide +kernel
theorem dX1_store_70 : decode cX1_store 70 = .ok (.ifCond .ge 6, 3) := by decide +kernel
theorem dX1_store_73 : decode cX1_store 73 = .ok (.goto 30, 3) := by decide +kernel
theorem dX1_store_76 : decode cX1_store 76 = .ok (.iload 6, 2) := by decide +kernel
theorem dX1_store_78 : decode cX1_store 78 = .ok (.aload_n 0, 1) := by decide +kernel
theorem dX1_store_79 : decode cX1_store 79 = .ok (.getfield 16, 3) := by decide +kernel
theorem dX1_store_82 : decode cX1_store 82 = .ok (.iload 8, 2) := by decide +kernel
theorem dX1_store_84 : decode cX1_store 84 = .ok (.iaload, 1) := by decide +kernel
theorem dX1_store_85 : decode cX1_store 85 = .ok (.iadd, 1) := by decide +kernel
theorem dX1_store_86 : decode cX1_store 86 = .ok (.istore 6, 2) := by decide +kernel
theorem dX1_store_88 : decode cX1_store 88 = .ok (.aload_n 0, 1) := by decide +kernel
theorem dX1_store_89 : decode cX1_store 89 = .ok (.getfield 13, 3) := by decide +kernel
theorem dX1_store_92 : decode cX1_store 92 = .ok (.iload 8, 2) := by decide +kernel
theorem dX1_store_94 : decode cX1_store 94 = .ok (.iaload, 1) := by decide +kernel
theorem dX1_store_95 : decode cX1_store 95 = .ok (.istore 5, 2) := by decide +kernel
theorem dX1_store_97 : decode cX1_store 97 = .ok (.iinc 7 1, 3) := by decide +kernel
theorem dX1_store_100 : decode cX1_store 100 = .ok (.goto (-46), 3) := by decide +kernel
theorem dX1_store_103 : decode cX1_store 103 = .ok (.iload 6, 2) := by decide +kernel
theorem dX1_store_105 : decode cX1_store 105 = .ok (.ireturn, 1) := by decide +kernel
theorem q19 : (Jvm.Cond.initialized "EnergyGame") ∈ lw_all := lw_g (lw_at lw_m1 1 rfl) rfl
theorem q22 : (Jvm.Cond.instantiable "EnergyGame" (12 : Nat)) ∈ lw_all := lw_g (lw_at lw_m1 4 rfl) rfl
theorem q24 : (Jvm.Cond.instanceMethod ({ cls := "EnergyGame", name := "<init>", desc := "(I)V" } : Jvm.MethodName)) ∈ lw_all := lw_g (lw_at lw_m1 6 rfl) rfl
theorem q25 : (Jvm.Cond.code ({ cls := "EnergyGame", name := "<init>", desc := "(I)V" } : Jvm.MethodName) prog_1_method_1_code (2 : Nat) (Option.none : Option Jvm.ClassFile.FieldType)) ∈ lw_all := lw_g (lw_at lw_m1 7 rfl) rfl
theorem q26 : (Jvm.Cond.methodLink "EnergyGame" (1 : Nat) ({ cls := "java/lang/Object", name := "<init>", desc := "()V" } : Jvm.MethodName)) ∈ lw_all := lw_g (lw_at lw_m1 8 rfl) rfl
theorem q29 : (Jvm.Cond.fieldLink "EnergyGame" (7 : Nat) "EnergyGame" "tails" "[I") ∈ lw_all := lw_g (lw_at lw_m1 11 rfl) rfl
theorem q30 : (Jvm.Cond.fieldLink "EnergyGame" (13 : Nat) "EnergyGame" "heads" "[I") ∈ lw_all := lw_g (lw_at lw_m1 12 rfl) rfl
theorem q31 : (Jvm.Cond.fieldLink "EnergyGame" (16 : Nat) "EnergyGame" "gains" "[I") ∈ lw_all := lw_g (lw_at lw_m1 13 rfl) rfl
theorem q32 : (Jvm.Cond.fieldLink "EnergyGame" (19 : Nat) "EnergyGame" "owner" "[I") ∈ lw_all := lw_g (lw_at lw_m1 14 rfl) rfl
theorem q33 : (Jvm.Cond.fieldLink "EnergyGame" (22 : Nat) "EnergyGame" "needs" "[I") ∈ lw_all := lw_g (lw_at lw_m1 15 rfl) rfl
theorem q34 : (Jvm.Cond.fieldLink "EnergyGame" (25 : Nat) "EnergyGame" "waits" "[Z") ∈ lw_all := lw_g (lw_at lw_m1 16 rfl) rfl
theorem q35 : (Jvm.Cond.fieldLink "EnergyGame" (29 : Nat) "EnergyGame" "queue" "[I") ∈ lw_all := lw_g (lw_at lw_m1 17 rfl) rfl
theorem q36 : (Jvm.Cond.fieldLink "EnergyGame" (32 : Nat) "EnergyGame" "n" "I") ∈ lw_all := lw_g (lw_at lw_m1 18 rfl) rfl
theorem q37 : (Jvm.Cond.fieldLink "EnergyGame" (50 : Nat) "EnergyGame" "count" "I") ∈ lw_all := lw_g (lw_at lw_m1 19 rfl) rfl
theorem q38 : (Jvm.Cond.fieldLink "EnergyGame" (36 : Nat) "EnergyGame" "top" "I") ∈ lw_all := lw_g (lw_at lw_m1 20 rfl) rfl
theorem q39 : (Jvm.Cond.fieldLink "EnergyGame" (39 : Nat) "EnergyGame" "skipped" "I") ∈ lw_all := lw_g (lw_at lw_m1 21 rfl) rfl
theorem q40 : (Jvm.Cond.fieldLink "EnergyGame" (46 : Nat) "EnergyGame" "current" "Z") ∈ lw_all := lw_g (lw_at lw_m1 22 rfl) rfl
theorem q41 : (Jvm.Cond.laysFinal "EnergyGame" "EnergyGame" "tails" "[I") ∈ lw_all := lw_g (lw_at lw_m1 23 rfl) rfl
theorem q42 : (Jvm.Cond.soleField "EnergyGame" "tails") ∈ lw_all := lw_g (lw_at lw_m1 24 rfl) rfl
theorem q43 : (Jvm.Cond.laysFinal "EnergyGame" "EnergyGame" "heads" "[I") ∈ lw_all := lw_g (lw_at lw_m1 25 rfl) rfl
theorem q44 : (Jvm.Cond.soleField "EnergyGame" "heads") ∈ lw_all := lw_g (lw_at lw_m1 26 rfl) rfl
theorem q45 : (Jvm.Cond.laysFinal "EnergyGame" "EnergyGame" "gains" "[I") ∈ lw_all := lw_g (lw_at lw_m1 27 rfl) rfl
theorem q46 : (Jvm.Cond.soleField "EnergyGame" "gains") ∈ lw_all := lw_g (lw_at lw_m1 28 rfl) rfl
theorem q47 : (Jvm.Cond.laysFinal "EnergyGame" "EnergyGame" "owner" "[I") ∈ lw_all := lw_g (lw_at lw_m1 29 rfl) rfl
theorem q48 : (Jvm.Cond.soleField "EnergyGame" "owner") ∈ lw_all := lw_g (lw_at lw_m1 30 rfl) rfl
theorem q49 : (Jvm.Cond.laysFinal "EnergyGame" "EnergyGame" "needs" "[I") ∈ lw_all := lw_g (lw_at lw_m1 31 rfl) rfl
theorem q50 : (Jvm.Cond.soleField "EnergyGame" "needs") ∈ lw_all := lw_g (lw_at lw_m1 32 rfl) rfl
theorem q51 : (Jvm.Cond.laysFinal "EnergyGame" "EnergyGame" "waits" "[Z") ∈ lw_all := lw_g (lw_at lw_m1 33 rfl) rfl
theorem q52 : (Jvm.Cond.soleField "EnergyGame" "waits") ∈ lw_all := lw_g (lw_at lw_m1 34 rfl) rfl
theorem q53 : (Jvm.Cond.laysFinal "EnergyGame" "EnergyGame" "queue" "[I") ∈ lw_all := lw_g (lw_at lw_m1 35 rfl) rfl
theorem q54 : (Jvm.Cond.soleField "EnergyGame" "queue") ∈ lw_all := lw_g (lw_at lw_m1 36 rfl) rfl
theorem q55 : (Jvm.Cond.lays "EnergyGame" "EnergyGame" "n" "I") ∈ lw_all := lw_g (lw_at lw_m1 37 rfl) rfl
theorem q56 : (Jvm.Cond.soleField "EnergyGame" "n") ∈ lw_all := lw_g (lw_at lw_m1 38 rfl) rfl
theorem q57 : (Jvm.Cond.lays "EnergyGame" "EnergyGame" "count" "I") ∈ lw_all := lw_g (lw_at lw_m1 39 rfl) rfl
theorem q58 : (Jvm.Cond.soleField "EnergyGame" "count") ∈ lw_all := lw_g (lw_at lw_m1 40 rfl) rfl
theorem q59 : (Jvm.Cond.lays "EnergyGame" "EnergyGame" "top" "I") ∈ lw_all := lw_g (lw_at lw_m1 41 rfl) rfl
theorem q60 : (Jvm.Cond.soleField "EnergyGame" "top") ∈ lw_all := lw_g (lw_at lw_m1 42 rfl) rfl
theorem q61 : (Jvm.Cond.lays "EnergyGame" "EnergyGame" "skipped" "I") ∈ lw_all := lw_g (lw_at lw_m1 43 rfl) rfl
theorem q62 : (Jvm.Cond.soleField "EnergyGame" "skipped") ∈ lw_all := lw_g (lw_at lw_m1 44 rfl) rfl
theorem q63 : (Jvm.Cond.lays "EnergyGame" "EnergyGame" "current" "Z") ∈ lw_all := lw_g (lw_at lw_m1 45 rfl) rfl
theorem q64 : (Jvm.Cond.soleField "EnergyGame" "current") ∈ lw_all := lw_g (lw_at lw_m1 46 rfl) rfl
theorem q65 : (Jvm.Cond.superclass "EnergyGame" "java/lang/Object") ∈ lw_all := lw_g (lw_at lw_m1 47 rfl) rfl
theorem q69 : (Jvm.Cond.instanceMethod ({ cls := "EnergyGame", name := "vertices", desc := "()I" } : Jvm.MethodName)) ∈ lw_all := lw_g (lw_at lw_m1 51 rfl) rfl
theorem q70 : (Jvm.Cond.selects "EnergyGame" ({ cls := "EnergyGame", name := "vertices", desc := "()I" } : Jvm.MethodName) ({ cls := "EnergyGame", name := "vertices", desc := "()I" } : Jvm.MethodName)) ∈ lw_all := lw_g (lw_at lw_m1 52 rfl) rfl
theorem q71 : (Jvm.Cond.code ({ cls := "EnergyGame", name := "vertices", desc := "()I" } : Jvm.MethodName) prog_1_method_2_code (1 : Nat) (Option.some Jvm.ClassFile.FieldType.int)) ∈ lw_all := lw_g (lw_at lw_m1 53 rfl) rfl
theorem q73 : (Jvm.Cond.instanceMethod ({ cls := "EnergyGame", name := "give", desc := "(II)I" } : Jvm.MethodName)) ∈ lw_all := lw_g (lw_at lw_m1 55 rfl) rfl
theorem q74 : (Jvm.Cond.selects "EnergyGame" ({ cls := "EnergyGame", name := "give", desc := "(II)I" } : Jvm.MethodName) ({ cls := "EnergyGame", name := "give", desc := "(II)I" } : Jvm.MethodName)) ∈ lw_all := lw_g (lw_at lw_m1 56 rfl) rfl
theorem q75 : (Jvm.Cond.code ({ cls := "EnergyGame", name := "give", desc := "(II)I" } : Jvm.MethodName) prog_1_method_3_code (4 : Nat) (Option.some Jvm.ClassFile.FieldType.int)) ∈ lw_all := lw_g (lw_at lw_m1 57 rfl) rfl
theorem q76 : (Jvm.Cond.methodLink "EnergyGame" (42 : Nat) ({ cls := "EnergyGame", name := "isVertex", desc := "(I)Z" } : Jvm.MethodName)) ∈ lw_all := lw_g (lw_at lw_m1 58 rfl) rfl
theorem q77 : (Jvm.Cond.privateMethod ({ cls := "EnergyGame", name := "isVertex", desc := "(I)Z" } : Jvm.MethodName)) ∈ lw_tbl := lw_at lw_m1 59 rfl
theorem q78 : (Jvm.Cond.instanceMethod ({ cls := "EnergyGame", name := "isVertex", desc := "(I)Z" } : Jvm.MethodName)) ∈ lw_all := lw_g (lw_at lw_m1 60 rfl) rfl
theorem q79 : (Jvm.Cond.code ({ cls := "EnergyGame", name := "isVertex", desc := "(I)Z" } : Jvm.MethodName) prog_1_method_17_code (2 : Nat) (Option.some Jvm.ClassFile.FieldType.boolean)) ∈ lw_all := lw_g (lw_at lw_m1 61 rfl) rfl
theorem q81 : (Jvm.Cond.instanceMethod ({ cls := "EnergyGame", name := "link", desc := "(III)I" } : Jvm.MethodName)) ∈ lw_all := lw_g (lw_at lw_m1 63 rfl) rfl
theorem q82 : (Jvm.Cond.selects "EnergyGame" ({ cls := "EnergyGame", name := "link", desc := "(III)I" } : Jvm.MethodName) ({ cls := "EnergyGame", name := "link", desc := "(III)I" } : Jvm.MethodName)) ∈ lw_all := lw_g (lw_at lw_m1 64 rfl) rfl
theorem q83 : (Jvm.Cond.code ({ cls := "EnergyGame", name := "link", desc := "(III)I" } : Jvm.MethodName) prog_1_method_4_code (4 : Nat) (Option.some Jvm.ClassFile.FieldType.int)) ∈ lw_all := lw_g (lw_at lw_m1 65 rfl) rfl
theorem q84 : (Jvm.Cond.methodLink "EnergyGame" (53 : Nat) ({ cls := "EnergyGame", name := "degree", desc := "(I)I" } : Jvm.MethodName)) ∈ lw_all := lw_g (lw_at lw_m1 66 rfl) rfl
theorem q85 : (Jvm.Cond.privateMethod ({ cls := "EnergyGame", name := "degree", desc := "(I)I" } : Jvm.MethodName)) ∈ lw_tbl := lw_at lw_m1 67 rfl
theorem q86 : (Jvm.Cond.instanceMethod ({ cls := "EnergyGame", name := "degree", desc := "(I)I" } : Jvm.MethodName)) ∈ lw_all := lw_g (lw_at lw_m1 68 rfl) rfl
theorem q87 : (Jvm.Cond.code ({ cls := "EnergyGame", name := "degree", desc := "(I)I" } : Jvm.MethodName) prog_1_method_19_code (4 : Nat) (Option.some Jvm.ClassFile.FieldType.int)) ∈ lw_all := lw_g (lw_at lw_m1 69 rfl) rfl
theorem q89 : (Jvm.Cond.instanceMethod ({ cls := "EnergyGame", name := "cut", desc := "(I)I" } : Jvm.MethodName)) ∈ lw_all := lw_g (lw_at lw_m1 71 rfl) rfl
theorem q90 : (Jvm.Cond.selects "EnergyGame" ({ cls := "EnergyGame", name := "cut", desc := "(I)I" } : Jvm.MethodName) ({ cls := "EnergyGame", name := "cut", desc := "(I)I" } : Jvm.MethodName)) ∈ lw_all := lw_g (lw_at lw_m1 72 rfl) rfl
theorem q91 : (Jvm.Cond.code ({ cls := "EnergyGame", name := "cut", desc := "(I)I" } : Jvm.MethodName) prog_1_method_5_code (3 : Nat) (Option.some Jvm.ClassFile.FieldType.int)) ∈ lw_all := lw_g (lw_at lw_m1 73 rfl) rfl
theorem q92 : (Jvm.Cond.methodLink "EnergyGame" (57 : Nat) ({ cls := "EnergyGame", name := "isEdge", desc := "(I)Z" } : Jvm.MethodName)) ∈ lw_all := lw_g (lw_at lw_m1 74 rfl) rfl
theorem q93 : (Jvm.Cond.privateMethod ({ cls := "EnergyGame", name := "isEdge", desc := "(I)Z" } : Jvm.MethodName)) ∈ lw_tbl := lw_at lw_m1 75 rfl
theorem q94 : (Jvm.Cond.instanceMethod ({ cls := "EnergyGame", name := "isEdge", desc := "(I)Z" } : Jvm.MethodName)) ∈ lw_all := lw_g (lw_at lw_m1 76 rfl) rfl
theorem q95 : (Jvm.Cond.code ({ cls := "EnergyGame", name := "isEdge", desc := "(I)Z" } : Jvm.MethodName) prog_1_method_18_code (2 : Nat) (Option.some Jvm.ClassFile.FieldType.boolean)) ∈ lw_all := lw_g (lw_at lw_m1 77 rfl) rfl
theorem q97 : (Jvm.Cond.instanceMethod ({ cls := "EnergyGame", name := "set", desc := "(II)I" } : Jvm.MethodName)) ∈ lw_all := lw_g (lw_at lw_m1 79 rfl) rfl
theorem q98 : (Jvm.Cond.selects "EnergyGame" ({ cls := "EnergyGame", name := "set", desc := "(II)I" } : Jvm.MethodName) ({ cls := "EnergyGame", name := "set", desc := "(II)I" } : Jvm.MethodName)) ∈ lw_all := lw_g (lw_at lw_m1 80 rfl) rfl
theorem q99 : (Jvm.Cond.code ({ cls := "EnergyGame", name := "set", desc := "(II)I" } : Jvm.MethodName) prog_1_method_6_code (4 : Nat) (Option.some Jvm.ClassFile.FieldType.int)) ∈ lw_all := lw_g (lw_at lw_m1 81 rfl) rfl
theorem q101 : (Jvm.Cond.instanceMethod ({ cls := "EnergyGame", name := "edges", desc := "()I" } : Jvm.MethodName)) ∈ lw_all := lw_g (lw_at lw_m1 83 rfl) rfl
theorem q102 : (Jvm.Cond.selects "EnergyGame" ({ cls := "EnergyGame", name := "edges", desc := "()I" } : Jvm.MethodName) ({ cls := "EnergyGame", name := "edges", desc := "()I" } : Jvm.MethodName)) ∈ lw_all := lw_g (lw_at lw_m1 84 rfl) rfl
theorem q103 : (Jvm.Cond.code ({ cls := "EnergyGame", name := "edges", desc := "()I" } : Jvm.MethodName) prog_1_method_7_code (1 : Nat) (Option.some Jvm.ClassFile.FieldType.int)) ∈ lw_all := lw_g (lw_at lw_m1 85 rfl) rfl
theorem q105 : (Jvm.Cond.instanceMethod ({ cls := "EnergyGame", name := "need", desc := "(I)I" } : Jvm.MethodName)) ∈ lw_all := lw_g (lw_at lw_m1 87 rfl) rfl
theorem q106 : (Jvm.Cond.selects "EnergyGame" ({ cls := "EnergyGame", name := "need", desc := "(I)I" } : Jvm.MethodName) ({ cls := "EnergyGame", name := "need", desc := "(I)I" } : Jvm.MethodName)) ∈ lw_all := lw_g (lw_at lw_m1 88 rfl) rfl
theorem q107 : (Jvm.Cond.code ({ cls := "EnergyGame", name := "need", desc := "(I)I" } : Jvm.MethodName) prog_1_method_8_code (2 : Nat) (Option.some Jvm.ClassFile.FieldType.int)) ∈ lw_all := lw_g (lw_at lw_m1 89 rfl) rfl
theorem q108 : (Jvm.Cond.methodLink "EnergyGame" (60 : Nat) ({ cls := "EnergyGame", name := "refresh", desc := "()V" } : Jvm.MethodName)) ∈ lw_all := lw_g (lw_at lw_m1 90 rfl) rfl
theorem q109 : (Jvm.Cond.privateMethod ({ cls := "EnergyGame", name := "refresh", desc := "()V" } : Jvm.MethodName)) ∈ lw_tbl := lw_at lw_m1 91 rfl
theorem q110 : (Jvm.Cond.instanceMethod ({ cls := "EnergyGame", name := "refresh", desc := "()V" } : Jvm.MethodName)) ∈ lw_all := lw_g (lw_at lw_m1 92 rfl) rfl
theorem q111 : (Jvm.Cond.code ({ cls := "EnergyGame", name := "refresh", desc := "()V" } : Jvm.MethodName) prog_1_method_23_code (1 : Nat) (Option.none : Option Jvm.ClassFile.FieldType)) ∈ lw_all := lw_g (lw_at lw_m1 93 rfl) rfl
theorem q112 : (Jvm.Cond.methodLink "EnergyGame" (69 : Nat) ({ cls := "EnergyGame", name := "solve", desc := "()V" } : Jvm.MethodName)) ∈ lw_all := lw_g (lw_at lw_m1 94 rfl) rfl
theorem q113 : (Jvm.Cond.privateMethod ({ cls := "EnergyGame", name := "solve", desc := "()V" } : Jvm.MethodName)) ∈ lw_tbl := lw_at lw_m1 95 rfl
theorem q114 : (Jvm.Cond.instanceMethod ({ cls := "EnergyGame", name := "solve", desc := "()V" } : Jvm.MethodName)) ∈ lw_all := lw_g (lw_at lw_m1 96 rfl) rfl
theorem q115 : (Jvm.Cond.code ({ cls := "EnergyGame", name := "solve", desc := "()V" } : Jvm.MethodName) prog_1_method_24_code (7 : Nat) (Option.none : Option Jvm.ClassFile.FieldType)) ∈ lw_all := lw_g (lw_at lw_m1 97 rfl) rfl
theorem q116 : (Jvm.Cond.methodLink "EnergyGame" (78 : Nat) ({ cls := "EnergyGame", name := "wantedAt", desc := "(I)I" } : Jvm.MethodName)) ∈ lw_all := lw_g (lw_at lw_m1 98 rfl) rfl
theorem q117 : (Jvm.Cond.privateMethod ({ cls := "EnergyGame", name := "wantedAt", desc := "(I)I" } : Jvm.MethodName)) ∈ lw_tbl := lw_at lw_m1 99 rfl
theorem q118 : (Jvm.Cond.instanceMethod ({ cls := "EnergyGame", name := "wantedAt", desc := "(I)I" } : Jvm.MethodName)) ∈ lw_all := lw_g (lw_at lw_m1 100 rfl) rfl
theorem q119 : (Jvm.Cond.code ({ cls := "EnergyGame", name := "wantedAt", desc := "(I)I" } : Jvm.MethodName) prog_1_method_25_code (6 : Nat) (Option.some Jvm.ClassFile.FieldType.int)) ∈ lw_all := lw_g (lw_at lw_m1 101 rfl) rfl
theorem q120 : (Jvm.Cond.methodLink "EnergyGame" (75 : Nat) ({ cls := "EnergyGame", name := "asked", desc := "(I)I" } : Jvm.MethodName)) ∈ lw_all := lw_g (lw_at lw_m1 102 rfl) rfl
theorem q121 : (Jvm.Cond.privateMethod ({ cls := "EnergyGame", name := "asked", desc := "(I)I" } : Jvm.MethodName)) ∈ lw_tbl := lw_at lw_m1 103 rfl
theorem q122 : (Jvm.Cond.instanceMethod ({ cls := "EnergyGame", name := "asked", desc := "(I)I" } : Jvm.MethodName)) ∈ lw_all := lw_g (lw_at lw_m1 104 rfl) rfl
theorem q123 : (Jvm.Cond.code ({ cls := "EnergyGame", name := "asked", desc := "(I)I" } : Jvm.MethodName) prog_1_method_22_code (4 : Nat) (Option.some Jvm.ClassFile.FieldType.int)) ∈ lw_all := lw_g (lw_at lw_m1 105 rfl) rfl
theorem q124 : (Jvm.Cond.methodLink "EnergyGame" (63 : Nat) ({ cls := "EnergyGame", name := "shown", desc := "(I)I" } : Jvm.MethodName)) ∈ lw_all := lw_g (lw_at lw_m1 106 rfl) rfl
theorem q125 : (Jvm.Cond.privateMethod ({ cls := "EnergyGame", name := "shown", desc := "(I)I" } : Jvm.MethodName)) ∈ lw_tbl := lw_at lw_m1 107 rfl
theorem q126 : (Jvm.Cond.instanceMethod ({ cls := "EnergyGame", name := "shown", desc := "(I)I" } : Jvm.MethodName)) ∈ lw_all := lw_g (lw_at lw_m1 108 rfl) rfl
theorem q127 : (Jvm.Cond.code ({ cls := "EnergyGame", name := "shown", desc := "(I)I" } : Jvm.MethodName) prog_1_method_20_code (2 : Nat) (Option.some Jvm.ClassFile.FieldType.int)) ∈ lw_all := lw_g (lw_at lw_m1 109 rfl) rfl
theorem q129 : (Jvm.Cond.instanceMethod ({ cls := "EnergyGame", name := "safe", desc := "(I)I" } : Jvm.MethodName)) ∈ lw_all := lw_g (lw_at lw_m1 111 rfl) rfl
theorem q130 : (Jvm.Cond.selects "EnergyGame" ({ cls := "EnergyGame", name := "safe", desc := "(I)I" } : Jvm.MethodName) ({ cls := "EnergyGame", name := "safe", desc := "(I)I" } : Jvm.MethodName)) ∈ lw_all := lw_g (lw_at lw_m1 112 rfl) rfl
theorem q131 : (Jvm.Cond.code ({ cls := "EnergyGame", name := "safe", desc := "(I)I" } : Jvm.MethodName) prog_1_method_9_code (4 : Nat) (Option.some Jvm.ClassFile.FieldType.int)) ∈ lw_all := lw_g (lw_at lw_m1 113 rfl) rfl
theorem q133 : (Jvm.Cond.instanceMethod ({ cls := "EnergyGame", name := "hopeless", desc := "()I" } : Jvm.MethodName)) ∈ lw_all := lw_g (lw_at lw_m1 115 rfl) rfl
theorem q134 : (Jvm.Cond.selects "EnergyGame" ({ cls := "EnergyGame", name := "hopeless", desc := "()I" } : Jvm.MethodName) ({ cls := "EnergyGame", name := "hopeless", desc := "()I" } : Jvm.MethodName)) ∈ lw_all := lw_g (lw_at lw_m1 116 rfl) rfl
theorem q135 : (Jvm.Cond.code ({ cls := "EnergyGame", name := "hopeless", desc := "()I" } : Jvm.MethodName) prog_1_method_10_code (3 : Nat) (Option.some Jvm.ClassFile.FieldType.int)) ∈ lw_all := lw_g (lw_at lw_m1 117 rfl) rfl
theorem q137 : (Jvm.Cond.instanceMethod ({ cls := "EnergyGame", name := "choice", desc := "(I)I" } : Jvm.MethodName)) ∈ lw_all := lw_g (lw_at lw_m1 119 rfl) rfl
theorem q138 : (Jvm.Cond.selects "EnergyGame" ({ cls := "EnergyGame", name := "choice", desc := "(I)I" } : Jvm.MethodName) ({ cls := "EnergyGame", name := "choice", desc := "(I)I" } : Jvm.MethodName)) ∈ lw_all := lw_g (lw_at lw_m1 120 rfl) rfl
theorem q139 : (Jvm.Cond.code ({ cls := "EnergyGame", name := "choice", desc := "(I)I" } : Jvm.MethodName) prog_1_method_11_code (3 : Nat) (Option.some Jvm.ClassFile.FieldType.int)) ∈ lw_all := lw_g (lw_at lw_m1 121 rfl) rfl
theorem q140 : (Jvm.Cond.methodLink "EnergyGame" (66 : Nat) ({ cls := "EnergyGame", name := "isGood", desc := "(I)Z" } : Jvm.MethodName)) ∈ lw_all := lw_g (lw_at lw_m1 122 rfl) rfl
theorem q141 : (Jvm.Cond.privateMethod ({ cls := "EnergyGame", name := "isGood", desc := "(I)Z" } : Jvm.MethodName)) ∈ lw_tbl := lw_at lw_m1 123 rfl
theorem q142 : (Jvm.Cond.instanceMethod ({ cls := "EnergyGame", name := "isGood", desc := "(I)Z" } : Jvm.MethodName)) ∈ lw_all := lw_g (lw_at lw_m1 124 rfl) rfl
theorem q143 : (Jvm.Cond.code ({ cls := "EnergyGame", name := "isGood", desc := "(I)Z" } : Jvm.MethodName) prog_1_method_21_code (4 : Nat) (Option.some Jvm.ClassFile.FieldType.boolean)) ∈ lw_all := lw_g (lw_at lw_m1 125 rfl) rfl
theorem q145 : (Jvm.Cond.instanceMethod ({ cls := "EnergyGame", name := "choices", desc := "(I)I" } : Jvm.MethodName)) ∈ lw_all := lw_g (lw_at lw_m1 127 rfl) rfl
theorem q146 : (Jvm.Cond.selects "EnergyGame" ({ cls := "EnergyGame", name := "choices", desc := "(I)I" } : Jvm.MethodName) ({ cls := "EnergyGame", name := "choices", desc := "(I)I" } : Jvm.MethodName)) ∈ lw_all := lw_g (lw_at lw_m1 128 rfl) rfl
theorem q147 : (Jvm.Cond.code ({ cls := "EnergyGame", name := "choices", desc := "(I)I" } : Jvm.MethodName) prog_1_method_12_code (4 : Nat) (Option.some Jvm.ClassFile.FieldType.int)) ∈ lw_all := lw_g (lw_at lw_m1 129 rfl) rfl
theorem q149 : (Jvm.Cond.instanceMethod ({ cls := "EnergyGame", name := "needWithout", desc := "(II)I" } : Jvm.MethodName)) ∈ lw_all := lw_g (lw_at lw_m1 131 rfl) rfl
theorem q150 : (Jvm.Cond.selects "EnergyGame" ({ cls := "EnergyGame", name := "needWithout", desc := "(II)I" } : Jvm.MethodName) ({ cls := "EnergyGame", name := "needWithout", desc := "(II)I" } : Jvm.MethodName)) ∈ lw_all := lw_g (lw_at lw_m1 132 rfl) rfl
theorem q151 : (Jvm.Cond.code ({ cls := "EnergyGame", name := "needWithout", desc := "(II)I" } : Jvm.MethodName) prog_1_method_13_code (3 : Nat) (Option.some Jvm.ClassFile.FieldType.int)) ∈ lw_all := lw_g (lw_at lw_m1 133 rfl) rfl
theorem q153 : (Jvm.Cond.instanceMethod ({ cls := "EnergyGame", name := "needOf", desc := "(II)I" } : Jvm.MethodName)) ∈ lw_all := lw_g (lw_at lw_m1 135 rfl) rfl
theorem q154 : (Jvm.Cond.selects "EnergyGame" ({ cls := "EnergyGame", name := "needOf", desc := "(II)I" } : Jvm.MethodName) ({ cls := "EnergyGame", name := "needOf", desc := "(II)I" } : Jvm.MethodName)) ∈ lw_all := lw_g (lw_at lw_m1 136 rfl) rfl
theorem q155 : (Jvm.Cond.code ({ cls := "EnergyGame", name := "needOf", desc := "(II)I" } : Jvm.MethodName) prog_1_method_14_code (4 : Nat) (Option.some Jvm.ClassFile.FieldType.int)) ∈ lw_all := lw_g (lw_at lw_m1 137 rfl) rfl
theorem q157 : (Jvm.Cond.instanceMethod ({ cls := "EnergyGame", name := "greatest", desc := "()I" } : Jvm.MethodName)) ∈ lw_all := lw_g (lw_at lw_m1 139 rfl) rfl
theorem q158 : (Jvm.Cond.selects "EnergyGame" ({ cls := "EnergyGame", name := "greatest", desc := "()I" } : Jvm.MethodName) ({ cls := "EnergyGame", name := "greatest", desc := "()I" } : Jvm.MethodName)) ∈ lw_all := lw_g (lw_at lw_m1 140 rfl) rfl
theorem q159 : (Jvm.Cond.code ({ cls := "EnergyGame", name := "greatest", desc := "()I" } : Jvm.MethodName) prog_1_method_15_code (3 : Nat) (Option.some Jvm.ClassFile.FieldType.int)) ∈ lw_all := lw_g (lw_at lw_m1 141 rfl) rfl
theorem q161 : (Jvm.Cond.instanceMethod ({ cls := "EnergyGame", name := "store", desc := "(II)I" } : Jvm.MethodName)) ∈ lw_all := lw_g (lw_at lw_m1 143 rfl) rfl
theorem q162 : (Jvm.Cond.selects "EnergyGame" ({ cls := "EnergyGame", name := "store", desc := "(II)I" } : Jvm.MethodName) ({ cls := "EnergyGame", name := "store", desc := "(II)I" } : Jvm.MethodName)) ∈ lw_all := lw_g (lw_at lw_m1 144 rfl) rfl
theorem q163 : (Jvm.Cond.code ({ cls := "EnergyGame", name := "store", desc := "(II)I" } : Jvm.MethodName) prog_1_method_16_code (9 : Nat) (Option.some Jvm.ClassFile.FieldType.int)) ∈ lw_all := lw_g (lw_at lw_m1 145 rfl) rfl
theorem q164 : (Jvm.Cond.methodLink "EnergyGame" (72 : Nat) ({ cls := "EnergyGame", name := "choice", desc := "(I)I" } : Jvm.MethodName)) ∈ lw_all := lw_g (lw_at lw_m1 146 rfl) rfl
theorem in_X1 : ∀ w ∈ wsX10, w ∈ lw_all := lw_in wsX10 [41, 43, 45, 47, 49, 51, 53, 55, 57, 59, 61, 63] (by decide +kernel) (by decide +kernel)
end
section
/-! EnergyGameModel -/
set_option maxRecDepth 100000
def RX2 : String := "EnergyGameModel"
def TX2 : u_T := fun k => match k with
  | 0 => ("EnergyGameModel", "n", "I", false)
  | 1 => ("EnergyGameModel", "count", "I", false)
  | 2 => ("EnergyGameModel", "owners", "[I", false)
  | 3 => ("EnergyGameModel", "from", "[I", false)
  | 4 => ("EnergyGameModel", "to", "[I", false)
  | 5 => ("EnergyGameModel", "gain", "[I", false)
  | 6 => ("EnergyGameModel", "now", "[I", false)
  | _ => ("EnergyGameModel", "later", "[I", false)
def tyX2 : Nat → FieldType := fun k => match k with
  | 0 => .int
  | 1 => .int
  | 2 => .array .int
  | 3 => .array .int
  | 4 => .array .int
  | 5 => .array .int
  | 6 => .array .int
  | _ => .array .int
abbrev wsX20 : List Cond := u_ws RX2 TX2 8
theorem nmX2 : ∀ a, a < 8 → ∀ b, b < 8 → a ≠ b → (TX2 a).2.1 ≠ (TX2 b).2.1 := by decide +kernel
theorem tyX2_ok : ∀ k, k < 8 → parseFieldDescriptor (TX2 k).2.2.1 = some (tyX2 k) := by decide +kernel
abbrev cX2_init : ByteArray := prog_3_method_1_code
def yX2_init : MethodName := ⟨RX2, "<init>", "(I)V"⟩
theorem dX2_init_0 : decode cX2_init 0 = .ok (.aload_n 0, 1) := by decide +kernel
theorem dX2_init_1 : decode cX2_init 1 = .ok (.invokespecial 1, 3) := by decide +kernel
theorem dX2_init_4 : decode cX2_init 4 = .ok (.aload_n 0, 1) := by decide +kernel
theorem dX2_init_5 : decode cX2_init 5 = .ok (.bipush 8, 2) := by decide +kernel
theorem dX2_init_7 : decode cX2_init 7 = .ok (.newarray .int, 2) := by decide +kernel
theorem dX2_init_9 : decode cX2_init 9 = .ok (.putfield 7, 3) := by decide +kernel
theorem dX2_init_12 : decode cX2_init 12 = .ok (.aload_n 0, 1) := by decide +kernel
theorem dX2_init_13 : decode cX2_init 13 = .ok (.bipush 14, 2) := by decide +kernel
theorem dX2_init_15 : decode cX2_init 15 = .ok (.newarray .int, 2) := by decide +kernel
theorem dX2_init_17 : decode cX2_init 17 = .ok (.putfield 13, 3) := by decide +kernel
theorem dX2_init_20 : decode cX2_init 20 = .ok (.aload_n 0, 1) := by decide +kernel
theorem dX2_init_21 : decode cX2_init 21 = .ok (.bipush 14, 2) := by decide +kernel
theorem dX2_init_23 : decode cX2_init 23 = .ok (.newarray .int, 2) := by decide +kernel
theorem dX2_init_25 : decode cX2_init 25 = .ok (.putfield 16, 3) := by decide +kernel
theorem dX2_init_28 : decode cX2_init 28 = .ok (.aload_n 0, 1) := by decide +kernel
theorem dX2_init_29 : decode cX2_init 29 = .ok (.bipush 14, 2) := by decide +kernel
theorem dX2_init_31 : decode cX2_init 31 = .ok (.newarray .int, 2) := by decide +kernel
theorem dX2_init_33 : decode cX2_init 33 = .ok (.putfield 19, 3) := by decide +kernel
theorem dX2_init_36 : decode cX2_init 36 = .ok (.aload_n 0, 1) := by decide +kernel
theorem dX2_init_37 : decode cX2_init 37 = .ok (.bipush 8, 2) := by decide +kernel
theorem dX2_init_39 : decode cX2_init 39 = .ok (.newarray .int, 2) := by decide +kernel
theorem dX2_init_41 : decode cX2_init 41 = .ok (.putfield 22, 3) := by decide +kernel
theorem dX2_init_44 : decode cX2_init 44 = .ok (.aload_n 0, 1) := by decide +kernel
theorem dX2_init_45 : decode cX2_init 45 = .ok (.bipush 8, 2) := by decide +kernel
theorem dX2_init_47 : decode cX2_init 47 = .ok (.newarray .int, 2) := by decide +kernel
theorem dX2_init_49 : decode cX2_init 49 = .ok (.putfield 25, 3) := by decide +kernel
theorem dX2_init_52 : decode cX2_init 52 = .ok (.aload_n 0, 1) := by decide +kernel
theorem dX2_init_53 : decode cX2_init 53 = .ok (.iload_n 1, 1) := by decide +kernel
theorem dX2_init_54 : decode cX2_init 54 = .ok (.iconst 2, 1) := by decide +kernel
theorem dX2_init_55 : decode cX2_init 55 = .ok (.if_icmp .ge 7, 3) := by decide +kernel
theorem dX2_init_58 : decode cX2_init 58 = .ok (.iconst 2, 1) := by decide +kernel
theorem dX2_init_59 : decode cX2_init 59 = .ok (.goto 15, 3) := by decide +kernel
theorem dX2_init_62 : decode cX2_init 62 = .ok (.iload_n 1, 1) := by decide +kernel
theorem dX2_init_63 : decode cX2_init 63 = .ok (.bipush 6, 2) := by decide +kernel
theorem dX2_init_65 : decode cX2_init 65 = .ok (.if_icmp .le 8, 3) := by decide +kernel
theorem dX2_init_68 : decode cX2_init 68 = .ok (.bipush 6, 2) := by decide +kernel
theorem dX2_init_70 : decode cX2_init 70 = .ok (.goto 4, 3) := by decide +kernel
theorem dX2_init_73 : decode cX2_init 73 = .ok (.iload_n 1, 1) := by decide +kernel
theorem dX2_init_74 : decode cX2_init 74 = .ok (.putfield 28, 3) := by decide +kernel
theorem dX2_init_77 : decode cX2_init 77 = .ok (.return_, 1) := by decide +kernel
abbrev cX2_vertices : ByteArray := prog_3_method_2_code
def yX2_vertices : MethodName := ⟨RX2, "vertices", "()I"⟩
theorem dX2_vertices_0 : decode cX2_vertices 0 = .ok (.aload_n 0, 1) := by decide +kernel
theorem dX2_vertices_1 : decode cX2_vertices 1 = .ok (.getfield 28, 3) := by decide +kernel
theorem dX2_vertices_4 : decode cX2_vertices 4 = .ok (.ireturn, 1) := by decide +kernel
abbrev cX2_give : ByteArray := prog_3_method_6_code
def yX2_give : MethodName := ⟨RX2, "give", "(II)I"⟩
theorem dX2_give_0 : decode cX2_give 0 = .ok (.aload_n 0, 1) := by decide +kernel
theorem dX2_give_1 : decode cX2_give 1 = .ok (.iload_n 1, 1) := by decide +kernel
theorem dX2_give_2 : decode cX2_give 2 = .ok (.invokevirtual 35, 3) := by decide +kernel
theorem dX2_give_5 : decode cX2_give 5 = .ok (.ifCond .eq 5, 3) := by decide +kernel
theorem dX2_give_8 : decode cX2_give 8 = .ok (.iconst (-1), 1) := by decide +kernel
theorem dX2_give_9 : decode cX2_give 9 = .ok (.ireturn, 1) := by decide +kernel
theorem dX2_give_10 : decode cX2_give 10 = .ok (.iload_n 2, 1) := by decide +kernel
theorem dX2_give_11 : decode cX2_give 11 = .ok (.ifCond .lt 8, 3) := by decide +kernel
theorem dX2_give_14 : decode cX2_give 14 = .ok (.iload_n 2, 1) := by decide +kernel
theorem dX2_give_15 : decode cX2_give 15 = .ok (.iconst 1, 1) := by decide +kernel
theorem dX2_give_16 : decode cX2_give 16 = .ok (.if_icmp .le 6, 3) := by decide +kernel
theorem dX2_give_19 : decode cX2_give 19 = .ok (.bipush (-2), 2) := by decide +kernel
theorem dX2_give_21 : decode cX2_give 21 = .ok (.ireturn, 1) := by decide +kernel
theorem dX2_give_22 : decode cX2_give 22 = .ok (.aload_n 0, 1) := by decide +kernel
theorem dX2_give_23 : decode cX2_give 23 = .ok (.getfield 7, 3) := by decide +kernel
theorem dX2_give_26 : decode cX2_give 26 = .ok (.iload_n 1, 1) := by decide +kernel
theorem dX2_give_27 : decode cX2_give 27 = .ok (.iaload, 1) := by decide +kernel
theorem dX2_give_28 : decode cX2_give 28 = .ok (.istore_n 3, 1) := by decide +kernel
theorem dX2_give_29 : decode cX2_give 29 = .ok (.aload_n 0, 1) := by decide +kernel
theorem dX2_give_30 : decode cX2_give 30 = .ok (.getfield 7, 3) := by decide +kernel
theorem dX2_give_33 : decode cX2_give 33 = .ok (.iload_n 1, 1) := by decide +kernel
theorem dX2_give_34 : decode cX2_give 34 = .ok (.iload_n 2, 1) := by decide +kernel
theorem dX2_give_35 : decode cX2_give 35 = .ok (.iastore, 1) := by decide +kernel
theorem dX2_give_36 : decode cX2_give 36 = .ok (.iload_n 3, 1) := by decide +kernel
theorem dX2_give_37 : decode cX2_give 37 = .ok (.ireturn, 1) := by decide +kernel
abbrev cX2_bad : ByteArray := prog_3_method_3_code
def yX2_bad : MethodName := ⟨RX2, "bad", "(I)Z"⟩
theorem dX2_bad_0 : decode cX2_bad 0 = .ok (.iload_n 1, 1) := by decide +kernel
theorem dX2_bad_1 : decode cX2_bad 1 = .ok (.ifCond .lt 16, 3) := by decide +kernel
theorem dX2_bad_4 : decode cX2_bad 4 = .ok (.iload_n 1, 1) := by decide +kernel
theorem dX2_bad_5 : decode cX2_bad 5 = .ok (.aload_n 0, 1) := by decide +kernel
theorem dX2_bad_6 : decode cX2_bad 6 = .ok (.getfield 28, 3) := by decide +kernel
theorem dX2_bad_9 : decode cX2_bad 9 = .ok (.if_icmp .ge 8, 3) := by decide +kernel
theorem dX2_bad_12 : decode cX2_bad 12 = .ok (.iload_n 1, 1) := by decide +kernel
theorem dX2_bad_13 : decode cX2_bad 13 = .ok (.iconst 5, 1) := by decide +kernel
theorem dX2_bad_14 : decode cX2_bad 14 = .ok (.if_icmp .le 7, 3) := by decide +kernel
theorem dX2_bad_17 : decode cX2_bad 17 = .ok (.iconst 1, 1) := by decide +kernel
theorem dX2_bad_18 : decode cX2_bad 18 = .ok (.goto 4, 3) := by decide +kernel
theorem dX2_bad_21 : decode cX2_bad 21 = .ok (.iconst 0, 1) := by decide +kernel
theorem dX2_bad_22 : decode cX2_bad 22 = .ok (.ireturn, 1) := by decide +kernel
abbrev cX2_link : ByteArray := prog_3_method_7_code
def yX2_link : MethodName := ⟨RX2, "link", "(III)I"⟩
theorem dX2_link_0 : decode cX2_link 0 = .ok (.aload_n 0, 1) := by decide +kernel
theorem dX2_link_1 : decode cX2_link 1 = .ok (.iload_n 1, 1) := by decide +kernel
theorem dX2_link_2 : decode cX2_link 2 = .ok (.invokevirtual 35, 3) := by decide +kernel
theorem dX2_link_5 : decode cX2_link 5 = .ok (.ifCond .ne 11, 3) := by decide +kernel
theorem dX2_link_8 : decode cX2_link 8 = .ok (.aload_n 0, 1) := by decide +kernel
theorem dX2_link_9 : decode cX2_link 9 = .ok (.iload_n 2, 1) := by decide +kernel
theorem dX2_link_10 : decode cX2_link 10 = .ok (.invokevirtual 35, 3) := by decide +kernel
theorem dX2_link_13 : decode cX2_link 13 = .ok (.ifCond .eq 5, 3) := by decide +kernel
theorem dX2_link_16 : decode cX2_link 16 = .ok (.iconst (-1), 1) := by decide +kernel
theorem dX2_link_17 : decode cX2_link 17 = .ok (.ireturn, 1) := by decide +kernel
theorem dX2_link_18 : decode cX2_link 18 = .ok (.aload_n 0, 1) := by decide +kernel
theorem dX2_link_19 : decode cX2_link 19 = .ok (.iload_n 3, 1) := by decide +kernel
theorem dX2_link_20 : decode cX2_link 20 = .ok (.invokevirtual 39, 3) := by decide +kernel
theorem dX2_link_23 : decode cX2_link 23 = .ok (.ifCond .eq 6, 3) := by decide +kernel
theorem dX2_link_26 : decode cX2_link 26 = .ok (.bipush (-2), 2) := by decide +kernel
theorem dX2_link_28 : decode cX2_link 28 = .ok (.ireturn, 1) := by decide +kernel
theorem dX2_link_29 : decode cX2_link 29 = .ok (.aload_n 0, 1) := by decide +kernel
theorem dX2_link_30 : decode cX2_link 30 = .ok (.getfield 32, 3) := by decide +kernel
theorem dX2_link_33 : decode cX2_link 33 = .ok (.istore 4, 2) := by decide +kernel
theorem dX2_link_35 : decode cX2_link 35 = .ok (.iload 4, 2) := by decide +kernel
theorem dX2_link_37 : decode cX2_link 37 = .ok (.bipush 14, 2) := by decide +kernel
theorem dX2_link_39 : decode cX2_link 39 = .ok (.if_icmp .lt 6, 3) := by decide +kernel
theorem dX2_link_42 : decode cX2_link 42 = .ok (.bipush (-3), 2) := by decide +kernel
theorem dX2_link_44 : decode cX2_link 44 = .ok (.ireturn, 1) := by decide +kernel
theorem dX2_link_45 : decode cX2_link 45 = .ok (.iconst 0, 1) := by decide +kernel
theorem dX2_link_46 : decode cX2_link 46 = .ok (.istore 5, 2) := by decide +kernel
theorem dX2_link_48 : decode cX2_link 48 = .ok (.iconst 0, 1) := by decide +kernel
theorem dX2_link_49 : decode cX2_link 49 = .ok (.istore 6, 2) := by decide +kernel
theorem dX2_link_51 : decode cX2_link 51 = .ok (.iload 6, 2) := by decide +kernel
theorem dX2_link_53 : decode cX2_link 53 = .ok (.iload 4, 2) := by decide +kernel
theorem dX2_link_55 : decode cX2_link 55 = .ok (.if_icmp .ge 23, 3) := by decide +kernel
theorem dX2_link_58 : decode cX2_link 58 = .ok (.aload_n 0, 1) := by decide +kernel
theorem dX2_link_59 : decode cX2_link 59 = .ok (.getfield 13, 3) := by decide +kernel
theorem dX2_link_62 : decode cX2_link 62 = .ok (.iload 6, 2) := by decide +kernel
theorem dX2_link_64 : decode cX2_link 64 = .ok (.iaload, 1) := by decide +kernel
theorem dX2_link_65 : decode cX2_link 65 = .ok (.iload_n 1, 1) := by decide +kernel
theorem dX2_link_66 : decode cX2_link 66 = .ok (.if_icmp .ne 6, 3) := by decide +kernel
theorem dX2_link_69 : decode cX2_link 69 = .ok (.iinc 5 1, 3) := by decide +kernel
theorem dX2_link_72 : decode cX2_link 72 = .ok (.iinc 6 1, 3) := by decide +kernel
theorem dX2_link_75 : decode cX2_link 75 = .ok (.goto (-24), 3) := by decide +kernel
theorem dX2_link_78 : decode cX2_link 78 = .ok (.iload 5, 2) := by decide +kernel
theorem dX2_link_80 : decode cX2_link 80 = .ok (.iconst 3, 1) := by decide +kernel
theorem dX2_link_81 : decode cX2_link 81 = .ok (.if_icmp .lt 6, 3) := by decide +kernel
theorem dX2_link_84 : decode cX2_link 84 = .ok (.bipush (-4), 2) := by decide +kernel
theorem dX2_link_86 : decode cX2_link 86 = .ok (.ireturn, 1) := by decide +kernel
theorem dX2_link_87 : decode cX2_link 87 = .ok (.aload_n 0, 1) := by decide +kernel
theorem dX2_link_88 : decode cX2_link 88 = .ok (.getfield 13, 3) := by decide +kernel
theorem dX2_link_91 : decode cX2_link 91 = .ok (.iload 4, 2) := by decide +kernel
theorem dX2_link_93 : decode cX2_link 93 = .ok (.iload_n 1, 1) := by decide +kernel
theorem dX2_link_94 : decode cX2_link 94 = .ok (.iastore, 1) := by decide +kernel
theorem dX2_link_95 : decode cX2_link 95 = .ok (.aload_n 0, 1) := by decide +kernel
theorem dX2_link_96 : decode cX2_link 96 = .ok (.getfield 16, 3) := by decide +kernel
theorem dX2_link_99 : decode cX2_link 99 = .ok (.iload 4, 2) := by decide +kernel
theorem dX2_link_101 : decode cX2_link 101 = .ok (.iload_n 2, 1) := by decide +kernel
theorem dX2_link_102 : decode cX2_link 102 = .ok (.iastore, 1) := by decide +kernel
theorem dX2_link_103 : decode cX2_link 103 = .ok (.aload_n 0, 1) := by decide +kernel
theorem dX2_link_104 : decode cX2_link 104 = .ok (.getfield 19, 3) := by decide +kernel
theorem dX2_link_107 : decode cX2_link 107 = .ok (.iload 4, 2) := by decide +kernel
theorem dX2_link_109 : decode cX2_link 109 = .ok (.iload_n 3, 1) := by decide +kernel
theorem dX2_link_110 : decode cX2_link 110 = .ok (.iastore, 1) := by decide +kernel
theorem dX2_link_111 : decode cX2_link 111 = .ok (.aload_n 0, 1) := by decide +kernel
theorem dX2_link_112 : decode cX2_link 112 = .ok (.iload 4, 2) := by decide +kernel
theorem dX2_link_114 : decode cX2_link 114 = .ok (.iconst 1, 1) := by decide +kernel
theorem dX2_link_115 : decode cX2_link 115 = .ok (.iadd, 1) := by decide +kernel
theorem dX2_link_116 : decode cX2_link 116 = .ok (.putfield 32, 3) := by decide +kernel
theorem dX2_link_119 : decode cX2_link 119 = .ok (.iload 4, 2) := by decide +kernel
theorem dX2_link_121 : decode cX2_link 121 = .ok (.ireturn, 1) := by decide +kernel
abbrev cX2_badGain : ByteArray := prog_3_method_5_code
def yX2_badGain : MethodName := ⟨RX2, "badGain", "(I)Z"⟩
theorem dX2_badGain_0 : decode cX2_badGain 0 = .ok (.iload_n 1, 1) := by decide +kernel
theorem dX2_badGain_1 : decode cX2_badGain 1 = .ok (.bipush (-6), 2) := by decide +kernel
theorem dX2_badGain_3 : decode cX2_badGain 3 = .ok (.if_icmp .lt 9, 3) := by decide +kernel
theorem dX2_badGain_6 : decode cX2_badGain 6 = .ok (.iload_n 1, 1) := by decide +kernel
theorem dX2_badGain_7 : decode cX2_badGain 7 = .ok (.bipush 6, 2) := by decide +kernel
theorem dX2_badGain_9 : decode cX2_badGain 9 = .ok (.if_icmp .le 7, 3) := by decide +kernel
theorem dX2_badGain_12 : decode cX2_badGain 12 = .ok (.iconst 1, 1) := by decide +kernel
theorem dX2_badGain_13 : decode cX2_badGain 13 = .ok (.goto 4, 3) := by decide +kernel
theorem dX2_badGain_16 : decode cX2_badGain 16 = .ok (.iconst 0, 1) := by decide +kernel
theorem dX2_badGain_17 : decode cX2_badGain 17 = .ok (.ireturn, 1) := by decide +kernel
abbrev cX2_cut : ByteArray := prog_3_method_8_code
def yX2_cut : MethodName := ⟨RX2, "cut", "(I)I"⟩
theorem dX2_cut_0 : decode cX2_cut 0 = .ok (.aload_n 0, 1) := by decide +kernel
theorem dX2_cut_1 : decode cX2_cut 1 = .ok (.iload_n 1, 1) := by decide +kernel
theorem dX2_cut_2 : decode cX2_cut 2 = .ok (.invokevirtual 42, 3) := by decide +kernel
theorem dX2_cut_5 : decode cX2_cut 5 = .ok (.ifCond .eq 5, 3) := by decide +kernel
theorem dX2_cut_8 : decode cX2_cut 8 = .ok (.iconst (-1), 1) := by decide +kernel
theorem dX2_cut_9 : decode cX2_cut 9 = .ok (.ireturn, 1) := by decide +kernel
theorem dX2_cut_10 : decode cX2_cut 10 = .ok (.iload_n 1, 1) := by decide +kernel
theorem dX2_cut_11 : decode cX2_cut 11 = .ok (.istore_n 2, 1) := by decide +kernel
theorem dX2_cut_12 : decode cX2_cut 12 = .ok (.iload_n 2, 1) := by decide +kernel
theorem dX2_cut_13 : decode cX2_cut 13 = .ok (.aload_n 0, 1) := by decide +kernel
theorem dX2_cut_14 : decode cX2_cut 14 = .ok (.getfield 32, 3) := by decide +kernel
theorem dX2_cut_17 : decode cX2_cut 17 = .ok (.iconst 1, 1) := by decide +kernel
theorem dX2_cut_18 : decode cX2_cut 18 = .ok (.isub, 1) := by decide +kernel
theorem dX2_cut_19 : decode cX2_cut 19 = .ok (.if_icmp .ge 57, 3) := by decide +kernel
theorem dX2_cut_22 : decode cX2_cut 22 = .ok (.iload_n 2, 1) := by decide +kernel
theorem dX2_cut_23 : decode cX2_cut 23 = .ok (.bipush 13, 2) := by decide +kernel
theorem dX2_cut_25 : decode cX2_cut 25 = .ok (.if_icmp .ge 51, 3) := by decide +kernel
theorem dX2_cut_28 : decode cX2_cut 28 = .ok (.aload_n 0, 1) := by decide +kernel
theorem dX2_cut_29 : decode cX2_cut 29 = .ok (.getfield 13, 3) := by decide +kernel
theorem dX2_cut_32 : decode cX2_cut 32 = .ok (.iload_n 2, 1) := by decide +kernel
theorem dX2_cut_33 : decode cX2_cut 33 = .ok (.aload_n 0, 1) := by decide +kernel
theorem dX2_cut_34 : decode cX2_cut 34 = .ok (.getfield 13, 3) := by decide +kernel
theorem dX2_cut_37 : decode cX2_cut 37 = .ok (.iload_n 2, 1) := by decide +kernel
theorem dX2_cut_38 : decode cX2_cut 38 = .ok (.iconst 1, 1) := by decide +kernel
theorem dX2_cut_39 : decode cX2_cut 39 = .ok (.iadd, 1) := by decide +kernel
theorem dX2_cut_40 : decode cX2_cut 40 = .ok (.iaload, 1) := by decide +kernel
theorem dX2_cut_41 : decode cX2_cut 41 = .ok (.iastore, 1) := by decide +kernel
theorem dX2_cut_42 : decode cX2_cut 42 = .ok (.aload_n 0, 1) := by decide +kernel
theorem dX2_cut_43 : decode cX2_cut 43 = .ok (.getfield 16, 3) := by decide +kernel
theorem dX2_cut_46 : decode cX2_cut 46 = .ok (.iload_n 2, 1) := by decide +kernel
theorem dX2_cut_47 : decode cX2_cut 47 = .ok (.aload_n 0, 1) := by decide +kernel
theorem dX2_cut_48 : decode cX2_cut 48 = .ok (.getfield 16, 3) := by decide +kernel
theorem dX2_cut_51 : decode cX2_cut 51 = .ok (.iload_n 2, 1) := by decide +kernel
theorem dX2_cut_52 : decode cX2_cut 52 = .ok (.iconst 1, 1) := by decide +kernel
theorem dX2_cut_53 : decode cX2_cut 53 = .ok (.iadd, 1) := by decide +kernel
theorem dX2_cut_54 : decode cX2_cut 54 = .ok (.iaload, 1) := by decide +kernel
theorem dX2_cut_55 : decode cX2_cut 55 = .ok (.iastore, 1) := by decide +kernel
theorem dX2_cut_56 : decode cX2_cut 56 = .ok (.aload_n 0, 1) := by decide +kernel
theorem dX2_cut_57 : decode cX2_cut 57 = .ok (.getfield 19, 3) := by decide +kernel
theorem dX2_cut_60 : decode cX2_cut 60 = .ok (.iload_n 2, 1) := by decide +kernel
theorem dX2_cut_61 : decode cX2_cut 61 = .ok (.aload_n 0, 1) := by decide +kernel
theorem dX2_cut_62 : decode cX2_cut 62 = .ok (.getfield 19, 3) := by decide +kernel
theorem dX2_cut_65 : decode cX2_cut 65 = .ok (.iload_n 2, 1) := by decide +kernel
theorem dX2_cut_66 : decode cX2_cut 66 = .ok (.iconst 1, 1) := by decide +kernel
theorem dX2_cut_67 : decode cX2_cut 67 = .ok (.iadd, 1) := by decide +kernel
theorem dX2_cut_68 : decode cX2_cut 68 = .ok (.iaload, 1) := by decide +kernel
theorem dX2_cut_69 : decode cX2_cut 69 = .ok (.iastore, 1) := by decide +kernel
theorem dX2_cut_70 : decode cX2_cut 70 = .ok (.iinc 2 1, 3) := by decide +kernel
theorem dX2_cut_73 : decode cX2_cut 73 = .ok (.goto (-61), 3) := by decide +kernel
theorem dX2_cut_76 : decode cX2_cut 76 = .ok (.aload_n 0, 1) := by decide +kernel
theorem dX2_cut_77 : decode cX2_cut 77 = .ok (.dup, 1) := by decide +kernel
theorem dX2_cut_78 : decode cX2_cut 78 = .ok (.getfield 32, 3) := by decide +kernel
theorem dX2_cut_81 : decode cX2_cut 81 = .ok (.iconst 1, 1) := by decide +kernel
theorem dX2_cut_82 : decode cX2_cut 82 = .ok (.isub, 1) := by decide +kernel
theorem dX2_cut_83 : decode cX2_cut 83 = .ok (.putfield 32, 3) := by decide +kernel
theorem dX2_cut_86 : decode cX2_cut 86 = .ok (.aload_n 0, 1) := by decide +kernel
theorem dX2_cut_87 : decode cX2_cut 87 = .ok (.getfield 32, 3) := by decide +kernel
theorem dX2_cut_90 : decode cX2_cut 90 = .ok (.ireturn, 1) := by decide +kernel
abbrev cX2_badEdge : ByteArray := prog_3_method_4_code
def yX2_badEdge : MethodName := ⟨RX2, "badEdge", "(I)Z"⟩
theorem dX2_badEdge_0 : decode cX2_badEdge 0 = .ok (.iload_n 1, 1) := by decide +kernel
theorem dX2_badEdge_1 : decode cX2_badEdge 1 = .ok (.ifCond .lt 17, 3) := by decide +kernel
theorem dX2_badEdge_4 : decode cX2_badEdge 4 = .ok (.iload_n 1, 1) := by decide +kernel
theorem dX2_badEdge_5 : decode cX2_badEdge 5 = .ok (.aload_n 0, 1) := by decide +kernel
theorem dX2_badEdge_6 : decode cX2_badEdge 6 = .ok (.getfield 32, 3) := by decide +kernel
theorem dX2_badEdge_9 : decode cX2_badEdge 9 = .ok (.if_icmp .ge 9, 3) := by decide +kernel
theorem dX2_badEdge_12 : decode cX2_badEdge 12 = .ok (.iload_n 1, 1) := by decide +kernel
theorem dX2_badEdge_13 : decode cX2_badEdge 13 = .ok (.bipush 13, 2) := by decide +kernel
theorem dX2_badEdge_15 : decode cX2_badEdge 15 = .ok (.if_icmp .le 7, 3) := by decide +kernel
theorem dX2_badEdge_18 : decode cX2_badEdge 18 = .ok (.iconst 1, 1) := by decide +kernel
theorem dX2_badEdge_19 : decode cX2_badEdge 19 = .ok (.goto 4, 3) := by decide +kernel
theorem dX2_badEdge_22 : decode cX2_badEdge 22 = .ok (.iconst 0, 1) := by decide +kernel
theorem dX2_badEdge_23 : decode cX2_badEdge 23 = .ok (.ireturn, 1) := by decide +kernel
abbrev cX2_set : ByteArray := prog_3_method_9_code
def yX2_set : MethodName := ⟨RX2, "set", "(II)I"⟩
theorem dX2_set_0 : decode cX2_set 0 = .ok (.aload_n 0, 1) := by decide +kernel
theorem dX2_set_1 : decode cX2_set 1 = .ok (.iload_n 1, 1) := by decide +kernel
theorem dX2_set_2 : decode cX2_set 2 = .ok (.invokevirtual 42, 3) := by decide +kernel
theorem dX2_set_5 : decode cX2_set 5 = .ok (.ifCond .eq 5, 3) := by decide +kernel
theorem dX2_set_8 : decode cX2_set 8 = .ok (.iconst (-1), 1) := by decide +kernel
theorem dX2_set_9 : decode cX2_set 9 = .ok (.ireturn, 1) := by decide +kernel
theorem dX2_set_10 : decode cX2_set 10 = .ok (.aload_n 0, 1) := by decide +kernel
theorem dX2_set_11 : decode cX2_set 11 = .ok (.iload_n 2, 1) := by decide +kernel
theorem dX2_set_12 : decode cX2_set 12 = .ok (.invokevirtual 39, 3) := by decide +kernel
theorem dX2_set_15 : decode cX2_set 15 = .ok (.ifCond .eq 6, 3) := by decide +kernel
theorem dX2_set_18 : decode cX2_set 18 = .ok (.bipush (-2), 2) := by decide +kernel
theorem dX2_set_20 : decode cX2_set 20 = .ok (.ireturn, 1) := by decide +kernel
theorem dX2_set_21 : decode cX2_set 21 = .ok (.aload_n 0, 1) := by decide +kernel
theorem dX2_set_22 : decode cX2_set 22 = .ok (.getfield 19, 3) := by decide +kernel
theorem dX2_set_25 : decode cX2_set 25 = .ok (.iload_n 1, 1) := by decide +kernel
theorem dX2_set_26 : decode cX2_set 26 = .ok (.iaload, 1) := by decide +kernel
theorem dX2_set_27 : decode cX2_set 27 = .ok (.istore_n 3, 1) := by decide +kernel
theorem dX2_set_28 : decode cX2_set 28 = .ok (.aload_n 0, 1) := by decide +kernel
theorem dX2_set_29 : decode cX2_set 29 = .ok (.getfield 19, 3) := by decide +kernel
theorem dX2_set_32 : decode cX2_set 32 = .ok (.iload_n 1, 1) := by decide +kernel
theorem dX2_set_33 : decode cX2_set 33 = .ok (.iload_n 2, 1) := by decide +kernel
theorem dX2_set_34 : decode cX2_set 34 = .ok (.iastore, 1) := by decide +kernel
theorem dX2_set_35 : decode cX2_set 35 = .ok (.iload_n 3, 1) := by decide +kernel
theorem dX2_set_36 : decode cX2_set 36 = .ok (.ireturn, 1) := by decide +kernel
abbrev cX2_edges : ByteArray := prog_3_method_10_code
def yX2_edges : MethodName := ⟨RX2, "edges", "()I"⟩
theorem dX2_edges_0 : decode cX2_edges 0 = .ok (.aload_n 0, 1) := by decide +kernel
theorem dX2_edges_1 : decode cX2_edges 1 = .ok (.getfield 32, 3) := by decide +kernel
theorem dX2_edges_4 : decode cX2_edges 4 = .ok (.ireturn, 1) := by decide +kernel
abbrev cX2_need : ByteArray := prog_3_method_15_code
def yX2_need : MethodName := ⟨RX2, "need", "(I)I"⟩
theorem dX2_need_0 : decode cX2_need 0 = .ok (.aload_n 0, 1) := by decide +kernel
theorem dX2_need_1 : decode cX2_need 1 = .ok (.iload_n 1, 1) := by decide +kernel
theorem dX2_need_2 : decode cX2_need 2 = .ok (.invokevirtual 35, 3) := by decide +kernel
theorem dX2_need_5 : decode cX2_need 5 = .ok (.ifCond .eq 5, 3) := by decide +kernel
theorem dX2_need_8 : decode cX2_need 8 = .ok (.iconst (-1), 1) := by decide +kernel
theorem dX2_need_9 : decode cX2_need 9 = .ok (.ireturn, 1) := by decide +kernel
theorem dX2_need_10 : decode cX2_need 10 = .ok (.aload_n 0, 1) := by decide +kernel
theorem dX2_need_11 : decode cX2_need 11 = .ok (.iconst (-1), 1) := by decide +kernel
theorem dX2_need_12 : decode cX2_need 12 = .ok (.iconst 0, 1) := by decide +kernel
theorem dX2_need_13 : decode cX2_need 13 = .ok (.iconst (-1), 1) := by decide +kernel
theorem dX2_need_14 : decode cX2_need 14 = .ok (.invokevirtual 53, 3) := by decide +kernel
theorem dX2_need_17 : decode cX2_need 17 = .ok (.aload_n 0, 1) := by decide +kernel
theorem dX2_need_18 : decode cX2_need 18 = .ok (.iload_n 1, 1) := by decide +kernel
theorem dX2_need_19 : decode cX2_need 19 = .ok (.invokevirtual 57, 3) := by decide +kernel
theorem dX2_need_22 : decode cX2_need 22 = .ok (.ireturn, 1) := by decide +kernel
abbrev cX2_work : ByteArray := prog_3_method_13_code
def yX2_work : MethodName := ⟨RX2, "work", "(III)V"⟩
theorem dX2_work_0 : decode cX2_work 0 = .ok (.iconst 0, 1) := by decide +kernel
theorem dX2_work_1 : decode cX2_work 1 = .ok (.istore 4, 2) := by decide +kernel
theorem dX2_work_3 : decode cX2_work 3 = .ok (.iload 4, 2) := by decide +kernel
theorem dX2_work_5 : decode cX2_work 5 = .ok (.bipush 8, 2) := by decide +kernel
theorem dX2_work_7 : decode cX2_work 7 = .ok (.if_icmp .ge 17, 3) := by decide +kernel
theorem dX2_work_10 : decode cX2_work 10 = .ok (.aload_n 0, 1) := by decide +kernel
theorem dX2_work_11 : decode cX2_work 11 = .ok (.getfield 22, 3) := by decide +kernel
theorem dX2_work_14 : decode cX2_work 14 = .ok (.iload 4, 2) := by decide +kernel
theorem dX2_work_16 : decode cX2_work 16 = .ok (.iconst 0, 1) := by decide +kernel
theorem dX2_work_17 : decode cX2_work 17 = .ok (.iastore, 1) := by decide +kernel
theorem dX2_work_18 : decode cX2_work 18 = .ok (.iinc 4 1, 3) := by decide +kernel
theorem dX2_work_21 : decode cX2_work 21 = .ok (.goto (-18), 3) := by decide +kernel
theorem dX2_work_24 : decode cX2_work 24 = .ok (.iconst 1, 1) := by decide +kernel
theorem dX2_work_25 : decode cX2_work 25 = .ok (.istore 4, 2) := by decide +kernel
theorem dX2_work_27 : decode cX2_work 27 = .ok (.iconst 0, 1) := by decide +kernel
theorem dX2_work_28 : decode cX2_work 28 = .ok (.istore 5, 2) := by decide +kernel
theorem dX2_work_30 : decode cX2_work 30 = .ok (.iload 5, 2) := by decide +kernel
theorem dX2_work_32 : decode cX2_work 32 = .ok (.sipush 700, 3) := by decide +kernel
theorem dX2_work_35 : decode cX2_work 35 = .ok (.if_icmp .ge 127, 3) := by decide +kernel
theorem dX2_work_38 : decode cX2_work 38 = .ok (.iload 4, 2) := by decide +kernel
theorem dX2_work_40 : decode cX2_work 40 = .ok (.ifCond .eq 122, 3) := by decide +kernel
theorem dX2_work_43 : decode cX2_work 43 = .ok (.iconst 0, 1) := by decide +kernel
theorem dX2_work_44 : decode cX2_work 44 = .ok (.istore 4, 2) := by decide +kernel
theorem dX2_work_46 : decode cX2_work 46 = .ok (.iconst 0, 1) := by decide +kernel
theorem dX2_work_47 : decode cX2_work 47 = .ok (.istore 6, 2) := by decide +kernel
theorem dX2_work_49 : decode cX2_work 49 = .ok (.iload 6, 2) := by decide +kernel
theorem dX2_work_51 : decode cX2_work 51 = .ok (.aload_n 0, 1) := by decide +kernel
theorem dX2_work_52 : decode cX2_work 52 = .ok (.getfield 28, 3) := by decide +kernel
theorem dX2_work_55 : decode cX2_work 55 = .ok (.if_icmp .ge 71, 3) := by decide +kernel
theorem dX2_work_58 : decode cX2_work 58 = .ok (.iload 6, 2) := by decide +kernel
theorem dX2_work_60 : decode cX2_work 60 = .ok (.bipush 6, 2) := by decide +kernel
theorem dX2_work_62 : decode cX2_work 62 = .ok (.if_icmp .ge 64, 3) := by decide +kernel
theorem dX2_work_65 : decode cX2_work 65 = .ok (.iload 6, 2) := by decide +kernel
theorem dX2_work_67 : decode cX2_work 67 = .ok (.iload_n 1, 1) := by decide +kernel
theorem dX2_work_68 : decode cX2_work 68 = .ok (.if_icmp .ne 7, 3) := by decide +kernel
theorem dX2_work_71 : decode cX2_work 71 = .ok (.iload_n 2, 1) := by decide +kernel
theorem dX2_work_72 : decode cX2_work 72 = .ok (.goto 10, 3) := by decide +kernel
theorem dX2_work_75 : decode cX2_work 75 = .ok (.aload_n 0, 1) := by decide +kernel
theorem dX2_work_76 : decode cX2_work 76 = .ok (.getfield 7, 3) := by decide +kernel
theorem dX2_work_79 : decode cX2_work 79 = .ok (.iload 6, 2) := by decide +kernel
theorem dX2_work_81 : decode cX2_work 81 = .ok (.iaload, 1) := by decide +kernel
theorem dX2_work_82 : decode cX2_work 82 = .ok (.istore 7, 2) := by decide +kernel
theorem dX2_work_84 : decode cX2_work 84 = .ok (.aload_n 0, 1) := by decide +kernel
theorem dX2_work_85 : decode cX2_work 85 = .ok (.getfield 25, 3) := by decide +kernel
theorem dX2_work_88 : decode cX2_work 88 = .ok (.iload 6, 2) := by decide +kernel
theorem dX2_work_90 : decode cX2_work 90 = .ok (.aload_n 0, 1) := by decide +kernel
theorem dX2_work_91 : decode cX2_work 91 = .ok (.iload 6, 2) := by decide +kernel
theorem dX2_work_93 : decode cX2_work 93 = .ok (.iload 7, 2) := by decide +kernel
theorem dX2_work_95 : decode cX2_work 95 = .ok (.iload_n 3, 1) := by decide +kernel
theorem dX2_work_96 : decode cX2_work 96 = .ok (.invokevirtual 49, 3) := by decide +kernel
theorem dX2_work_99 : decode cX2_work 99 = .ok (.iastore, 1) := by decide +kernel
theorem dX2_work_100 : decode cX2_work 100 = .ok (.aload_n 0, 1) := by decide +kernel
theorem dX2_work_101 : decode cX2_work 101 = .ok (.getfield 25, 3) := by decide +kernel
theorem dX2_work_104 : decode cX2_work 104 = .ok (.iload 6, 2) := by decide +kernel
theorem dX2_work_106 : decode cX2_work 106 = .ok (.iaload, 1) := by decide +kernel
theorem dX2_work_107 : decode cX2_work 107 = .ok (.aload_n 0, 1) := by decide +kernel
theorem dX2_work_108 : decode cX2_work 108 = .ok (.getfield 22, 3) := by decide +kernel
theorem dX2_work_111 : decode cX2_work 111 = .ok (.iload 6, 2) := by decide +kernel
theorem dX2_work_113 : decode cX2_work 113 = .ok (.iaload, 1) := by decide +kernel
theorem dX2_work_114 : decode cX2_work 114 = .ok (.if_icmp .eq 6, 3) := by decide +kernel
theorem dX2_work_117 : decode cX2_work 117 = .ok (.iconst 1, 1) := by decide +kernel
theorem dX2_work_118 : decode cX2_work 118 = .ok (.istore 4, 2) := by decide +kernel
theorem dX2_work_120 : decode cX2_work 120 = .ok (.iinc 6 1, 3) := by decide +kernel
theorem dX2_work_123 : decode cX2_work 123 = .ok (.goto (-74), 3) := by decide +kernel
theorem dX2_work_126 : decode cX2_work 126 = .ok (.iconst 0, 1) := by decide +kernel
theorem dX2_work_127 : decode cX2_work 127 = .ok (.istore 6, 2) := by decide +kernel
theorem dX2_work_129 : decode cX2_work 129 = .ok (.iload 6, 2) := by decide +kernel
theorem dX2_work_131 : decode cX2_work 131 = .ok (.bipush 8, 2) := by decide +kernel
theorem dX2_work_133 : decode cX2_work 133 = .ok (.if_icmp .ge 23, 3) := by decide +kernel
theorem dX2_work_136 : decode cX2_work 136 = .ok (.aload_n 0, 1) := by decide +kernel
theorem dX2_work_137 : decode cX2_work 137 = .ok (.getfield 22, 3) := by decide +kernel
theorem dX2_work_140 : decode cX2_work 140 = .ok (.iload 6, 2) := by decide +kernel
theorem dX2_work_142 : decode cX2_work 142 = .ok (.aload_n 0, 1) := by decide +kernel
theorem dX2_work_143 : decode cX2_work 143 = .ok (.getfield 25, 3) := by decide +kernel
theorem dX2_work_146 : decode cX2_work 146 = .ok (.iload 6, 2) := by decide +kernel
theorem dX2_work_148 : decode cX2_work 148 = .ok (.iaload, 1) := by decide +kernel
theorem dX2_work_149 : decode cX2_work 149 = .ok (.iastore, 1) := by decide +kernel
theorem dX2_work_150 : decode cX2_work 150 = .ok (.iinc 6 1, 3) := by decide +kernel
theorem dX2_work_153 : decode cX2_work 153 = .ok (.goto (-24), 3) := by decide +kernel
theorem dX2_work_156 : decode cX2_work 156 = .ok (.iinc 5 1, 3) := by decide +kernel
theorem dX2_work_159 : decode cX2_work 159 = .ok (.goto (-129), 3) := by decide +kernel
theorem dX2_work_162 : decode cX2_work 162 = .ok (.return_, 1) := by decide +kernel
abbrev cX2_next : ByteArray := prog_3_method_12_code
def yX2_next : MethodName := ⟨RX2, "next", "(III)I"⟩
theorem dX2_next_0 : decode cX2_next 0 = .ok (.iconst (-1), 1) := by decide +kernel
theorem dX2_next_1 : decode cX2_next 1 = .ok (.istore 4, 2) := by decide +kernel
theorem dX2_next_3 : decode cX2_next 3 = .ok (.iconst 0, 1) := by decide +kernel
theorem dX2_next_4 : decode cX2_next 4 = .ok (.istore 5, 2) := by decide +kernel
theorem dX2_next_6 : decode cX2_next 6 = .ok (.iload 5, 2) := by decide +kernel
theorem dX2_next_8 : decode cX2_next 8 = .ok (.aload_n 0, 1) := by decide +kernel
theorem dX2_next_9 : decode cX2_next 9 = .ok (.getfield 32, 3) := by decide +kernel
theorem dX2_next_12 : decode cX2_next 12 = .ok (.if_icmp .ge 88, 3) := by decide +kernel
theorem dX2_next_15 : decode cX2_next 15 = .ok (.iload 5, 2) := by decide +kernel
theorem dX2_next_17 : decode cX2_next 17 = .ok (.bipush 14, 2) := by decide +kernel
theorem dX2_next_19 : decode cX2_next 19 = .ok (.if_icmp .ge 81, 3) := by decide +kernel
theorem dX2_next_22 : decode cX2_next 22 = .ok (.aload_n 0, 1) := by decide +kernel
theorem dX2_next_23 : decode cX2_next 23 = .ok (.getfield 13, 3) := by decide +kernel
theorem dX2_next_26 : decode cX2_next 26 = .ok (.iload 5, 2) := by decide +kernel
theorem dX2_next_28 : decode cX2_next 28 = .ok (.iaload, 1) := by decide +kernel
theorem dX2_next_29 : decode cX2_next 29 = .ok (.iload_n 1, 1) := by decide +kernel
theorem dX2_next_30 : decode cX2_next 30 = .ok (.if_icmp .ne 64, 3) := by decide +kernel
theorem dX2_next_33 : decode cX2_next 33 = .ok (.iload 5, 2) := by decide +kernel
theorem dX2_next_35 : decode cX2_next 35 = .ok (.iload_n 3, 1) := by decide +kernel
theorem dX2_next_36 : decode cX2_next 36 = .ok (.if_icmp .eq 58, 3) := by decide +kernel
theorem dX2_next_39 : decode cX2_next 39 = .ok (.aload_n 0, 1) := by decide +kernel
theorem dX2_next_40 : decode cX2_next 40 = .ok (.iload 5, 2) := by decide +kernel
theorem dX2_next_42 : decode cX2_next 42 = .ok (.invokevirtual 45, 3) := by decide +kernel
theorem dX2_next_45 : decode cX2_next 45 = .ok (.istore 6, 2) := by decide +kernel
theorem dX2_next_47 : decode cX2_next 47 = .ok (.iload_n 2, 1) := by decide +kernel
theorem dX2_next_48 : decode cX2_next 48 = .ok (.ifCond .ne 18, 3) := by decide +kernel
theorem dX2_next_51 : decode cX2_next 51 = .ok (.iload 6, 2) := by decide +kernel
theorem dX2_next_53 : decode cX2_next 53 = .ok (.iload 4, 2) := by decide +kernel
theorem dX2_next_55 : decode cX2_next 55 = .ok (.if_icmp .ge 7, 3) := by decide +kernel
theorem dX2_next_58 : decode cX2_next 58 = .ok (.iconst 1, 1) := by decide +kernel
theorem dX2_next_59 : decode cX2_next 59 = .ok (.goto 19, 3) := by decide +kernel
theorem dX2_next_62 : decode cX2_next 62 = .ok (.iconst 0, 1) := by decide +kernel
theorem dX2_next_63 : decode cX2_next 63 = .ok (.goto 15, 3) := by decide +kernel
theorem dX2_next_66 : decode cX2_next 66 = .ok (.iload 6, 2) := by decide +kernel
theorem dX2_next_68 : decode cX2_next 68 = .ok (.iload 4, 2) := by decide +kernel
theorem dX2_next_70 : decode cX2_next 70 = .ok (.if_icmp .le 7, 3) := by decide +kernel
theorem dX2_next_73 : decode cX2_next 73 = .ok (.iconst 1, 1) := by decide +kernel
theorem dX2_next_74 : decode cX2_next 74 = .ok (.goto 4, 3) := by decide +kernel
theorem dX2_next_77 : decode cX2_next 77 = .ok (.iconst 0, 1) := by decide +kernel
theorem dX2_next_78 : decode cX2_next 78 = .ok (.istore 7, 2) := by decide +kernel
theorem dX2_next_80 : decode cX2_next 80 = .ok (.iload 4, 2) := by decide +kernel
theorem dX2_next_82 : decode cX2_next 82 = .ok (.ifCond .lt 8, 3) := by decide +kernel
theorem dX2_next_85 : decode cX2_next 85 = .ok (.iload 7, 2) := by decide +kernel
theorem dX2_next_87 : decode cX2_next 87 = .ok (.ifCond .eq 7, 3) := by decide +kernel
theorem dX2_next_90 : decode cX2_next 90 = .ok (.iload 6, 2) := by decide +kernel
theorem dX2_next_92 : decode cX2_next 92 = .ok (.istore 4, 2) := by decide +kernel
theorem dX2_next_94 : decode cX2_next 94 = .ok (.iinc 5 1, 3) := by decide +kernel
theorem dX2_next_97 : decode cX2_next 97 = .ok (.goto (-91), 3) := by decide +kernel
theorem dX2_next_100 : decode cX2_next 100 = .ok (.iload 4, 2) := by decide +kernel
theorem dX2_next_102 : decode cX2_next 102 = .ok (.ifCond .ge 7, 3) := by decide +kernel
theorem dX2_next_105 : decode cX2_next 105 = .ok (.iconst 0, 1) := by decide +kernel
theorem dX2_next_106 : decode cX2_next 106 = .ok (.goto 5, 3) := by decide +kernel
theorem dX2_next_109 : decode cX2_next 109 = .ok (.iload 4, 2) := by decide +kernel
theorem dX2_next_111 : decode cX2_next 111 = .ok (.ireturn, 1) := by decide +kernel
abbrev cX2_asks : ByteArray := prog_3_method_11_code
def yX2_asks : MethodName := ⟨RX2, "asks", "(I)I"⟩
theorem dX2_asks_0 : decode cX2_asks 0 = .ok (.aload_n 0, 1) := by decide +kernel
theorem dX2_asks_1 : decode cX2_asks 1 = .ok (.getfield 22, 3) := by decide +kernel
theorem dX2_asks_4 : decode cX2_asks 4 = .ok (.aload_n 0, 1) := by decide +kernel
theorem dX2_asks_5 : decode cX2_asks 5 = .ok (.getfield 16, 3) := by decide +kernel
theorem dX2_asks_8 : decode cX2_asks 8 = .ok (.iload_n 1, 1) := by decide +kernel
theorem dX2_asks_9 : decode cX2_asks 9 = .ok (.iaload, 1) := by decide +kernel
theorem dX2_asks_10 : decode cX2_asks 10 = .ok (.iaload, 1) := by decide +kernel
theorem dX2_asks_11 : decode cX2_asks 11 = .ok (.bipush 99, 2) := by decide +kernel
theorem dX2_asks_13 : decode cX2_asks 13 = .ok (.if_icmp .ne 6, 3) := by decide +kernel
theorem dX2_asks_16 : decode cX2_asks 16 = .ok (.bipush 99, 2) := by decide +kernel
theorem dX2_asks_18 : decode cX2_asks 18 = .ok (.ireturn, 1) := by decide +kernel
theorem dX2_asks_19 : decode cX2_asks 19 = .ok (.aload_n 0, 1) := by decide +kernel
theorem dX2_asks_20 : decode cX2_asks 20 = .ok (.getfield 22, 3) := by decide +kernel
theorem dX2_asks_23 : decode cX2_asks 23 = .ok (.aload_n 0, 1) := by decide +kernel
theorem dX2_asks_24 : decode cX2_asks 24 = .ok (.getfield 16, 3) := by decide +kernel
theorem dX2_asks_27 : decode cX2_asks 27 = .ok (.iload_n 1, 1) := by decide +kernel
theorem dX2_asks_28 : decode cX2_asks 28 = .ok (.iaload, 1) := by decide +kernel
theorem dX2_asks_29 : decode cX2_asks 29 = .ok (.iaload, 1) := by decide +kernel
theorem dX2_asks_30 : decode cX2_asks 30 = .ok (.aload_n 0, 1) := by decide +kernel
theorem dX2_asks_31 : decode cX2_asks 31 = .ok (.getfield 19, 3) := by decide +kernel
theorem dX2_asks_34 : decode cX2_asks 34 = .ok (.iload_n 1, 1) := by decide +kernel
theorem dX2_asks_35 : decode cX2_asks 35 = .ok (.iaload, 1) := by decide +kernel
theorem dX2_asks_36 : decode cX2_asks 36 = .ok (.isub, 1) := by decide +kernel
theorem dX2_asks_37 : decode cX2_asks 37 = .ok (.istore_n 2, 1) := by decide +kernel
theorem dX2_asks_38 : decode cX2_asks 38 = .ok (.iload_n 2, 1) := by decide +kernel
theorem dX2_asks_39 : decode cX2_asks 39 = .ok (.ifCond .ge 5, 3) := by decide +kernel
theorem dX2_asks_42 : decode cX2_asks 42 = .ok (.iconst 0, 1) := by decide +kernel
theorem dX2_asks_43 : decode cX2_asks 43 = .ok (.ireturn, 1) := by decide +kernel
theorem dX2_asks_44 : decode cX2_asks 44 = .ok (.iload_n 2, 1) := by decide +kernel
theorem dX2_asks_45 : decode cX2_asks 45 = .ok (.bipush 6, 2) := by decide +kernel
theorem dX2_asks_47 : decode cX2_asks 47 = .ok (.aload_n 0, 1) := by decide +kernel
theorem dX2_asks_48 : decode cX2_asks 48 = .ok (.getfield 28, 3) := by decide +kernel
theorem dX2_asks_51 : decode cX2_asks 51 = .ok (.iconst 1, 1) := by decide +kernel
theorem dX2_asks_52 : decode cX2_asks 52 = .ok (.isub, 1) := by decide +kernel
theorem dX2_asks_53 : decode cX2_asks 53 = .ok (.imul, 1) := by decide +kernel
theorem dX2_asks_54 : decode cX2_asks 54 = .ok (.if_icmp .le 8, 3) := by decide +kernel
theorem dX2_asks_57 : decode cX2_asks 57 = .ok (.bipush 99, 2) := by decide +kernel
theorem dX2_asks_59 : decode cX2_asks 59 = .ok (.goto 4, 3) := by decide +kernel
theorem dX2_asks_62 : decode cX2_asks 62 = .ok (.iload_n 2, 1) := by decide +kernel
theorem dX2_asks_63 : decode cX2_asks 63 = .ok (.ireturn, 1) := by decide +kernel
abbrev cX2_told : ByteArray := prog_3_method_14_code
def yX2_told : MethodName := ⟨RX2, "told", "(I)I"⟩
theorem dX2_told_0 : decode cX2_told 0 = .ok (.aload_n 0, 1) := by decide +kernel
theorem dX2_told_1 : decode cX2_told 1 = .ok (.getfield 22, 3) := by decide +kernel
theorem dX2_told_4 : decode cX2_told 4 = .ok (.iload_n 1, 1) := by decide +kernel
theorem dX2_told_5 : decode cX2_told 5 = .ok (.iaload, 1) := by decide +kernel
theorem dX2_told_6 : decode cX2_told 6 = .ok (.bipush 99, 2) := by decide +kernel
theorem dX2_told_8 : decode cX2_told 8 = .ok (.if_icmp .ne 8, 3) := by decide +kernel
theorem dX2_told_11 : decode cX2_told 11 = .ok (.bipush (-2), 2) := by decide +kernel
theorem dX2_told_13 : decode cX2_told 13 = .ok (.goto 9, 3) := by decide +kernel
theorem dX2_told_16 : decode cX2_told 16 = .ok (.aload_n 0, 1) := by decide +kernel
theorem dX2_told_17 : decode cX2_told 17 = .ok (.getfield 22, 3) := by decide +kernel
theorem dX2_told_20 : decode cX2_told 20 = .ok (.iload_n 1, 1) := by decide +kernel
theorem dX2_told_21 : decode cX2_told 21 = .ok (.iaload, 1) := by decide +kernel
theorem dX2_told_22 : decode cX2_told 22 = .ok (.ireturn, 1) := by decide +kernel
abbrev cX2_safe : ByteArray := prog_3_method_16_code
def yX2_safe : MethodName := ⟨RX2, "safe", "(I)I"⟩
theorem dX2_safe_0 : decode cX2_safe 0 = .ok (.aload_n 0, 1) := by decide +kernel
theorem dX2_safe_1 : decode cX2_safe 1 = .ok (.iconst (-1), 1) := by decide +kernel
theorem dX2_safe_2 : decode cX2_safe 2 = .ok (.iconst 0, 1) := by decide +kernel
theorem dX2_safe_3 : decode cX2_safe 3 = .ok (.iconst (-1), 1) := by decide +kernel
theorem dX2_safe_4 : decode cX2_safe 4 = .ok (.invokevirtual 53, 3) := by decide +kernel
theorem dX2_safe_7 : decode cX2_safe 7 = .ok (.iconst 0, 1) := by decide +kernel
theorem dX2_safe_8 : decode cX2_safe 8 = .ok (.istore_n 2, 1) := by decide +kernel
theorem dX2_safe_9 : decode cX2_safe 9 = .ok (.iconst 0, 1) := by decide +kernel
theorem dX2_safe_10 : decode cX2_safe 10 = .ok (.istore_n 3, 1) := by decide +kernel
theorem dX2_safe_11 : decode cX2_safe 11 = .ok (.iload_n 3, 1) := by decide +kernel
theorem dX2_safe_12 : decode cX2_safe 12 = .ok (.aload_n 0, 1) := by decide +kernel
theorem dX2_safe_13 : decode cX2_safe 13 = .ok (.getfield 28, 3) := by decide +kernel
theorem dX2_safe_16 : decode cX2_safe 16 = .ok (.if_icmp .ge 36, 3) := by decide +kernel
theorem dX2_safe_19 : decode cX2_safe 19 = .ok (.aload_n 0, 1) := by decide +kernel
theorem dX2_safe_20 : decode cX2_safe 20 = .ok (.getfield 22, 3) := by decide +kernel
theorem dX2_safe_23 : decode cX2_safe 23 = .ok (.iload_n 3, 1) := by decide +kernel
theorem dX2_safe_24 : decode cX2_safe 24 = .ok (.iaload, 1) := by decide +kernel
theorem dX2_safe_25 : decode cX2_safe 25 = .ok (.bipush 99, 2) := by decide +kernel
theorem dX2_safe_27 : decode cX2_safe 27 = .ok (.if_icmp .eq 19, 3) := by decide +kernel
theorem dX2_safe_30 : decode cX2_safe 30 = .ok (.aload_n 0, 1) := by decide +kernel
theorem dX2_safe_31 : decode cX2_safe 31 = .ok (.getfield 22, 3) := by decide +kernel
theorem dX2_safe_34 : decode cX2_safe 34 = .ok (.iload_n 3, 1) := by decide +kernel
theorem dX2_safe_35 : decode cX2_safe 35 = .ok (.iaload, 1) := by decide +kernel
theorem dX2_safe_36 : decode cX2_safe 36 = .ok (.iload_n 1, 1) := by decide +kernel
theorem dX2_safe_37 : decode cX2_safe 37 = .ok (.if_icmp .gt 9, 3) := by decide +kernel
theorem dX2_safe_40 : decode cX2_safe 40 = .ok (.iload_n 2, 1) := by decide +kernel
theorem dX2_safe_41 : decode cX2_safe 41 = .ok (.iconst 1, 1) := by decide +kernel
theorem dX2_safe_42 : decode cX2_safe 42 = .ok (.iload_n 3, 1) := by decide +kernel
theorem dX2_safe_43 : decode cX2_safe 43 = .ok (.ishl, 1) := by decide +kernel
theorem dX2_safe_44 : decode cX2_safe 44 = .ok (.ior, 1) := by decide +kernel
theorem dX2_safe_45 : decode cX2_safe 45 = .ok (.istore_n 2, 1) := by decide +kernel
theorem dX2_safe_46 : decode cX2_safe 46 = .ok (.iinc 3 1, 3) := by decide +kernel
theorem dX2_safe_49 : decode cX2_safe 49 = .ok (.goto (-38), 3) := by decide +kernel
theorem dX2_safe_52 : decode cX2_safe 52 = .ok (.iload_n 2, 1) := by decide +kernel
theorem dX2_safe_53 : decode cX2_safe 53 = .ok (.ireturn, 1) := by decide +kernel
abbrev cX2_hopeless : ByteArray := prog_3_method_17_code
def yX2_hopeless : MethodName := ⟨RX2, "hopeless", "()I"⟩
theorem dX2_hopeless_0 : decode cX2_hopeless 0 = .ok (.aload_n 0, 1) := by decide +kernel
theorem dX2_hopeless_1 : decode cX2_hopeless 1 = .ok (.iconst (-1), 1) := by decide +kernel
theorem dX2_hopeless_2 : decode cX2_hopeless 2 = .ok (.iconst 0, 1) := by decide +kernel
theorem dX2_hopeless_3 : decode cX2_hopeless 3 = .ok (.iconst (-1), 1) := by decide +kernel
theorem dX2_hopeless_4 : decode cX2_hopeless 4 = .ok (.invokevirtual 53, 3) := by decide +kernel
theorem dX2_hopeless_7 : decode cX2_hopeless 7 = .ok (.iconst 0, 1) := by decide +kernel
theorem dX2_hopeless_8 : decode cX2_hopeless 8 = .ok (.istore_n 1, 1) := by decide +kernel
theorem dX2_hopeless_9 : decode cX2_hopeless 9 = .ok (.iconst 0, 1) := by decide +kernel
theorem dX2_hopeless_10 : decode cX2_hopeless 10 = .ok (.istore_n 2, 1) := by decide +kernel
theorem dX2_hopeless_11 : decode cX2_hopeless 11 = .ok (.iload_n 2, 1) := by decide +kernel
theorem dX2_hopeless_12 : decode cX2_hopeless 12 = .ok (.aload_n 0, 1) := by decide +kernel
theorem dX2_hopeless_13 : decode cX2_hopeless 13 = .ok (.getfield 28, 3) := by decide +kernel
theorem dX2_hopeless_16 : decode cX2_hopeless 16 = .ok (.if_icmp .ge 23, 3) := by decide +kernel
theorem dX2_hopeless_19 : decode cX2_hopeless 19 = .ok (.aload_n 0, 1) := by decide +kernel
theorem dX2_hopeless_20 : decode cX2_hopeless 20 = .ok (.getfield 22, 3) := by decide +kernel
theorem dX2_hopeless_23 : decode cX2_hopeless 23 = .ok (.iload_n 2, 1) := by decide +kernel
theorem dX2_hopeless_24 : decode cX2_hopeless 24 = .ok (.iaload, 1) := by decide +kernel
theorem dX2_hopeless_25 : decode cX2_hopeless 25 = .ok (.bipush 99, 2) := by decide +kernel
theorem dX2_hopeless_27 : decode cX2_hopeless 27 = .ok (.if_icmp .ne 6, 3) := by decide +kernel
theorem dX2_hopeless_30 : decode cX2_hopeless 30 = .ok (.iinc 1 1, 3) := by decide +kernel
theorem dX2_hopeless_33 : decode cX2_hopeless 33 = .ok (.iinc 2 1, 3) := by decide +kernel
theorem dX2_hopeless_36 : decode cX2_hopeless 36 = .ok (.goto (-25), 3) := by decide +kernel
theorem dX2_hopeless_39 : decode cX2_hopeless 39 = .ok (.iload_n 1, 1) := by decide +kernel
theorem dX2_hopeless_40 : decode cX2_hopeless 40 = .ok (.ireturn, 1) := by decide +kernel
abbrev cX2_choice : ByteArray := prog_3_method_20_code
def yX2_choice : MethodName := ⟨RX2, "choice", "(I)I"⟩
theorem dX2_choice_0 : decode cX2_choice 0 = .ok (.aload_n 0, 1) := by decide +kernel
theorem dX2_choice_1 : decode cX2_choice 1 = .ok (.iload_n 1, 1) := by decide +kernel
theorem dX2_choice_2 : decode cX2_choice 2 = .ok (.invokevirtual 35, 3) := by decide +kernel
theorem dX2_choice_5 : decode cX2_choice 5 = .ok (.ifCond .eq 5, 3) := by decide +kernel
theorem dX2_choice_8 : decode cX2_choice 8 = .ok (.iconst (-1), 1) := by decide +kernel
theorem dX2_choice_9 : decode cX2_choice 9 = .ok (.ireturn, 1) := by decide +kernel
theorem dX2_choice_10 : decode cX2_choice 10 = .ok (.aload_n 0, 1) := by decide +kernel
theorem dX2_choice_11 : decode cX2_choice 11 = .ok (.iconst (-1), 1) := by decide +kernel
theorem dX2_choice_12 : decode cX2_choice 12 = .ok (.iconst 0, 1) := by decide +kernel
theorem dX2_choice_13 : decode cX2_choice 13 = .ok (.iconst (-1), 1) := by decide +kernel
theorem dX2_choice_14 : decode cX2_choice 14 = .ok (.invokevirtual 53, 3) := by decide +kernel
theorem dX2_choice_17 : decode cX2_choice 17 = .ok (.aload_n 0, 1) := by decide +kernel
theorem dX2_choice_18 : decode cX2_choice 18 = .ok (.iload_n 1, 1) := by decide +kernel
theorem dX2_choice_19 : decode cX2_choice 19 = .ok (.invokevirtual 63, 3) := by decide +kernel
theorem dX2_choice_22 : decode cX2_choice 22 = .ok (.ireturn, 1) := by decide +kernel
abbrev cX2_chosen : ByteArray := prog_3_method_19_code
def yX2_chosen : MethodName := ⟨RX2, "chosen", "(I)I"⟩
theorem dX2_chosen_0 : decode cX2_chosen 0 = .ok (.iconst 0, 1) := by decide +kernel
theorem dX2_chosen_1 : decode cX2_chosen 1 = .ok (.istore_n 2, 1) := by decide +kernel
theorem dX2_chosen_2 : decode cX2_chosen 2 = .ok (.iload_n 2, 1) := by decide +kernel
theorem dX2_chosen_3 : decode cX2_chosen 3 = .ok (.aload_n 0, 1) := by decide +kernel
theorem dX2_chosen_4 : decode cX2_chosen 4 = .ok (.getfield 32, 3) := by decide +kernel
theorem dX2_chosen_7 : decode cX2_chosen 7 = .ok (.if_icmp .ge 35, 3) := by decide +kernel
theorem dX2_chosen_10 : decode cX2_chosen 10 = .ok (.iload_n 2, 1) := by decide +kernel
theorem dX2_chosen_11 : decode cX2_chosen 11 = .ok (.bipush 14, 2) := by decide +kernel
theorem dX2_chosen_13 : decode cX2_chosen 13 = .ok (.if_icmp .ge 29, 3) := by decide +kernel
theorem dX2_chosen_16 : decode cX2_chosen 16 = .ok (.aload_n 0, 1) := by decide +kernel
theorem dX2_chosen_17 : decode cX2_chosen 17 = .ok (.getfield 13, 3) := by decide +kernel
theorem dX2_chosen_20 : decode cX2_chosen 20 = .ok (.iload_n 2, 1) := by decide +kernel
theorem dX2_chosen_21 : decode cX2_chosen 21 = .ok (.iaload, 1) := by decide +kernel
theorem dX2_chosen_22 : decode cX2_chosen 22 = .ok (.iload_n 1, 1) := by decide +kernel
theorem dX2_chosen_23 : decode cX2_chosen 23 = .ok (.if_icmp .ne 13, 3) := by decide +kernel
theorem dX2_chosen_26 : decode cX2_chosen 26 = .ok (.aload_n 0, 1) := by decide +kernel
theorem dX2_chosen_27 : decode cX2_chosen 27 = .ok (.iload_n 2, 1) := by decide +kernel
theorem dX2_chosen_28 : decode cX2_chosen 28 = .ok (.invokevirtual 60, 3) := by decide +kernel
theorem dX2_chosen_31 : decode cX2_chosen 31 = .ok (.ifCond .eq 5, 3) := by decide +kernel
theorem dX2_chosen_34 : decode cX2_chosen 34 = .ok (.iload_n 2, 1) := by decide +kernel
theorem dX2_chosen_35 : decode cX2_chosen 35 = .ok (.ireturn, 1) := by decide +kernel
theorem dX2_chosen_36 : decode cX2_chosen 36 = .ok (.iinc 2 1, 3) := by decide +kernel
theorem dX2_chosen_39 : decode cX2_chosen 39 = .ok (.goto (-37), 3) := by decide +kernel
theorem dX2_chosen_42 : decode cX2_chosen 42 = .ok (.bipush (-2), 2) := by decide +kernel
theorem dX2_chosen_44 : decode cX2_chosen 44 = .ok (.ireturn, 1) := by decide +kernel
abbrev cX2_good : ByteArray := prog_3_method_18_code
def yX2_good : MethodName := ⟨RX2, "good", "(I)Z"⟩
theorem dX2_good_0 : decode cX2_good 0 = .ok (.aload_n 0, 1) := by decide +kernel
theorem dX2_good_1 : decode cX2_good 1 = .ok (.getfield 13, 3) := by decide +kernel
theorem dX2_good_4 : decode cX2_good 4 = .ok (.iload_n 1, 1) := by decide +kernel
theorem dX2_good_5 : decode cX2_good 5 = .ok (.iaload, 1) := by decide +kernel
theorem dX2_good_6 : decode cX2_good 6 = .ok (.istore_n 2, 1) := by decide +kernel
theorem dX2_good_7 : decode cX2_good 7 = .ok (.aload_n 0, 1) := by decide +kernel
theorem dX2_good_8 : decode cX2_good 8 = .ok (.getfield 22, 3) := by decide +kernel
theorem dX2_good_11 : decode cX2_good 11 = .ok (.iload_n 2, 1) := by decide +kernel
theorem dX2_good_12 : decode cX2_good 12 = .ok (.iaload, 1) := by decide +kernel
theorem dX2_good_13 : decode cX2_good 13 = .ok (.bipush 99, 2) := by decide +kernel
theorem dX2_good_15 : decode cX2_good 15 = .ok (.if_icmp .ne 35, 3) := by decide +kernel
theorem dX2_good_18 : decode cX2_good 18 = .ok (.aload_n 0, 1) := by decide +kernel
theorem dX2_good_19 : decode cX2_good 19 = .ok (.getfield 7, 3) := by decide +kernel
theorem dX2_good_22 : decode cX2_good 22 = .ok (.iload_n 2, 1) := by decide +kernel
theorem dX2_good_23 : decode cX2_good 23 = .ok (.iaload, 1) := by decide +kernel
theorem dX2_good_24 : decode cX2_good 24 = .ok (.iconst 1, 1) := by decide +kernel
theorem dX2_good_25 : decode cX2_good 25 = .ok (.if_icmp .ne 23, 3) := by decide +kernel
theorem dX2_good_28 : decode cX2_good 28 = .ok (.aload_n 0, 1) := by decide +kernel
theorem dX2_good_29 : decode cX2_good 29 = .ok (.getfield 22, 3) := by decide +kernel
theorem dX2_good_32 : decode cX2_good 32 = .ok (.aload_n 0, 1) := by decide +kernel
theorem dX2_good_33 : decode cX2_good 33 = .ok (.getfield 16, 3) := by decide +kernel
theorem dX2_good_36 : decode cX2_good 36 = .ok (.iload_n 1, 1) := by decide +kernel
theorem dX2_good_37 : decode cX2_good 37 = .ok (.iaload, 1) := by decide +kernel
theorem dX2_good_38 : decode cX2_good 38 = .ok (.iaload, 1) := by decide +kernel
theorem dX2_good_39 : decode cX2_good 39 = .ok (.bipush 99, 2) := by decide +kernel
theorem dX2_good_41 : decode cX2_good 41 = .ok (.if_icmp .ne 7, 3) := by decide +kernel
theorem dX2_good_44 : decode cX2_good 44 = .ok (.iconst 1, 1) := by decide +kernel
theorem dX2_good_45 : decode cX2_good 45 = .ok (.goto 4, 3) := by decide +kernel
theorem dX2_good_48 : decode cX2_good 48 = .ok (.iconst 0, 1) := by decide +kernel
theorem dX2_good_49 : decode cX2_good 49 = .ok (.ireturn, 1) := by decide +kernel
theorem dX2_good_50 : decode cX2_good 50 = .ok (.aload_n 0, 1) := by decide +kernel
theorem dX2_good_51 : decode cX2_good 51 = .ok (.getfield 22, 3) := by decide +kernel
theorem dX2_good_54 : decode cX2_good 54 = .ok (.aload_n 0, 1) := by decide +kernel
theorem dX2_good_55 : decode cX2_good 55 = .ok (.getfield 16, 3) := by decide +kernel
theorem dX2_good_58 : decode cX2_good 58 = .ok (.iload_n 1, 1) := by decide +kernel
theorem dX2_good_59 : decode cX2_good 59 = .ok (.iaload, 1) := by decide +kernel
theorem dX2_good_60 : decode cX2_good 60 = .ok (.iaload, 1) := by decide +kernel
theorem dX2_good_61 : decode cX2_good 61 = .ok (.aload_n 0, 1) := by decide +kernel
theorem dX2_good_62 : decode cX2_good 62 = .ok (.getfield 19, 3) := by decide +kernel
theorem dX2_good_65 : decode cX2_good 65 = .ok (.iload_n 1, 1) := by decide +kernel
theorem dX2_good_66 : decode cX2_good 66 = .ok (.iaload, 1) := by decide +kernel
theorem dX2_good_67 : decode cX2_good 67 = .ok (.isub, 1) := by decide +kernel
theorem dX2_good_68 : decode cX2_good 68 = .ok (.istore_n 3, 1) := by decide +kernel
theorem dX2_good_69 : decode cX2_good 69 = .ok (.aload_n 0, 1) := by decide +kernel
theorem dX2_good_70 : decode cX2_good 70 = .ok (.getfield 22, 3) := by decide +kernel
theorem dX2_good_73 : decode cX2_good 73 = .ok (.aload_n 0, 1) := by decide +kernel
theorem dX2_good_74 : decode cX2_good 74 = .ok (.getfield 16, 3) := by decide +kernel
theorem dX2_good_77 : decode cX2_good 77 = .ok (.iload_n 1, 1) := by decide +kernel
theorem dX2_good_78 : decode cX2_good 78 = .ok (.iaload, 1) := by decide +kernel
theorem dX2_good_79 : decode cX2_good 79 = .ok (.iaload, 1) := by decide +kernel
theorem dX2_good_80 : decode cX2_good 80 = .ok (.bipush 99, 2) := by decide +kernel
theorem dX2_good_82 : decode cX2_good 82 = .ok (.if_icmp .eq 25, 3) := by decide +kernel
theorem dX2_good_85 : decode cX2_good 85 = .ok (.iload_n 3, 1) := by decide +kernel
theorem dX2_good_86 : decode cX2_good 86 = .ok (.ifCond .ge 7, 3) := by decide +kernel
theorem dX2_good_89 : decode cX2_good 89 = .ok (.iconst 0, 1) := by decide +kernel
theorem dX2_good_90 : decode cX2_good 90 = .ok (.goto 4, 3) := by decide +kernel
theorem dX2_good_93 : decode cX2_good 93 = .ok (.iload_n 3, 1) := by decide +kernel
theorem dX2_good_94 : decode cX2_good 94 = .ok (.aload_n 0, 1) := by decide +kernel
theorem dX2_good_95 : decode cX2_good 95 = .ok (.getfield 22, 3) := by decide +kernel
theorem dX2_good_98 : decode cX2_good 98 = .ok (.iload_n 2, 1) := by decide +kernel
theorem dX2_good_99 : decode cX2_good 99 = .ok (.iaload, 1) := by decide +kernel
theorem dX2_good_100 : decode cX2_good 100 = .ok (.if_icmp .ne 7, 3) := by decide +kernel
theorem dX2_good_103 : decode cX2_good 103 = .ok (.iconst 1, 1) := by decide +kernel
theorem dX2_good_104 : decode cX2_good 104 = .ok (.goto 4, 3) := by decide +kernel
theorem dX2_good_107 : decode cX2_good 107 = .ok (.iconst 0, 1) := by decide +kernel
theorem dX2_good_108 : decode cX2_good 108 = .ok (.ireturn, 1) := by decide +kernel
abbrev cX2_choices : ByteArray := prog_3_method_21_code
def yX2_choices : MethodName := ⟨RX2, "choices", "(I)I"⟩
theorem dX2_choices_0 : decode cX2_choices 0 = .ok (.aload_n 0, 1) := by decide +kernel
theorem dX2_choices_1 : decode cX2_choices 1 = .ok (.iload_n 1, 1) := by decide +kernel
theorem dX2_choices_2 : decode cX2_choices 2 = .ok (.invokevirtual 35, 3) := by decide +kernel
theorem dX2_choices_5 : decode cX2_choices 5 = .ok (.ifCond .eq 5, 3) := by decide +kernel
theorem dX2_choices_8 : decode cX2_choices 8 = .ok (.iconst (-1), 1) := by decide +kernel
theorem dX2_choices_9 : decode cX2_choices 9 = .ok (.ireturn, 1) := by decide +kernel
theorem dX2_choices_10 : decode cX2_choices 10 = .ok (.aload_n 0, 1) := by decide +kernel
theorem dX2_choices_11 : decode cX2_choices 11 = .ok (.iconst (-1), 1) := by decide +kernel
theorem dX2_choices_12 : decode cX2_choices 12 = .ok (.iconst 0, 1) := by decide +kernel
theorem dX2_choices_13 : decode cX2_choices 13 = .ok (.iconst (-1), 1) := by decide +kernel
theorem dX2_choices_14 : decode cX2_choices 14 = .ok (.invokevirtual 53, 3) := by decide +kernel
theorem dX2_choices_17 : decode cX2_choices 17 = .ok (.iconst 0, 1) := by decide +kernel
theorem dX2_choices_18 : decode cX2_choices 18 = .ok (.istore_n 2, 1) := by decide +kernel
theorem dX2_choices_19 : decode cX2_choices 19 = .ok (.iconst 0, 1) := by decide +kernel
theorem dX2_choices_20 : decode cX2_choices 20 = .ok (.istore_n 3, 1) := by decide +kernel
theorem dX2_choices_21 : decode cX2_choices 21 = .ok (.iload_n 3, 1) := by decide +kernel
theorem dX2_choices_22 : decode cX2_choices 22 = .ok (.aload_n 0, 1) := by decide +kernel
theorem dX2_choices_23 : decode cX2_choices 23 = .ok (.getfield 32, 3) := by decide +kernel
theorem dX2_choices_26 : decode cX2_choices 26 = .ok (.if_icmp .ge 36, 3) := by decide +kernel
theorem dX2_choices_29 : decode cX2_choices 29 = .ok (.iload_n 3, 1) := by decide +kernel
theorem dX2_choices_30 : decode cX2_choices 30 = .ok (.bipush 14, 2) := by decide +kernel
theorem dX2_choices_32 : decode cX2_choices 32 = .ok (.if_icmp .ge 30, 3) := by decide +kernel
theorem dX2_choices_35 : decode cX2_choices 35 = .ok (.aload_n 0, 1) := by decide +kernel
theorem dX2_choices_36 : decode cX2_choices 36 = .ok (.getfield 13, 3) := by decide +kernel
theorem dX2_choices_39 : decode cX2_choices 39 = .ok (.iload_n 3, 1) := by decide +kernel
theorem dX2_choices_40 : decode cX2_choices 40 = .ok (.iaload, 1) := by decide +kernel
theorem dX2_choices_41 : decode cX2_choices 41 = .ok (.iload_n 1, 1) := by decide +kernel
theorem dX2_choices_42 : decode cX2_choices 42 = .ok (.if_icmp .ne 14, 3) := by decide +kernel
theorem dX2_choices_45 : decode cX2_choices 45 = .ok (.aload_n 0, 1) := by decide +kernel
theorem dX2_choices_46 : decode cX2_choices 46 = .ok (.iload_n 3, 1) := by decide +kernel
theorem dX2_choices_47 : decode cX2_choices 47 = .ok (.invokevirtual 60, 3) := by decide +kernel
theorem dX2_choices_50 : decode cX2_choices 50 = .ok (.ifCond .eq 6, 3) := by decide +kernel
theorem dX2_choices_53 : decode cX2_choices 53 = .ok (.iinc 2 1, 3) := by decide +kernel
theorem dX2_choices_56 : decode cX2_choices 56 = .ok (.iinc 3 1, 3) := by decide +kernel
theorem dX2_choices_59 : decode cX2_choices 59 = .ok (.goto (-38), 3) := by decide +kernel
theorem dX2_choices_62 : decode cX2_choices 62 = .ok (.iload_n 2, 1) := by decide +kernel
theorem dX2_choices_63 : decode cX2_choices 63 = .ok (.ireturn, 1) := by decide +kernel
abbrev cX2_needWithout : ByteArray := prog_3_method_22_code
def yX2_needWithout : MethodName := ⟨RX2, "needWithout", "(II)I"⟩
theorem dX2_needWithout_0 : decode cX2_needWithout 0 = .ok (.aload_n 0, 1) := by decide +kernel
theorem dX2_needWithout_1 : decode cX2_needWithout 1 = .ok (.iload_n 1, 1) := by decide +kernel
theorem dX2_needWithout_2 : decode cX2_needWithout 2 = .ok (.invokevirtual 35, 3) := by decide +kernel
theorem dX2_needWithout_5 : decode cX2_needWithout 5 = .ok (.ifCond .eq 5, 3) := by decide +kernel
theorem dX2_needWithout_8 : decode cX2_needWithout 8 = .ok (.iconst (-1), 1) := by decide +kernel
theorem dX2_needWithout_9 : decode cX2_needWithout 9 = .ok (.ireturn, 1) := by decide +kernel
theorem dX2_needWithout_10 : decode cX2_needWithout 10 = .ok (.aload_n 0, 1) := by decide +kernel
theorem dX2_needWithout_11 : decode cX2_needWithout 11 = .ok (.iload_n 2, 1) := by decide +kernel
theorem dX2_needWithout_12 : decode cX2_needWithout 12 = .ok (.invokevirtual 42, 3) := by decide +kernel
theorem dX2_needWithout_15 : decode cX2_needWithout 15 = .ok (.ifCond .eq 6, 3) := by decide +kernel
theorem dX2_needWithout_18 : decode cX2_needWithout 18 = .ok (.bipush (-3), 2) := by decide +kernel
theorem dX2_needWithout_20 : decode cX2_needWithout 20 = .ok (.ireturn, 1) := by decide +kernel
theorem dX2_needWithout_21 : decode cX2_needWithout 21 = .ok (.aload_n 0, 1) := by decide +kernel
theorem dX2_needWithout_22 : decode cX2_needWithout 22 = .ok (.iconst (-1), 1) := by decide +kernel
theorem dX2_needWithout_23 : decode cX2_needWithout 23 = .ok (.iconst 0, 1) := by decide +kernel
theorem dX2_needWithout_24 : decode cX2_needWithout 24 = .ok (.iload_n 2, 1) := by decide +kernel
theorem dX2_needWithout_25 : decode cX2_needWithout 25 = .ok (.invokevirtual 53, 3) := by decide +kernel
theorem dX2_needWithout_28 : decode cX2_needWithout 28 = .ok (.aload_n 0, 1) := by decide +kernel
theorem dX2_needWithout_29 : decode cX2_needWithout 29 = .ok (.iload_n 1, 1) := by decide +kernel
theorem dX2_needWithout_30 : decode cX2_needWithout 30 = .ok (.invokevirtual 57, 3) := by decide +kernel
theorem dX2_needWithout_33 : decode cX2_needWithout 33 = .ok (.ireturn, 1) := by decide +kernel
abbrev cX2_needOf : ByteArray := prog_3_method_23_code
def yX2_needOf : MethodName := ⟨RX2, "needOf", "(II)I"⟩
theorem dX2_needOf_0 : decode cX2_needOf 0 = .ok (.aload_n 0, 1) := by decide +kernel
theorem dX2_needOf_1 : decode cX2_needOf 1 = .ok (.iload_n 1, 1) := by decide +kernel
theorem dX2_needOf_2 : decode cX2_needOf 2 = .ok (.invokevirtual 35, 3) := by decide +kernel
theorem dX2_needOf_5 : decode cX2_needOf 5 = .ok (.ifCond .eq 5, 3) := by decide +kernel
theorem dX2_needOf_8 : decode cX2_needOf 8 = .ok (.iconst (-1), 1) := by decide +kernel
theorem dX2_needOf_9 : decode cX2_needOf 9 = .ok (.ireturn, 1) := by decide +kernel
theorem dX2_needOf_10 : decode cX2_needOf 10 = .ok (.iload_n 2, 1) := by decide +kernel
theorem dX2_needOf_11 : decode cX2_needOf 11 = .ok (.ifCond .lt 8, 3) := by decide +kernel
theorem dX2_needOf_14 : decode cX2_needOf 14 = .ok (.iload_n 2, 1) := by decide +kernel
theorem dX2_needOf_15 : decode cX2_needOf 15 = .ok (.iconst 1, 1) := by decide +kernel
theorem dX2_needOf_16 : decode cX2_needOf 16 = .ok (.if_icmp .le 6, 3) := by decide +kernel
theorem dX2_needOf_19 : decode cX2_needOf 19 = .ok (.bipush (-3), 2) := by decide +kernel
theorem dX2_needOf_21 : decode cX2_needOf 21 = .ok (.ireturn, 1) := by decide +kernel
theorem dX2_needOf_22 : decode cX2_needOf 22 = .ok (.aload_n 0, 1) := by decide +kernel
theorem dX2_needOf_23 : decode cX2_needOf 23 = .ok (.iload_n 1, 1) := by decide +kernel
theorem dX2_needOf_24 : decode cX2_needOf 24 = .ok (.iload_n 2, 1) := by decide +kernel
theorem dX2_needOf_25 : decode cX2_needOf 25 = .ok (.iconst (-1), 1) := by decide +kernel
theorem dX2_needOf_26 : decode cX2_needOf 26 = .ok (.invokevirtual 53, 3) := by decide +kernel
theorem dX2_needOf_29 : decode cX2_needOf 29 = .ok (.aload_n 0, 1) := by decide +kernel
theorem dX2_needOf_30 : decode cX2_needOf 30 = .ok (.iload_n 1, 1) := by decide +kernel
theorem dX2_needOf_31 : decode cX2_needOf 31 = .ok (.invokevirtual 57, 3) := by decide +kernel
theorem dX2_needOf_34 : decode cX2_needOf 34 = .ok (.ireturn, 1) := by decide +kernel
abbrev cX2_greatest : ByteArray := prog_3_method_24_code
def yX2_greatest : MethodName := ⟨RX2, "greatest", "()I"⟩
theorem dX2_greatest_0 : decode cX2_greatest 0 = .ok (.aload_n 0, 1) := by decide +kernel
theorem dX2_greatest_1 : decode cX2_greatest 1 = .ok (.iconst (-1), 1) := by decide +kernel
theorem dX2_greatest_2 : decode cX2_greatest 2 = .ok (.iconst 0, 1) := by decide +kernel
theorem dX2_greatest_3 : decode cX2_greatest 3 = .ok (.iconst (-1), 1) := by decide +kernel
theorem dX2_greatest_4 : decode cX2_greatest 4 = .ok (.invokevirtual 53, 3) := by decide +kernel
theorem dX2_greatest_7 : decode cX2_greatest 7 = .ok (.iconst 0, 1) := by decide +kernel
theorem dX2_greatest_8 : decode cX2_greatest 8 = .ok (.istore_n 1, 1) := by decide +kernel
theorem dX2_greatest_9 : decode cX2_greatest 9 = .ok (.iconst 0, 1) := by decide +kernel
theorem dX2_greatest_10 : decode cX2_greatest 10 = .ok (.istore_n 2, 1) := by decide +kernel
theorem dX2_greatest_11 : decode cX2_greatest 11 = .ok (.iload_n 2, 1) := by decide +kernel
theorem dX2_greatest_12 : decode cX2_greatest 12 = .ok (.aload_n 0, 1) := by decide +kernel
theorem dX2_greatest_13 : decode cX2_greatest 13 = .ok (.getfield 28, 3) := by decide +kernel
theorem dX2_greatest_16 : decode cX2_greatest 16 = .ok (.if_icmp .ge 37, 3) := by decide +kernel
theorem dX2_greatest_19 : decode cX2_greatest 19 = .ok (.aload_n 0, 1) := by decide +kernel
theorem dX2_greatest_20 : decode cX2_greatest 20 = .ok (.getfield 22, 3) := by decide +kernel
theorem dX2_greatest_23 : decode cX2_greatest 23 = .ok (.iload_n 2, 1) := by decide +kernel
theorem dX2_greatest_24 : decode cX2_greatest 24 = .ok (.iaload, 1) := by decide +kernel
theorem dX2_greatest_25 : decode cX2_greatest 25 = .ok (.bipush 99, 2) := by decide +kernel
theorem dX2_greatest_27 : decode cX2_greatest 27 = .ok (.if_icmp .eq 20, 3) := by decide +kernel
theorem dX2_greatest_30 : decode cX2_greatest 30 = .ok (.aload_n 0, 1) := by decide +kernel
theorem dX2_greatest_31 : decode cX2_greatest 31 = .ok (.getfield 22, 3) := by decide +kernel
theorem dX2_greatest_34 : decode cX2_greatest 34 = .ok (.iload_n 2, 1) := by decide +kernel
theorem dX2_greatest_35 : decode cX2_greatest 35 = .ok (.iaload, 1) := by decide +kernel
theorem dX2_greatest_36 : decode cX2_greatest 36 = .ok (.iload_n 1, 1) := by decide +kernel
theorem dX2_greatest_37 : decode cX2_greatest 37 = .ok (.if_icmp .le 10, 3) := by decide +kernel
theorem dX2_greatest_40 : decode cX2_greatest 40 = .ok (.aload_n 0, 1) := by decide +kernel
theorem dX2_greatest_41 : decode cX2_greatest 41 = .ok (.getfield 22, 3) := by decide +kernel
theorem dX2_greatest_44 : decode cX2_greatest 44 = .ok (.iload_n 2, 1) := by decide +kernel
theorem dX2_greatest_45 : decode cX2_greatest 45 = .ok (.iaload, 1) := by decide +kernel
theorem dX2_greatest_46 : decode cX2_greatest 46 = .ok (.istore_n 1, 1) := by decide +kernel
theorem dX2_greatest_47 : decode cX2_greatest 47 = .ok (.iinc 2 1, 3) := by decide +kernel
theorem dX2_greatest_50 : decode cX2_greatest 50 = .ok (.goto (-39), 3) := by decide +kernel
theorem dX2_greatest_53 : decode cX2_greatest 53 = .ok (.iload_n 1, 1) := by decide +kernel
theorem dX2_greatest_54 : decode cX2_greatest 54 = .ok (.ireturn, 1) := by decide +kernel
abbrev cX2_store : ByteArray := prog_3_method_25_code
def yX2_store : MethodName := ⟨RX2, "store", "(II)I"⟩
theorem dX2_store_0 : decode cX2_store 0 = .ok (.aload_n 0, 1) := by decide +kernel
theorem dX2_store_1 : decode cX2_store 1 = .ok (.iload_n 1, 1) := by decide +kernel
theorem dX2_store_2 : decode cX2_store 2 = .ok (.invokevirtual 35, 3) := by decide +kernel
theorem dX2_store_5 : decode cX2_store 5 = .ok (.ifCond .eq 7, 3) := by decide +kernel
theorem dX2_store_8 : decode cX2_store 8 = .ok (.sipush (-1000), 3) := by decide +kernel
theorem dX2_store_11 : decode cX2_store 11 = .ok (.ireturn, 1) := by decide +kernel
theorem dX2_store_12 : decode cX2_store 12 = .ok (.iload_n 2, 1) := by decide +kernel
theorem dX2_store_13 : decode cX2_store 13 = .ok (.ifCond .lt 23, 3) := by decide +kernel
theorem dX2_store_16 : decode cX2_store 16 = .ok (.iload_n 2, 1) := by decide +kernel
theorem dX2_store_17 : decode cX2_store 17 = .ok (.sipush 128, 3) := by decide +kernel
theorem dX2_store_20 : decode cX2_store 20 = .ok (.idiv, 1) := by decide +kernel
theorem dX2_store_21 : decode cX2_store 21 = .ok (.bipush 30, 2) := by decide +kernel
theorem dX2_store_23 : decode cX2_store 23 = .ok (.if_icmp .gt 13, 3) := by decide +kernel
theorem dX2_store_26 : decode cX2_store 26 = .ok (.iload_n 2, 1) := by decide +kernel
theorem dX2_store_27 : decode cX2_store 27 = .ok (.sipush 128, 3) := by decide +kernel
theorem dX2_store_30 : decode cX2_store 30 = .ok (.irem, 1) := by decide +kernel
theorem dX2_store_31 : decode cX2_store 31 = .ok (.bipush 100, 2) := by decide +kernel
theorem dX2_store_33 : decode cX2_store 33 = .ok (.if_icmp .le 7, 3) := by decide +kernel
theorem dX2_store_36 : decode cX2_store 36 = .ok (.sipush (-2000), 3) := by decide +kernel
theorem dX2_store_39 : decode cX2_store 39 = .ok (.ireturn, 1) := by decide +kernel
theorem dX2_store_40 : decode cX2_store 40 = .ok (.aload_n 0, 1) := by decide +kernel
theorem dX2_store_41 : decode cX2_store 41 = .ok (.iconst (-1), 1) := by decide +kernel
theorem dX2_store_42 : decode cX2_store 42 = .ok (.iconst 0, 1) := by decide +kernel
theorem dX2_store_43 : decode cX2_store 43 = .ok (.iconst (-1), 1) := by decide +kernel
theorem dX2_store_44 : decode cX2_store 44 = .ok (.invokevirtual 53, 3) := by decide +kernel
theorem dX2_store_47 : decode cX2_store 47 = .ok (.iload_n 2, 1) := by decide +kernel
theorem dX2_store_48 : decode cX2_store 48 = .ok (.sipush 128, 3) := by decide +kernel
theorem dX2_store_51 : decode cX2_store 51 = .ok (.irem, 1) := by decide +kernel
theorem dX2_store_52 : decode cX2_store 52 = .ok (.istore_n 3, 1) := by decide +kernel
theorem dX2_store_53 : decode cX2_store 53 = .ok (.iload_n 1, 1) := by decide +kernel
theorem dX2_store_54 : decode cX2_store 54 = .ok (.istore 4, 2) := by decide +kernel
theorem dX2_store_56 : decode cX2_store 56 = .ok (.iconst 0, 1) := by decide +kernel
theorem dX2_store_57 : decode cX2_store 57 = .ok (.istore 5, 2) := by decide +kernel
theorem dX2_store_59 : decode cX2_store 59 = .ok (.iload 5, 2) := by decide +kernel
theorem dX2_store_61 : decode cX2_store 61 = .ok (.iload_n 2, 1) := by decide +kernel
theorem dX2_store_62 : decode cX2_store 62 = .ok (.sipush 128, 3) := by decide +kernel
theorem dX2_store_65 : decode cX2_store 65 = .ok (.idiv, 1) := by decide +kernel
theorem dX2_store_66 : decode cX2_store 66 = .ok (.if_icmp .ge 43, 3) := by decide +kernel
theorem dX2_store_69 : decode cX2_store 69 = .ok (.aload_n 0, 1) := by decide +kernel
theorem dX2_store_70 : decode cX2_store 70 = .ok (.iload 4, 2) := by decide +kernel
theorem dX2_store_72 : decode cX2_store 72 = .ok (.invokevirtual 63, 3) := by decide +kernel
theorem dX2_store_75 : decode cX2_store 75 = .ok (.istore 6, 2) := by decide +kernel
theorem dX2_store_77 : decode cX2_store 77 = .ok (.iload 6, 2) := by decide +kernel
theorem dX2_store_79 : decode cX2_store 79 = .ok (.ifCond .ge 5, 3) := by decide +kernel
theorem dX2_store_82 : decode cX2_store 82 = .ok (.iload_n 3, 1) := by decide +kernel
theorem dX2_store_83 : decode cX2_store 83 = .ok (.ireturn, 1) := by decide +kernel
theorem dX2_store_84 : decode cX2_store 84 = .ok (.iload_n 3, 1) := by decide +kernel
theorem dX2_store_85 : decode cX2_store 85 = .ok (.aload_n 0, 1) := by decide +kernel
theorem dX2_store_86 : decode cX2_store 86 = .ok (.getfield 19, 3) := by decide +kernel
theorem dX2_store_89 : decode cX2_store 89 = .ok (.iload 6, 2) := by decide +kernel
theorem dX2_store_91 : decode cX2_store 91 = .ok (.iaload, 1) := by decide +kernel
theorem dX2_store_92 : decode cX2_store 92 = .ok (.iadd, 1) := by decide +kernel
theorem dX2_store_93 : decode cX2_store 93 = .ok (.istore_n 3, 1) := by decide +kernel
theorem dX2_store_94 : decode cX2_store 94 = .ok (.aload_n 0, 1) := by decide +kernel
theorem dX2_store_95 : decode cX2_store 95 = .ok (.getfield 16, 3) := by decide +kernel
theorem dX2_store_98 : decode cX2_store 98 = .ok (.iload 6, 2) := by decide +kernel
theorem dX2_store_100 : decode cX2_store 100 = .ok (.iaload, 1) := by decide +kernel
theorem dX2_store_101 : decode cX2_store 101 = .ok (.istore 4, 2) := by decide +kernel
theorem dX2_store_103 : decode cX2_store 103 = .ok (.iinc 5 1, 3) := by decide +kernel
theorem dX2_store_106 : decode cX2_store 106 = .ok (.goto (-47), 3) := by decide +kernel
theorem dX2_store_109 : decode cX2_store 109 = .ok (.iload_n 3, 1) := by decide +kernel
theorem dX2_store_110 : decode cX2_store 110 = .ok (.ireturn, 1) := by decide +kernel
theorem q20 : (Jvm.Cond.initialized "EnergyGameModel") ∈ lw_all := lw_g (lw_at lw_m1 2 rfl) rfl
theorem q169 : (Jvm.Cond.instantiable "EnergyGameModel" (8 : Nat)) ∈ lw_all := lw_g (lw_at lw_m1 151 rfl) rfl
theorem q171 : (Jvm.Cond.instanceMethod ({ cls := "EnergyGameModel", name := "<init>", desc := "(I)V" } : Jvm.MethodName)) ∈ lw_all := lw_g (lw_at lw_m1 153 rfl) rfl
theorem q172 : (Jvm.Cond.code ({ cls := "EnergyGameModel", name := "<init>", desc := "(I)V" } : Jvm.MethodName) prog_3_method_1_code (2 : Nat) (Option.none : Option Jvm.ClassFile.FieldType)) ∈ lw_all := lw_g (lw_at lw_m1 154 rfl) rfl
theorem q173 : (Jvm.Cond.methodLink "EnergyGameModel" (1 : Nat) ({ cls := "java/lang/Object", name := "<init>", desc := "()V" } : Jvm.MethodName)) ∈ lw_all := lw_g (lw_at lw_m1 155 rfl) rfl
theorem q174 : (Jvm.Cond.fieldLink "EnergyGameModel" (28 : Nat) "EnergyGameModel" "n" "I") ∈ lw_all := lw_g (lw_at lw_m1 156 rfl) rfl
theorem q175 : (Jvm.Cond.fieldLink "EnergyGameModel" (32 : Nat) "EnergyGameModel" "count" "I") ∈ lw_all := lw_g (lw_at lw_m1 157 rfl) rfl
theorem q176 : (Jvm.Cond.fieldLink "EnergyGameModel" (7 : Nat) "EnergyGameModel" "owners" "[I") ∈ lw_all := lw_g (lw_at lw_m1 158 rfl) rfl
theorem q177 : (Jvm.Cond.fieldLink "EnergyGameModel" (13 : Nat) "EnergyGameModel" "from" "[I") ∈ lw_all := lw_g (lw_at lw_m1 159 rfl) rfl
theorem q178 : (Jvm.Cond.fieldLink "EnergyGameModel" (16 : Nat) "EnergyGameModel" "to" "[I") ∈ lw_all := lw_g (lw_at lw_m1 160 rfl) rfl
theorem q179 : (Jvm.Cond.fieldLink "EnergyGameModel" (19 : Nat) "EnergyGameModel" "gain" "[I") ∈ lw_all := lw_g (lw_at lw_m1 161 rfl) rfl
theorem q180 : (Jvm.Cond.fieldLink "EnergyGameModel" (22 : Nat) "EnergyGameModel" "now" "[I") ∈ lw_all := lw_g (lw_at lw_m1 162 rfl) rfl
theorem q181 : (Jvm.Cond.fieldLink "EnergyGameModel" (25 : Nat) "EnergyGameModel" "later" "[I") ∈ lw_all := lw_g (lw_at lw_m1 163 rfl) rfl
theorem q182 : (Jvm.Cond.lays "EnergyGameModel" "EnergyGameModel" "n" "I") ∈ lw_all := lw_g (lw_at lw_m1 164 rfl) rfl
theorem q183 : (Jvm.Cond.soleField "EnergyGameModel" "n") ∈ lw_all := lw_g (lw_at lw_m1 165 rfl) rfl
theorem q184 : (Jvm.Cond.lays "EnergyGameModel" "EnergyGameModel" "count" "I") ∈ lw_all := lw_g (lw_at lw_m1 166 rfl) rfl
theorem q185 : (Jvm.Cond.soleField "EnergyGameModel" "count") ∈ lw_all := lw_g (lw_at lw_m1 167 rfl) rfl
theorem q186 : (Jvm.Cond.lays "EnergyGameModel" "EnergyGameModel" "owners" "[I") ∈ lw_all := lw_g (lw_at lw_m1 168 rfl) rfl
theorem q187 : (Jvm.Cond.soleField "EnergyGameModel" "owners") ∈ lw_all := lw_g (lw_at lw_m1 169 rfl) rfl
theorem q188 : (Jvm.Cond.lays "EnergyGameModel" "EnergyGameModel" "from" "[I") ∈ lw_all := lw_g (lw_at lw_m1 170 rfl) rfl
theorem q189 : (Jvm.Cond.soleField "EnergyGameModel" "from") ∈ lw_all := lw_g (lw_at lw_m1 171 rfl) rfl
theorem q190 : (Jvm.Cond.lays "EnergyGameModel" "EnergyGameModel" "to" "[I") ∈ lw_all := lw_g (lw_at lw_m1 172 rfl) rfl
theorem q191 : (Jvm.Cond.soleField "EnergyGameModel" "to") ∈ lw_all := lw_g (lw_at lw_m1 173 rfl) rfl
theorem q192 : (Jvm.Cond.lays "EnergyGameModel" "EnergyGameModel" "gain" "[I") ∈ lw_all := lw_g (lw_at lw_m1 174 rfl) rfl
theorem q193 : (Jvm.Cond.soleField "EnergyGameModel" "gain") ∈ lw_all := lw_g (lw_at lw_m1 175 rfl) rfl
theorem q194 : (Jvm.Cond.lays "EnergyGameModel" "EnergyGameModel" "now" "[I") ∈ lw_all := lw_g (lw_at lw_m1 176 rfl) rfl
theorem q195 : (Jvm.Cond.soleField "EnergyGameModel" "now") ∈ lw_all := lw_g (lw_at lw_m1 177 rfl) rfl
theorem q196 : (Jvm.Cond.lays "EnergyGameModel" "EnergyGameModel" "later" "[I") ∈ lw_all := lw_g (lw_at lw_m1 178 rfl) rfl
theorem q197 : (Jvm.Cond.soleField "EnergyGameModel" "later") ∈ lw_all := lw_g (lw_at lw_m1 179 rfl) rfl
theorem q198 : (Jvm.Cond.superclass "EnergyGameModel" "java/lang/Object") ∈ lw_all := lw_g (lw_at lw_m1 180 rfl) rfl
theorem q200 : (Jvm.Cond.instanceMethod ({ cls := "EnergyGameModel", name := "vertices", desc := "()I" } : Jvm.MethodName)) ∈ lw_all := lw_g (lw_at lw_m1 182 rfl) rfl
theorem q201 : (Jvm.Cond.selects "EnergyGameModel" ({ cls := "EnergyGameModel", name := "vertices", desc := "()I" } : Jvm.MethodName) ({ cls := "EnergyGameModel", name := "vertices", desc := "()I" } : Jvm.MethodName)) ∈ lw_all := lw_g (lw_at lw_m1 183 rfl) rfl
theorem q202 : (Jvm.Cond.code ({ cls := "EnergyGameModel", name := "vertices", desc := "()I" } : Jvm.MethodName) prog_3_method_2_code (1 : Nat) (Option.some Jvm.ClassFile.FieldType.int)) ∈ lw_all := lw_g (lw_at lw_m1 184 rfl) rfl
theorem q204 : (Jvm.Cond.instanceMethod ({ cls := "EnergyGameModel", name := "give", desc := "(II)I" } : Jvm.MethodName)) ∈ lw_all := lw_g (lw_at lw_m1 186 rfl) rfl
theorem q205 : (Jvm.Cond.selects "EnergyGameModel" ({ cls := "EnergyGameModel", name := "give", desc := "(II)I" } : Jvm.MethodName) ({ cls := "EnergyGameModel", name := "give", desc := "(II)I" } : Jvm.MethodName)) ∈ lw_all := lw_g (lw_at lw_m1 187 rfl) rfl
theorem q206 : (Jvm.Cond.code ({ cls := "EnergyGameModel", name := "give", desc := "(II)I" } : Jvm.MethodName) prog_3_method_6_code (4 : Nat) (Option.some Jvm.ClassFile.FieldType.int)) ∈ lw_all := lw_g (lw_at lw_m1 188 rfl) rfl
theorem q207 : (Jvm.Cond.methodLink "EnergyGameModel" (35 : Nat) ({ cls := "EnergyGameModel", name := "bad", desc := "(I)Z" } : Jvm.MethodName)) ∈ lw_all := lw_g (lw_at lw_m1 189 rfl) rfl
theorem q208 : (Jvm.Cond.privateMethod ({ cls := "EnergyGameModel", name := "bad", desc := "(I)Z" } : Jvm.MethodName)) ∈ lw_tbl := lw_at lw_m1 190 rfl
theorem q209 : (Jvm.Cond.instanceMethod ({ cls := "EnergyGameModel", name := "bad", desc := "(I)Z" } : Jvm.MethodName)) ∈ lw_all := lw_g (lw_at lw_m1 191 rfl) rfl
theorem q210 : (Jvm.Cond.code ({ cls := "EnergyGameModel", name := "bad", desc := "(I)Z" } : Jvm.MethodName) prog_3_method_3_code (2 : Nat) (Option.some Jvm.ClassFile.FieldType.boolean)) ∈ lw_all := lw_g (lw_at lw_m1 192 rfl) rfl
theorem q212 : (Jvm.Cond.instanceMethod ({ cls := "EnergyGameModel", name := "link", desc := "(III)I" } : Jvm.MethodName)) ∈ lw_all := lw_g (lw_at lw_m1 194 rfl) rfl
theorem q213 : (Jvm.Cond.selects "EnergyGameModel" ({ cls := "EnergyGameModel", name := "link", desc := "(III)I" } : Jvm.MethodName) ({ cls := "EnergyGameModel", name := "link", desc := "(III)I" } : Jvm.MethodName)) ∈ lw_all := lw_g (lw_at lw_m1 195 rfl) rfl
theorem q214 : (Jvm.Cond.code ({ cls := "EnergyGameModel", name := "link", desc := "(III)I" } : Jvm.MethodName) prog_3_method_7_code (7 : Nat) (Option.some Jvm.ClassFile.FieldType.int)) ∈ lw_all := lw_g (lw_at lw_m1 196 rfl) rfl
theorem q215 : (Jvm.Cond.methodLink "EnergyGameModel" (39 : Nat) ({ cls := "EnergyGameModel", name := "badGain", desc := "(I)Z" } : Jvm.MethodName)) ∈ lw_all := lw_g (lw_at lw_m1 197 rfl) rfl
theorem q216 : (Jvm.Cond.privateMethod ({ cls := "EnergyGameModel", name := "badGain", desc := "(I)Z" } : Jvm.MethodName)) ∈ lw_tbl := lw_at lw_m1 198 rfl
theorem q217 : (Jvm.Cond.instanceMethod ({ cls := "EnergyGameModel", name := "badGain", desc := "(I)Z" } : Jvm.MethodName)) ∈ lw_all := lw_g (lw_at lw_m1 199 rfl) rfl
theorem q218 : (Jvm.Cond.code ({ cls := "EnergyGameModel", name := "badGain", desc := "(I)Z" } : Jvm.MethodName) prog_3_method_5_code (2 : Nat) (Option.some Jvm.ClassFile.FieldType.boolean)) ∈ lw_all := lw_g (lw_at lw_m1 200 rfl) rfl
theorem q220 : (Jvm.Cond.instanceMethod ({ cls := "EnergyGameModel", name := "cut", desc := "(I)I" } : Jvm.MethodName)) ∈ lw_all := lw_g (lw_at lw_m1 202 rfl) rfl
theorem q221 : (Jvm.Cond.selects "EnergyGameModel" ({ cls := "EnergyGameModel", name := "cut", desc := "(I)I" } : Jvm.MethodName) ({ cls := "EnergyGameModel", name := "cut", desc := "(I)I" } : Jvm.MethodName)) ∈ lw_all := lw_g (lw_at lw_m1 203 rfl) rfl
theorem q222 : (Jvm.Cond.code ({ cls := "EnergyGameModel", name := "cut", desc := "(I)I" } : Jvm.MethodName) prog_3_method_8_code (3 : Nat) (Option.some Jvm.ClassFile.FieldType.int)) ∈ lw_all := lw_g (lw_at lw_m1 204 rfl) rfl
theorem q223 : (Jvm.Cond.methodLink "EnergyGameModel" (42 : Nat) ({ cls := "EnergyGameModel", name := "badEdge", desc := "(I)Z" } : Jvm.MethodName)) ∈ lw_all := lw_g (lw_at lw_m1 205 rfl) rfl
theorem q224 : (Jvm.Cond.privateMethod ({ cls := "EnergyGameModel", name := "badEdge", desc := "(I)Z" } : Jvm.MethodName)) ∈ lw_tbl := lw_at lw_m1 206 rfl
theorem q225 : (Jvm.Cond.instanceMethod ({ cls := "EnergyGameModel", name := "badEdge", desc := "(I)Z" } : Jvm.MethodName)) ∈ lw_all := lw_g (lw_at lw_m1 207 rfl) rfl
theorem q226 : (Jvm.Cond.code ({ cls := "EnergyGameModel", name := "badEdge", desc := "(I)Z" } : Jvm.MethodName) prog_3_method_4_code (2 : Nat) (Option.some Jvm.ClassFile.FieldType.boolean)) ∈ lw_all := lw_g (lw_at lw_m1 208 rfl) rfl
theorem q228 : (Jvm.Cond.instanceMethod ({ cls := "EnergyGameModel", name := "set", desc := "(II)I" } : Jvm.MethodName)) ∈ lw_all := lw_g (lw_at lw_m1 210 rfl) rfl
theorem q229 : (Jvm.Cond.selects "EnergyGameModel" ({ cls := "EnergyGameModel", name := "set", desc := "(II)I" } : Jvm.MethodName) ({ cls := "EnergyGameModel", name := "set", desc := "(II)I" } : Jvm.MethodName)) ∈ lw_all := lw_g (lw_at lw_m1 211 rfl) rfl
theorem q230 : (Jvm.Cond.code ({ cls := "EnergyGameModel", name := "set", desc := "(II)I" } : Jvm.MethodName) prog_3_method_9_code (4 : Nat) (Option.some Jvm.ClassFile.FieldType.int)) ∈ lw_all := lw_g (lw_at lw_m1 212 rfl) rfl
theorem q232 : (Jvm.Cond.instanceMethod ({ cls := "EnergyGameModel", name := "edges", desc := "()I" } : Jvm.MethodName)) ∈ lw_all := lw_g (lw_at lw_m1 214 rfl) rfl
theorem q233 : (Jvm.Cond.selects "EnergyGameModel" ({ cls := "EnergyGameModel", name := "edges", desc := "()I" } : Jvm.MethodName) ({ cls := "EnergyGameModel", name := "edges", desc := "()I" } : Jvm.MethodName)) ∈ lw_all := lw_g (lw_at lw_m1 215 rfl) rfl
theorem q234 : (Jvm.Cond.code ({ cls := "EnergyGameModel", name := "edges", desc := "()I" } : Jvm.MethodName) prog_3_method_10_code (1 : Nat) (Option.some Jvm.ClassFile.FieldType.int)) ∈ lw_all := lw_g (lw_at lw_m1 216 rfl) rfl
theorem q236 : (Jvm.Cond.instanceMethod ({ cls := "EnergyGameModel", name := "need", desc := "(I)I" } : Jvm.MethodName)) ∈ lw_all := lw_g (lw_at lw_m1 218 rfl) rfl
theorem q237 : (Jvm.Cond.selects "EnergyGameModel" ({ cls := "EnergyGameModel", name := "need", desc := "(I)I" } : Jvm.MethodName) ({ cls := "EnergyGameModel", name := "need", desc := "(I)I" } : Jvm.MethodName)) ∈ lw_all := lw_g (lw_at lw_m1 219 rfl) rfl
theorem q238 : (Jvm.Cond.code ({ cls := "EnergyGameModel", name := "need", desc := "(I)I" } : Jvm.MethodName) prog_3_method_15_code (2 : Nat) (Option.some Jvm.ClassFile.FieldType.int)) ∈ lw_all := lw_g (lw_at lw_m1 220 rfl) rfl
theorem q239 : (Jvm.Cond.methodLink "EnergyGameModel" (53 : Nat) ({ cls := "EnergyGameModel", name := "work", desc := "(III)V" } : Jvm.MethodName)) ∈ lw_all := lw_g (lw_at lw_m1 221 rfl) rfl
theorem q240 : (Jvm.Cond.privateMethod ({ cls := "EnergyGameModel", name := "work", desc := "(III)V" } : Jvm.MethodName)) ∈ lw_tbl := lw_at lw_m1 222 rfl
theorem q241 : (Jvm.Cond.instanceMethod ({ cls := "EnergyGameModel", name := "work", desc := "(III)V" } : Jvm.MethodName)) ∈ lw_all := lw_g (lw_at lw_m1 223 rfl) rfl
theorem q242 : (Jvm.Cond.code ({ cls := "EnergyGameModel", name := "work", desc := "(III)V" } : Jvm.MethodName) prog_3_method_13_code (8 : Nat) (Option.none : Option Jvm.ClassFile.FieldType)) ∈ lw_all := lw_g (lw_at lw_m1 224 rfl) rfl
theorem q243 : (Jvm.Cond.methodLink "EnergyGameModel" (49 : Nat) ({ cls := "EnergyGameModel", name := "next", desc := "(III)I" } : Jvm.MethodName)) ∈ lw_all := lw_g (lw_at lw_m1 225 rfl) rfl
theorem q244 : (Jvm.Cond.privateMethod ({ cls := "EnergyGameModel", name := "next", desc := "(III)I" } : Jvm.MethodName)) ∈ lw_tbl := lw_at lw_m1 226 rfl
theorem q245 : (Jvm.Cond.instanceMethod ({ cls := "EnergyGameModel", name := "next", desc := "(III)I" } : Jvm.MethodName)) ∈ lw_all := lw_g (lw_at lw_m1 227 rfl) rfl
theorem q246 : (Jvm.Cond.code ({ cls := "EnergyGameModel", name := "next", desc := "(III)I" } : Jvm.MethodName) prog_3_method_12_code (8 : Nat) (Option.some Jvm.ClassFile.FieldType.int)) ∈ lw_all := lw_g (lw_at lw_m1 228 rfl) rfl
theorem q247 : (Jvm.Cond.methodLink "EnergyGameModel" (45 : Nat) ({ cls := "EnergyGameModel", name := "asks", desc := "(I)I" } : Jvm.MethodName)) ∈ lw_all := lw_g (lw_at lw_m1 229 rfl) rfl
theorem q248 : (Jvm.Cond.privateMethod ({ cls := "EnergyGameModel", name := "asks", desc := "(I)I" } : Jvm.MethodName)) ∈ lw_tbl := lw_at lw_m1 230 rfl
theorem q249 : (Jvm.Cond.instanceMethod ({ cls := "EnergyGameModel", name := "asks", desc := "(I)I" } : Jvm.MethodName)) ∈ lw_all := lw_g (lw_at lw_m1 231 rfl) rfl
theorem q250 : (Jvm.Cond.code ({ cls := "EnergyGameModel", name := "asks", desc := "(I)I" } : Jvm.MethodName) prog_3_method_11_code (3 : Nat) (Option.some Jvm.ClassFile.FieldType.int)) ∈ lw_all := lw_g (lw_at lw_m1 232 rfl) rfl
theorem q251 : (Jvm.Cond.methodLink "EnergyGameModel" (57 : Nat) ({ cls := "EnergyGameModel", name := "told", desc := "(I)I" } : Jvm.MethodName)) ∈ lw_all := lw_g (lw_at lw_m1 233 rfl) rfl
theorem q252 : (Jvm.Cond.privateMethod ({ cls := "EnergyGameModel", name := "told", desc := "(I)I" } : Jvm.MethodName)) ∈ lw_tbl := lw_at lw_m1 234 rfl
theorem q253 : (Jvm.Cond.instanceMethod ({ cls := "EnergyGameModel", name := "told", desc := "(I)I" } : Jvm.MethodName)) ∈ lw_all := lw_g (lw_at lw_m1 235 rfl) rfl
theorem q254 : (Jvm.Cond.code ({ cls := "EnergyGameModel", name := "told", desc := "(I)I" } : Jvm.MethodName) prog_3_method_14_code (2 : Nat) (Option.some Jvm.ClassFile.FieldType.int)) ∈ lw_all := lw_g (lw_at lw_m1 236 rfl) rfl
theorem q256 : (Jvm.Cond.instanceMethod ({ cls := "EnergyGameModel", name := "safe", desc := "(I)I" } : Jvm.MethodName)) ∈ lw_all := lw_g (lw_at lw_m1 238 rfl) rfl
theorem q257 : (Jvm.Cond.selects "EnergyGameModel" ({ cls := "EnergyGameModel", name := "safe", desc := "(I)I" } : Jvm.MethodName) ({ cls := "EnergyGameModel", name := "safe", desc := "(I)I" } : Jvm.MethodName)) ∈ lw_all := lw_g (lw_at lw_m1 239 rfl) rfl
theorem q258 : (Jvm.Cond.code ({ cls := "EnergyGameModel", name := "safe", desc := "(I)I" } : Jvm.MethodName) prog_3_method_16_code (4 : Nat) (Option.some Jvm.ClassFile.FieldType.int)) ∈ lw_all := lw_g (lw_at lw_m2 0 rfl) rfl
theorem q260 : (Jvm.Cond.instanceMethod ({ cls := "EnergyGameModel", name := "hopeless", desc := "()I" } : Jvm.MethodName)) ∈ lw_all := lw_g (lw_at lw_m2 2 rfl) rfl
theorem q261 : (Jvm.Cond.selects "EnergyGameModel" ({ cls := "EnergyGameModel", name := "hopeless", desc := "()I" } : Jvm.MethodName) ({ cls := "EnergyGameModel", name := "hopeless", desc := "()I" } : Jvm.MethodName)) ∈ lw_all := lw_g (lw_at lw_m2 3 rfl) rfl
theorem q262 : (Jvm.Cond.code ({ cls := "EnergyGameModel", name := "hopeless", desc := "()I" } : Jvm.MethodName) prog_3_method_17_code (3 : Nat) (Option.some Jvm.ClassFile.FieldType.int)) ∈ lw_all := lw_g (lw_at lw_m2 4 rfl) rfl
theorem q264 : (Jvm.Cond.instanceMethod ({ cls := "EnergyGameModel", name := "choice", desc := "(I)I" } : Jvm.MethodName)) ∈ lw_all := lw_g (lw_at lw_m2 6 rfl) rfl
theorem q265 : (Jvm.Cond.selects "EnergyGameModel" ({ cls := "EnergyGameModel", name := "choice", desc := "(I)I" } : Jvm.MethodName) ({ cls := "EnergyGameModel", name := "choice", desc := "(I)I" } : Jvm.MethodName)) ∈ lw_all := lw_g (lw_at lw_m2 7 rfl) rfl
theorem q266 : (Jvm.Cond.code ({ cls := "EnergyGameModel", name := "choice", desc := "(I)I" } : Jvm.MethodName) prog_3_method_20_code (2 : Nat) (Option.some Jvm.ClassFile.FieldType.int)) ∈ lw_all := lw_g (lw_at lw_m2 8 rfl) rfl
theorem q267 : (Jvm.Cond.methodLink "EnergyGameModel" (63 : Nat) ({ cls := "EnergyGameModel", name := "chosen", desc := "(I)I" } : Jvm.MethodName)) ∈ lw_all := lw_g (lw_at lw_m2 9 rfl) rfl
theorem q268 : (Jvm.Cond.privateMethod ({ cls := "EnergyGameModel", name := "chosen", desc := "(I)I" } : Jvm.MethodName)) ∈ lw_tbl := lw_at lw_m2 10 rfl
theorem q269 : (Jvm.Cond.instanceMethod ({ cls := "EnergyGameModel", name := "chosen", desc := "(I)I" } : Jvm.MethodName)) ∈ lw_all := lw_g (lw_at lw_m2 11 rfl) rfl
theorem q270 : (Jvm.Cond.code ({ cls := "EnergyGameModel", name := "chosen", desc := "(I)I" } : Jvm.MethodName) prog_3_method_19_code (3 : Nat) (Option.some Jvm.ClassFile.FieldType.int)) ∈ lw_all := lw_g (lw_at lw_m2 12 rfl) rfl
theorem q271 : (Jvm.Cond.methodLink "EnergyGameModel" (60 : Nat) ({ cls := "EnergyGameModel", name := "good", desc := "(I)Z" } : Jvm.MethodName)) ∈ lw_all := lw_g (lw_at lw_m2 13 rfl) rfl
theorem q272 : (Jvm.Cond.privateMethod ({ cls := "EnergyGameModel", name := "good", desc := "(I)Z" } : Jvm.MethodName)) ∈ lw_tbl := lw_at lw_m2 14 rfl
theorem q273 : (Jvm.Cond.instanceMethod ({ cls := "EnergyGameModel", name := "good", desc := "(I)Z" } : Jvm.MethodName)) ∈ lw_all := lw_g (lw_at lw_m2 15 rfl) rfl
theorem q274 : (Jvm.Cond.code ({ cls := "EnergyGameModel", name := "good", desc := "(I)Z" } : Jvm.MethodName) prog_3_method_18_code (4 : Nat) (Option.some Jvm.ClassFile.FieldType.boolean)) ∈ lw_all := lw_g (lw_at lw_m2 16 rfl) rfl
theorem q276 : (Jvm.Cond.instanceMethod ({ cls := "EnergyGameModel", name := "choices", desc := "(I)I" } : Jvm.MethodName)) ∈ lw_all := lw_g (lw_at lw_m2 18 rfl) rfl
theorem q277 : (Jvm.Cond.selects "EnergyGameModel" ({ cls := "EnergyGameModel", name := "choices", desc := "(I)I" } : Jvm.MethodName) ({ cls := "EnergyGameModel", name := "choices", desc := "(I)I" } : Jvm.MethodName)) ∈ lw_all := lw_g (lw_at lw_m2 19 rfl) rfl
theorem q278 : (Jvm.Cond.code ({ cls := "EnergyGameModel", name := "choices", desc := "(I)I" } : Jvm.MethodName) prog_3_method_21_code (4 : Nat) (Option.some Jvm.ClassFile.FieldType.int)) ∈ lw_all := lw_g (lw_at lw_m2 20 rfl) rfl
theorem q280 : (Jvm.Cond.instanceMethod ({ cls := "EnergyGameModel", name := "needWithout", desc := "(II)I" } : Jvm.MethodName)) ∈ lw_all := lw_g (lw_at lw_m2 22 rfl) rfl
theorem q281 : (Jvm.Cond.selects "EnergyGameModel" ({ cls := "EnergyGameModel", name := "needWithout", desc := "(II)I" } : Jvm.MethodName) ({ cls := "EnergyGameModel", name := "needWithout", desc := "(II)I" } : Jvm.MethodName)) ∈ lw_all := lw_g (lw_at lw_m2 23 rfl) rfl
theorem q282 : (Jvm.Cond.code ({ cls := "EnergyGameModel", name := "needWithout", desc := "(II)I" } : Jvm.MethodName) prog_3_method_22_code (3 : Nat) (Option.some Jvm.ClassFile.FieldType.int)) ∈ lw_all := lw_g (lw_at lw_m2 24 rfl) rfl
theorem q284 : (Jvm.Cond.instanceMethod ({ cls := "EnergyGameModel", name := "needOf", desc := "(II)I" } : Jvm.MethodName)) ∈ lw_all := lw_g (lw_at lw_m2 26 rfl) rfl
theorem q285 : (Jvm.Cond.selects "EnergyGameModel" ({ cls := "EnergyGameModel", name := "needOf", desc := "(II)I" } : Jvm.MethodName) ({ cls := "EnergyGameModel", name := "needOf", desc := "(II)I" } : Jvm.MethodName)) ∈ lw_all := lw_g (lw_at lw_m2 27 rfl) rfl
theorem q286 : (Jvm.Cond.code ({ cls := "EnergyGameModel", name := "needOf", desc := "(II)I" } : Jvm.MethodName) prog_3_method_23_code (3 : Nat) (Option.some Jvm.ClassFile.FieldType.int)) ∈ lw_all := lw_g (lw_at lw_m2 28 rfl) rfl
theorem q288 : (Jvm.Cond.instanceMethod ({ cls := "EnergyGameModel", name := "greatest", desc := "()I" } : Jvm.MethodName)) ∈ lw_all := lw_g (lw_at lw_m2 30 rfl) rfl
theorem q289 : (Jvm.Cond.selects "EnergyGameModel" ({ cls := "EnergyGameModel", name := "greatest", desc := "()I" } : Jvm.MethodName) ({ cls := "EnergyGameModel", name := "greatest", desc := "()I" } : Jvm.MethodName)) ∈ lw_all := lw_g (lw_at lw_m2 31 rfl) rfl
theorem q290 : (Jvm.Cond.code ({ cls := "EnergyGameModel", name := "greatest", desc := "()I" } : Jvm.MethodName) prog_3_method_24_code (3 : Nat) (Option.some Jvm.ClassFile.FieldType.int)) ∈ lw_all := lw_g (lw_at lw_m2 32 rfl) rfl
theorem q292 : (Jvm.Cond.instanceMethod ({ cls := "EnergyGameModel", name := "store", desc := "(II)I" } : Jvm.MethodName)) ∈ lw_all := lw_g (lw_at lw_m2 34 rfl) rfl
theorem q293 : (Jvm.Cond.selects "EnergyGameModel" ({ cls := "EnergyGameModel", name := "store", desc := "(II)I" } : Jvm.MethodName) ({ cls := "EnergyGameModel", name := "store", desc := "(II)I" } : Jvm.MethodName)) ∈ lw_all := lw_g (lw_at lw_m2 35 rfl) rfl
theorem q294 : (Jvm.Cond.code ({ cls := "EnergyGameModel", name := "store", desc := "(II)I" } : Jvm.MethodName) prog_3_method_25_code (7 : Nat) (Option.some Jvm.ClassFile.FieldType.int)) ∈ lw_all := lw_g (lw_at lw_m2 36 rfl) rfl
theorem in_X2 : ∀ w ∈ wsX20, w ∈ lw_all := lw_in wsX20 [182, 184, 186, 188, 190, 192, 194, 196] (by decide +kernel) (by decide +kernel)
end
section
/-! java/lang/Object -/
set_option maxRecDepth 100000
def RJ0 : String := "java/lang/Object"
abbrev cJ0_init : ByteArray := object_method_1_code
def yJ0_init : MethodName := ⟨RJ0, "<init>", "()V"⟩
theorem dJ0_init_0 : decode cJ0_init 0 = .ok (.return_, 1) := by decide +kernel
theorem q27 : (Jvm.Cond.instanceMethod ({ cls := "java/lang/Object", name := "<init>", desc := "()V" } : Jvm.MethodName)) ∈ lw_all := lw_g (lw_at lw_m1 9 rfl) rfl
theorem q28 : (Jvm.Cond.code ({ cls := "java/lang/Object", name := "<init>", desc := "()V" } : Jvm.MethodName) object_method_1_code (1 : Nat) (Option.none : Option Jvm.ClassFile.FieldType)) ∈ lw_all := lw_g (lw_at lw_m1 10 rfl) rfl
/-! EnergyGameLaw -/
set_option maxRecDepth 100000
def RX0 : String := "EnergyGameLaw"
abbrev cX0_cell : ByteArray := method_2_code
def yX0_cell : MethodName := ⟨RX0, "cell", "([II)I"⟩
theorem dX0_cell_0 : decode cX0_cell 0 = .ok (.iload_n 1, 1) := by decide +kernel
theorem dX0_cell_1 : decode cX0_cell 1 = .ok (.aload_n 0, 1) := by decide +kernel
theorem dX0_cell_2 : decode cX0_cell 2 = .ok (.arraylength, 1) := by decide +kernel
theorem dX0_cell_3 : decode cX0_cell 3 = .ok (.if_icmp .ge 9, 3) := by decide +kernel
theorem dX0_cell_6 : decode cX0_cell 6 = .ok (.aload_n 0, 1) := by decide +kernel
theorem dX0_cell_7 : decode cX0_cell 7 = .ok (.iload_n 1, 1) := by decide +kernel
theorem dX0_cell_8 : decode cX0_cell 8 = .ok (.iaload, 1) := by decide +kernel
theorem dX0_cell_9 : decode cX0_cell 9 = .ok (.goto 4, 3) := by decide +kernel
theorem dX0_cell_12 : decode cX0_cell 12 = .ok (.iconst 0, 1) := by decide +kernel
theorem dX0_cell_13 : decode cX0_cell 13 = .ok (.ireturn, 1) := by decide +kernel
theorem q18 : (Jvm.Cond.initialized "EnergyGameLaw") ∈ lw_all := lw_g (lw_at lw_m1 0 rfl) rfl
theorem q21 : (Jvm.Cond.classLink "EnergyGameLaw" (7 : Nat) "EnergyGame") ∈ lw_all := lw_g (lw_at lw_m1 3 rfl) rfl
theorem q23 : (Jvm.Cond.methodLink "EnergyGameLaw" (15 : Nat) ({ cls := "EnergyGame", name := "<init>", desc := "(I)V" } : Jvm.MethodName)) ∈ lw_all := lw_g (lw_at lw_m1 5 rfl) rfl
theorem q68 : (Jvm.Cond.methodLink "EnergyGameLaw" (21 : Nat) ({ cls := "EnergyGame", name := "vertices", desc := "()I" } : Jvm.MethodName)) ∈ lw_all := lw_g (lw_at lw_m1 50 rfl) rfl
theorem q72 : (Jvm.Cond.methodLink "EnergyGameLaw" (26 : Nat) ({ cls := "EnergyGame", name := "give", desc := "(II)I" } : Jvm.MethodName)) ∈ lw_all := lw_g (lw_at lw_m1 54 rfl) rfl
theorem q80 : (Jvm.Cond.methodLink "EnergyGameLaw" (31 : Nat) ({ cls := "EnergyGame", name := "link", desc := "(III)I" } : Jvm.MethodName)) ∈ lw_all := lw_g (lw_at lw_m1 62 rfl) rfl
theorem q88 : (Jvm.Cond.methodLink "EnergyGameLaw" (36 : Nat) ({ cls := "EnergyGame", name := "cut", desc := "(I)I" } : Jvm.MethodName)) ∈ lw_all := lw_g (lw_at lw_m1 70 rfl) rfl
theorem q96 : (Jvm.Cond.methodLink "EnergyGameLaw" (41 : Nat) ({ cls := "EnergyGame", name := "set", desc := "(II)I" } : Jvm.MethodName)) ∈ lw_all := lw_g (lw_at lw_m1 78 rfl) rfl
theorem q100 : (Jvm.Cond.methodLink "EnergyGameLaw" (45 : Nat) ({ cls := "EnergyGame", name := "edges", desc := "()I" } : Jvm.MethodName)) ∈ lw_all := lw_g (lw_at lw_m1 82 rfl) rfl
theorem q104 : (Jvm.Cond.methodLink "EnergyGameLaw" (49 : Nat) ({ cls := "EnergyGame", name := "need", desc := "(I)I" } : Jvm.MethodName)) ∈ lw_all := lw_g (lw_at lw_m1 86 rfl) rfl
theorem q128 : (Jvm.Cond.methodLink "EnergyGameLaw" (53 : Nat) ({ cls := "EnergyGame", name := "safe", desc := "(I)I" } : Jvm.MethodName)) ∈ lw_all := lw_g (lw_at lw_m1 110 rfl) rfl
theorem q132 : (Jvm.Cond.methodLink "EnergyGameLaw" (57 : Nat) ({ cls := "EnergyGame", name := "hopeless", desc := "()I" } : Jvm.MethodName)) ∈ lw_all := lw_g (lw_at lw_m1 114 rfl) rfl
theorem q136 : (Jvm.Cond.methodLink "EnergyGameLaw" (61 : Nat) ({ cls := "EnergyGame", name := "choice", desc := "(I)I" } : Jvm.MethodName)) ∈ lw_all := lw_g (lw_at lw_m1 118 rfl) rfl
theorem q144 : (Jvm.Cond.methodLink "EnergyGameLaw" (65 : Nat) ({ cls := "EnergyGame", name := "choices", desc := "(I)I" } : Jvm.MethodName)) ∈ lw_all := lw_g (lw_at lw_m1 126 rfl) rfl
theorem q148 : (Jvm.Cond.methodLink "EnergyGameLaw" (69 : Nat) ({ cls := "EnergyGame", name := "needWithout", desc := "(II)I" } : Jvm.MethodName)) ∈ lw_all := lw_g (lw_at lw_m1 130 rfl) rfl
theorem q152 : (Jvm.Cond.methodLink "EnergyGameLaw" (73 : Nat) ({ cls := "EnergyGame", name := "needOf", desc := "(II)I" } : Jvm.MethodName)) ∈ lw_all := lw_g (lw_at lw_m1 134 rfl) rfl
theorem q156 : (Jvm.Cond.methodLink "EnergyGameLaw" (77 : Nat) ({ cls := "EnergyGame", name := "greatest", desc := "()I" } : Jvm.MethodName)) ∈ lw_all := lw_g (lw_at lw_m1 138 rfl) rfl
theorem q160 : (Jvm.Cond.methodLink "EnergyGameLaw" (81 : Nat) ({ cls := "EnergyGame", name := "store", desc := "(II)I" } : Jvm.MethodName)) ∈ lw_all := lw_g (lw_at lw_m1 142 rfl) rfl
theorem q165 : (Jvm.Cond.methodLink "EnergyGameLaw" (9 : Nat) ({ cls := "EnergyGameLaw", name := "cell", desc := "([II)I" } : Jvm.MethodName)) ∈ lw_all := lw_g (lw_at lw_m1 147 rfl) rfl
theorem q166 : (Jvm.Cond.static ({ cls := "EnergyGameLaw", name := "cell", desc := "([II)I" } : Jvm.MethodName)) ∈ lw_all := lw_g (lw_at lw_m1 148 rfl) rfl
theorem q167 : (Jvm.Cond.code ({ cls := "EnergyGameLaw", name := "cell", desc := "([II)I" } : Jvm.MethodName) method_2_code (2 : Nat) (Option.some Jvm.ClassFile.FieldType.int)) ∈ lw_all := lw_g (lw_at lw_m1 149 rfl) rfl
theorem q168 : (Jvm.Cond.classLink "EnergyGameLaw" (18 : Nat) "EnergyGameModel") ∈ lw_all := lw_g (lw_at lw_m1 150 rfl) rfl
theorem q170 : (Jvm.Cond.methodLink "EnergyGameLaw" (20 : Nat) ({ cls := "EnergyGameModel", name := "<init>", desc := "(I)V" } : Jvm.MethodName)) ∈ lw_all := lw_g (lw_at lw_m1 152 rfl) rfl
theorem q199 : (Jvm.Cond.methodLink "EnergyGameLaw" (25 : Nat) ({ cls := "EnergyGameModel", name := "vertices", desc := "()I" } : Jvm.MethodName)) ∈ lw_all := lw_g (lw_at lw_m1 181 rfl) rfl
theorem q203 : (Jvm.Cond.methodLink "EnergyGameLaw" (30 : Nat) ({ cls := "EnergyGameModel", name := "give", desc := "(II)I" } : Jvm.MethodName)) ∈ lw_all := lw_g (lw_at lw_m1 185 rfl) rfl
theorem q211 : (Jvm.Cond.methodLink "EnergyGameLaw" (35 : Nat) ({ cls := "EnergyGameModel", name := "link", desc := "(III)I" } : Jvm.MethodName)) ∈ lw_all := lw_g (lw_at lw_m1 193 rfl) rfl
theorem q219 : (Jvm.Cond.methodLink "EnergyGameLaw" (40 : Nat) ({ cls := "EnergyGameModel", name := "cut", desc := "(I)I" } : Jvm.MethodName)) ∈ lw_all := lw_g (lw_at lw_m1 201 rfl) rfl
theorem q227 : (Jvm.Cond.methodLink "EnergyGameLaw" (44 : Nat) ({ cls := "EnergyGameModel", name := "set", desc := "(II)I" } : Jvm.MethodName)) ∈ lw_all := lw_g (lw_at lw_m1 209 rfl) rfl
theorem q231 : (Jvm.Cond.methodLink "EnergyGameLaw" (48 : Nat) ({ cls := "EnergyGameModel", name := "edges", desc := "()I" } : Jvm.MethodName)) ∈ lw_all := lw_g (lw_at lw_m1 213 rfl) rfl
theorem q235 : (Jvm.Cond.methodLink "EnergyGameLaw" (52 : Nat) ({ cls := "EnergyGameModel", name := "need", desc := "(I)I" } : Jvm.MethodName)) ∈ lw_all := lw_g (lw_at lw_m1 217 rfl) rfl
theorem q255 : (Jvm.Cond.methodLink "EnergyGameLaw" (56 : Nat) ({ cls := "EnergyGameModel", name := "safe", desc := "(I)I" } : Jvm.MethodName)) ∈ lw_all := lw_g (lw_at lw_m1 237 rfl) rfl
theorem q259 : (Jvm.Cond.methodLink "EnergyGameLaw" (60 : Nat) ({ cls := "EnergyGameModel", name := "hopeless", desc := "()I" } : Jvm.MethodName)) ∈ lw_all := lw_g (lw_at lw_m2 1 rfl) rfl
theorem q263 : (Jvm.Cond.methodLink "EnergyGameLaw" (64 : Nat) ({ cls := "EnergyGameModel", name := "choice", desc := "(I)I" } : Jvm.MethodName)) ∈ lw_all := lw_g (lw_at lw_m2 5 rfl) rfl
theorem q275 : (Jvm.Cond.methodLink "EnergyGameLaw" (68 : Nat) ({ cls := "EnergyGameModel", name := "choices", desc := "(I)I" } : Jvm.MethodName)) ∈ lw_all := lw_g (lw_at lw_m2 17 rfl) rfl
theorem q279 : (Jvm.Cond.methodLink "EnergyGameLaw" (72 : Nat) ({ cls := "EnergyGameModel", name := "needWithout", desc := "(II)I" } : Jvm.MethodName)) ∈ lw_all := lw_g (lw_at lw_m2 21 rfl) rfl
theorem q283 : (Jvm.Cond.methodLink "EnergyGameLaw" (76 : Nat) ({ cls := "EnergyGameModel", name := "needOf", desc := "(II)I" } : Jvm.MethodName)) ∈ lw_all := lw_g (lw_at lw_m2 25 rfl) rfl
theorem q287 : (Jvm.Cond.methodLink "EnergyGameLaw" (80 : Nat) ({ cls := "EnergyGameModel", name := "greatest", desc := "()I" } : Jvm.MethodName)) ∈ lw_all := lw_g (lw_at lw_m2 29 rfl) rfl
theorem q291 : (Jvm.Cond.methodLink "EnergyGameLaw" (84 : Nat) ({ cls := "EnergyGameModel", name := "store", desc := "(II)I" } : Jvm.MethodName)) ∈ lw_all := lw_g (lw_at lw_m2 33 rfl) rfl
theorem q66 : (Jvm.Cond.arrayClass Jvm.ClassFile.FieldType.int) ∈ lw_all := lw_g (lw_at lw_m1 48 rfl) rfl
set_option maxRecDepth 100000
theorem q67 : (Jvm.Cond.arrayClass Jvm.ClassFile.FieldType.boolean) ∈ lw_all := lw_g (lw_at lw_m1 49 rfl) rfl
/-! the law's own entry -/
set_option maxRecDepth 100000
abbrev cL_law : ByteArray := code
theorem dL_law_0 : decode cL_law 0 = .ok (.new 7, 3) := by decide +kernel
theorem dL_law_3 : decode cL_law 3 = .ok (.dup, 1) := by decide +kernel
theorem dL_law_4 : decode cL_law 4 = .ok (.aload_n 0, 1) := by decide +kernel
theorem dL_law_5 : decode cL_law 5 = .ok (.iconst 0, 1) := by decide +kernel
theorem dL_law_6 : decode cL_law 6 = .ok (.invokestatic 9, 3) := by decide +kernel
theorem dL_law_9 : decode cL_law 9 = .ok (.invokespecial 15, 3) := by decide +kernel
theorem dL_law_12 : decode cL_law 12 = .ok (.astore_n 1, 1) := by decide +kernel
theorem dL_law_13 : decode cL_law 13 = .ok (.new 18, 3) := by decide +kernel
theorem dL_law_16 : decode cL_law 16 = .ok (.dup, 1) := by decide +kernel
theorem dL_law_17 : decode cL_law 17 = .ok (.aload_n 0, 1) := by decide +kernel
theorem dL_law_18 : decode cL_law 18 = .ok (.iconst 0, 1) := by decide +kernel
theorem dL_law_19 : decode cL_law 19 = .ok (.invokestatic 9, 3) := by decide +kernel
theorem dL_law_22 : decode cL_law 22 = .ok (.invokespecial 20, 3) := by decide +kernel
theorem dL_law_25 : decode cL_law 25 = .ok (.astore_n 2, 1) := by decide +kernel
theorem dL_law_26 : decode cL_law 26 = .ok (.iconst 1, 1) := by decide +kernel
theorem dL_law_27 : decode cL_law 27 = .ok (.istore_n 3, 1) := by decide +kernel
theorem dL_law_28 : decode cL_law 28 = .ok (.iload_n 3, 1) := by decide +kernel
theorem dL_law_29 : decode cL_law 29 = .ok (.aload_n 0, 1) := by decide +kernel
theorem dL_law_30 : decode cL_law 30 = .ok (.arraylength, 1) := by decide +kernel
theorem dL_law_31 : decode cL_law 31 = .ok (.iconst 4, 1) := by decide +kernel
theorem dL_law_32 : decode cL_law 32 = .ok (.isub, 1) := by decide +kernel
theorem dL_law_33 : decode cL_law 33 = .ok (.if_icmp .gt 464, 3) := by decide +kernel
theorem dL_law_36 : decode cL_law 36 = .ok (.aload_n 0, 1) := by decide +kernel
theorem dL_law_37 : decode cL_law 37 = .ok (.iload_n 3, 1) := by decide +kernel
theorem dL_law_38 : decode cL_law 38 = .ok (.iaload, 1) := by decide +kernel
theorem dL_law_39 : decode cL_law 39 = .ok (.bipush 15, 2) := by decide +kernel
theorem dL_law_41 : decode cL_law 41 = .ok (.iand, 1) := by decide +kernel
theorem dL_law_42 : decode cL_law 42 = .ok (.tableswitch 449 0 14 #[74, 87, 120, 163, 186, 219, 232, 255, 278, 291, 314, 337, 370, 403, 416], 74) := by decide +kernel
theorem dL_law_116 : decode cL_law 116 = .ok (.aload_n 1, 1) := by decide +kernel
theorem dL_law_117 : decode cL_law 117 = .ok (.invokevirtual 21, 3) := by decide +kernel
theorem dL_law_120 : decode cL_law 120 = .ok (.aload_n 2, 1) := by decide +kernel
theorem dL_law_121 : decode cL_law 121 = .ok (.invokevirtual 25, 3) := by decide +kernel
theorem dL_law_124 : decode cL_law 124 = .ok (.if_icmp .eq 367, 3) := by decide +kernel
theorem dL_law_127 : decode cL_law 127 = .ok (.iconst 0, 1) := by decide +kernel
theorem dL_law_128 : decode cL_law 128 = .ok (.ireturn, 1) := by decide +kernel
theorem dL_law_129 : decode cL_law 129 = .ok (.aload_n 1, 1) := by decide +kernel
theorem dL_law_130 : decode cL_law 130 = .ok (.aload_n 0, 1) := by decide +kernel
theorem dL_law_131 : decode cL_law 131 = .ok (.iload_n 3, 1) := by decide +kernel
theorem dL_law_132 : decode cL_law 132 = .ok (.iconst 1, 1) := by decide +kernel
theorem dL_law_133 : decode cL_law 133 = .ok (.iadd, 1) := by decide +kernel
theorem dL_law_134 : decode cL_law 134 = .ok (.iaload, 1) := by decide +kernel
theorem dL_law_135 : decode cL_law 135 = .ok (.aload_n 0, 1) := by decide +kernel
theorem dL_law_136 : decode cL_law 136 = .ok (.iload_n 3, 1) := by decide +kernel
theorem dL_law_137 : decode cL_law 137 = .ok (.iconst 2, 1) := by decide +kernel
theorem dL_law_138 : decode cL_law 138 = .ok (.iadd, 1) := by decide +kernel
theorem dL_law_139 : decode cL_law 139 = .ok (.iaload, 1) := by decide +kernel
theorem dL_law_140 : decode cL_law 140 = .ok (.invokevirtual 26, 3) := by decide +kernel
theorem dL_law_143 : decode cL_law 143 = .ok (.aload_n 2, 1) := by decide +kernel
theorem dL_law_144 : decode cL_law 144 = .ok (.aload_n 0, 1) := by decide +kernel
theorem dL_law_145 : decode cL_law 145 = .ok (.iload_n 3, 1) := by decide +kernel
theorem dL_law_146 : decode cL_law 146 = .ok (.iconst 1, 1) := by decide +kernel
theorem dL_law_147 : decode cL_law 147 = .ok (.iadd, 1) := by decide +kernel
theorem dL_law_148 : decode cL_law 148 = .ok (.iaload, 1) := by decide +kernel
theorem dL_law_149 : decode cL_law 149 = .ok (.aload_n 0, 1) := by decide +kernel
theorem dL_law_150 : decode cL_law 150 = .ok (.iload_n 3, 1) := by decide +kernel
theorem dL_law_151 : decode cL_law 151 = .ok (.iconst 2, 1) := by decide +kernel
theorem dL_law_152 : decode cL_law 152 = .ok (.iadd, 1) := by decide +kernel
theorem dL_law_153 : decode cL_law 153 = .ok (.iaload, 1) := by decide +kernel
theorem dL_law_154 : decode cL_law 154 = .ok (.invokevirtual 30, 3) := by decide +kernel
theorem dL_law_157 : decode cL_law 157 = .ok (.if_icmp .eq 334, 3) := by decide +kernel
theorem dL_law_160 : decode cL_law 160 = .ok (.iconst 0, 1) := by decide +kernel
theorem dL_law_161 : decode cL_law 161 = .ok (.ireturn, 1) := by decide +kernel
theorem dL_law_162 : decode cL_law 162 = .ok (.aload_n 1, 1) := by decide +kernel
theorem dL_law_163 : decode cL_law 163 = .ok (.aload_n 0, 1) := by decide +kernel
theorem dL_law_164 : decode cL_law 164 = .ok (.iload_n 3, 1) := by decide +kernel
theorem dL_law_165 : decode cL_law 165 = .ok (.iconst 1, 1) := by decide +kernel
theorem dL_law_166 : decode cL_law 166 = .ok (.iadd, 1) := by decide +kernel
theorem dL_law_167 : decode cL_law 167 = .ok (.iaload, 1) := by decide +kernel
theorem dL_law_168 : decode cL_law 168 = .ok (.aload_n 0, 1) := by decide +kernel
theorem dL_law_169 : decode cL_law 169 = .ok (.iload_n 3, 1) := by decide +kernel
theorem dL_law_170 : decode cL_law 170 = .ok (.iconst 2, 1) := by decide +kernel
theorem dL_law_171 : decode cL_law 171 = .ok (.iadd, 1) := by decide +kernel
theorem dL_law_172 : decode cL_law 172 = .ok (.iaload, 1) := by decide +kernel
theorem dL_law_173 : decode cL_law 173 = .ok (.aload_n 0, 1) := by decide +kernel
theorem dL_law_174 : decode cL_law 174 = .ok (.iload_n 3, 1) := by decide +kernel
theorem dL_law_175 : decode cL_law 175 = .ok (.iconst 3, 1) := by decide +kernel
theorem dL_law_176 : decode cL_law 176 = .ok (.iadd, 1) := by decide +kernel
theorem dL_law_177 : decode cL_law 177 = .ok (.iaload, 1) := by decide +kernel
theorem dL_law_178 : decode cL_law 178 = .ok (.invokevirtual 31, 3) := by decide +kernel
theorem dL_law_181 : decode cL_law 181 = .ok (.aload_n 2, 1) := by decide +kernel
theorem dL_law_182 : decode cL_law 182 = .ok (.aload_n 0, 1) := by decide +kernel
theorem dL_law_183 : decode cL_law 183 = .ok (.iload_n 3, 1) := by decide +kernel
theorem dL_law_184 : decode cL_law 184 = .ok (.iconst 1, 1) := by decide +kernel
theorem dL_law_185 : decode cL_law 185 = .ok (.iadd, 1) := by decide +kernel
theorem dL_law_186 : decode cL_law 186 = .ok (.iaload, 1) := by decide +kernel
theorem dL_law_187 : decode cL_law 187 = .ok (.aload_n 0, 1) := by decide +kernel
theorem dL_law_188 : decode cL_law 188 = .ok (.iload_n 3, 1) := by decide +kernel
theorem dL_law_189 : decode cL_law 189 = .ok (.iconst 2, 1) := by decide +kernel
theorem dL_law_190 : decode cL_law 190 = .ok (.iadd, 1) := by decide +kernel
theorem dL_law_191 : decode cL_law 191 = .ok (.iaload, 1) := by decide +kernel
theorem dL_law_192 : decode cL_law 192 = .ok (.aload_n 0, 1) := by decide +kernel
theorem dL_law_193 : decode cL_law 193 = .ok (.iload_n 3, 1) := by decide +kernel
theorem dL_law_194 : decode cL_law 194 = .ok (.iconst 3, 1) := by decide +kernel
theorem dL_law_195 : decode cL_law 195 = .ok (.iadd, 1) := by decide +kernel
theorem dL_law_196 : decode cL_law 196 = .ok (.iaload, 1) := by decide +kernel
theorem dL_law_197 : decode cL_law 197 = .ok (.invokevirtual 35, 3) := by decide +kernel
theorem dL_law_200 : decode cL_law 200 = .ok (.if_icmp .eq 291, 3) := by decide +kernel
theorem dL_law_203 : decode cL_law 203 = .ok (.iconst 0, 1) := by decide +kernel
theorem dL_law_204 : decode cL_law 204 = .ok (.ireturn, 1) := by decide +kernel
theorem dL_law_205 : decode cL_law 205 = .ok (.aload_n 1, 1) := by decide +kernel
theorem dL_law_206 : decode cL_law 206 = .ok (.aload_n 0, 1) := by decide +kernel
theorem dL_law_207 : decode cL_law 207 = .ok (.iload_n 3, 1) := by decide +kernel
theorem dL_law_208 : decode cL_law 208 = .ok (.iconst 1, 1) := by decide +kernel
theorem dL_law_209 : decode cL_law 209 = .ok (.iadd, 1) := by decide +kernel
theorem dL_law_210 : decode cL_law 210 = .ok (.iaload, 1) := by decide +kernel
theorem dL_law_211 : decode cL_law 211 = .ok (.invokevirtual 36, 3) := by decide +kernel
theorem dL_law_214 : decode cL_law 214 = .ok (.aload_n 2, 1) := by decide +kernel
theorem dL_law_215 : decode cL_law 215 = .ok (.aload_n 0, 1) := by decide +kernel
theorem dL_law_216 : decode cL_law 216 = .ok (.iload_n 3, 1) := by decide +kernel
theorem dL_law_217 : decode cL_law 217 = .ok (.iconst 1, 1) := by decide +kernel
theorem dL_law_218 : decode cL_law 218 = .ok (.iadd, 1) := by decide +kernel
theorem dL_law_219 : decode cL_law 219 = .ok (.iaload, 1) := by decide +kernel
theorem dL_law_220 : decode cL_law 220 = .ok (.invokevirtual 40, 3) := by decide +kernel
theorem dL_law_223 : decode cL_law 223 = .ok (.if_icmp .eq 268, 3) := by decide +kernel
theorem dL_law_226 : decode cL_law 226 = .ok (.iconst 0, 1) := by decide +kernel
theorem dL_law_227 : decode cL_law 227 = .ok (.ireturn, 1) := by decide +kernel
theorem dL_law_228 : decode cL_law 228 = .ok (.aload_n 1, 1) := by decide +kernel
theorem dL_law_229 : decode cL_law 229 = .ok (.aload_n 0, 1) := by decide +kernel
theorem dL_law_230 : decode cL_law 230 = .ok (.iload_n 3, 1) := by decide +kernel
theorem dL_law_231 : decode cL_law 231 = .ok (.iconst 1, 1) := by decide +kernel
theorem dL_law_232 : decode cL_law 232 = .ok (.iadd, 1) := by decide +kernel
theorem dL_law_233 : decode cL_law 233 = .ok (.iaload, 1) := by decide +kernel
theorem dL_law_234 : decode cL_law 234 = .ok (.aload_n 0, 1) := by decide +kernel
theorem dL_law_235 : decode cL_law 235 = .ok (.iload_n 3, 1) := by decide +kernel
theorem dL_law_236 : decode cL_law 236 = .ok (.iconst 2, 1) := by decide +kernel
theorem dL_law_237 : decode cL_law 237 = .ok (.iadd, 1) := by decide +kernel
theorem dL_law_238 : decode cL_law 238 = .ok (.iaload, 1) := by decide +kernel
theorem dL_law_239 : decode cL_law 239 = .ok (.invokevirtual 41, 3) := by decide +kernel
theorem dL_law_242 : decode cL_law 242 = .ok (.aload_n 2, 1) := by decide +kernel
theorem dL_law_243 : decode cL_law 243 = .ok (.aload_n 0, 1) := by decide +kernel
theorem dL_law_244 : decode cL_law 244 = .ok (.iload_n 3, 1) := by decide +kernel
theorem dL_law_245 : decode cL_law 245 = .ok (.iconst 1, 1) := by decide +kernel
theorem dL_law_246 : decode cL_law 246 = .ok (.iadd, 1) := by decide +kernel
theorem dL_law_247 : decode cL_law 247 = .ok (.iaload, 1) := by decide +kernel
theorem dL_law_248 : decode cL_law 248 = .ok (.aload_n 0, 1) := by decide +kernel
theorem dL_law_249 : decode cL_law 249 = .ok (.iload_n 3, 1) := by decide +kernel
theorem dL_law_250 : decode cL_law 250 = .ok (.iconst 2, 1) := by decide +kernel
theorem dL_law_251 : decode cL_law 251 = .ok (.iadd, 1) := by decide +kernel
theorem dL_law_252 : decode cL_law 252 = .ok (.iaload, 1) := by decide +kernel
theorem dL_law_253 : decode cL_law 253 = .ok (.invokevirtual 44, 3) := by decide +kernel
theorem dL_law_256 : decode cL_law 256 = .ok (.if_icmp .eq 235, 3) := by decide +kernel
theorem dL_law_259 : decode cL_law 259 = .ok (.iconst 0, 1) := by decide +kernel
theorem dL_law_260 : decode cL_law 260 = .ok (.ireturn, 1) := by decide +kernel
theorem dL_law_261 : decode cL_law 261 = .ok (.aload_n 1, 1) := by decide +kernel
theorem dL_law_262 : decode cL_law 262 = .ok (.invokevirtual 45, 3) := by decide +kernel
theorem dL_law_265 : decode cL_law 265 = .ok (.aload_n 2, 1) := by decide +kernel
theorem dL_law_266 : decode cL_law 266 = .ok (.invokevirtual 48, 3) := by decide +kernel
theorem dL_law_269 : decode cL_law 269 = .ok (.if_icmp .eq 222, 3) := by decide +kernel
theorem dL_law_272 : decode cL_law 272 = .ok (.iconst 0, 1) := by decide +kernel
theorem dL_law_273 : decode cL_law 273 = .ok (.ireturn, 1) := by decide +kernel
theorem dL_law_274 : decode cL_law 274 = .ok (.aload_n 1, 1) := by decide +kernel
theorem dL_law_275 : decode cL_law 275 = .ok (.aload_n 0, 1) := by decide +kernel
theorem dL_law_276 : decode cL_law 276 = .ok (.iload_n 3, 1) := by decide +kernel
theorem dL_law_277 : decode cL_law 277 = .ok (.iconst 1, 1) := by decide +kernel
theorem dL_law_278 : decode cL_law 278 = .ok (.iadd, 1) := by decide +kernel
theorem dL_law_279 : decode cL_law 279 = .ok (.iaload, 1) := by decide +kernel
theorem dL_law_280 : decode cL_law 280 = .ok (.invokevirtual 49, 3) := by decide +kernel
theorem dL_law_283 : decode cL_law 283 = .ok (.aload_n 2, 1) := by decide +kernel
theorem dL_law_284 : decode cL_law 284 = .ok (.aload_n 0, 1) := by decide +kernel
theorem dL_law_285 : decode cL_law 285 = .ok (.iload_n 3, 1) := by decide +kernel
theorem dL_law_286 : decode cL_law 286 = .ok (.iconst 1, 1) := by decide +kernel
theorem dL_law_287 : decode cL_law 287 = .ok (.iadd, 1) := by decide +kernel
theorem dL_law_288 : decode cL_law 288 = .ok (.iaload, 1) := by decide +kernel
theorem dL_law_289 : decode cL_law 289 = .ok (.invokevirtual 52, 3) := by decide +kernel
theorem dL_law_292 : decode cL_law 292 = .ok (.if_icmp .eq 199, 3) := by decide +kernel
theorem dL_law_295 : decode cL_law 295 = .ok (.iconst 0, 1) := by decide +kernel
theorem dL_law_296 : decode cL_law 296 = .ok (.ireturn, 1) := by decide +kernel
theorem dL_law_297 : decode cL_law 297 = .ok (.aload_n 1, 1) := by decide +kernel
theorem dL_law_298 : decode cL_law 298 = .ok (.aload_n 0, 1) := by decide +kernel
theorem dL_law_299 : decode cL_law 299 = .ok (.iload_n 3, 1) := by decide +kernel
theorem dL_law_300 : decode cL_law 300 = .ok (.iconst 1, 1) := by decide +kernel
theorem dL_law_301 : decode cL_law 301 = .ok (.iadd, 1) := by decide +kernel
theorem dL_law_302 : decode cL_law 302 = .ok (.iaload, 1) := by decide +kernel
theorem dL_law_303 : decode cL_law 303 = .ok (.invokevirtual 53, 3) := by decide +kernel
theorem dL_law_306 : decode cL_law 306 = .ok (.aload_n 2, 1) := by decide +kernel
theorem dL_law_307 : decode cL_law 307 = .ok (.aload_n 0, 1) := by decide +kernel
theorem dL_law_308 : decode cL_law 308 = .ok (.iload_n 3, 1) := by decide +kernel
theorem dL_law_309 : decode cL_law 309 = .ok (.iconst 1, 1) := by decide +kernel
theorem dL_law_310 : decode cL_law 310 = .ok (.iadd, 1) := by decide +kernel
theorem dL_law_311 : decode cL_law 311 = .ok (.iaload, 1) := by decide +kernel
theorem dL_law_312 : decode cL_law 312 = .ok (.invokevirtual 56, 3) := by decide +kernel
theorem dL_law_315 : decode cL_law 315 = .ok (.if_icmp .eq 176, 3) := by decide +kernel
theorem dL_law_318 : decode cL_law 318 = .ok (.iconst 0, 1) := by decide +kernel
theorem dL_law_319 : decode cL_law 319 = .ok (.ireturn, 1) := by decide +kernel
theorem dL_law_320 : decode cL_law 320 = .ok (.aload_n 1, 1) := by decide +kernel
theorem dL_law_321 : decode cL_law 321 = .ok (.invokevirtual 57, 3) := by decide +kernel
theorem dL_law_324 : decode cL_law 324 = .ok (.aload_n 2, 1) := by decide +kernel
theorem dL_law_325 : decode cL_law 325 = .ok (.invokevirtual 60, 3) := by decide +kernel
theorem dL_law_328 : decode cL_law 328 = .ok (.if_icmp .eq 163, 3) := by decide +kernel
theorem dL_law_331 : decode cL_law 331 = .ok (.iconst 0, 1) := by decide +kernel
theorem dL_law_332 : decode cL_law 332 = .ok (.ireturn, 1) := by decide +kernel
theorem dL_law_333 : decode cL_law 333 = .ok (.aload_n 1, 1) := by decide +kernel
theorem dL_law_334 : decode cL_law 334 = .ok (.aload_n 0, 1) := by decide +kernel
theorem dL_law_335 : decode cL_law 335 = .ok (.iload_n 3, 1) := by decide +kernel
theorem dL_law_336 : decode cL_law 336 = .ok (.iconst 1, 1) := by decide +kernel
theorem dL_law_337 : decode cL_law 337 = .ok (.iadd, 1) := by decide +kernel
theorem dL_law_338 : decode cL_law 338 = .ok (.iaload, 1) := by decide +kernel
theorem dL_law_339 : decode cL_law 339 = .ok (.invokevirtual 61, 3) := by decide +kernel
theorem dL_law_342 : decode cL_law 342 = .ok (.aload_n 2, 1) := by decide +kernel
theorem dL_law_343 : decode cL_law 343 = .ok (.aload_n 0, 1) := by decide +kernel
theorem dL_law_344 : decode cL_law 344 = .ok (.iload_n 3, 1) := by decide +kernel
theorem dL_law_345 : decode cL_law 345 = .ok (.iconst 1, 1) := by decide +kernel
theorem dL_law_346 : decode cL_law 346 = .ok (.iadd, 1) := by decide +kernel
theorem dL_law_347 : decode cL_law 347 = .ok (.iaload, 1) := by decide +kernel
theorem dL_law_348 : decode cL_law 348 = .ok (.invokevirtual 64, 3) := by decide +kernel
theorem dL_law_351 : decode cL_law 351 = .ok (.if_icmp .eq 140, 3) := by decide +kernel
theorem dL_law_354 : decode cL_law 354 = .ok (.iconst 0, 1) := by decide +kernel
theorem dL_law_355 : decode cL_law 355 = .ok (.ireturn, 1) := by decide +kernel
theorem dL_law_356 : decode cL_law 356 = .ok (.aload_n 1, 1) := by decide +kernel
theorem dL_law_357 : decode cL_law 357 = .ok (.aload_n 0, 1) := by decide +kernel
theorem dL_law_358 : decode cL_law 358 = .ok (.iload_n 3, 1) := by decide +kernel
theorem dL_law_359 : decode cL_law 359 = .ok (.iconst 1, 1) := by decide +kernel
theorem dL_law_360 : decode cL_law 360 = .ok (.iadd, 1) := by decide +kernel
theorem dL_law_361 : decode cL_law 361 = .ok (.iaload, 1) := by decide +kernel
theorem dL_law_362 : decode cL_law 362 = .ok (.invokevirtual 65, 3) := by decide +kernel
theorem dL_law_365 : decode cL_law 365 = .ok (.aload_n 2, 1) := by decide +kernel
theorem dL_law_366 : decode cL_law 366 = .ok (.aload_n 0, 1) := by decide +kernel
theorem dL_law_367 : decode cL_law 367 = .ok (.iload_n 3, 1) := by decide +kernel
theorem dL_law_368 : decode cL_law 368 = .ok (.iconst 1, 1) := by decide +kernel
theorem dL_law_369 : decode cL_law 369 = .ok (.iadd, 1) := by decide +kernel
theorem dL_law_370 : decode cL_law 370 = .ok (.iaload, 1) := by decide +kernel
theorem dL_law_371 : decode cL_law 371 = .ok (.invokevirtual 68, 3) := by decide +kernel
theorem dL_law_374 : decode cL_law 374 = .ok (.if_icmp .eq 117, 3) := by decide +kernel
theorem dL_law_377 : decode cL_law 377 = .ok (.iconst 0, 1) := by decide +kernel
theorem dL_law_378 : decode cL_law 378 = .ok (.ireturn, 1) := by decide +kernel
theorem dL_law_379 : decode cL_law 379 = .ok (.aload_n 1, 1) := by decide +kernel
theorem dL_law_380 : decode cL_law 380 = .ok (.aload_n 0, 1) := by decide +kernel
theorem dL_law_381 : decode cL_law 381 = .ok (.iload_n 3, 1) := by decide +kernel
theorem dL_law_382 : decode cL_law 382 = .ok (.iconst 1, 1) := by decide +kernel
theorem dL_law_383 : decode cL_law 383 = .ok (.iadd, 1) := by decide +kernel
theorem dL_law_384 : decode cL_law 384 = .ok (.iaload, 1) := by decide +kernel
theorem dL_law_385 : decode cL_law 385 = .ok (.aload_n 0, 1) := by decide +kernel
theorem dL_law_386 : decode cL_law 386 = .ok (.iload_n 3, 1) := by decide +kernel
theorem dL_law_387 : decode cL_law 387 = .ok (.iconst 2, 1) := by decide +kernel
theorem dL_law_388 : decode cL_law 388 = .ok (.iadd, 1) := by decide +kernel
theorem dL_law_389 : decode cL_law 389 = .ok (.iaload, 1) := by decide +kernel
theorem dL_law_390 : decode cL_law 390 = .ok (.invokevirtual 69, 3) := by decide +kernel
theorem dL_law_393 : decode cL_law 393 = .ok (.aload_n 2, 1) := by decide +kernel
theorem dL_law_394 : decode cL_law 394 = .ok (.aload_n 0, 1) := by decide +kernel
theorem dL_law_395 : decode cL_law 395 = .ok (.iload_n 3, 1) := by decide +kernel
theorem dL_law_396 : decode cL_law 396 = .ok (.iconst 1, 1) := by decide +kernel
theorem dL_law_397 : decode cL_law 397 = .ok (.iadd, 1) := by decide +kernel
theorem dL_law_398 : decode cL_law 398 = .ok (.iaload, 1) := by decide +kernel
theorem dL_law_399 : decode cL_law 399 = .ok (.aload_n 0, 1) := by decide +kernel
theorem dL_law_400 : decode cL_law 400 = .ok (.iload_n 3, 1) := by decide +kernel
theorem dL_law_401 : decode cL_law 401 = .ok (.iconst 2, 1) := by decide +kernel
theorem dL_law_402 : decode cL_law 402 = .ok (.iadd, 1) := by decide +kernel
theorem dL_law_403 : decode cL_law 403 = .ok (.iaload, 1) := by decide +kernel
theorem dL_law_404 : decode cL_law 404 = .ok (.invokevirtual 72, 3) := by decide +kernel
theorem dL_law_407 : decode cL_law 407 = .ok (.if_icmp .eq 84, 3) := by decide +kernel
theorem dL_law_410 : decode cL_law 410 = .ok (.iconst 0, 1) := by decide +kernel
theorem dL_law_411 : decode cL_law 411 = .ok (.ireturn, 1) := by decide +kernel
theorem dL_law_412 : decode cL_law 412 = .ok (.aload_n 1, 1) := by decide +kernel
theorem dL_law_413 : decode cL_law 413 = .ok (.aload_n 0, 1) := by decide +kernel
theorem dL_law_414 : decode cL_law 414 = .ok (.iload_n 3, 1) := by decide +kernel
theorem dL_law_415 : decode cL_law 415 = .ok (.iconst 1, 1) := by decide +kernel
theorem dL_law_416 : decode cL_law 416 = .ok (.iadd, 1) := by decide +kernel
theorem dL_law_417 : decode cL_law 417 = .ok (.iaload, 1) := by decide +kernel
theorem dL_law_418 : decode cL_law 418 = .ok (.aload_n 0, 1) := by decide +kernel
theorem dL_law_419 : decode cL_law 419 = .ok (.iload_n 3, 1) := by decide +kernel
theorem dL_law_420 : decode cL_law 420 = .ok (.iconst 2, 1) := by decide +kernel
theorem dL_law_421 : decode cL_law 421 = .ok (.iadd, 1) := by decide +kernel
theorem dL_law_422 : decode cL_law 422 = .ok (.iaload, 1) := by decide +kernel
theorem dL_law_423 : decode cL_law 423 = .ok (.invokevirtual 73, 3) := by decide +kernel
theorem dL_law_426 : decode cL_law 426 = .ok (.aload_n 2, 1) := by decide +kernel
theorem dL_law_427 : decode cL_law 427 = .ok (.aload_n 0, 1) := by decide +kernel
theorem dL_law_428 : decode cL_law 428 = .ok (.iload_n 3, 1) := by decide +kernel
theorem dL_law_429 : decode cL_law 429 = .ok (.iconst 1, 1) := by decide +kernel
theorem dL_law_430 : decode cL_law 430 = .ok (.iadd, 1) := by decide +kernel
theorem dL_law_431 : decode cL_law 431 = .ok (.iaload, 1) := by decide +kernel
theorem dL_law_432 : decode cL_law 432 = .ok (.aload_n 0, 1) := by decide +kernel
theorem dL_law_433 : decode cL_law 433 = .ok (.iload_n 3, 1) := by decide +kernel
theorem dL_law_434 : decode cL_law 434 = .ok (.iconst 2, 1) := by decide +kernel
theorem dL_law_435 : decode cL_law 435 = .ok (.iadd, 1) := by decide +kernel
theorem dL_law_436 : decode cL_law 436 = .ok (.iaload, 1) := by decide +kernel
theorem dL_law_437 : decode cL_law 437 = .ok (.invokevirtual 76, 3) := by decide +kernel
theorem dL_law_440 : decode cL_law 440 = .ok (.if_icmp .eq 51, 3) := by decide +kernel
theorem dL_law_443 : decode cL_law 443 = .ok (.iconst 0, 1) := by decide +kernel
theorem dL_law_444 : decode cL_law 444 = .ok (.ireturn, 1) := by decide +kernel
theorem dL_law_445 : decode cL_law 445 = .ok (.aload_n 1, 1) := by decide +kernel
theorem dL_law_446 : decode cL_law 446 = .ok (.invokevirtual 77, 3) := by decide +kernel
theorem dL_law_449 : decode cL_law 449 = .ok (.aload_n 2, 1) := by decide +kernel
theorem dL_law_450 : decode cL_law 450 = .ok (.invokevirtual 80, 3) := by decide +kernel
theorem dL_law_453 : decode cL_law 453 = .ok (.if_icmp .eq 38, 3) := by decide +kernel
theorem dL_law_456 : decode cL_law 456 = .ok (.iconst 0, 1) := by decide +kernel
theorem dL_law_457 : decode cL_law 457 = .ok (.ireturn, 1) := by decide +kernel
theorem dL_law_458 : decode cL_law 458 = .ok (.aload_n 1, 1) := by decide +kernel
theorem dL_law_459 : decode cL_law 459 = .ok (.aload_n 0, 1) := by decide +kernel
theorem dL_law_460 : decode cL_law 460 = .ok (.iload_n 3, 1) := by decide +kernel
theorem dL_law_461 : decode cL_law 461 = .ok (.iconst 1, 1) := by decide +kernel
theorem dL_law_462 : decode cL_law 462 = .ok (.iadd, 1) := by decide +kernel
theorem dL_law_463 : decode cL_law 463 = .ok (.iaload, 1) := by decide +kernel
theorem dL_law_464 : decode cL_law 464 = .ok (.aload_n 0, 1) := by decide +kernel
theorem dL_law_465 : decode cL_law 465 = .ok (.iload_n 3, 1) := by decide +kernel
theorem dL_law_466 : decode cL_law 466 = .ok (.iconst 2, 1) := by decide +kernel
theorem dL_law_467 : decode cL_law 467 = .ok (.iadd, 1) := by decide +kernel
theorem dL_law_468 : decode cL_law 468 = .ok (.iaload, 1) := by decide +kernel
theorem dL_law_469 : decode cL_law 469 = .ok (.invokevirtual 81, 3) := by decide +kernel
theorem dL_law_472 : decode cL_law 472 = .ok (.aload_n 2, 1) := by decide +kernel
theorem dL_law_473 : decode cL_law 473 = .ok (.aload_n 0, 1) := by decide +kernel
theorem dL_law_474 : decode cL_law 474 = .ok (.iload_n 3, 1) := by decide +kernel
theorem dL_law_475 : decode cL_law 475 = .ok (.iconst 1, 1) := by decide +kernel
theorem dL_law_476 : decode cL_law 476 = .ok (.iadd, 1) := by decide +kernel
theorem dL_law_477 : decode cL_law 477 = .ok (.iaload, 1) := by decide +kernel
theorem dL_law_478 : decode cL_law 478 = .ok (.aload_n 0, 1) := by decide +kernel
theorem dL_law_479 : decode cL_law 479 = .ok (.iload_n 3, 1) := by decide +kernel
theorem dL_law_480 : decode cL_law 480 = .ok (.iconst 2, 1) := by decide +kernel
theorem dL_law_481 : decode cL_law 481 = .ok (.iadd, 1) := by decide +kernel
theorem dL_law_482 : decode cL_law 482 = .ok (.iaload, 1) := by decide +kernel
theorem dL_law_483 : decode cL_law 483 = .ok (.invokevirtual 84, 3) := by decide +kernel
theorem dL_law_486 : decode cL_law 486 = .ok (.if_icmp .eq 5, 3) := by decide +kernel
theorem dL_law_489 : decode cL_law 489 = .ok (.iconst 0, 1) := by decide +kernel
theorem dL_law_490 : decode cL_law 490 = .ok (.ireturn, 1) := by decide +kernel
theorem dL_law_491 : decode cL_law 491 = .ok (.iinc 3 4, 3) := by decide +kernel
theorem dL_law_494 : decode cL_law 494 = .ok (.goto (-466), 3) := by decide +kernel
theorem dL_law_497 : decode cL_law 497 = .ok (.iconst 1, 1) := by decide +kernel
theorem dL_law_498 : decode cL_law 498 = .ok (.ireturn, 1) := by decide +kernel
end
section
/-! ROWS OF MY OWN over the kit's: places by their numbers, calls that only read, calls with the whole world, a contract's start -/
set_option maxRecDepth 100000
/-- a method that only reads and answers an int -/
def e_R (post : Int32 → Prop) : Array Value → State → Outcome → State → Prop := fun _ st oc t => ∃ r : Int32, oc = .returned (some (.int r)) ∧ post r ∧ t.heap = st.heap
def e_PR (D : va_G) (cl : List vw_C) (tys : List (ClassId × FieldType)) (ws : va_W) (U : State) : Prop := va_P D cl ws U.heap ∧ va_K D cl tys U
def e_PW (D : va_G) (cl : List vw_C) (tys : List (ClassId × FieldType)) (ws : va_W) (sz : Nat) (U : State) : Prop := U.heap.size = sz ∧ va_P D cl ws U.heap ∧ va_K D cl tys U ∧ va_D (fun _ => True) ws
def e_B {S : Type} (D : va_G) (cl : List vw_C) (tys : List (ClassId × FieldType)) (w1 : S → va_W) (A : Nat → Prop) (u : S) (t : State) : Prop := va_P D cl (w1 u) t.heap ∧ va_K D cl tys t ∧ va_D A (w1 u)
section EGR
variable {p : Program} {l : Launch} {e : Env} {R : Room} {s : State} {m : MethodId} {args : Array Value} {below : List Frame} {meth : Method} {c : Code} {H : Heap} {locs : List Loc} {cells slots : Nat} {Q : State → Prop}
variable {cc : ByteArray} {pc : Nat} {ls : Array Slot} {rest st0 : List Value} {D : va_G} {cl : List vw_C} {A : Nat → Prop} {a : Nat} {tys : List (ClassId × FieldType)} {ws : va_W} {H0 : Heap}
theorem e_top {x : Int32} (y : Int32) (h : x = y) (k : W p l e R s m args below meth c H locs cells slots Q (F0 m pc ls (.int y :: rest))) : W p l e R s m args below meth c H locs cells slots Q (F0 m pc ls (.int x :: rest)) := by
  subst h
  exact k
theorem e_ild (hexec : p.tables.exec = Jvm.exec) (hb : c.code = cc) (hK : va_K D cl tys s) (hP : va_P D cl ws H) (q0 t0 : Nat) {cA : ClassId} {n : Nat} {f : Nat → Int32} (ha : ws[q0]? = some (a, .inl (cA, n, .inl f))) (ht : tys[t0]? = some (cA, .int)) {i v : Int32} (j : Nat) (hi : i = nI j) (hj : j < n) (hn : n < 2 ^ 31) (hv : f j = v) (hdg : decode cc pc = .ok (.iaload, 1))
    (kk : W p l e R s m args below meth c H locs cells slots Q (F0 m (pc + 1) ls (.int v :: rest))) : W p l e R s m args below meth c H locs cells slots Q (F0 m pc ls (.int i :: .ref a :: rest)) := by
  subst hi
  subst hv
  refine va_iald hexec hb hK hP q0 t0 ha ht (vp_in_nI hj hn) hdg ?_
  rw [nI_clamp (by omega)]
  exact kk
theorem e_zld (hexec : p.tables.exec = Jvm.exec) (hb : c.code = cc) (hK : va_K D cl tys s) (hP : va_P D cl ws H) (q0 t0 : Nat) {cA : ClassId} {n : Nat} {f : Nat → Int32} (ha : ws[q0]? = some (a, .inl (cA, n, .inl f))) (ht : tys[t0]? = some (cA, .boolean)) {i v : Int32} (j : Nat) (hi : i = nI j) (hj : j < n) (hn : n < 2 ^ 31) (hv : f j = v) (hdg : decode cc pc = .ok (.baload, 1))
    (kk : W p l e R s m args below meth c H locs cells slots Q (F0 m (pc + 1) ls (.int v :: rest))) : W p l e R s m args below meth c H locs cells slots Q (F0 m pc ls (.int i :: .ref a :: rest)) := by
  subst hi
  subst hv
  refine va_zald hexec hb hK hP q0 t0 ha ht (vp_in_nI hj hn) hdg ?_
  rw [nI_clamp (by omega)]
  exact kk
theorem e_ist (hexec : p.tables.exec = Jvm.exec) (hb : c.code = cc) (hK : va_K D cl tys s) (hP : va_P D cl ws H) (hD : va_D A ws) (hS : va_S A H0 H locs) (q0 t0 : Nat) {cA : ClassId} {n : Nat} {f : Nat → Int32} (ha : ws[q0]? = some (a, .inl (cA, n, .inl f))) (ht : tys[t0]? = some (cA, .int)) {i : Int32} {x : Int32} (j : Nat) (hi : i = nI j) (hj : j < n) (hn : n < 2 ^ 31) {f2 : Nat → Int32} (hf : upd f j x = f2) (hdg : decode cc pc = .ok (.iastore, 1))
    (kk : ∀ (H1 : Heap) (locs1 : List Loc), va_P D cl (ws.set q0 (a, .inl (cA, n, .inl f2))) H1 → va_D A (ws.set q0 (a, .inl (cA, n, .inl f2))) → va_S A H0 H1 locs1 → W p l e R s m args below meth c H1 locs1 cells slots Q (F0 m (pc + 1) ls rest)) : W p l e R s m args below meth c H locs cells slots Q (F0 m pc ls (.int x :: .int i :: .ref a :: rest)) := by
  subst hi
  subst hf
  refine va_iast hexec hb hK hP hD hS q0 t0 ha ht (vp_in_nI hj hn) hdg ?_
  rw [nI_clamp (by omega)]
  exact kk
theorem e_zst (hexec : p.tables.exec = Jvm.exec) (hb : c.code = cc) (hK : va_K D cl tys s) (hP : va_P D cl ws H) (hD : va_D A ws) (hS : va_S A H0 H locs) (q0 t0 : Nat) {cA : ClassId} {n : Nat} {f : Nat → Int32} (ha : ws[q0]? = some (a, .inl (cA, n, .inl f))) (ht : tys[t0]? = some (cA, .boolean)) {i : Int32} {x : Int32} (j : Nat) (hi : i = nI j) (hj : j < n) (hn : n < 2 ^ 31) (hx : vp_nar .boolean x = x) {f2 : Nat → Int32} (hf : upd f j x = f2) (hdg : decode cc pc = .ok (.bastore, 1))
    (kk : ∀ (H1 : Heap) (locs1 : List Loc), va_P D cl (ws.set q0 (a, .inl (cA, n, .inl f2))) H1 → va_D A (ws.set q0 (a, .inl (cA, n, .inl f2))) → va_S A H0 H1 locs1 → W p l e R s m args below meth c H1 locs1 cells slots Q (F0 m (pc + 1) ls rest)) : W p l e R s m args below meth c H locs cells slots Q (F0 m pc ls (.int x :: .int i :: .ref a :: rest)) := by
  subst hi
  subst hf
  refine va_zast hexec hb hK hP hD hS q0 t0 ha ht (vp_in_nI hj hn) hdg ?_
  rw [nI_clamp (by omega), hx]
  exact kk
/-- the head of a loop: the numbers behind -/
theorem e_ge (hexec : p.tables.exec = Jvm.exec) (hb : c.code = cc) {i n : Nat} (hi : i < 2 ^ 31) (hn : n < 2 ^ 31) {off : Int} {tgt : Nat} (hdg : decode cc pc = .ok (.if_icmp .ge off, 3)) (ht : (pc : Int) + off = (tgt : Int))
    (kt : n ≤ i → W p l e R s m args below meth c H locs cells slots Q (F0 m tgt ls rest)) (kf : i < n → W p l e R s m args below meth c H locs cells slots Q (F0 m (pc + 3) ls rest)) : W p l e R s m args below meth c H locs cells slots Q (F0 m pc ls (.int (nI n) :: .int (nI i) :: rest)) :=
  lv_icmp_ge hexec hb hdg ht (fun h => kt ((nI_leI hn hi).mp h)) (fun h => kf (Nat.not_le.mp fun z => h (nI_le z hi)))
theorem e_cs {post : Int32 → Prop} {a' : Array Value} (hr : CallRun p l e R s m args below meth c H locs cells slots 0 0 (F0 m pc ls st0) rest (e_R post a') (fun _ => False))
    (kk : ∀ r : Int32, post r → W p l e R s m args below meth c H locs cells slots Q (F0 m (pc + 3) ls (.int r :: rest))) : W p l e R s m args below meth c H locs cells slots Q (F0 m pc ls st0) := by
  intro T hT X
  obtain ⟨v, st₀, t, T', L, h0, X', hL, e1, ⟨k, hv, hp, hh⟩, st⟩ := hr T hT X
  cases hv
  obtain ⟨t2, a1, b1⟩ := kk k hp T' (by rw [e1, hh, h0]) (Stand.forget X' (fun q h => (hL q h).elim))
  exact ⟨t2, st t2 a1, b1⟩
variable {y : MethodName} {bytes : ByteArray} {maxL nL n index : Nat} {ret : Option FieldType} {wy : List Cond} {rm : Room} {own C : String} {b : Addr} {As : List Value}
/-- a call of a method that only reads; the callee's world is places isC of the caller's -/
theorem e_callR {post : Int32 → Prop} {wc : va_W} {tc : List (ClassId × FieldType)} {q0 ci : Nat} {fs : List Value} {q : vw_C} (S : CallFix p m c cc nL s args lw_all own) (hM : Met l y wy rm (va_Pc (.ref b :: As) (e_PR D cl tc wc)) (e_R post) 0 0 (fun _ => False)) (cw : CallW R s args own C index y bytes maxL ret wy rm 0 0 n)
    (hK : va_K D cl tc s) (hP : va_P D cl wc H) (hc : cl[ci]? = some q) (hC : q.1 = C) (he : wc[q0]? = some (b, .inr (ci, fs)))
    (hn : As.length = n) (hsize : ls.size = nL) (hstack : st0 = As.reverse ++ .ref b :: rest) (hW : (rest.map fun v => v.category).sum ≤ 8) (hdg : decode cc pc = .ok (.invokevirtual index, 3)) (hf : cells ≤ R.cells ∧ slots ≤ R.slots)
    (kk : ∀ r : Int32, post r → W p l e R s m args below meth c H locs cells slots Q (F0 m (pc + 3) ls (.int r :: rest))) : W p l e R s m args below meth c H locs cells slots Q (F0 m pc ls st0) := by
  subst hC
  refine e_cs (W.runV (g := F0 m pc ls st0) S hM cw ⟨fun a U g mk q => ?_, va_recv hK hP hc he, fun U hU hW => ⟨rfl, ?_, va_K.moved hW.alike hK⟩⟩ rfl hn hsize hstack (lv_room hW) hdg hf) kk
  · obtain ⟨q0, qP, qK⟩ := q
    exact ⟨q0, qP, va_K.moved (u := U) (U := U.calling g mk a) (Vm.Alike.refl U.vm) qK⟩
  · rw [hU]
    exact hP
/-- a call that answers an int and may change its world: places isC of the caller's; places isR stay -/
theorem e_callI {S0 : Type} {post : Int32 → S0 → Prop} {w1 : S0 → va_W} {wc wr : va_W} {tc : List (ClassId × FieldType)} {q0 ci : Nat} {fs : List Value} {q : vw_C} (S : CallFix p m c cc nL s args lw_all own) (hM : Met l y wy rm (va_Pc (.ref b :: As) (e_PW D cl tc wc H.size)) (va_Qi post (e_B D cl tc w1 (va_A wc H.size)) (va_A wc H.size)) 0 0 (va_A wc H.size)) (cw : CallW R s args own C index y bytes maxL ret wy rm 0 0 n)
    (hK : va_K D cl tc s) (hP : va_P D cl ws H) (hD : va_D A ws) (hS : va_S A H0 H locs) (hA : ∀ q, H0.size ≤ q → A q) (isC isR : List Nat) (hiC : isC.map (fun i => ws[i]?) = wc.map some) (hiR : isR.map (fun i => ws[i]?) = wr.map some) (hnC : va_nd isC = true) (hnR : va_nd isR = true) (hdis : ∀ i ∈ isR, i ∉ isC)
    (hc : cl[ci]? = some q) (hC : q.1 = C) (he : wc[q0]? = some (b, .inr (ci, fs)))
    (hn : As.length = n) (hsize : ls.size = nL) (hstack : st0 = As.reverse ++ .ref b :: rest) (hW : (rest.map fun v => v.category).sum ≤ 8) (hdg : decode cc pc = .ok (.invokevirtual index, 3)) (hf : cells ≤ R.cells ∧ slots ≤ R.slots)
    (kk : ∀ (r : Int32) (u : S0) (H1 : Heap) (locs1 : List Loc), post r u → va_P D cl (wr ++ w1 u) H1 → va_D A (wr ++ w1 u) → va_S A H0 H1 locs1 → W p l e R s m args below meth c H1 locs1 cells slots Q (F0 m (pc + 3) ls (.int r :: rest))) : W p l e R s m args below meth c H locs cells slots Q (F0 m pc ls st0) := by
  subst hC
  have hPc : va_P D cl wc H := by
    intro k x hx
    have h1 : (isC.map (fun i => ws[i]?))[k]? = some (some x) := by rw [hiC, List.getElem?_map, hx]; rfl
    rw [List.getElem?_map] at h1
    cases hi : isC[k]? with
    | none => rw [hi] at h1; cases h1
    | some i => rw [hi] at h1; exact hP i x (Option.some.inj h1)
  have hDc : va_D A wc := hD.sub isC hnC hiC
  have hFc := va_free (wc := wc) hD hS hA isC hiC
  refine va_calli (va_runV (g := F0 m pc ls st0) S hM cw ⟨fun a U g mk q => ?_, va_recv hK hPc hc he, fun U hU hW => ⟨rfl, by rw [hU], by rw [hU]; exact hPc, va_K.moved hW.alike hK, hDc.weaken (fun _ _ _ _ => trivial)⟩⟩ rfl hn hsize hstack (lv_room hW) hdg hf) hS (fun q _ h => hFc q h) hFc (fun r u t H1 locs1 ht hvm hw1 hB hz1 hk1 hS1 => ?_)
  · obtain ⟨q0, q1, qP, qK, qD⟩ := q
    exact ⟨q0, q1, qP, va_K.moved (u := U) (U := U.calling g mk a) (Vm.Alike.refl U.vm) qK, qD⟩
  · obtain ⟨hP1, hK1, hD1⟩ := hB
    rw [ht] at hP1
    obtain ⟨hP2, hD2⟩ := va_join (wr := wr) (w1 := w1 u) hP hD isC isR hiC hiR hnR hdis hk1 hFc hP1 hD1
    exact kk r u H1 locs1 hw1 hP2 hD2 hS1
/-- the same, of a method that answers nothing -/
theorem e_callV {S0 : Type} {post : S0 → Prop} {w1 : S0 → va_W} {wc wr : va_W} {tc : List (ClassId × FieldType)} {q0 ci : Nat} {fs : List Value} {q : vw_C} (S : CallFix p m c cc nL s args lw_all own) (hM : Met l y wy rm (va_Pc (.ref b :: As) (e_PW D cl tc wc H.size)) (va_Qv post (e_B D cl tc w1 (va_A wc H.size)) (va_A wc H.size)) 0 0 (va_A wc H.size)) (cw : CallW R s args own C index y bytes maxL ret wy rm 0 0 n)
    (hK : va_K D cl tc s) (hP : va_P D cl ws H) (hD : va_D A ws) (hS : va_S A H0 H locs) (hA : ∀ q, H0.size ≤ q → A q) (isC isR : List Nat) (hiC : isC.map (fun i => ws[i]?) = wc.map some) (hiR : isR.map (fun i => ws[i]?) = wr.map some) (hnC : va_nd isC = true) (hnR : va_nd isR = true) (hdis : ∀ i ∈ isR, i ∉ isC)
    (hc : cl[ci]? = some q) (hC : q.1 = C) (he : wc[q0]? = some (b, .inr (ci, fs)))
    (hn : As.length = n) (hsize : ls.size = nL) (hstack : st0 = As.reverse ++ .ref b :: rest) (hW : (rest.map fun v => v.category).sum ≤ 8) (hdg : decode cc pc = .ok (.invokevirtual index, 3)) (hf : cells ≤ R.cells ∧ slots ≤ R.slots)
    (kk : ∀ (u : S0) (H1 : Heap) (locs1 : List Loc), post u → va_P D cl (wr ++ w1 u) H1 → va_D A (wr ++ w1 u) → va_S A H0 H1 locs1 → W p l e R s m args below meth c H1 locs1 cells slots Q (F0 m (pc + 3) ls rest)) : W p l e R s m args below meth c H locs cells slots Q (F0 m pc ls st0) := by
  subst hC
  have hPc : va_P D cl wc H := by
    intro k x hx
    have h1 : (isC.map (fun i => ws[i]?))[k]? = some (some x) := by rw [hiC, List.getElem?_map, hx]; rfl
    rw [List.getElem?_map] at h1
    cases hi : isC[k]? with
    | none => rw [hi] at h1; cases h1
    | some i => rw [hi] at h1; exact hP i x (Option.some.inj h1)
  have hDc : va_D A wc := hD.sub isC hnC hiC
  have hFc := va_free (wc := wc) hD hS hA isC hiC
  refine va_callv (va_runV (g := F0 m pc ls st0) S hM cw ⟨fun a U g mk q => ?_, va_recv hK hPc hc he, fun U hU hW => ⟨rfl, by rw [hU], by rw [hU]; exact hPc, va_K.moved hW.alike hK, hDc.weaken (fun _ _ _ _ => trivial)⟩⟩ rfl hn hsize hstack (lv_room hW) hdg hf) hS (fun q _ h => hFc q h) hFc (fun u t H1 locs1 ht hvm hw1 hB hz1 hk1 hS1 => ?_)
  · obtain ⟨q0, q1, qP, qK, qD⟩ := q
    exact ⟨q0, q1, qP, va_K.moved (u := U) (U := U.calling g mk a) (Vm.Alike.refl U.vm) qK, qD⟩
  · obtain ⟨hP1, hK1, hD1⟩ := hB
    rw [ht] at hP1
    obtain ⟨hP2, hD2⟩ := va_join (wr := wr) (w1 := w1 u) hP hD isC isR hiC hiR hnR hdis hk1 hFc hP1 hD1
    exact kk u H1 locs1 hw1 hP2 hD2 hS1
end EGR
/-- a contract's start, of a method that only reads and answers an int -/
theorem e_startRi {l : Launch} {y : MethodName} {cc : ByteArray} {maxL : Nat} {rm : Room} {av : List Value} {D : va_G} {cl : List vw_C} {tys : List (ClassId × FieldType)} {ws : va_W} {post : Int32 → Prop} (hy : plainName y.cls = true) (hlen : (lg_sl av).length ≤ maxL)
    (body : ∀ (p : Program) (e : Env) (s : State) (m : MethodId) (args : Array Value) (below : List Frame) (meth : Method) (c : Code) (H : Heap) (Q : State → Prop), p.tables.exec = Jvm.exec → c.code = cc → c.maxLocals = maxL → s.vm.findClass y.cls = some m.cls → (∀ w ∈ lw_all, w.before args s = true) → va_K D cl tys s → va_P D cl ws H →
      (∀ {pc : Nat} {ls : Array Slot} {v : Int32}, decode cc pc = .ok (.ireturn, 1) → post v → W p l e rm s m args below meth c H [] 0 0 Q (F0 m pc ls [.int v])) →
      ∀ ls : Array Slot, lv_has ls maxL (lv_args 0 av) → W p l e rm s m args below meth c H [] 0 0 Q (F0 m 0 ls [])) :
    Met l y (ws_ y cc maxL (some .int)) rm (va_Pc av (e_PR D cl tys ws)) (e_R post) 0 0 (fun _ => False) := by
  refine Met.ofW (cc := cc) (maxL := maxL) (ret := (some .int)) hy rfl ?_
  intro p e s m args below meth c s₁ B hml hv
  obtain ⟨rfl, hP, hK⟩ := hv
  have hts := atoms_spec (ws := ws_ y cc maxL (some .int)) B.pre
  have hlocks := B.notSynchronized
  rw [lg_entry_eq]
  exact body p e s m av.toArray below meth c s.heap _ B.exec B.bytes hml (findClass_of_methodNamed B.named) (fun w h => hts w (List.mem_cons_of_mem _ h)) hK hP (fun hd hq => W.iret B.exec B.bytes B.returns (fun t ht hW => ⟨_, rfl, hq, ht⟩) (fun q h => by cases h) hd hlocks) _ (lv_entry av hlen)
/-- .. and answers a boolean -/
theorem e_startRz {l : Launch} {y : MethodName} {cc : ByteArray} {maxL : Nat} {rm : Room} {av : List Value} {D : va_G} {cl : List vw_C} {tys : List (ClassId × FieldType)} {ws : va_W} {post : Int32 → Prop} (hy : plainName y.cls = true) (hlen : (lg_sl av).length ≤ maxL)
    (body : ∀ (p : Program) (e : Env) (s : State) (m : MethodId) (args : Array Value) (below : List Frame) (meth : Method) (c : Code) (H : Heap) (Q : State → Prop), p.tables.exec = Jvm.exec → c.code = cc → c.maxLocals = maxL → s.vm.findClass y.cls = some m.cls → (∀ w ∈ lw_all, w.before args s = true) → va_K D cl tys s → va_P D cl ws H →
      (∀ {pc : Nat} {ls : Array Slot} {v : Int32}, decode cc pc = .ok (.ireturn, 1) → narrow .boolean (.int v) = .int v → post v → W p l e rm s m args below meth c H [] 0 0 Q (F0 m pc ls [.int v])) →
      ∀ ls : Array Slot, lv_has ls maxL (lv_args 0 av) → W p l e rm s m args below meth c H [] 0 0 Q (F0 m 0 ls [])) :
    Met l y (ws_ y cc maxL (some .boolean)) rm (va_Pc av (e_PR D cl tys ws)) (e_R post) 0 0 (fun _ => False) := by
  refine Met.ofW (cc := cc) (maxL := maxL) (ret := (some .boolean)) hy rfl ?_
  intro p e s m args below meth c s₁ B hml hv
  obtain ⟨rfl, hP, hK⟩ := hv
  have hts := atoms_spec (ws := ws_ y cc maxL (some .boolean)) B.pre
  have hlocks := B.notSynchronized
  rw [lg_entry_eq]
  exact body p e s m av.toArray below meth c s.heap _ B.exec B.bytes hml (findClass_of_methodNamed B.named) (fun w h => hts w (List.mem_cons_of_mem _ h)) hK hP (fun hd hn hq => W.zret B.exec B.bytes B.returns hn (fun t ht hW => ⟨_, rfl, hq, ht⟩) (fun q h => by cases h) hd hlocks) _ (lv_entry av hlen)
/-- .. of a method that may change its world and answers an int -/
theorem e_startWi {l : Launch} {y : MethodName} {cc : ByteArray} {maxL : Nat} {rm : Room} {av : List Value} {D : va_G} {cl : List vw_C} {tys : List (ClassId × FieldType)} {ws : va_W} {sz : Nat} {S0 : Type} {post : Int32 → S0 → Prop} {w1 : S0 → va_W} (hy : plainName y.cls = true) (hlen : (lg_sl av).length ≤ maxL)
    (body : ∀ (p : Program) (e : Env) (s : State) (m : MethodId) (args : Array Value) (below : List Frame) (meth : Method) (c : Code) (H : Heap) (A : Nat → Prop) (Q : State → Prop), p.tables.exec = Jvm.exec → c.code = cc → c.maxLocals = maxL → s.vm.findClass y.cls = some m.cls → (∀ w ∈ lw_all, w.before args s = true) → (∀ q, s.heap.size ≤ q → A q) → va_K D cl tys s → va_P D cl ws H → va_D A ws → va_S A s.heap H [] →
      (∀ {pc : Nat} {ls : Array Slot} {v : Int32} {H1 : Heap} {locs : List Loc} (u : S0), decode cc pc = .ok (.ireturn, 1) → post v u → va_P D cl (w1 u) H1 → va_D A (w1 u) → va_S A s.heap H1 locs → W p l e rm s m args below meth c H1 locs 0 0 Q (F0 m pc ls [.int v])) →
      ∀ ls : Array Slot, lv_has ls maxL (lv_args 0 av) → W p l e rm s m args below meth c H [] 0 0 Q (F0 m 0 ls [])) :
    Met l y (ws_ y cc maxL (some .int)) rm (va_Pc av (e_PW D cl tys ws sz)) (va_Qi post (e_B D cl tys w1 (va_A ws sz)) (va_A ws sz)) 0 0 (va_A ws sz) := by
  refine Met.ofW (cc := cc) (maxL := maxL) (ret := (some .int)) hy rfl ?_
  intro p e s m args below meth c s₁ B hml hv
  obtain ⟨rfl, hsz, hP, hK, hD0⟩ := hv
  have hts := atoms_spec (ws := ws_ y cc maxL (some .int)) B.pre
  have hlocks := B.notSynchronized
  subst hsz
  have hD := hD0.self (sz := s.heap.size)
  have hA : ∀ q : Nat, s.heap.size ≤ q → va_A ws s.heap.size q := fun q h => Or.inr h
  have hS : va_S (va_A ws s.heap.size) s.heap s.heap [] := va_S.rf
  rw [lg_entry_eq]
  exact body p e s m av.toArray below meth c s.heap _ _ B.exec B.bytes hml (findClass_of_methodNamed B.named) (fun w h => hts w (List.mem_cons_of_mem _ h)) hA hK hP hD hS (fun u hd hq hP1 hD1 hS1 => W.iret B.exec B.bytes B.returns (fun t ht hW => ⟨⟨_, u, rfl, hq, by rw [ht]; exact hP1, va_K.moved hW.alike hK, hD1⟩, hS1.F ht⟩) hS1.2.2 hd hlocks) _ (lv_entry av hlen)
/-- .. and answers nothing -/
theorem e_startWv {l : Launch} {y : MethodName} {cc : ByteArray} {maxL : Nat} {rm : Room} {av : List Value} {D : va_G} {cl : List vw_C} {tys : List (ClassId × FieldType)} {ws : va_W} {sz : Nat} {S0 : Type} {post : S0 → Prop} {w1 : S0 → va_W} (hy : plainName y.cls = true) (hlen : (lg_sl av).length ≤ maxL)
    (body : ∀ (p : Program) (e : Env) (s : State) (m : MethodId) (args : Array Value) (below : List Frame) (meth : Method) (c : Code) (H : Heap) (A : Nat → Prop) (Q : State → Prop), p.tables.exec = Jvm.exec → c.code = cc → c.maxLocals = maxL → s.vm.findClass y.cls = some m.cls → (∀ w ∈ lw_all, w.before args s = true) → (∀ q, s.heap.size ≤ q → A q) → va_K D cl tys s → va_P D cl ws H → va_D A ws → va_S A s.heap H [] →
      (∀ {pc : Nat} {ls : Array Slot} {H1 : Heap} {locs : List Loc} (u : S0), decode cc pc = .ok (.return_, 1) → post u → va_P D cl (w1 u) H1 → va_D A (w1 u) → va_S A s.heap H1 locs → W p l e rm s m args below meth c H1 locs 0 0 Q (F0 m pc ls [])) →
      ∀ ls : Array Slot, lv_has ls maxL (lv_args 0 av) → W p l e rm s m args below meth c H [] 0 0 Q (F0 m 0 ls [])) :
    Met l y (ws_ y cc maxL none) rm (va_Pc av (e_PW D cl tys ws sz)) (va_Qv post (e_B D cl tys w1 (va_A ws sz)) (va_A ws sz)) 0 0 (va_A ws sz) := by
  refine Met.ofW (cc := cc) (maxL := maxL) (ret := none) hy rfl ?_
  intro p e s m args below meth c s₁ B hml hv
  obtain ⟨rfl, hsz, hP, hK, hD0⟩ := hv
  have hts := atoms_spec (ws := ws_ y cc maxL none) B.pre
  have hlocks := B.notSynchronized
  subst hsz
  have hD := hD0.self (sz := s.heap.size)
  have hA : ∀ q : Nat, s.heap.size ≤ q → va_A ws s.heap.size q := fun q h => Or.inr h
  have hS : va_S (va_A ws s.heap.size) s.heap s.heap [] := va_S.rf
  rw [lg_entry_eq]
  exact body p e s m av.toArray below meth c s.heap _ _ B.exec B.bytes hml (findClass_of_methodNamed B.named) (fun w h => hts w (List.mem_cons_of_mem _ h)) hA hK hP hD hS (fun u hd hq hP1 hD1 hS1 => W.vret B.exec B.bytes B.returns (fun t ht hW => ⟨⟨u, rfl, hq, by rw [ht]; exact hP1, va_K.moved hW.alike hK, hD1⟩, hS1.F ht⟩) hS1.2.2 hd hlocks) _ (lv_entry av hlen)
end
section
/-! THE PLAIN PART: what both classes compute, with no program in sight. n vertices, c edges with tails T, heads Hd, gains G; P the players of the vertices; sk the edge left out (-1: none) -/
set_option maxRecDepth 100000
abbrev eFn : Type := Nat → Int32
def e_tp (n : Nat) : Nat := 6 * (n - 1) + 1
/-- what an edge asks for at its beginning, by the needs a -/
def e_ask (n : Nat) (Hd G : eFn) (a : Nat → Nat) (e : Nat) : Nat :=
  if a (Hd e).toNatClampNeg = e_tp n then e_tp n
  else if (a (Hd e).toNatClampNeg : Int) - (G e).toInt < 0 then 0
  else if (a (Hd e).toNatClampNeg : Int) - (G e).toInt < (e_tp n : Int) then ((a (Hd e).toNatClampNeg : Int) - (G e).toInt).toNat
  else e_tp n
def e_step (p : Int32) (x : Nat) (o : Option Nat) : Nat := match o with
  | none => x
  | some r => if p = 0 then (if x < r then x else r) else (if r < x then x else r)
def e_wl (n : Nat) (T Hd G : eFn) (p sk : Int32) (a : Nat → Nat) (v : Nat) : Nat → Option Nat
  | 0 => none
  | e + 1 => if T e = nI v ∧ ¬ nI e = sk then some (e_step p (e_ask n Hd G a e) (e_wl n T Hd G p sk a v e)) else e_wl n T Hd G p sk a v e
def e_want (n c : Nat) (T Hd G : eFn) (p sk : Int32) (a : Nat → Nat) (v : Nat) : Nat := (e_wl n T Hd G p sk a v c).getD 0
def e_it (n c : Nat) (T Hd G P : eFn) (sk : Int32) : Nat → Nat → Nat
  | 0 => fun _ => 0
  | k + 1 => fun v => e_want n c T Hd G (P v) sk (e_it n c T Hd G P sk k) v
/-- the least credits -/
def e_lf (n c : Nat) (T Hd G P : eFn) (sk : Int32) : Nat → Nat := e_it n c T Hd G P sk 700
def e_le (o o' : Option Nat) : Prop := match o, o' with
  | none, none => True
  | some r, some s => r ≤ s
  | none, some _ => False
  | some _, none => False
theorem e_ask_le {n : Nat} {Hd G : eFn} {a : Nat → Nat} {e : Nat} : e_ask n Hd G a e ≤ e_tp n := by
  unfold e_ask
  split
  · omega
  · split
    · omega
    · split
      · omega
      · omega
theorem e_ask_mono {n : Nat} {Hd G : eFn} {a b : Nat → Nat} {e : Nat} (h : ∀ v, v < n → a v ≤ b v) (hb : ∀ v, v < n → b v ≤ e_tp n) (hH : (Hd e).toNatClampNeg < n) : e_ask n Hd G a e ≤ e_ask n Hd G b e := by
  have h1 := h _ hH
  have h2 := hb _ hH
  unfold e_ask
  generalize a (Hd e).toNatClampNeg = x at h1 ⊢
  generalize b (Hd e).toNatClampNeg = y at h1 h2 ⊢
  generalize (G e).toInt = g
  generalize e_tp n = t at h2 ⊢
  by_cases c1 : x = t
  · have : y = t := by omega
    simp [c1, this]
  · rw [if_neg c1]
    by_cases c2 : y = t
    · rw [if_pos c2]
      split
      · omega
      · split
        · omega
        · omega
    · rw [if_neg c2]
      split
      · omega
      · split
        · split
          · omega
          · split
            · omega
            · omega
        · split
          · omega
          · split
            · omega
            · omega
theorem e_ask_congr {n : Nat} {Hd G : eFn} {a b : Nat → Nat} {e : Nat} (h : a (Hd e).toNatClampNeg = b (Hd e).toNatClampNeg) : e_ask n Hd G a e = e_ask n Hd G b e := by
  unfold e_ask
  rw [h]
theorem e_step_mono {p : Int32} {x y : Nat} {o o' : Option Nat} (h : x ≤ y) (ho : e_le o o') : e_step p x o ≤ e_step p y o' := by
  cases o with
  | none =>
    cases o' with
    | none => exact h
    | some s => exact ho.elim
  | some r =>
    cases o' with
    | none => exact ho.elim
    | some s =>
      have ho : r ≤ s := ho
      simp only [e_step]
      by_cases hp : p = 0
      · rw [if_pos hp, if_pos hp]
        split <;> split <;> omega
      · rw [if_neg hp, if_neg hp]
        split <;> split <;> omega
theorem e_wl_mono {n c : Nat} {T Hd G : eFn} {p sk : Int32} {a b : Nat → Nat} {v : Nat} (h : ∀ v, v < n → a v ≤ b v) (hb : ∀ v, v < n → b v ≤ e_tp n) (hH : ∀ e, e < c → (Hd e).toNatClampNeg < n) : ∀ k, k ≤ c → e_le (e_wl n T Hd G p sk a v k) (e_wl n T Hd G p sk b v k) := by
  intro k
  induction k with
  | zero => intro _; exact trivial
  | succ k ih =>
    intro hk
    have ih := ih (by omega)
    simp only [e_wl]
    split
    · exact e_step_mono (e_ask_mono h hb (hH k (by omega))) ih
    · exact ih
theorem e_want_mono {n c : Nat} {T Hd G : eFn} {p sk : Int32} {a b : Nat → Nat} {v : Nat} (h : ∀ v, v < n → a v ≤ b v) (hb : ∀ v, v < n → b v ≤ e_tp n) (hH : ∀ e, e < c → (Hd e).toNatClampNeg < n) : e_want n c T Hd G p sk a v ≤ e_want n c T Hd G p sk b v := by
  have h1 := e_wl_mono (T := T) (G := G) (p := p) (sk := sk) (v := v) h hb hH c (Nat.le_refl c)
  unfold e_want
  generalize e_wl n T Hd G p sk a v c = o at h1 ⊢
  generalize e_wl n T Hd G p sk b v c = o' at h1 ⊢
  cases o with
  | none =>
    cases o' with
    | none => exact Nat.le_refl _
    | some s => exact h1.elim
  | some r =>
    cases o' with
    | none => exact h1.elim
    | some s => exact h1
theorem e_step_le {p : Int32} {x t : Nat} {o : Option Nat} (h : x ≤ t) (ho : ∀ r, o = some r → r ≤ t) : e_step p x o ≤ t := by
  cases o with
  | none => exact h
  | some r =>
    have h2 := ho r rfl
    simp only [e_step]
    split <;> split <;> omega
theorem e_wl_le {n : Nat} {T Hd G : eFn} {p sk : Int32} {a : Nat → Nat} {v : Nat} : ∀ k r, e_wl n T Hd G p sk a v k = some r → r ≤ e_tp n := by
  intro k
  induction k with
  | zero => intro r h; cases h
  | succ k ih =>
    intro r h
    simp only [e_wl] at h
    split at h
    · cases h
      exact e_step_le e_ask_le ih
    · exact ih r h
theorem e_want_le {n c : Nat} {T Hd G : eFn} {p sk : Int32} {a : Nat → Nat} {v : Nat} : e_want n c T Hd G p sk a v ≤ e_tp n := by
  unfold e_want
  cases h : e_wl n T Hd G p sk a v c with
  | none => exact Nat.zero_le _
  | some r => exact e_wl_le c r h
theorem e_wl_congr {n : Nat} {T Hd G : eFn} {p sk : Int32} {a b : Nat → Nat} {v : Nat} : ∀ k, (∀ e, e < k → T e = nI v → a (Hd e).toNatClampNeg = b (Hd e).toNatClampNeg) → e_wl n T Hd G p sk a v k = e_wl n T Hd G p sk b v k := by
  intro k
  induction k with
  | zero => intro _; rfl
  | succ k ih =>
    intro h
    have ih := ih (fun e he => h e (by omega))
    simp only [e_wl]
    split
    · rename_i hc
      rw [ih, e_ask_congr (h k (by omega) hc.1)]
    · exact ih
theorem e_want_congr {n c : Nat} {T Hd G : eFn} {p sk : Int32} {a b : Nat → Nat} {v : Nat} (h : ∀ e, e < c → T e = nI v → a (Hd e).toNatClampNeg = b (Hd e).toNatClampNeg) : e_want n c T Hd G p sk a v = e_want n c T Hd G p sk b v := by
  unfold e_want
  rw [e_wl_congr c h]
theorem e_it_le {n c : Nat} {T Hd G P : eFn} {sk : Int32} {k v : Nat} : e_it n c T Hd G P sk k v ≤ e_tp n := by
  cases k with
  | zero => exact Nat.zero_le _
  | succ k => exact e_want_le
theorem e_it_up {n c : Nat} {T Hd G P : eFn} {sk : Int32} (hH : ∀ e, e < c → (Hd e).toNatClampNeg < n) : ∀ k v, v < n → e_it n c T Hd G P sk k v ≤ e_it n c T Hd G P sk (k + 1) v := by
  intro k
  induction k with
  | zero => intro v _; exact Nat.zero_le _
  | succ k ih =>
    intro v _
    exact e_want_mono ih (fun _ _ => e_it_le) hH
def e_sum (f : Nat → Nat) : Nat → Nat
  | 0 => 0
  | n + 1 => e_sum f n + f n
theorem e_sum_le {f g : Nat → Nat} : ∀ n, (∀ v, v < n → f v ≤ g v) → e_sum f n ≤ e_sum g n := by
  intro n
  induction n with
  | zero => intro _; exact Nat.le_refl _
  | succ n ih =>
    intro h
    have h1 := ih (fun v hv => h v (by omega))
    have h2 := h n (by omega)
    simp only [e_sum]
    omega
theorem e_sum_lt {f g : Nat → Nat} : ∀ n, (∀ v, v < n → f v ≤ g v) → (∃ v, v < n ∧ f v < g v) → e_sum f n < e_sum g n := by
  intro n
  induction n with
  | zero => intro _ h; obtain ⟨v, h1, -⟩ := h; omega
  | succ n ih =>
    intro h hx
    obtain ⟨v, h1, h2⟩ := hx
    have h3 := h n (by omega)
    simp only [e_sum]
    by_cases hv : v = n
    · subst hv
      have h4 := e_sum_le v (fun w hw => h w (by omega))
      omega
    · have h4 := ih (fun w hw => h w (by omega)) ⟨v, by omega, h2⟩
      omega
theorem e_sum_bd {f : Nat → Nat} {t : Nat} : ∀ n, (∀ v, v < n → f v ≤ t) → e_sum f n ≤ n * t := by
  intro n
  induction n with
  | zero => intro _; simp [e_sum]
  | succ n ih =>
    intro h
    have h1 := ih (fun v hv => h v (by omega))
    have h2 := h n (by omega)
    simp only [e_sum]
    rw [Nat.succ_mul]
    omega
theorem e_sum_congr {f g : Nat → Nat} : ∀ n, (∀ v, v < n → f v = g v) → e_sum f n = e_sum g n := by
  intro n h
  exact Nat.le_antisymm (e_sum_le n (fun v hv => Nat.le_of_eq (h v hv))) (e_sum_le n (fun v hv => Nat.le_of_eq (h v hv).symm))
theorem e_fix_next {n c : Nat} {T Hd G P : eFn} {sk : Int32} (hH : ∀ e, e < c → (Hd e).toNatClampNeg < n) {k : Nat} (h : ∀ v, v < n → e_it n c T Hd G P sk (k + 1) v = e_it n c T Hd G P sk k v) : ∀ v, v < n → e_it n c T Hd G P sk (k + 2) v = e_it n c T Hd G P sk (k + 1) v := by
  intro v hv
  exact e_want_congr (fun e he _ => h _ (hH e he))
theorem e_fix_all {n c : Nat} {T Hd G P : eFn} {sk : Int32} (hH : ∀ e, e < c → (Hd e).toNatClampNeg < n) {k : Nat} (h : ∀ v, v < n → e_it n c T Hd G P sk (k + 1) v = e_it n c T Hd G P sk k v) : ∀ j v, v < n → e_it n c T Hd G P sk (k + j) v = e_it n c T Hd G P sk k v ∧ e_it n c T Hd G P sk (k + j + 1) v = e_it n c T Hd G P sk (k + j) v := by
  intro j
  induction j with
  | zero => intro v hv; exact ⟨rfl, h v hv⟩
  | succ j ih =>
    intro v hv
    refine ⟨(ih v hv).2.trans (ih v hv).1, ?_⟩
    exact e_fix_next hH (fun w hw => (ih w hw).2) v hv
theorem e_conv {n c : Nat} {T Hd G P : eFn} {sk : Int32} (hn : n ≤ 6) (hH : ∀ e, e < c → (Hd e).toNatClampNeg < n) : ∃ k, k < 700 ∧ ∀ v, v < n → e_it n c T Hd G P sk (k + 1) v = e_it n c T Hd G P sk k v := by
  refine Classical.byContradiction fun hno => ?_
  have key : ∀ k, k ≤ 700 → k ≤ e_sum (e_it n c T Hd G P sk k) n := by
    intro k
    induction k with
    | zero => intro _; exact Nat.zero_le _
    | succ k ih =>
      intro hk
      have ih := ih (by omega)
      have hlt : e_sum (e_it n c T Hd G P sk k) n < e_sum (e_it n c T Hd G P sk (k + 1)) n := by
        refine e_sum_lt n (fun v hv => e_it_up hH k v hv) ?_
        refine Classical.byContradiction fun hq => hno ⟨k, by omega, fun v hv => ?_⟩
        have h1 := e_it_up (T := T) (G := G) (P := P) (sk := sk) hH k v hv
        have h2 : ¬ e_it n c T Hd G P sk k v < e_it n c T Hd G P sk (k + 1) v := fun z => hq ⟨v, hv, z⟩
        omega
      omega
  have h1 := key 700 (Nat.le_refl _)
  have h2 : e_sum (e_it n c T Hd G P sk 700) n ≤ n * e_tp n := e_sum_bd n (fun v _ => e_it_le)
  have h3 : n * e_tp n ≤ 6 * 31 := Nat.mul_le_mul hn (by unfold e_tp; omega)
  omega
theorem e_lf_le {n c : Nat} {T Hd G P : eFn} {sk : Int32} {v : Nat} : e_lf n c T Hd G P sk v ≤ e_tp n := e_it_le
theorem e_lf_fix {n c : Nat} {T Hd G P : eFn} {sk : Int32} (hn : n ≤ 6) (hH : ∀ e, e < c → (Hd e).toNatClampNeg < n) : ∀ v, v < n → e_want n c T Hd G (P v) sk (e_lf n c T Hd G P sk) v = e_lf n c T Hd G P sk v := by
  obtain ⟨k, hk, h⟩ := e_conv (T := T) (G := G) (P := P) (sk := sk) hn hH
  intro v hv
  have h1 := (e_fix_all hH h (700 - k) v hv).2
  rw [show k + (700 - k) = 700 by omega] at h1
  exact h1
/-- the rounds stop when nothing changes: then they stand at the least credits -/
theorem e_lf_stop {n c : Nat} {T Hd G P : eFn} {sk : Int32} (hH : ∀ e, e < c → (Hd e).toNatClampNeg < n) {k : Nat} (hk : k ≤ 700) (h : ∀ v, v < n → e_it n c T Hd G P sk (k + 1) v = e_it n c T Hd G P sk k v) : ∀ v, v < n → e_it n c T Hd G P sk k v = e_lf n c T Hd G P sk v := by
  intro v hv
  have h1 := (e_fix_all hH h (700 - k) v hv).1
  rw [show k + (700 - k) = 700 by omega] at h1
  exact h1.symm
theorem e_lf_least {n c : Nat} {T Hd G P : eFn} {sk : Int32} (hH : ∀ e, e < c → (Hd e).toNatClampNeg < n) {b : Nat → Nat} (hb : ∀ v, v < n → b v ≤ e_tp n) (h : ∀ v, v < n → e_want n c T Hd G (P v) sk b v ≤ b v) : ∀ v, v < n → e_lf n c T Hd G P sk v ≤ b v := by
  have key : ∀ k v, v < n → e_it n c T Hd G P sk k v ≤ b v := by
    intro k
    induction k with
    | zero => intro v _; exact Nat.zero_le _
    | succ k ih =>
      intro v hv
      exact Nat.le_trans (e_want_mono ih hb hH) (h v hv)
  exact key 700
/-- the waiting list's end: nobody waits, nobody is above the least credits -/
theorem e_lf_done {n c : Nat} {T Hd G P : eFn} {sk : Int32} (hH : ∀ e, e < c → (Hd e).toNatClampNeg < n) {a : Nat → Nat} (h1 : ∀ v, v < n → a v ≤ e_lf n c T Hd G P sk v) (h2 : ∀ v, v < n → e_want n c T Hd G (P v) sk a v ≤ a v) : ∀ v, v < n → a v = e_lf n c T Hd G P sk v := by
  intro v hv
  exact Nat.le_antisymm (h1 v hv) (e_lf_least hH (fun w hw => Nat.le_trans (h1 w hw) e_lf_le) h2 v hv)
theorem e_lf_raise {n c : Nat} {T Hd G P : eFn} {sk : Int32} (hn : n ≤ 6) (hH : ∀ e, e < c → (Hd e).toNatClampNeg < n) {a : Nat → Nat} (h1 : ∀ v, v < n → a v ≤ e_lf n c T Hd G P sk v) {v : Nat} (hv : v < n) : e_want n c T Hd G (P v) sk a v ≤ e_lf n c T Hd G P sk v := by
  rw [← e_lf_fix hn hH v hv]
  exact e_want_mono h1 (fun _ _ => e_lf_le) hH
end
section
/-! THE PLAIN PART, 2: the waiting list, numbers, what the operations answer -/
set_option maxRecDepth 100000
theorem e_pigeon : ∀ (n : Nat) (l : List Nat), l.Nodup → (∀ v, v ∈ l → v < n) → l.length ≤ n := by
  intro n
  induction n with
  | zero =>
    intro l _ h
    cases l with
    | nil => exact Nat.le_refl _
    | cons a t => exact absurd (h a List.mem_cons_self) (Nat.not_lt_zero _)
  | succ n ih =>
    intro l hd h
    by_cases hm : n ∈ l
    · have h1 := ih (l.erase n) (hd.erase n) (fun v hv => by
        have h2 := (List.Nodup.mem_erase_iff hd).mp hv
        have h3 := h v h2.2
        have h4 := h2.1
        omega)
      rw [List.length_erase_of_mem hm] at h1
      omega
    · have h1 := ih l hd (fun v hv => by
        have h3 := h v hv
        have h4 : v ≠ n := fun z => hm (z ▸ hv)
        omega)
      omega
/-- the waiting list: its first place f, its vertices ql -/
def e_q (n : Nat) (W Q : eFn) (f : Nat) (ql : List Nat) : Prop := ql.Nodup ∧ (∀ v, v ∈ ql → v < n) ∧ (∀ v, v < n → W v = if v ∈ ql then 1 else 0) ∧ ∀ i, i < ql.length → Q ((f + i) % 8) = nI (ql.getD i 0)
theorem e_q_len {n : Nat} {W Q : eFn} {f : Nat} {ql : List Nat} (h : e_q n W Q f ql) : ql.length ≤ n := e_pigeon n ql h.1 h.2.1
theorem e_q_pop {n : Nat} {W Q : eFn} {f v : Nat} {r : List Nat} (h : e_q n W Q f (v :: r)) : e_q n (upd W v 0) Q ((f + 1) % 8) r ∧ Q (f % 8) = nI v ∧ v < n ∧ v ∉ r := by
  obtain ⟨h1, h2, h3, h4⟩ := h
  have hv : v ∉ r := (List.nodup_cons.mp h1).1
  refine ⟨⟨(List.nodup_cons.mp h1).2, fun u hu => h2 u (List.mem_cons_of_mem _ hu), fun u hu => ?_, fun i hi => ?_⟩, ?_, h2 v List.mem_cons_self, hv⟩
  · by_cases e : u = v
    · subst e
      rw [pk_us, if_neg hv]
    · rw [pk_un e, h3 u hu]
      simp [e]
  · have h5 := h4 (i + 1) (by simp only [List.length_cons]; omega)
    rw [show ((f + 1) % 8 + i) % 8 = (f + (i + 1)) % 8 by omega, h5]
    simp
  · have h5 := h4 0 (by simp only [List.length_cons]; omega)
    rw [Nat.add_zero] at h5
    rw [h5]
    simp
theorem e_q_out {n : Nat} {W Q : eFn} {f : Nat} {ql : List Nat} (h : e_q n W Q f ql) {t : Nat} (ht : t < n) (hw : W t = 0) : t ∉ ql := by
  intro hm
  have h3 := h.2.2.1 t ht
  rw [if_pos hm, hw] at h3
  exact absurd h3 (by decide)
theorem e_q_in {n : Nat} {W Q : eFn} {f : Nat} {ql : List Nat} (h : e_q n W Q f ql) {t : Nat} (ht : t < n) (hw : ¬ W t = 0) : t ∈ ql := by
  refine Classical.byContradiction fun hm => hw ?_
  have h3 := h.2.2.1 t ht
  rw [if_neg hm] at h3
  exact h3
theorem e_q_push {n : Nat} {W Q : eFn} {f : Nat} {ql : List Nat} (h : e_q n W Q f ql) (hn : n ≤ 6) {t : Nat} (ht : t < n) (hw : W t = 0) : e_q n (upd W t 1) (upd Q ((f + ql.length) % 8) (nI t)) f (ql ++ [t]) := by
  have hm := e_q_out h ht hw
  have hnd : (ql ++ [t]).Nodup := by
    rw [List.nodup_append]
    refine ⟨h.1, by simp, fun a ha b hb => ?_⟩
    rw [List.mem_singleton] at hb
    rw [hb]
    exact fun z => hm (z ▸ ha)
  have hin : ∀ v, v ∈ ql ++ [t] → v < n := by
    intro v hv
    rcases List.mem_append.mp hv with z | z
    · exact h.2.1 v z
    · rw [List.mem_singleton.mp z]; exact ht
  have hlen := e_pigeon n _ hnd hin
  rw [List.length_append] at hlen
  simp only [List.length_cons, List.length_nil] at hlen
  refine ⟨hnd, hin, fun u hu => ?_, fun i hi => ?_⟩
  · by_cases e : u = t
    · subst e
      rw [pk_us, if_pos (by simp)]
    · rw [pk_un e, h.2.2.1 u hu]
      simp [e]
  · rw [List.length_append] at hi
    simp only [List.length_cons, List.length_nil] at hi
    by_cases e : i = ql.length
    · subst e
      rw [pk_us]
      simp [List.getD_eq_getElem?_getD]
    · rw [pk_un (by omega), h.2.2.2 i (by omega)]
      have hi2 : i < ql.length := by omega
      simp [List.getD_eq_getElem?_getD, List.getElem?_append_left hi2]
theorem e_q_init {n : Nat} {W Q : eFn} (h : ∀ v, v < n → W v = 1 ∧ Q v = nI v) (hn : n ≤ 6) : e_q n W Q 0 (List.range n) := by
  refine ⟨List.nodup_range, fun v hv => List.mem_range.mp hv, fun v hv => ?_, fun i hi => ?_⟩
  · rw [(h v hv).1, if_pos (List.mem_range.mpr hv)]
  · rw [List.length_range] at hi
    rw [show (0 + i) % 8 = i by omega, (h i hi).2]
    simp [List.getD_eq_getElem?_getD, List.getElem?_range hi]
/-! numbers -/
theorem e_and7 {f : Nat} (h : f < 2 ^ 31) : nI f &&& 7 = nI (f % 8) := pk_andN (k := 3) (by omega) (by decide)
theorem e_inc (e : Nat) : nI e + Int32.ofInt 1 = nI (e + 1) := nI_1 e
theorem e_lit {n : Nat} (h : n < 2 ^ 31) (x : Int32) (hx : x = nI n) : x.toNatClampNeg = n := by rw [hx, nI_clamp h]
theorem e_subI {x : Nat} {g : Int32} (hx : x ≤ 99) (hg : -6 ≤ g.toInt ∧ g.toInt ≤ 6) : (nI x - g).toInt = (x : Int) - g.toInt := by
  rw [Int32.toInt_sub, nI_toInt (by omega)]
  exact Int.bmod_eq_of_le (by omega) (by omega)
theorem e_sub_neg {x : Nat} {g : Int32} (hx : x ≤ 99) (hg : -6 ≤ g.toInt ∧ g.toInt ≤ 6) : nI x - g < 0 ↔ (x : Int) - g.toInt < 0 := by
  rw [Int32.lt_iff_toInt_lt, e_subI hx hg, show (0 : Int32).toInt = 0 from by decide]
theorem e_sub_lt {x t : Nat} {g : Int32} (hx : x ≤ 99) (ht : t ≤ 99) (hg : -6 ≤ g.toInt ∧ g.toInt ≤ 6) : nI x - g < nI t ↔ (x : Int) - g.toInt < (t : Int) := by
  rw [Int32.lt_iff_toInt_lt, e_subI hx hg, nI_toInt (by omega)]
theorem e_sub_gt {x t : Nat} {g : Int32} (hx : x ≤ 99) (ht : t ≤ 99) (hg : -6 ≤ g.toInt ∧ g.toInt ≤ 6) : nI t < nI x - g ↔ (t : Int) < (x : Int) - g.toInt := by
  rw [Int32.lt_iff_toInt_lt, e_subI hx hg, nI_toInt (by omega)]
theorem e_sub_le {x t : Nat} {g : Int32} (hx : x ≤ 99) (ht : t ≤ 99) (hg : -6 ≤ g.toInt ∧ g.toInt ≤ 6) : nI x - g ≤ nI t ↔ (x : Int) - g.toInt ≤ (t : Int) := by
  rw [Int32.le_iff_toInt_le, e_subI hx hg, nI_toInt (by omega)]
theorem e_sub_of {x : Nat} {g : Int32} (hx : x ≤ 99) (hg : -6 ≤ g.toInt ∧ g.toInt ≤ 6) (h : ¬ (x : Int) - g.toInt < 0) : nI x - g = nI ((x : Int) - g.toInt).toNat := by
  apply Int32.toInt_inj.mp
  rw [e_subI hx hg, nI_toInt (by omega)]
  omega
theorem e_tp_le {n : Nat} (h : n ≤ 6) : e_tp n ≤ 31 := by unfold e_tp; omega
/-- the reference's form of a need: 99 for the greatest -/
def e_enc (n x : Nat) : Int32 := nI (if x = e_tp n then 99 else x)
theorem e_enc_99 {n x : Nat} (hn : n ≤ 6) (hx : x ≤ e_tp n) : e_enc n x = 99 ↔ x = e_tp n := by
  have h1 := e_tp_le hn
  have h2 : (99 : Int32) = nI 99 := by decide
  unfold e_enc
  rw [h2, nI_eq (by split <;> omega) (by omega)]
  split <;> omega
theorem e_enc_lt {n x y : Nat} (hn : n ≤ 6) (hx : x ≤ e_tp n) (hy : y ≤ e_tp n) : e_enc n x < e_enc n y ↔ x < y := by
  have h1 := e_tp_le hn
  unfold e_enc
  rw [nI_ltI (by split <;> omega) (by split <;> omega)]
  split <;> split <;> omega
theorem e_enc_eq {n x y : Nat} (hn : n ≤ 6) (hx : x ≤ e_tp n) (hy : y ≤ e_tp n) : e_enc n x = e_enc n y ↔ x = y := by
  have h1 := e_tp_le hn
  unfold e_enc
  rw [nI_eq (by split <;> omega) (by split <;> omega)]
  split <;> split <;> omega
theorem e_enc_pos {n x : Nat} (hn : n ≤ 6) (hx : x ≤ e_tp n) : ¬ e_enc n x < 0 := by
  have h1 := e_tp_le hn
  exact nI_pos (by split <;> omega)
theorem e_enc_lo {n x : Nat} (hx : x ≠ e_tp n) : e_enc n x = nI x := by
  unfold e_enc
  rw [if_neg hx]
theorem e_enc_top {n : Nat} : e_enc n (e_tp n) = 99 := by
  unfold e_enc
  rw [if_pos rfl]
  decide
theorem e_enc_0 {n : Nat} : e_enc n 0 = 0 := by
  unfold e_enc
  rw [if_neg (by unfold e_tp; omega)]
  exact nI_0
/-! the state of both -/
def e_deg (T : eFn) (u : Int32) : Nat → Nat
  | 0 => 0
  | e + 1 => e_deg T u e + if T e = u then 1 else 0
def e_ok (n c : Nat) (T Hd G : eFn) : Prop := 2 ≤ n ∧ n ≤ 6 ∧ c ≤ 14 ∧ (∀ e, e < c → ∃ u, u < n ∧ T e = nI u) ∧ (∀ e, e < c → ∃ v, v < n ∧ Hd e = nI v) ∧ (∀ e, e < c → -6 ≤ (G e).toInt ∧ (G e).toInt ≤ 6) ∧ ∀ u, e_deg T u c ≤ 3
theorem e_ok.hd {n c : Nat} {T Hd G : eFn} (h : e_ok n c T Hd G) : ∀ e, e < c → (Hd e).toNatClampNeg < n := by
  intro e he
  obtain ⟨v, hv, hq⟩ := h.2.2.2.2.1 e he
  have h1 := h.2.1
  rw [hq, nI_clamp (by omega)]
  exact hv
theorem e_ok.tl {n c : Nat} {T Hd G : eFn} (h : e_ok n c T Hd G) : ∀ e, e < c → (T e).toNatClampNeg < n := by
  intro e he
  obtain ⟨v, hv, hq⟩ := h.2.2.2.1 e he
  have h1 := h.2.1
  rw [hq, nI_clamp (by omega)]
  exact hv
theorem e_deg_le {T : eFn} {u : Int32} : ∀ c, e_deg T u c ≤ c := by
  intro c
  induction c with
  | zero => exact Nat.le_refl _
  | succ c ih =>
    simp only [e_deg]
    split <;> omega
theorem e_deg_congr {T T' : eFn} {u : Int32} : ∀ c, (∀ e, e < c → T e = T' e) → e_deg T u c = e_deg T' u c := by
  intro c
  induction c with
  | zero => intro _; rfl
  | succ c ih =>
    intro h
    simp only [e_deg]
    rw [ih (fun e he => h e (by omega)), h c (by omega)]
/-- an edge is taken out: those behind it move down -/
def e_shf (f : eFn) (j c : Nat) : eFn := fun i => if j ≤ i ∧ i + 1 < c then f (i + 1) else f i
theorem e_shf_0 {f : eFn} {j : Nat} : e_shf f j (j + 1) = f := by
  funext i
  unfold e_shf
  rw [if_neg (by omega)]
theorem e_shf_at {f : eFn} {j e : Nat} : e_shf f j e e = f e := by
  unfold e_shf
  rw [if_neg (by omega)]
theorem e_shf_s {f : eFn} {j e : Nat} (h : j ≤ e) : upd (e_shf f j (e + 1)) e (f (e + 1)) = e_shf f j (e + 2) := by
  funext i
  by_cases hi : i = e
  · subst hi
    rw [pk_us]
    unfold e_shf
    rw [if_pos (by omega)]
  · rw [pk_un hi]
    unfold e_shf
    by_cases h2 : j ≤ i ∧ i + 1 < e + 1
    · rw [if_pos h2, if_pos (by omega)]
    · rw [if_neg h2, if_neg (by omega)]
theorem e_deg_shf {T : eFn} {u : Int32} {j c : Nat} : ∀ m, j ≤ m → m + 1 ≤ c → e_deg (e_shf T j c) u m + (if T j = u then 1 else 0) = e_deg T u (m + 1) := by
  intro m
  induction m with
  | zero =>
    intro h1 h2
    have : j = 0 := by omega
    subst this
    simp only [e_deg]
  | succ m ih =>
    intro h1 h2
    by_cases hj : j = m + 1
    · subst hj
      rw [e_deg_congr (T' := T) (m + 1) (fun e he => by unfold e_shf; rw [if_neg (by omega)])]
      rfl
    · have h3 := ih (by omega) (by omega)
      have h4 : e_shf T j c m = T (m + 1) := by
        unfold e_shf
        rw [if_pos (by omega)]
      have h5 : e_deg T u (m + 1 + 1) = e_deg T u (m + 1) + if T (m + 1) = u then 1 else 0 := rfl
      have h6 : e_deg (e_shf T j c) u (m + 1) = e_deg (e_shf T j c) u m + if e_shf T j c m = u then 1 else 0 := rfl
      rw [h5, h6, h4]
      omega
abbrev eC : Type := Nat × eFn × eFn × eFn × eFn
abbrev e_okC (n : Nat) (k : eC) : Prop := e_ok n k.1 k.2.1 k.2.2.1 k.2.2.2.1
abbrev e_v (n : Nat) (v : Int32) : Prop := ¬ v < 0 ∧ v < nI n
theorem e_v_of {n : Nat} {v : Int32} (h : e_v n v) (hn : n < 2 ^ 31) : ∃ j, j < n ∧ v = nI j := by
  obtain ⟨j, hj, rfl⟩ := nI_of h.1
  exact ⟨j, (nI_ltI hj hn).mp h.2, rfl⟩
theorem e_v_nI {n j : Nat} (h : j < n) (hn : n < 2 ^ 31) : e_v n (nI j) := ⟨nI_pos (by omega), nI_lt h hn⟩
abbrev e_g (g : Int32) : Prop := ¬ g < -6 ∧ ¬ 6 < g
theorem e_g_of {g : Int32} (h : e_g g) : -6 ≤ g.toInt ∧ g.toInt ≤ 6 := by
  obtain ⟨h1, h2⟩ := h
  rw [Int32.lt_iff_toInt_lt] at h1 h2
  have h3 : (-6 : Int32).toInt = -6 := by decide
  have h4 : (6 : Int32).toInt = 6 := by decide
  omega
/-! what the operations answer, and the state behind them -/
def s_give (n c : Nat) (T Hd G O : eFn) (v p : Int32) : Int32 × eC :=
  if ¬ e_v n v then (-1, (c, T, Hd, G, O)) else if ¬ p = 0 ∧ ¬ p = 1 then (-2, (c, T, Hd, G, O)) else (O v.toNatClampNeg, (c, T, Hd, G, upd O v.toNatClampNeg p))
def s_link (n c : Nat) (T Hd G O : eFn) (u v g : Int32) : Int32 × eC :=
  if ¬ (e_v n u ∧ e_v n v) then (-1, (c, T, Hd, G, O)) else if ¬ e_g g then (-2, (c, T, Hd, G, O)) else if 14 ≤ c then (-3, (c, T, Hd, G, O)) else if 3 ≤ e_deg T u c then (-4, (c, T, Hd, G, O))
  else (nI c, (c + 1, upd T c u, upd Hd c v, upd G c g, O))
def s_cut (n c : Nat) (T Hd G O : eFn) (e : Int32) : Int32 × eC :=
  if ¬ e_v c e then (-1, (c, T, Hd, G, O)) else (nI (c - 1), (c - 1, e_shf T e.toNatClampNeg c, e_shf Hd e.toNatClampNeg c, e_shf G e.toNatClampNeg c, O))
def s_set (n c : Nat) (T Hd G O : eFn) (e g : Int32) : Int32 × eC :=
  if ¬ e_v c e then (-1, (c, T, Hd, G, O)) else if ¬ e_g g then (-2, (c, T, Hd, G, O)) else (G e.toNatClampNeg, (c, T, Hd, upd G e.toNatClampNeg g, O))
def e_shn (n x : Nat) : Int32 := if x = e_tp n then -2 else nI x
def s_need (n c : Nat) (T Hd G O : eFn) (v : Int32) : Int32 := if ¬ e_v n v then -1 else e_shn n (e_lf n c T Hd G O (-1) v.toNatClampNeg)
def e_safe (n : Nat) (L : Nat → Nat) (cr : Int32) : Nat → Int32
  | 0 => 0
  | v + 1 => if L v < e_tp n ∧ nI (L v) ≤ cr then e_safe n L cr v ||| ((1 : Int32) <<< (nI v &&& 31)) else e_safe n L cr v
def s_safe (n c : Nat) (T Hd G O : eFn) (cr : Int32) : Int32 := e_safe n (e_lf n c T Hd G O (-1)) cr n
def e_hop (n : Nat) (L : Nat → Nat) : Nat → Int32
  | 0 => 0
  | v + 1 => e_hop n L v + if L v = e_tp n then 1 else 0
def s_hop (n c : Nat) (T Hd G O : eFn) : Int32 := e_hop n (e_lf n c T Hd G O (-1)) n
def e_gst (n : Nat) (L : Nat → Nat) : Nat → Int32
  | 0 => 0
  | v + 1 => if L v < e_tp n ∧ e_gst n L v < nI (L v) then nI (L v) else e_gst n L v
def s_gst (n c : Nat) (T Hd G O : eFn) : Int32 := e_gst n (e_lf n c T Hd G O (-1)) n
def e_gd (n : Nat) (T Hd G O : eFn) (L : Nat → Nat) (e : Nat) : Bool :=
  if L (T e).toNatClampNeg = e_tp n then decide (O (T e).toNatClampNeg = 1 ∧ L (Hd e).toNatClampNeg = e_tp n)
  else decide (e_ask n Hd G L e = L (T e).toNatClampNeg ∧ L (Hd e).toNatClampNeg < e_tp n)
def e_ch (T : eFn) (gd : Nat → Bool) (v : Int32) : Nat → Nat → Int32
  | 0, _ => -2
  | f + 1, e => if T e = v ∧ gd e = true then nI e else e_ch T gd v f (e + 1)
def e_chs (T : eFn) (gd : Nat → Bool) (v : Int32) : Nat → Int32
  | 0 => 0
  | e + 1 => e_chs T gd v e + if T e = v ∧ gd e = true then 1 else 0
/-- the edge chosen at a vertex -/
def s_chn (n c : Nat) (T Hd G O : eFn) (v : Int32) : Int32 := e_ch T (e_gd n T Hd G O (e_lf n c T Hd G O (-1))) v c 0
def s_choice (n c : Nat) (T Hd G O : eFn) (v : Int32) : Int32 := if ¬ e_v n v then -1 else s_chn n c T Hd G O v
def s_choices (n c : Nat) (T Hd G O : eFn) (v : Int32) : Int32 := if ¬ e_v n v then -1 else e_chs T (e_gd n T Hd G O (e_lf n c T Hd G O (-1))) v c
def s_without (n c : Nat) (T Hd G O : eFn) (v e : Int32) : Int32 := if ¬ e_v n v then -1 else if ¬ e_v c e then -3 else e_shn n (e_lf n c T Hd G O e v.toNatClampNeg)
def s_of (n c : Nat) (T Hd G O : eFn) (v p : Int32) : Int32 := if ¬ e_v n v then -1 else if ¬ p = 0 ∧ ¬ p = 1 then -3 else e_shn n (e_lf n c T Hd G (upd O v.toNatClampNeg p) (-1) v.toNatClampNeg)
def e_sto (n c : Nat) (T Hd G O : eFn) : Nat → Int32 → Int32 → Int32
  | 0, _, sum => sum
  | k + 1, v, sum => if s_chn n c T Hd G O v < 0 then sum else e_sto n c T Hd G O k (Hd (s_chn n c T Hd G O v).toNatClampNeg) (sum + G (s_chn n c T Hd G O v).toNatClampNeg)
def s_store (n c : Nat) (T Hd G O : eFn) (v pl : Int32) : Int32 := if ¬ e_v n v then -1000 else if pl < 0 ∨ 100 < pl.toNatClampNeg % 128 ∨ 30 < pl.toNatClampNeg / 128 then -2000
  else e_sto n c T Hd G O (pl.toNatClampNeg / 128) v (nI (pl.toNatClampNeg % 128))
theorem e_ch_in {T : eFn} {gd : Nat → Bool} {v : Int32} : ∀ f e, e + f < 2 ^ 31 → e_ch T gd v f e < 0 ∨ ∃ j, j < e + f ∧ e_ch T gd v f e = nI j := by
  intro f
  induction f with
  | zero => intro e _; exact Or.inl (by show (-2 : Int32) < 0; decide)
  | succ f ih =>
    intro e h
    simp only [e_ch]
    split
    · exact Or.inr ⟨e, by omega, rfl⟩
    · rcases ih (e + 1) (by omega) with z | ⟨j, hj, z⟩
      · exact Or.inl z
      · exact Or.inr ⟨j, by omega, z⟩
theorem s_chn_in {n c : Nat} {T Hd G O : eFn} {v : Int32} (hc : c ≤ 14) : s_chn n c T Hd G O v < 0 ∨ ∃ j, j < c ∧ s_chn n c T Hd G O v = nI j := by
  have h := e_ch_in (T := T) (gd := e_gd n T Hd G O (e_lf n c T Hd G O (-1))) (v := v) c 0 (by omega)
  rw [Nat.zero_add] at h
  exact h
/-! the state stays in order -/
theorem s_give_ok {n c : Nat} {T Hd G O : eFn} {v p : Int32} (h : e_ok n c T Hd G) : e_okC n (s_give n c T Hd G O v p).2 := by
  unfold s_give
  split
  · exact h
  · split
    · exact h
    · exact h
theorem s_set_ok {n c : Nat} {T Hd G O : eFn} {x g : Int32} (h : e_ok n c T Hd G) : e_okC n (s_set n c T Hd G O x g).2 := by
  unfold s_set
  split
  · exact h
  · split
    · exact h
    · rename_i h1 h2
      obtain ⟨a1, a2, a3, a4, a5, a6, a7⟩ := h
      refine ⟨a1, a2, a3, a4, a5, fun e he => ?_, a7⟩
      show -6 ≤ (upd G x.toNatClampNeg g e).toInt ∧ (upd G x.toNatClampNeg g e).toInt ≤ 6
      by_cases hq : e = x.toNatClampNeg
      · rw [← hq, pk_us]
        exact e_g_of (Classical.not_not.mp h2)
      · rw [pk_un hq]
        exact a6 e he
theorem s_cut_ok {n c : Nat} {T Hd G O : eFn} {x : Int32} (h : e_ok n c T Hd G) : e_okC n (s_cut n c T Hd G O x).2 := by
  unfold s_cut
  split
  · exact h
  · rename_i h1
    obtain ⟨a1, a2, a3, a4, a5, a6, a7⟩ := h
    obtain ⟨j, hj, rfl⟩ := e_v_of (Classical.not_not.mp h1) (by omega)
    rw [nI_clamp (by omega)]
    refine ⟨a1, a2, by show c - 1 ≤ 14; omega, fun e he => ?_, fun e he => ?_, fun e he => ?_, fun u => ?_⟩
    · have he : e < c - 1 := he
      show ∃ u, u < n ∧ e_shf T j c e = nI u
      unfold e_shf
      split
      · exact a4 _ (by omega)
      · exact a4 _ (by omega)
    · have he : e < c - 1 := he
      show ∃ u, u < n ∧ e_shf Hd j c e = nI u
      unfold e_shf
      split
      · exact a5 _ (by omega)
      · exact a5 _ (by omega)
    · have he : e < c - 1 := he
      show -6 ≤ (e_shf G j c e).toInt ∧ (e_shf G j c e).toInt ≤ 6
      unfold e_shf
      split
      · exact a6 _ (by omega)
      · exact a6 _ (by omega)
    · have h2 := e_deg_shf (T := T) (u := u) (j := j) (c := c) (c - 1) (by omega) (by omega)
      have h3 := a7 u
      rw [show c - 1 + 1 = c by omega] at h2
      show e_deg (e_shf T j c) u (c - 1) ≤ 3
      omega
theorem s_link_ok {n c : Nat} {T Hd G O : eFn} {x y g : Int32} (h : e_ok n c T Hd G) : e_okC n (s_link n c T Hd G O x y g).2 := by
  unfold s_link
  split
  · exact h
  · split
    · exact h
    · split
      · exact h
      · split
        · exact h
        · rename_i h1 h2 h3 h4
          obtain ⟨a1, a2, a3, a4, a5, a6, a7⟩ := h
          have h1 := Classical.not_not.mp h1
          obtain ⟨j, hj, rfl⟩ := e_v_of h1.1 (by omega)
          obtain ⟨i, hi, rfl⟩ := e_v_of h1.2 (by omega)
          refine ⟨a1, a2, by show c + 1 ≤ 14; omega, fun e he => ?_, fun e he => ?_, fun e he => ?_, fun u => ?_⟩
          · have he : e < c + 1 := he
            show ∃ u, u < n ∧ upd T c (nI j) e = nI u
            by_cases hq : e = c
            · subst hq; rw [pk_us]; exact ⟨j, hj, rfl⟩
            · rw [pk_un hq]; exact a4 e (by omega)
          · have he : e < c + 1 := he
            show ∃ u, u < n ∧ upd Hd c (nI i) e = nI u
            by_cases hq : e = c
            · subst hq; rw [pk_us]; exact ⟨i, hi, rfl⟩
            · rw [pk_un hq]; exact a5 e (by omega)
          · have he : e < c + 1 := he
            show -6 ≤ (upd G c g e).toInt ∧ (upd G c g e).toInt ≤ 6
            by_cases hq : e = c
            · subst hq; rw [pk_us]; exact e_g_of (Classical.not_not.mp h2)
            · rw [pk_un hq]; exact a6 e (by omega)
          · show e_deg (upd T c (nI j)) u (c + 1) ≤ 3
            have h5 : e_deg (upd T c (nI j)) u (c + 1) = e_deg (upd T c (nI j)) u c + if upd T c (nI j) c = u then 1 else 0 := rfl
            rw [h5, e_deg_congr (T' := T) c (fun e he => pk_un (by omega)), pk_us]
            have h6 := a7 u
            split
            · rename_i hq
              rw [← hq] at h6 ⊢
              omega
            · omega
end
section
/-! THE PLAIN PART, 3: small steps that the walks take; the two worlds -/
set_option maxRecDepth 100000
theorem e_incs (e k : Nat) : nI e + Int32.ofInt k = nI (e + k) := by
  rw [← nI_add]
  congr 1
theorem e_deg_y {T : eFn} {u : Int32} {e : Nat} (h : T e = u) : nI (e_deg T u e) + 1 = nI (e_deg T u (e + 1)) := by
  rw [nI_1]
  simp only [e_deg, if_pos h]
theorem e_deg_n {T : eFn} {u : Int32} {e : Nat} (h : ¬ T e = u) : nI (e_deg T u e) + 0 = nI (e_deg T u (e + 1)) := by
  rw [← nI_0, nI_add]
  simp only [e_deg, if_neg h]
theorem e_ask_at {n : Nat} {Hd G : eFn} {a : Nat → Nat} {e w : Nat} (ew : Hd e = nI w) (hw : w < 2 ^ 31) : e_ask n Hd G a e = if a w = e_tp n then e_tp n else if (a w : Int) - (G e).toInt < 0 then 0 else if (a w : Int) - (G e).toInt < (e_tp n : Int) then ((a w : Int) - (G e).toInt).toNat else e_tp n := by
  unfold e_ask
  rw [ew, nI_clamp hw]
theorem e_gd_at {n : Nat} {T Hd G O : eFn} {a : Nat → Nat} {e u w : Nat} (eu : T e = nI u) (hu : u < 2 ^ 31) (ew : Hd e = nI w) (hw : w < 2 ^ 31) : e_gd n T Hd G O a e = if a u = e_tp n then decide (O u = 1 ∧ a w = e_tp n) else decide (e_ask n Hd G a e = a u ∧ a w < e_tp n) := by
  unfold e_gd
  rw [eu, ew, nI_clamp hu, nI_clamp hw]
/-- the choice so far, as the loops hold it -/
def e_o (E : Nat → Int32) (o : Option Nat) : Int32 := match o with
  | none => -1
  | some r => E r
def e_E (E : Nat → Int32) (t : Nat) : Prop := (∀ i j, i ≤ t → j ≤ t → (E i < E j ↔ i < j)) ∧ (∀ i, i ≤ t → ¬ E i < 0) ∧ E 0 = 0
theorem e_E_G {n : Nat} (hn : n ≤ 6) : e_E nI (e_tp n) := by
  have h1 := e_tp_le hn
  exact ⟨fun i j hi hj => nI_ltI (by omega) (by omega), fun i hi => nI_pos (by omega), nI_0⟩
theorem e_E_M {n : Nat} (hn : n ≤ 6) : e_E (e_enc n) (e_tp n) := ⟨fun i j hi hj => e_enc_lt hn hi hj, fun i hi => e_enc_pos hn hi, e_enc_0⟩
theorem e_take_y {E : Nat → Int32} {t x : Nat} {p : Int32} {o : Option Nat} (hE : e_E E t) (hx : x ≤ t) (ho : ∀ r, o = some r → r ≤ t) (h : e_o E o < 0 ∨ (p = 0 ∧ E x < e_o E o) ∨ (¬ p = 0 ∧ e_o E o < E x)) : E x = e_o E (some (e_step p x o)) := by
  cases o with
  | none => rfl
  | some r =>
    have hr := ho r rfl
    rcases h with z | ⟨z1, z2⟩ | ⟨z1, z2⟩
    · exact absurd z (hE.2.1 r hr)
    · have z2 : x < r := (hE.1 x r hx hr).mp z2
      show E x = E (e_step p x (some r))
      simp only [e_step, if_pos z1, if_pos z2]
    · have z2 : r < x := (hE.1 r x hr hx).mp z2
      show E x = E (e_step p x (some r))
      simp only [e_step, if_neg z1, if_pos z2]
theorem e_take_n {E : Nat → Int32} {t x : Nat} {p : Int32} {o : Option Nat} (hE : e_E E t) (hx : x ≤ t) (ho : ∀ r, o = some r → r ≤ t) (h0 : ¬ e_o E o < 0) (h : (p = 0 ∧ ¬ E x < e_o E o) ∨ (¬ p = 0 ∧ ¬ e_o E o < E x)) : e_o E o = e_o E (some (e_step p x o)) := by
  cases o with
  | none => exact absurd (show (-1 : Int32) < 0 by decide) h0
  | some r =>
    have hr := ho r rfl
    rcases h with ⟨z1, z2⟩ | ⟨z1, z2⟩
    · have z2 : ¬ x < r := fun z => z2 ((hE.1 x r hx hr).mpr z)
      show E r = E (e_step p x (some r))
      simp only [e_step, if_pos z1, if_neg z2]
    · have z2 : ¬ r < x := fun z => z2 ((hE.1 r x hr hx).mpr z)
      show E r = E (e_step p x (some r))
      simp only [e_step, if_neg z1, if_neg z2]
theorem e_wl_y {n : Nat} {T Hd G : eFn} {p sk : Int32} {a : Nat → Nat} {v e : Nat} (h1 : T e = nI v) (h2 : ¬ nI e = sk) : e_wl n T Hd G p sk a v (e + 1) = some (e_step p (e_ask n Hd G a e) (e_wl n T Hd G p sk a v e)) := by
  simp only [e_wl]
  rw [if_pos ⟨h1, h2⟩]
theorem e_wl_n {n : Nat} {T Hd G : eFn} {p sk : Int32} {a : Nat → Nat} {v e : Nat} (h : ¬ (T e = nI v ∧ ¬ nI e = sk)) : e_wl n T Hd G p sk a v (e + 1) = e_wl n T Hd G p sk a v e := by
  simp only [e_wl]
  rw [if_neg h]
theorem e_o_n {E : Nat → Int32} {t : Nat} {o : Option Nat} (hE : e_E E t) (ho : ∀ r, o = some r → r ≤ t) (h : e_o E o < 0) : (0 : Int32) = E (o.getD 0) := by
  cases o with
  | none => exact hE.2.2.symm
  | some r => exact absurd h (hE.2.1 r (ho r rfl))
theorem e_o_y {E : Nat → Int32} {o : Option Nat} (h : ¬ e_o E o < 0) : e_o E o = E (o.getD 0) := by
  cases o with
  | none => exact absurd (show (-1 : Int32) < 0 by decide) h
  | some r => rfl
/-! the classes, the worlds of the two -/
abbrev vwCl : List vw_C := [(RX1, TX1, 12), (RX2, TX2, 8)]
abbrev wG (ad : Nat → Nat) (cI cZ : ClassId) (n c : Nat) (T Hd G O N Wt Qu : eFn) (sk cu : Int32) : va_W := [(ad 0, .inr (0, [.ref (ad 1), .ref (ad 2), .ref (ad 3), .ref (ad 4), .ref (ad 5), .ref (ad 6), .ref (ad 7), .int (nI n), .int (nI c), .int (nI (e_tp n)), .int sk, .int cu])), (ad 1, .inl (cI, 14, .inl T)), (ad 2, .inl (cI, 14, .inl Hd)), (ad 3, .inl (cI, 14, .inl G)), (ad 4, .inl (cI, 6, .inl O)), (ad 5, .inl (cI, 6, .inl N)), (ad 6, .inl (cZ, 6, .inl Wt)), (ad 7, .inl (cI, 8, .inl Qu))]
abbrev wM (ad : Nat → Nat) (cI : ClassId) (n c : Nat) (T Hd G O Nw Lt : eFn) : va_W := [(ad 0, .inr (1, [.int (nI n), .int (nI c), .ref (ad 1), .ref (ad 2), .ref (ad 3), .ref (ad 4), .ref (ad 5), .ref (ad 6)])), (ad 1, .inl (cI, 8, .inl O)), (ad 2, .inl (cI, 14, .inl T)), (ad 3, .inl (cI, 14, .inl Hd)), (ad 4, .inl (cI, 14, .inl G)), (ad 5, .inl (cI, 8, .inl Nw)), (ad 6, .inl (cI, 8, .inl Lt))]
end
section
/-! THE PLAIN PART, 4: small steps of the reference's walks -/
set_option maxRecDepth 100000
theorem e_v_le5 {n : Nat} {v : Int32} (hn : n ≤ 6) (h : e_v n v) : v ≤ 5 := by
  obtain ⟨j, hj, rfl⟩ := e_v_of h (by omega)
  rw [show (5 : Int32) = nI 5 by decide]
  exact nI_le (by omega) (by omega)
theorem e_v_le13 {c : Nat} {v : Int32} (hc : c ≤ 14) (h : e_v c v) : v ≤ 13 := by
  obtain ⟨j, hj, rfl⟩ := e_v_of h (by omega)
  rw [show (13 : Int32) = nI 13 by decide]
  exact nI_le (by omega) (by omega)
theorem e_m6 {n : Nat} (h : 2 ≤ n) : 6 * (nI n - 1) = nI (e_tp n - 1) := by
  rw [show (1 : Int32) = nI 1 by decide, show (6 : Int32) = nI 6 by decide, pk_sub (by omega), pk_mul]
  unfold e_tp
  congr 1
theorem e_gm_neg {n : Nat} {Hd G : eFn} {a : Nat → Nat} {e w : Nat} (hn : n ≤ 6) (ew : Hd e = nI w) (hw : w < 2 ^ 31) (haw : a w ≤ e_tp n) (hg : -6 ≤ (G e).toInt ∧ (G e).toInt ≤ 6) (h1 : ¬ a w = e_tp n) (h2 : e_enc n (a w) - G e < 0) : e_ask n Hd G a e = 0 := by
  have ht := e_tp_le hn
  rw [e_enc_lo h1, e_sub_neg (by omega) hg] at h2
  rw [e_ask_at ew hw, if_neg h1, if_pos h2]
theorem e_gm_pos {n : Nat} {Hd G : eFn} {a : Nat → Nat} {e w x : Nat} (hn : n ≤ 6) (ew : Hd e = nI w) (hw : w < 2 ^ 31) (haw : a w ≤ e_tp n) (hg : -6 ≤ (G e).toInt ∧ (G e).toInt ≤ 6) (h1 : ¬ a w = e_tp n) (h2 : ¬ e_enc n (a w) - G e < 0) (hx : x < e_tp n) : e_enc n (a w) - G e = nI x ↔ e_ask n Hd G a e = x := by
  have ht := e_tp_le hn
  rw [e_enc_lo h1, e_sub_neg (by omega) hg] at h2
  rw [e_enc_lo h1, e_sub_of (by omega) hg h2, nI_eq (by omega) (by omega), e_ask_at ew hw, if_neg h1, if_neg h2]
  split <;> omega
theorem e_ch_y {T : eFn} {gd : Nat → Bool} {v : Int32} {c e : Nat} (he : e < c) (h : T e = v ∧ gd e = true) : e_ch T gd v (c - e) e = nI e := by
  rw [show c - e = (c - e - 1) + 1 by omega]
  simp only [e_ch]
  rw [if_pos h]
theorem e_ch_n {T : eFn} {gd : Nat → Bool} {v : Int32} {c e : Nat} (he : e < c) (h : ¬ (T e = v ∧ gd e = true)) : e_ch T gd v (c - e) e = e_ch T gd v (c - (e + 1)) (e + 1) := by
  rw [show c - e = (c - (e + 1)) + 1 by omega]
  simp only [e_ch]
  rw [if_neg h]
theorem e_ch_0 {T : eFn} {gd : Nat → Bool} {v : Int32} {c e : Nat} (he : e = c) : e_ch T gd v (c - e) e = -2 := by
  rw [show c - e = 0 by omega]
  rfl
theorem e_chs_y {T : eFn} {gd : Nat → Bool} {v : Int32} {e : Nat} (h : T e = v ∧ gd e = true) : e_chs T gd v e + 1 = e_chs T gd v (e + 1) := by
  simp only [e_chs, if_pos h]
theorem e_chs_n {T : eFn} {gd : Nat → Bool} {v : Int32} {e : Nat} (h : ¬ (T e = v ∧ gd e = true)) : e_chs T gd v e + 0 = e_chs T gd v (e + 1) := by
  simp only [e_chs, if_neg h]
end
section
/-! EnergyGame: the methods that only read -/
set_option maxRecDepth 100000
abbrev rX1_vertices : Room := { frames := 0, cells := 0, slots := 0, locals := 0 }
set_option maxHeartbeats 4000000 in
set_option maxRecDepth 100000 in
theorem metX1_vertices (l : Launch) (dC : Nat → ClassId) (dI : Nat → Nat → Nat) (ad : Nat → Nat) (cI cZ : ClassId) (n c : Nat) (T Hd G O N Wt Qu : eFn) (sk cu : Int32) : Met l yX1_vertices (ws_ yX1_vertices cX1_vertices 1 (some .int)) rX1_vertices (va_Pc [.ref (ad 0)] (e_PR (dC, dI) vwCl [(cI, .int), (cZ, .boolean)] (wG ad cI cZ n c T Hd G O N Wt Qu sk cu))) (e_R (fun r => r = nI n)) 0 0 (fun _ => False) := by
  refine e_startRi (by decide) (Nat.le_of_ble_eq_true rfl) ?_
  intro pg ev st mi ar bl mt cd H QQ hx hb hml hown hts hK hP hret ls hl
  have hown : st.vm.findClass RX1 = some mi.cls := hown
  have hP : va_P (dC, dI) vwCl [(ad 0, .inr (0, [.ref (ad 1), .ref (ad 2), .ref (ad 3), .ref (ad 4), .ref (ad 5), .ref (ad 6), .ref (ad 7), .int (nI n), .int (nI c), .int (nI (e_tp n)), .int sk, .int cu])), (ad 1, .inl (cI, 14, .inl T)), (ad 2, .inl (cI, 14, .inl Hd)), (ad 3, .inl (cI, 14, .inl G)), (ad 4, .inl (cI, 6, .inl O)), (ad 5, .inl (cI, 6, .inl N)), (ad 6, .inl (cZ, 6, .inl Wt)), (ad 7, .inl (cI, 8, .inl Qu))] H := hP
  have hl : lv_has ls 1 [(0, .ref (ad 0))] := hl
  refine lv_aload_n hx hb dX1_vertices_0 rfl (lv_at hl 0 rfl) ?_
  refine va_get (D := (dC, dI)) (ci := 0) (v := .int (nI n)) (C := RX1) (T := TX1) (N := 12) hx hb hts in_X1 hown hK hP 0 rfl rfl 7 (by decide) (hts _ q36) (fun _ h9 => h9) rfl dX1_vertices_1 ?_
  exact hret dX1_vertices_4 rfl
abbrev rX1_edges : Room := { frames := 0, cells := 0, slots := 0, locals := 0 }
set_option maxHeartbeats 4000000 in
set_option maxRecDepth 100000 in
theorem metX1_edges (l : Launch) (dC : Nat → ClassId) (dI : Nat → Nat → Nat) (ad : Nat → Nat) (cI cZ : ClassId) (n c : Nat) (T Hd G O N Wt Qu : eFn) (sk cu : Int32) : Met l yX1_edges (ws_ yX1_edges cX1_edges 1 (some .int)) rX1_edges (va_Pc [.ref (ad 0)] (e_PR (dC, dI) vwCl [(cI, .int), (cZ, .boolean)] (wG ad cI cZ n c T Hd G O N Wt Qu sk cu))) (e_R (fun r => r = nI c)) 0 0 (fun _ => False) := by
  refine e_startRi (by decide) (Nat.le_of_ble_eq_true rfl) ?_
  intro pg ev st mi ar bl mt cd H QQ hx hb hml hown hts hK hP hret ls hl
  have hown : st.vm.findClass RX1 = some mi.cls := hown
  have hP : va_P (dC, dI) vwCl [(ad 0, .inr (0, [.ref (ad 1), .ref (ad 2), .ref (ad 3), .ref (ad 4), .ref (ad 5), .ref (ad 6), .ref (ad 7), .int (nI n), .int (nI c), .int (nI (e_tp n)), .int sk, .int cu])), (ad 1, .inl (cI, 14, .inl T)), (ad 2, .inl (cI, 14, .inl Hd)), (ad 3, .inl (cI, 14, .inl G)), (ad 4, .inl (cI, 6, .inl O)), (ad 5, .inl (cI, 6, .inl N)), (ad 6, .inl (cZ, 6, .inl Wt)), (ad 7, .inl (cI, 8, .inl Qu))] H := hP
  have hl : lv_has ls 1 [(0, .ref (ad 0))] := hl
  refine lv_aload_n hx hb dX1_edges_0 rfl (lv_at hl 0 rfl) ?_
  refine va_get (D := (dC, dI)) (ci := 0) (v := .int (nI c)) (C := RX1) (T := TX1) (N := 12) hx hb hts in_X1 hown hK hP 0 rfl rfl 8 (by decide) (hts _ q37) (fun _ h9 => h9) rfl dX1_edges_1 ?_
  exact hret dX1_edges_4 rfl
abbrev rX1_isVertex : Room := { frames := 0, cells := 0, slots := 0, locals := 0 }
set_option maxHeartbeats 4000000 in
set_option maxRecDepth 100000 in
theorem metX1_isVertex (l : Launch) (dC : Nat → ClassId) (dI : Nat → Nat → Nat) (ad : Nat → Nat) (cI cZ : ClassId) (n c : Nat) (T Hd G O N Wt Qu : eFn) (sk cu : Int32) (p0 : Int32) : Met l yX1_isVertex (ws_ yX1_isVertex cX1_isVertex 2 (some .boolean)) rX1_isVertex (va_Pc [.ref (ad 0), .int p0] (e_PR (dC, dI) vwCl [(cI, .int), (cZ, .boolean)] (wG ad cI cZ n c T Hd G O N Wt Qu sk cu))) (e_R (fun r => (r = 1 ∧ e_v n p0) ∨ (r = 0 ∧ ¬ e_v n p0))) 0 0 (fun _ => False) := by
  refine e_startRz (by decide) (Nat.le_of_ble_eq_true rfl) ?_
  intro pg ev st mi ar bl mt cd H QQ hx hb hml hown hts hK hP hret ls hl
  have hown : st.vm.findClass RX1 = some mi.cls := hown
  have hP : va_P (dC, dI) vwCl [(ad 0, .inr (0, [.ref (ad 1), .ref (ad 2), .ref (ad 3), .ref (ad 4), .ref (ad 5), .ref (ad 6), .ref (ad 7), .int (nI n), .int (nI c), .int (nI (e_tp n)), .int sk, .int cu])), (ad 1, .inl (cI, 14, .inl T)), (ad 2, .inl (cI, 14, .inl Hd)), (ad 3, .inl (cI, 14, .inl G)), (ad 4, .inl (cI, 6, .inl O)), (ad 5, .inl (cI, 6, .inl N)), (ad 6, .inl (cZ, 6, .inl Wt)), (ad 7, .inl (cI, 8, .inl Qu))] H := hP
  have hl : lv_has ls 2 [(0, .ref (ad 0)), (1, .int p0)] := hl
  refine lv_iload_n hx hb dX1_isVertex_0 rfl (lv_at hl 1 rfl) ?_
  refine lv_if_lt (tgt := 16) hx hb dX1_isVertex_1 (by decide) (fun c_1 => ?_) (fun c_1 => ?_)
  · refine lv_iconst (v := 0) hx hb dX1_isVertex_16 (by decide) ?_
    exact hret dX1_isVertex_17 rfl (Or.inr ⟨rfl, fun h => h.1 c_1⟩)
  · refine lv_iload_n hx hb dX1_isVertex_4 rfl (lv_at hl 1 rfl) ?_
    refine lv_aload_n hx hb dX1_isVertex_5 rfl (lv_at hl 0 rfl) ?_
    refine va_get (D := (dC, dI)) (ci := 0) (v := .int (nI n)) (C := RX1) (T := TX1) (N := 12) hx hb hts in_X1 hown hK hP 0 rfl rfl 7 (by decide) (hts _ q36) (fun _ h9 => h9) rfl dX1_isVertex_6 ?_
    refine lv_icmp_ge (tgt := 16) hx hb dX1_isVertex_9 (by decide) (fun c_9 => ?_) (fun c_9 => ?_)
    · refine lv_iconst (v := 0) hx hb dX1_isVertex_16 (by decide) ?_
      exact hret dX1_isVertex_17 rfl (Or.inr ⟨rfl, fun h => absurd h.2 (Int32.not_lt.mpr c_9)⟩)
    · refine lv_iconst (v := 1) hx hb dX1_isVertex_12 (by decide) ?_
      refine lv_goto (tgt := 17) hx hb dX1_isVertex_13 (by decide) ?_
      exact hret dX1_isVertex_17 rfl (Or.inl ⟨rfl, c_1, Int32.not_le.mp c_9⟩)
abbrev rX1_isEdge : Room := { frames := 0, cells := 0, slots := 0, locals := 0 }
set_option maxHeartbeats 4000000 in
set_option maxRecDepth 100000 in
theorem metX1_isEdge (l : Launch) (dC : Nat → ClassId) (dI : Nat → Nat → Nat) (ad : Nat → Nat) (cI cZ : ClassId) (n c : Nat) (T Hd G O N Wt Qu : eFn) (sk cu : Int32) (p0 : Int32) : Met l yX1_isEdge (ws_ yX1_isEdge cX1_isEdge 2 (some .boolean)) rX1_isEdge (va_Pc [.ref (ad 0), .int p0] (e_PR (dC, dI) vwCl [(cI, .int), (cZ, .boolean)] (wG ad cI cZ n c T Hd G O N Wt Qu sk cu))) (e_R (fun r => (r = 1 ∧ e_v c p0) ∨ (r = 0 ∧ ¬ e_v c p0))) 0 0 (fun _ => False) := by
  refine e_startRz (by decide) (Nat.le_of_ble_eq_true rfl) ?_
  intro pg ev st mi ar bl mt cd H QQ hx hb hml hown hts hK hP hret ls hl
  have hown : st.vm.findClass RX1 = some mi.cls := hown
  have hP : va_P (dC, dI) vwCl [(ad 0, .inr (0, [.ref (ad 1), .ref (ad 2), .ref (ad 3), .ref (ad 4), .ref (ad 5), .ref (ad 6), .ref (ad 7), .int (nI n), .int (nI c), .int (nI (e_tp n)), .int sk, .int cu])), (ad 1, .inl (cI, 14, .inl T)), (ad 2, .inl (cI, 14, .inl Hd)), (ad 3, .inl (cI, 14, .inl G)), (ad 4, .inl (cI, 6, .inl O)), (ad 5, .inl (cI, 6, .inl N)), (ad 6, .inl (cZ, 6, .inl Wt)), (ad 7, .inl (cI, 8, .inl Qu))] H := hP
  have hl : lv_has ls 2 [(0, .ref (ad 0)), (1, .int p0)] := hl
  refine lv_iload_n hx hb dX1_isEdge_0 rfl (lv_at hl 1 rfl) ?_
  refine lv_if_lt (tgt := 16) hx hb dX1_isEdge_1 (by decide) (fun c_1 => ?_) (fun c_1 => ?_)
  · refine lv_iconst (v := 0) hx hb dX1_isEdge_16 (by decide) ?_
    exact hret dX1_isEdge_17 rfl (Or.inr ⟨rfl, fun h => h.1 c_1⟩)
  · refine lv_iload_n hx hb dX1_isEdge_4 rfl (lv_at hl 1 rfl) ?_
    refine lv_aload_n hx hb dX1_isEdge_5 rfl (lv_at hl 0 rfl) ?_
    refine va_get (D := (dC, dI)) (ci := 0) (v := .int (nI c)) (C := RX1) (T := TX1) (N := 12) hx hb hts in_X1 hown hK hP 0 rfl rfl 8 (by decide) (hts _ q37) (fun _ h9 => h9) rfl dX1_isEdge_6 ?_
    refine lv_icmp_ge (tgt := 16) hx hb dX1_isEdge_9 (by decide) (fun c_9 => ?_) (fun c_9 => ?_)
    · refine lv_iconst (v := 0) hx hb dX1_isEdge_16 (by decide) ?_
      exact hret dX1_isEdge_17 rfl (Or.inr ⟨rfl, fun h => absurd h.2 (Int32.not_lt.mpr c_9)⟩)
    · refine lv_iconst (v := 1) hx hb dX1_isEdge_12 (by decide) ?_
      refine lv_goto (tgt := 17) hx hb dX1_isEdge_13 (by decide) ?_
      exact hret dX1_isEdge_17 rfl (Or.inl ⟨rfl, c_1, Int32.not_le.mp c_9⟩)
abbrev rX1_degree : Room := { frames := 0, cells := 0, slots := 0, locals := 0 }
set_option maxHeartbeats 4000000 in
set_option maxRecDepth 100000 in
theorem metX1_degree (l : Launch) (dC : Nat → ClassId) (dI : Nat → Nat → Nat) (ad : Nat → Nat) (cI cZ : ClassId) (n c : Nat) (T Hd G O N Wt Qu : eFn) (sk cu : Int32) (hok : e_ok n c T Hd G) (p0 : Int32) : Met l yX1_degree (ws_ yX1_degree cX1_degree 4 (some .int)) rX1_degree (va_Pc [.ref (ad 0), .int p0] (e_PR (dC, dI) vwCl [(cI, .int), (cZ, .boolean)] (wG ad cI cZ n c T Hd G O N Wt Qu sk cu))) (e_R (fun r => r = nI (e_deg T p0 c))) 0 0 (fun _ => False) := by
  refine e_startRi (by decide) (Nat.le_of_ble_eq_true rfl) ?_
  intro pg ev st mi ar bl mt cd H QQ hx hb hml hown hts hK hP hret ls hl
  have hown : st.vm.findClass RX1 = some mi.cls := hown
  have hP : va_P (dC, dI) vwCl [(ad 0, .inr (0, [.ref (ad 1), .ref (ad 2), .ref (ad 3), .ref (ad 4), .ref (ad 5), .ref (ad 6), .ref (ad 7), .int (nI n), .int (nI c), .int (nI (e_tp n)), .int sk, .int cu])), (ad 1, .inl (cI, 14, .inl T)), (ad 2, .inl (cI, 14, .inl Hd)), (ad 3, .inl (cI, 14, .inl G)), (ad 4, .inl (cI, 6, .inl O)), (ad 5, .inl (cI, 6, .inl N)), (ad 6, .inl (cZ, 6, .inl Wt)), (ad 7, .inl (cI, 8, .inl Qu))] H := hP
  have hl : lv_has ls 4 [(0, .ref (ad 0)), (1, .int p0)] := hl
  have hn2 := hok.1
  have hn6 := hok.2.1
  have hc14 := hok.2.2.1
  refine lv_iconst (v := nI 0) hx hb dX1_degree_0 (by decide) ?_
  refine lv_istore_n (lv' := [(2, .int (nI 0)), (0, .ref (ad 0)), (1, .int p0)]) hx hb dX1_degree_1 rfl hl (by decide) rfl (fun ls hl => ?_)
  refine lv_iconst (v := nI 0) hx hb dX1_degree_2 (by decide) ?_
  refine lv_istore_n (lv' := [(3, .int (nI 0)), (2, .int (nI 0)), (0, .ref (ad 0)), (1, .int p0)]) hx hb dX1_degree_3 rfl hl (by decide) rfl (fun ls hl => ?_)
  have lp_4 : ∀ (k_4 : Nat) (e : Nat), (e ≤ c) → (c < e + k_4) → ∀ ls : Array Slot, lv_has ls 4 [(0, .ref (ad 0)), (1, .int p0), (2, .int (nI (e_deg T p0 e))), (3, .int (nI e))] → W pg l ev rX1_degree st mi ar bl mt cd H [] 0 0 QQ (F0 mi 4 ls []) := by
    intro k_4
    induction k_4 with
    | zero =>
      intro e he hk
      exfalso; omega
    | succ k_4 ih_4 =>
      intro e he hk ls hl
      refine lv_iload_n hx hb dX1_degree_4 rfl (lv_at hl 3 rfl) ?_
      refine lv_aload_n hx hb dX1_degree_5 rfl (lv_at hl 0 rfl) ?_
      refine va_get (D := (dC, dI)) (ci := 0) (v := .int (nI c)) (C := RX1) (T := TX1) (N := 12) hx hb hts in_X1 hown hK hP 0 rfl rfl 8 (by decide) (hts _ q37) (fun _ h9 => h9) rfl dX1_degree_6 ?_
      refine e_ge (tgt := 36) hx hb (by omega) (by omega) dX1_degree_9 (by decide) (fun c_9 => ?_) (fun c_9 => ?_)
      · have heq : e = c := by omega
        rw [heq] at hl
        refine lv_iload_n hx hb dX1_degree_36 rfl (lv_at hl 2 rfl) ?_
        exact hret dX1_degree_37 rfl
      · refine lv_iload_n hx hb dX1_degree_12 rfl (lv_at hl 2 rfl) ?_
        refine lv_aload_n hx hb dX1_degree_13 rfl (lv_at hl 0 rfl) ?_
        refine va_get (D := (dC, dI)) (ci := 0) (v := .ref (ad 1)) (C := RX1) (T := TX1) (N := 12) hx hb hts in_X1 hown hK hP 0 rfl rfl 0 (by decide) (hts _ q29) (fun _ h9 => h9) rfl dX1_degree_14 ?_
        refine lv_iload_n hx hb dX1_degree_17 rfl (lv_at hl 3 rfl) ?_
        refine e_ild (v := T e) hx hb hK hP 1 0 rfl rfl e rfl (by omega) (by decide) rfl dX1_degree_18 ?_
        refine lv_iload_n hx hb dX1_degree_19 rfl (lv_at hl 1 rfl) ?_
        refine lv_icmp_ne (tgt := 27) hx hb dX1_degree_20 (by decide) (fun c_20 => ?_) (fun c_20 => ?_)
        · refine lv_iconst (v := 0) hx hb dX1_degree_27 (by decide) ?_
          refine lv_iadd hx hb dX1_degree_28 ?_
          refine e_top (nI (e_deg T p0 (e + 1))) (e_deg_n c_20) ?_
          refine lv_istore_n (lv' := [(2, .int (nI (e_deg T p0 (e + 1)))), (0, .ref (ad 0)), (1, .int p0), (3, .int (nI e))]) hx hb dX1_degree_29 rfl hl (by decide) rfl (fun ls hl => ?_)
          refine lv_iinc (v := nI (e + 1)) (lv' := [(3, .int (nI (e + 1))), (2, .int (nI (e_deg T p0 (e + 1)))), (0, .ref (ad 0)), (1, .int p0)]) hx hb dX1_degree_30 hl (k := 3) rfl (e_inc _) (by decide) rfl (fun ls hl => ?_)
          refine lv_goto (tgt := 4) hx hb dX1_degree_33 (by decide) ?_
          exact ih_4 (e + 1) (by omega) (by omega) ls (lv_sub hl [2, 3, 1, 0] rfl)
        · refine lv_iconst (v := 1) hx hb dX1_degree_23 (by decide) ?_
          refine lv_goto (tgt := 28) hx hb dX1_degree_24 (by decide) ?_
          refine lv_iadd hx hb dX1_degree_28 ?_
          refine e_top (nI (e_deg T p0 (e + 1))) (e_deg_y c_20) ?_
          refine lv_istore_n (lv' := [(2, .int (nI (e_deg T p0 (e + 1)))), (0, .ref (ad 0)), (1, .int p0), (3, .int (nI e))]) hx hb dX1_degree_29 rfl hl (by decide) rfl (fun ls hl => ?_)
          refine lv_iinc (v := nI (e + 1)) (lv' := [(3, .int (nI (e + 1))), (2, .int (nI (e_deg T p0 (e + 1)))), (0, .ref (ad 0)), (1, .int p0)]) hx hb dX1_degree_30 hl (k := 3) rfl (e_inc _) (by decide) rfl (fun ls hl => ?_)
          refine lv_goto (tgt := 4) hx hb dX1_degree_33 (by decide) ?_
          exact ih_4 (e + 1) (by omega) (by omega) ls (lv_sub hl [2, 3, 1, 0] rfl)
  exact lp_4 (c + 1) 0 (by omega) (by omega) ls (lv_sub hl [2, 3, 1, 0] rfl)
abbrev rX1_shown : Room := { frames := 0, cells := 0, slots := 0, locals := 0 }
set_option maxHeartbeats 4000000 in
set_option maxRecDepth 100000 in
theorem metX1_shown (l : Launch) (dC : Nat → ClassId) (dI : Nat → Nat → Nat) (ad : Nat → Nat) (cI cZ : ClassId) (n c : Nat) (T Hd G O N Wt Qu : eFn) (sk cu : Int32) (hok : e_ok n c T Hd G) (a : Nat → Nat) (hN : ∀ v, v < n → N v = nI (a v)) (ha : ∀ v, v < n → a v ≤ e_tp n) (v : Nat) (hv : v < n) : Met l yX1_shown (ws_ yX1_shown cX1_shown 2 (some .int)) rX1_shown (va_Pc [.ref (ad 0), .int (nI v)] (e_PR (dC, dI) vwCl [(cI, .int), (cZ, .boolean)] (wG ad cI cZ n c T Hd G O N Wt Qu sk cu))) (e_R (fun r => r = e_shn n (a v))) 0 0 (fun _ => False) := by
  refine e_startRi (by decide) (Nat.le_of_ble_eq_true rfl) ?_
  intro pg ev st mi ar bl mt cd H QQ hx hb hml hown hts hK hP hret ls hl
  have hown : st.vm.findClass RX1 = some mi.cls := hown
  have hP : va_P (dC, dI) vwCl [(ad 0, .inr (0, [.ref (ad 1), .ref (ad 2), .ref (ad 3), .ref (ad 4), .ref (ad 5), .ref (ad 6), .ref (ad 7), .int (nI n), .int (nI c), .int (nI (e_tp n)), .int sk, .int cu])), (ad 1, .inl (cI, 14, .inl T)), (ad 2, .inl (cI, 14, .inl Hd)), (ad 3, .inl (cI, 14, .inl G)), (ad 4, .inl (cI, 6, .inl O)), (ad 5, .inl (cI, 6, .inl N)), (ad 6, .inl (cZ, 6, .inl Wt)), (ad 7, .inl (cI, 8, .inl Qu))] H := hP
  have hl : lv_has ls 2 [(0, .ref (ad 0)), (1, .int (nI v))] := hl
  have hn2 := hok.1
  have hn6 := hok.2.1
  have hc14 := hok.2.2.1
  have ht31 := e_tp_le hn6
  have hav := ha v hv
  refine lv_aload_n hx hb dX1_shown_0 rfl (lv_at hl 0 rfl) ?_
  refine va_get (D := (dC, dI)) (ci := 0) (v := .ref (ad 5)) (C := RX1) (T := TX1) (N := 12) hx hb hts in_X1 hown hK hP 0 rfl rfl 4 (by decide) (hts _ q33) (fun _ h9 => h9) rfl dX1_shown_1 ?_
  refine lv_iload_n hx hb dX1_shown_4 rfl (lv_at hl 1 rfl) ?_
  refine e_ild (v := nI (a v)) hx hb hK hP 5 0 rfl rfl v rfl (by omega) (by decide) (hN v hv) dX1_shown_5 ?_
  refine lv_aload_n hx hb dX1_shown_6 rfl (lv_at hl 0 rfl) ?_
  refine va_get (D := (dC, dI)) (ci := 0) (v := .int (nI (e_tp n))) (C := RX1) (T := TX1) (N := 12) hx hb hts in_X1 hown hK hP 0 rfl rfl 9 (by decide) (hts _ q38) (fun _ h9 => h9) rfl dX1_shown_7 ?_
  refine lv_icmp_ne (tgt := 18) hx hb dX1_shown_10 (by decide) (fun c_10 => ?_) (fun c_10 => ?_)
  · refine lv_aload_n hx hb dX1_shown_18 rfl (lv_at hl 0 rfl) ?_
    refine va_get (D := (dC, dI)) (ci := 0) (v := .ref (ad 5)) (C := RX1) (T := TX1) (N := 12) hx hb hts in_X1 hown hK hP 0 rfl rfl 4 (by decide) (hts _ q33) (fun _ h9 => h9) rfl dX1_shown_19 ?_
    refine lv_iload_n hx hb dX1_shown_22 rfl (lv_at hl 1 rfl) ?_
    refine e_ild (v := nI (a v)) hx hb hK hP 5 0 rfl rfl v rfl (by omega) (by decide) (hN v hv) dX1_shown_23 ?_
    exact hret dX1_shown_24 (by unfold e_shn; rw [if_neg (fun z => c_10 (by rw [z]))])
  · refine lv_bipush (v := -2) hx hb dX1_shown_13 (by decide) ?_
    refine lv_goto (tgt := 24) hx hb dX1_shown_15 (by decide) ?_
    exact hret dX1_shown_24 (by unfold e_shn; rw [if_pos ((nI_eq (by omega) (by omega)).mp c_10)])
abbrev rX1_asked : Room := { frames := 0, cells := 0, slots := 0, locals := 0 }
set_option maxHeartbeats 4000000 in
set_option maxRecDepth 100000 in
theorem metX1_asked (l : Launch) (dC : Nat → ClassId) (dI : Nat → Nat → Nat) (ad : Nat → Nat) (cI cZ : ClassId) (n c : Nat) (T Hd G O N Wt Qu : eFn) (sk cu : Int32) (hok : e_ok n c T Hd G) (a : Nat → Nat) (hN : ∀ v, v < n → N v = nI (a v)) (ha : ∀ v, v < n → a v ≤ e_tp n) (e : Nat) (he : e < c) : Met l yX1_asked (ws_ yX1_asked cX1_asked 4 (some .int)) rX1_asked (va_Pc [.ref (ad 0), .int (nI e)] (e_PR (dC, dI) vwCl [(cI, .int), (cZ, .boolean)] (wG ad cI cZ n c T Hd G O N Wt Qu sk cu))) (e_R (fun r => r = nI (e_ask n Hd G a e))) 0 0 (fun _ => False) := by
  refine e_startRi (by decide) (Nat.le_of_ble_eq_true rfl) ?_
  intro pg ev st mi ar bl mt cd H QQ hx hb hml hown hts hK hP hret ls hl
  have hown : st.vm.findClass RX1 = some mi.cls := hown
  have hP : va_P (dC, dI) vwCl [(ad 0, .inr (0, [.ref (ad 1), .ref (ad 2), .ref (ad 3), .ref (ad 4), .ref (ad 5), .ref (ad 6), .ref (ad 7), .int (nI n), .int (nI c), .int (nI (e_tp n)), .int sk, .int cu])), (ad 1, .inl (cI, 14, .inl T)), (ad 2, .inl (cI, 14, .inl Hd)), (ad 3, .inl (cI, 14, .inl G)), (ad 4, .inl (cI, 6, .inl O)), (ad 5, .inl (cI, 6, .inl N)), (ad 6, .inl (cZ, 6, .inl Wt)), (ad 7, .inl (cI, 8, .inl Qu))] H := hP
  have hl : lv_has ls 4 [(0, .ref (ad 0)), (1, .int (nI e))] := hl
  have hn2 := hok.1
  have hn6 := hok.2.1
  have hc14 := hok.2.2.1
  have ht31 := e_tp_le hn6
  obtain ⟨w, hw, ew⟩ := hok.2.2.2.2.1 e he
  have hg := hok.2.2.2.2.2.1 e he
  have haw := ha w hw
  refine lv_aload_n hx hb dX1_asked_0 rfl (lv_at hl 0 rfl) ?_
  refine va_get (D := (dC, dI)) (ci := 0) (v := .ref (ad 5)) (C := RX1) (T := TX1) (N := 12) hx hb hts in_X1 hown hK hP 0 rfl rfl 4 (by decide) (hts _ q33) (fun _ h9 => h9) rfl dX1_asked_1 ?_
  refine lv_aload_n hx hb dX1_asked_4 rfl (lv_at hl 0 rfl) ?_
  refine va_get (D := (dC, dI)) (ci := 0) (v := .ref (ad 2)) (C := RX1) (T := TX1) (N := 12) hx hb hts in_X1 hown hK hP 0 rfl rfl 1 (by decide) (hts _ q30) (fun _ h9 => h9) rfl dX1_asked_5 ?_
  refine lv_iload_n hx hb dX1_asked_8 rfl (lv_at hl 1 rfl) ?_
  refine e_ild (v := nI w) hx hb hK hP 2 0 rfl rfl e rfl (by omega) (by decide) ew dX1_asked_9 ?_
  refine e_ild (v := nI (a w)) hx hb hK hP 5 0 rfl rfl w rfl (by omega) (by decide) (hN w hw) dX1_asked_10 ?_
  refine lv_istore_n (lv' := [(2, .int (nI (a w))), (0, .ref (ad 0)), (1, .int (nI e))]) hx hb dX1_asked_11 rfl hl (by decide) rfl (fun ls hl => ?_)
  refine lv_iload_n hx hb dX1_asked_12 rfl (lv_at hl 0 rfl) ?_
  refine lv_aload_n hx hb dX1_asked_13 rfl (lv_at hl 1 rfl) ?_
  refine va_get (D := (dC, dI)) (ci := 0) (v := .int (nI (e_tp n))) (C := RX1) (T := TX1) (N := 12) hx hb hts in_X1 hown hK hP 0 rfl rfl 9 (by decide) (hts _ q38) (fun _ h9 => h9) rfl dX1_asked_14 ?_
  refine lv_icmp_ne (tgt := 25) hx hb dX1_asked_17 (by decide) (fun c_17 => ?_) (fun c_17 => ?_)
  · have d_17 : ¬ a w = e_tp n := fun z => c_17 (by rw [z])
    refine lv_iload_n hx hb dX1_asked_25 rfl (lv_at hl 0 rfl) ?_
    refine lv_aload_n hx hb dX1_asked_26 rfl (lv_at hl 1 rfl) ?_
    refine va_get (D := (dC, dI)) (ci := 0) (v := .ref (ad 3)) (C := RX1) (T := TX1) (N := 12) hx hb hts in_X1 hown hK hP 0 rfl rfl 2 (by decide) (hts _ q31) (fun _ h9 => h9) rfl dX1_asked_27 ?_
    refine lv_iload_n hx hb dX1_asked_30 rfl (lv_at hl 2 rfl) ?_
    refine e_ild (v := G e) hx hb hK hP 3 0 rfl rfl e rfl (by omega) (by decide) rfl dX1_asked_31 ?_
    refine lv_isub hx hb dX1_asked_32 ?_
    refine lv_istore_n (lv' := [(3, .int ((nI (a w)) - (G e))), (2, .int (nI (a w))), (0, .ref (ad 0)), (1, .int (nI e))]) hx hb dX1_asked_33 rfl hl (by decide) rfl (fun ls hl => ?_)
    refine lv_iload_n hx hb dX1_asked_34 rfl (lv_at hl 0 rfl) ?_
    refine lv_if_ge (tgt := 40) hx hb dX1_asked_35 (by decide) (fun c_35 => ?_) (fun c_35 => ?_)
    · have d_35 : ¬ (a w : Int) - (G e).toInt < 0 := fun z => absurd c_35 (Int32.not_le.mpr ((e_sub_neg (by omega) hg).mpr z))
      refine lv_iload_n hx hb dX1_asked_40 rfl (lv_at hl 0 rfl) ?_
      refine lv_aload_n hx hb dX1_asked_41 rfl (lv_at hl 2 rfl) ?_
      refine va_get (D := (dC, dI)) (ci := 0) (v := .int (nI (e_tp n))) (C := RX1) (T := TX1) (N := 12) hx hb hts in_X1 hown hK hP 0 rfl rfl 9 (by decide) (hts _ q38) (fun _ h9 => h9) rfl dX1_asked_42 ?_
      refine lv_icmp_ge (tgt := 52) hx hb dX1_asked_45 (by decide) (fun c_45 => ?_) (fun c_45 => ?_)
      · have d_45 : ¬ (a w : Int) - (G e).toInt < (e_tp n : Int) := fun z => absurd c_45 (Int32.not_le.mpr ((e_sub_lt (by omega) (by omega) hg).mpr z))
        refine lv_aload_n hx hb dX1_asked_52 rfl (lv_at hl 2 rfl) ?_
        refine va_get (D := (dC, dI)) (ci := 0) (v := .int (nI (e_tp n))) (C := RX1) (T := TX1) (N := 12) hx hb hts in_X1 hown hK hP 0 rfl rfl 9 (by decide) (hts _ q38) (fun _ h9 => h9) rfl dX1_asked_53 ?_
        exact hret dX1_asked_56 (by rw [e_ask_at ew (by omega), if_neg d_17, if_neg d_35, if_neg d_45])
      · have d_45 : (a w : Int) - (G e).toInt < (e_tp n : Int) := (e_sub_lt (by omega) (by omega) hg).mp (Int32.not_le.mp c_45)
        refine lv_iload_n hx hb dX1_asked_48 rfl (lv_at hl 0 rfl) ?_
        refine lv_goto (tgt := 56) hx hb dX1_asked_49 (by decide) ?_
        exact hret dX1_asked_56 (by rw [e_ask_at ew (by omega), if_neg d_17, if_neg d_35, if_pos d_45]; exact e_sub_of (by omega) hg d_35)
    · have d_35 : (a w : Int) - (G e).toInt < 0 := (e_sub_neg (by omega) hg).mp (Int32.not_le.mp c_35)
      refine lv_iconst (v := 0) hx hb dX1_asked_38 (by decide) ?_
      exact hret dX1_asked_39 (by rw [e_ask_at ew (by omega), if_neg d_17, if_pos d_35]; exact nI_0.symm)
  · have d_17 : a w = e_tp n := (nI_eq (by omega) (by omega)).mp c_17
    refine lv_aload_n hx hb dX1_asked_20 rfl (lv_at hl 1 rfl) ?_
    refine va_get (D := (dC, dI)) (ci := 0) (v := .int (nI (e_tp n))) (C := RX1) (T := TX1) (N := 12) hx hb hts in_X1 hown hK hP 0 rfl rfl 9 (by decide) (hts _ q38) (fun _ h9 => h9) rfl dX1_asked_21 ?_
    exact hret dX1_asked_24 (by rw [e_ask_at ew (by omega), if_pos d_17])
abbrev rX1_isGood : Room := { frames := 1, cells := 0, slots := 0, locals := 23 }
set_option maxHeartbeats 4000000 in
set_option maxRecDepth 100000 in
theorem metX1_isGood (l : Launch) (dC : Nat → ClassId) (dI : Nat → Nat → Nat) (ad : Nat → Nat) (cI cZ : ClassId) (n c : Nat) (T Hd G O N Wt Qu : eFn) (sk cu : Int32) (hok : e_ok n c T Hd G) (a : Nat → Nat) (hN : ∀ v, v < n → N v = nI (a v)) (ha : ∀ v, v < n → a v ≤ e_tp n) (e : Nat) (he : e < c) : Met l yX1_isGood (ws_ yX1_isGood cX1_isGood 4 (some .boolean)) rX1_isGood (va_Pc [.ref (ad 0), .int (nI e)] (e_PR (dC, dI) vwCl [(cI, .int), (cZ, .boolean)] (wG ad cI cZ n c T Hd G O N Wt Qu sk cu))) (e_R (fun r => (r = 1 ∧ e_gd n T Hd G O a e = true) ∨ (r = 0 ∧ ¬ e_gd n T Hd G O a e = true))) 0 0 (fun _ => False) := by
  refine e_startRz (by decide) (Nat.le_of_ble_eq_true rfl) ?_
  intro pg ev st mi ar bl mt cd H QQ hx hb hml hown hts hK hP hret ls hl
  have hown : st.vm.findClass RX1 = some mi.cls := hown
  have hP : va_P (dC, dI) vwCl [(ad 0, .inr (0, [.ref (ad 1), .ref (ad 2), .ref (ad 3), .ref (ad 4), .ref (ad 5), .ref (ad 6), .ref (ad 7), .int (nI n), .int (nI c), .int (nI (e_tp n)), .int sk, .int cu])), (ad 1, .inl (cI, 14, .inl T)), (ad 2, .inl (cI, 14, .inl Hd)), (ad 3, .inl (cI, 14, .inl G)), (ad 4, .inl (cI, 6, .inl O)), (ad 5, .inl (cI, 6, .inl N)), (ad 6, .inl (cZ, 6, .inl Wt)), (ad 7, .inl (cI, 8, .inl Qu))] H := hP
  have hl : lv_has ls 4 [(0, .ref (ad 0)), (1, .int (nI e))] := hl
  have hn2 := hok.1
  have hn6 := hok.2.1
  have hc14 := hok.2.2.1
  have ht31 := e_tp_le hn6
  obtain ⟨u, hu, eu⟩ := hok.2.2.2.1 e he
  obtain ⟨w, hw, ew⟩ := hok.2.2.2.2.1 e he
  have hau := ha u hu
  have haw := ha w hw
  have hask := e_ask_le (n := n) (Hd := Hd) (G := G) (a := a) (e := e)
  refine lv_aload_n hx hb dX1_isGood_0 rfl (lv_at hl 0 rfl) ?_
  refine va_get (D := (dC, dI)) (ci := 0) (v := .ref (ad 1)) (C := RX1) (T := TX1) (N := 12) hx hb hts in_X1 hown hK hP 0 rfl rfl 0 (by decide) (hts _ q29) (fun _ h9 => h9) rfl dX1_isGood_1 ?_
  refine lv_iload_n hx hb dX1_isGood_4 rfl (lv_at hl 1 rfl) ?_
  refine e_ild (v := nI u) hx hb hK hP 1 0 rfl rfl e rfl (by omega) (by decide) eu dX1_isGood_5 ?_
  refine lv_istore_n (lv' := [(2, .int (nI u)), (0, .ref (ad 0)), (1, .int (nI e))]) hx hb dX1_isGood_6 rfl hl (by decide) rfl (fun ls hl => ?_)
  refine lv_aload_n hx hb dX1_isGood_7 rfl (lv_at hl 1 rfl) ?_
  refine va_get (D := (dC, dI)) (ci := 0) (v := .ref (ad 2)) (C := RX1) (T := TX1) (N := 12) hx hb hts in_X1 hown hK hP 0 rfl rfl 1 (by decide) (hts _ q30) (fun _ h9 => h9) rfl dX1_isGood_8 ?_
  refine lv_iload_n hx hb dX1_isGood_11 rfl (lv_at hl 2 rfl) ?_
  refine e_ild (v := nI w) hx hb hK hP 2 0 rfl rfl e rfl (by omega) (by decide) ew dX1_isGood_12 ?_
  refine lv_istore_n (lv' := [(3, .int (nI w)), (2, .int (nI u)), (0, .ref (ad 0)), (1, .int (nI e))]) hx hb dX1_isGood_13 rfl hl (by decide) rfl (fun ls hl => ?_)
  refine lv_aload_n hx hb dX1_isGood_14 rfl (lv_at hl 2 rfl) ?_
  refine va_get (D := (dC, dI)) (ci := 0) (v := .ref (ad 5)) (C := RX1) (T := TX1) (N := 12) hx hb hts in_X1 hown hK hP 0 rfl rfl 4 (by decide) (hts _ q33) (fun _ h9 => h9) rfl dX1_isGood_15 ?_
  refine lv_iload_n hx hb dX1_isGood_18 rfl (lv_at hl 1 rfl) ?_
  refine e_ild (v := nI (a u)) hx hb hK hP 5 0 rfl rfl u rfl (by omega) (by decide) (hN u hu) dX1_isGood_19 ?_
  refine lv_aload_n hx hb dX1_isGood_20 rfl (lv_at hl 2 rfl) ?_
  refine va_get (D := (dC, dI)) (ci := 0) (v := .int (nI (e_tp n))) (C := RX1) (T := TX1) (N := 12) hx hb hts in_X1 hown hK hP 0 rfl rfl 9 (by decide) (hts _ q38) (fun _ h9 => h9) rfl dX1_isGood_21 ?_
  refine lv_icmp_ne (tgt := 56) hx hb dX1_isGood_24 (by decide) (fun c_24 => ?_) (fun c_24 => ?_)
  · have d_24 : ¬ a u = e_tp n := fun z => c_24 (by rw [z])
    refine lv_aload_n hx hb dX1_isGood_56 rfl (lv_at hl 2 rfl) ?_
    refine lv_iload_n hx hb dX1_isGood_57 rfl (lv_at hl 3 rfl) ?_
    refine e_callR (q0 := 0) (ci := 0) (rest := []) ⟨hx, hb, hml, hown, hts⟩ (metX1_asked l dC dI ad cI cZ n c T Hd G O N Wt Qu sk cu hok a hN ha e he) (cwV 1 hts (lw_V q120 q122 qs6 q19 q123) rfl rfl rfl (by decide +kernel) ⟨Nat.le_of_ble_eq_true rfl, Nat.le_of_ble_eq_true rfl⟩) hK hP rfl rfl rfl rfl hl.1 rfl (Nat.le_of_ble_eq_true rfl) dX1_isGood_58 ⟨Nat.zero_le _, Nat.zero_le _⟩ (fun r_58 hr_58 => ?_)
    subst hr_58
    refine lv_aload_n hx hb dX1_isGood_61 rfl (lv_at hl 2 rfl) ?_
    refine va_get (D := (dC, dI)) (ci := 0) (v := .ref (ad 5)) (C := RX1) (T := TX1) (N := 12) hx hb hts in_X1 hown hK hP 0 rfl rfl 4 (by decide) (hts _ q33) (fun _ h9 => h9) rfl dX1_isGood_62 ?_
    refine lv_iload_n hx hb dX1_isGood_65 rfl (lv_at hl 1 rfl) ?_
    refine e_ild (v := nI (a u)) hx hb hK hP 5 0 rfl rfl u rfl (by omega) (by decide) (hN u hu) dX1_isGood_66 ?_
    refine lv_icmp_ne (tgt := 87) hx hb dX1_isGood_67 (by decide) (fun c_67 => ?_) (fun c_67 => ?_)
    · have d_67 : ¬ e_ask n Hd G a e = a u := fun z => c_67 (by rw [z])
      refine lv_iconst (v := 0) hx hb dX1_isGood_87 (by decide) ?_
      exact hret dX1_isGood_88 rfl (Or.inr ⟨rfl, by rw [e_gd_at eu (by omega) ew (by omega), if_neg d_24]; exact fun z => d_67 (of_decide_eq_true z).1⟩)
    · have d_67 : e_ask n Hd G a e = a u := (nI_eq (by omega) (by omega)).mp c_67
      refine lv_aload_n hx hb dX1_isGood_70 rfl (lv_at hl 2 rfl) ?_
      refine va_get (D := (dC, dI)) (ci := 0) (v := .ref (ad 5)) (C := RX1) (T := TX1) (N := 12) hx hb hts in_X1 hown hK hP 0 rfl rfl 4 (by decide) (hts _ q33) (fun _ h9 => h9) rfl dX1_isGood_71 ?_
      refine lv_iload_n hx hb dX1_isGood_74 rfl (lv_at hl 0 rfl) ?_
      refine e_ild (v := nI (a w)) hx hb hK hP 5 0 rfl rfl w rfl (by omega) (by decide) (hN w hw) dX1_isGood_75 ?_
      refine lv_aload_n hx hb dX1_isGood_76 rfl (lv_at hl 2 rfl) ?_
      refine va_get (D := (dC, dI)) (ci := 0) (v := .int (nI (e_tp n))) (C := RX1) (T := TX1) (N := 12) hx hb hts in_X1 hown hK hP 0 rfl rfl 9 (by decide) (hts _ q38) (fun _ h9 => h9) rfl dX1_isGood_77 ?_
      refine e_ge (tgt := 87) hx hb (by omega) (by omega) dX1_isGood_80 (by decide) (fun c_80 => ?_) (fun c_80 => ?_)
      · refine lv_iconst (v := 0) hx hb dX1_isGood_87 (by decide) ?_
        exact hret dX1_isGood_88 rfl (Or.inr ⟨rfl, by rw [e_gd_at eu (by omega) ew (by omega), if_neg d_24]; exact fun z => absurd (of_decide_eq_true z).2 (Nat.not_lt.mpr c_80)⟩)
      · refine lv_iconst (v := 1) hx hb dX1_isGood_83 (by decide) ?_
        refine lv_goto (tgt := 88) hx hb dX1_isGood_84 (by decide) ?_
        exact hret dX1_isGood_88 rfl (Or.inl ⟨rfl, by rw [e_gd_at eu (by omega) ew (by omega), if_neg d_24]; exact decide_eq_true ⟨d_67, c_80⟩⟩)
  · have d_24 : a u = e_tp n := (nI_eq (by omega) (by omega)).mp c_24
    refine lv_aload_n hx hb dX1_isGood_27 rfl (lv_at hl 2 rfl) ?_
    refine va_get (D := (dC, dI)) (ci := 0) (v := .ref (ad 4)) (C := RX1) (T := TX1) (N := 12) hx hb hts in_X1 hown hK hP 0 rfl rfl 3 (by decide) (hts _ q32) (fun _ h9 => h9) rfl dX1_isGood_28 ?_
    refine lv_iload_n hx hb dX1_isGood_31 rfl (lv_at hl 1 rfl) ?_
    refine e_ild (v := O u) hx hb hK hP 4 0 rfl rfl u rfl (by omega) (by decide) rfl dX1_isGood_32 ?_
    refine lv_iconst (v := 1) hx hb dX1_isGood_33 (by decide) ?_
    refine lv_icmp_ne (tgt := 54) hx hb dX1_isGood_34 (by decide) (fun c_34 => ?_) (fun c_34 => ?_)
    · refine lv_iconst (v := 0) hx hb dX1_isGood_54 (by decide) ?_
      exact hret dX1_isGood_55 rfl (Or.inr ⟨rfl, by rw [e_gd_at eu (by omega) ew (by omega), if_pos d_24]; exact fun z => c_34 (of_decide_eq_true z).1⟩)
    · refine lv_aload_n hx hb dX1_isGood_37 rfl (lv_at hl 2 rfl) ?_
      refine va_get (D := (dC, dI)) (ci := 0) (v := .ref (ad 5)) (C := RX1) (T := TX1) (N := 12) hx hb hts in_X1 hown hK hP 0 rfl rfl 4 (by decide) (hts _ q33) (fun _ h9 => h9) rfl dX1_isGood_38 ?_
      refine lv_iload_n hx hb dX1_isGood_41 rfl (lv_at hl 0 rfl) ?_
      refine e_ild (v := nI (a w)) hx hb hK hP 5 0 rfl rfl w rfl (by omega) (by decide) (hN w hw) dX1_isGood_42 ?_
      refine lv_aload_n hx hb dX1_isGood_43 rfl (lv_at hl 2 rfl) ?_
      refine va_get (D := (dC, dI)) (ci := 0) (v := .int (nI (e_tp n))) (C := RX1) (T := TX1) (N := 12) hx hb hts in_X1 hown hK hP 0 rfl rfl 9 (by decide) (hts _ q38) (fun _ h9 => h9) rfl dX1_isGood_44 ?_
      refine lv_icmp_ne (tgt := 54) hx hb dX1_isGood_47 (by decide) (fun c_47 => ?_) (fun c_47 => ?_)
      · have d_47 : ¬ a w = e_tp n := fun z => c_47 (by rw [z])
        refine lv_iconst (v := 0) hx hb dX1_isGood_54 (by decide) ?_
        exact hret dX1_isGood_55 rfl (Or.inr ⟨rfl, by rw [e_gd_at eu (by omega) ew (by omega), if_pos d_24]; exact fun z => d_47 (of_decide_eq_true z).2⟩)
      · have d_47 : a w = e_tp n := (nI_eq (by omega) (by omega)).mp c_47
        refine lv_iconst (v := 1) hx hb dX1_isGood_50 (by decide) ?_
        refine lv_goto (tgt := 55) hx hb dX1_isGood_51 (by decide) ?_
        exact hret dX1_isGood_55 rfl (Or.inl ⟨rfl, by rw [e_gd_at eu (by omega) ew (by omega), if_pos d_24]; exact decide_eq_true ⟨c_34, d_47⟩⟩)
abbrev rX1_wantedAt : Room := { frames := 1, cells := 0, slots := 0, locals := 23 }
set_option maxHeartbeats 4000000 in
set_option maxRecDepth 100000 in
theorem metX1_wantedAt (l : Launch) (dC : Nat → ClassId) (dI : Nat → Nat → Nat) (ad : Nat → Nat) (cI cZ : ClassId) (n c : Nat) (T Hd G O N Wt Qu : eFn) (sk cu : Int32) (hok : e_ok n c T Hd G) (a : Nat → Nat) (hN : ∀ v, v < n → N v = nI (a v)) (ha : ∀ v, v < n → a v ≤ e_tp n) (v : Nat) (hv : v < n) : Met l yX1_wantedAt (ws_ yX1_wantedAt cX1_wantedAt 6 (some .int)) rX1_wantedAt (va_Pc [.ref (ad 0), .int (nI v)] (e_PR (dC, dI) vwCl [(cI, .int), (cZ, .boolean)] (wG ad cI cZ n c T Hd G O N Wt Qu sk cu))) (e_R (fun r => r = nI (e_want n c T Hd G (O v) sk a v))) 0 0 (fun _ => False) := by
  refine e_startRi (by decide) (Nat.le_of_ble_eq_true rfl) ?_
  intro pg ev st mi ar bl mt cd H QQ hx hb hml hown hts hK hP hret ls hl
  have hown : st.vm.findClass RX1 = some mi.cls := hown
  have hP : va_P (dC, dI) vwCl [(ad 0, .inr (0, [.ref (ad 1), .ref (ad 2), .ref (ad 3), .ref (ad 4), .ref (ad 5), .ref (ad 6), .ref (ad 7), .int (nI n), .int (nI c), .int (nI (e_tp n)), .int sk, .int cu])), (ad 1, .inl (cI, 14, .inl T)), (ad 2, .inl (cI, 14, .inl Hd)), (ad 3, .inl (cI, 14, .inl G)), (ad 4, .inl (cI, 6, .inl O)), (ad 5, .inl (cI, 6, .inl N)), (ad 6, .inl (cZ, 6, .inl Wt)), (ad 7, .inl (cI, 8, .inl Qu))] H := hP
  have hl : lv_has ls 6 [(0, .ref (ad 0)), (1, .int (nI v))] := hl
  have hn2 := hok.1
  have hn6 := hok.2.1
  have hc14 := hok.2.2.1
  have ht31 := e_tp_le hn6
  have hE := e_E_G hn6
  refine lv_iconst (v := -1) hx hb dX1_wantedAt_0 (by decide) ?_
  refine lv_istore_n (lv' := [(2, .int (-1)), (0, .ref (ad 0)), (1, .int (nI v))]) hx hb dX1_wantedAt_1 rfl hl (by decide) rfl (fun ls hl => ?_)
  refine lv_iconst (v := nI 0) hx hb dX1_wantedAt_2 (by decide) ?_
  refine lv_istore_n (lv' := [(3, .int (nI 0)), (2, .int (-1)), (0, .ref (ad 0)), (1, .int (nI v))]) hx hb dX1_wantedAt_3 rfl hl (by decide) rfl (fun ls hl => ?_)
  have lp_4 : ∀ (k_4 : Nat) (e : Nat), (e ≤ c) → (c < e + k_4) → ∀ ls : Array Slot, lv_has ls 6 [(0, .ref (ad 0)), (1, .int (nI v)), (2, .int (e_o nI (e_wl n T Hd G (O v) sk a v e))), (3, .int (nI e))] → W pg l ev rX1_wantedAt st mi ar bl mt cd H [] 0 0 QQ (F0 mi 4 ls []) := by
    intro k_4
    induction k_4 with
    | zero =>
      intro e he hk
      exfalso; omega
    | succ k_4 ih_4 =>
      intro e he hk ls hl
      refine lv_iload_n hx hb dX1_wantedAt_4 rfl (lv_at hl 3 rfl) ?_
      refine lv_aload_n hx hb dX1_wantedAt_5 rfl (lv_at hl 0 rfl) ?_
      refine va_get (D := (dC, dI)) (ci := 0) (v := .int (nI c)) (C := RX1) (T := TX1) (N := 12) hx hb hts in_X1 hown hK hP 0 rfl rfl 8 (by decide) (hts _ q37) (fun _ h9 => h9) rfl dX1_wantedAt_6 ?_
      refine e_ge (tgt := 90) hx hb (by omega) (by omega) dX1_wantedAt_9 (by decide) (fun c_9 => ?_) (fun c_9 => ?_)
      · have heq : e = c := by omega
        rw [heq] at hl
        refine lv_iload_n hx hb dX1_wantedAt_90 rfl (lv_at hl 2 rfl) ?_
        refine lv_if_ge (tgt := 98) hx hb dX1_wantedAt_91 (by decide) (fun c_91 => ?_) (fun c_91 => ?_)
        · refine lv_iload_n hx hb dX1_wantedAt_98 rfl (lv_at hl 2 rfl) ?_
          exact hret dX1_wantedAt_99 (e_o_y (Int32.not_lt.mpr c_91))
        · refine lv_iconst (v := 0) hx hb dX1_wantedAt_94 (by decide) ?_
          refine lv_goto (tgt := 99) hx hb dX1_wantedAt_95 (by decide) ?_
          exact hret dX1_wantedAt_99 (e_o_n hE (e_wl_le c) (Int32.not_le.mp c_91))
      · refine lv_aload_n hx hb dX1_wantedAt_12 rfl (lv_at hl 0 rfl) ?_
        refine va_get (D := (dC, dI)) (ci := 0) (v := .ref (ad 1)) (C := RX1) (T := TX1) (N := 12) hx hb hts in_X1 hown hK hP 0 rfl rfl 0 (by decide) (hts _ q29) (fun _ h9 => h9) rfl dX1_wantedAt_13 ?_
        refine lv_iload_n hx hb dX1_wantedAt_16 rfl (lv_at hl 3 rfl) ?_
        refine e_ild (v := T e) hx hb hK hP 1 0 rfl rfl e rfl (by omega) (by decide) rfl dX1_wantedAt_17 ?_
        refine lv_iload_n hx hb dX1_wantedAt_18 rfl (lv_at hl 1 rfl) ?_
        refine lv_icmp_ne (tgt := 84) hx hb dX1_wantedAt_19 (by decide) (fun c_19 => ?_) (fun c_19 => ?_)
        · refine lv_iinc (v := nI (e + 1)) (lv' := [(3, .int (nI (e + 1))), (0, .ref (ad 0)), (1, .int (nI v)), (2, .int (e_o nI (e_wl n T Hd G (O v) sk a v e)))]) hx hb dX1_wantedAt_84 hl (k := 3) rfl (e_inc _) (by decide) rfl (fun ls hl => ?_)
          refine lv_goto (tgt := 4) hx hb dX1_wantedAt_87 (by decide) ?_
          rw [← e_wl_n (fun z => c_19 z.1)] at hl
          exact ih_4 (e + 1) (by omega) (by omega) ls (lv_sub hl [1, 2, 3, 0] rfl)
        · refine lv_iload_n hx hb dX1_wantedAt_22 rfl (lv_at hl 3 rfl) ?_
          refine lv_aload_n hx hb dX1_wantedAt_23 rfl (lv_at hl 0 rfl) ?_
          refine va_get (D := (dC, dI)) (ci := 0) (v := .int sk) (C := RX1) (T := TX1) (N := 12) hx hb hts in_X1 hown hK hP 0 rfl rfl 10 (by decide) (hts _ q39) (fun _ h9 => h9) rfl dX1_wantedAt_24 ?_
          refine lv_icmp_eq (tgt := 84) hx hb dX1_wantedAt_27 (by decide) (fun c_27 => ?_) (fun c_27 => ?_)
          · refine lv_iinc (v := nI (e + 1)) (lv' := [(3, .int (nI (e + 1))), (0, .ref (ad 0)), (1, .int (nI v)), (2, .int (e_o nI (e_wl n T Hd G (O v) sk a v e)))]) hx hb dX1_wantedAt_84 hl (k := 3) rfl (e_inc _) (by decide) rfl (fun ls hl => ?_)
            refine lv_goto (tgt := 4) hx hb dX1_wantedAt_87 (by decide) ?_
            rw [← e_wl_n (fun z => z.2 c_27)] at hl
            exact ih_4 (e + 1) (by omega) (by omega) ls (lv_sub hl [1, 2, 3, 0] rfl)
          · refine lv_aload_n hx hb dX1_wantedAt_30 rfl (lv_at hl 0 rfl) ?_
            refine lv_iload_n hx hb dX1_wantedAt_31 rfl (lv_at hl 3 rfl) ?_
            refine e_callR (q0 := 0) (ci := 0) (rest := []) ⟨hx, hb, hml, hown, hts⟩ (metX1_asked l dC dI ad cI cZ n c T Hd G O N Wt Qu sk cu hok a hN ha e (by omega)) (cwV 1 hts (lw_V q120 q122 qs6 q19 q123) rfl rfl rfl (by decide +kernel) ⟨Nat.le_of_ble_eq_true rfl, Nat.le_of_ble_eq_true rfl⟩) hK hP rfl rfl rfl rfl hl.1 rfl (Nat.le_of_ble_eq_true rfl) dX1_wantedAt_32 ⟨Nat.zero_le _, Nat.zero_le _⟩ (fun r_32 hr_32 => ?_)
            subst hr_32
            refine lv_istore (lv' := [(4, .int (nI (e_ask n Hd G a e))), (0, .ref (ad 0)), (1, .int (nI v)), (2, .int (e_o nI (e_wl n T Hd G (O v) sk a v e))), (3, .int (nI e))]) hx hb dX1_wantedAt_35 hl (by decide) rfl (fun ls hl => ?_)
            refine lv_iload_n hx hb dX1_wantedAt_37 rfl (lv_at hl 3 rfl) ?_
            refine lv_if_lt (tgt := 65) hx hb dX1_wantedAt_38 (by decide) (fun c_38 => ?_) (fun c_38 => ?_)
            · refine lv_iconst (v := 1) hx hb dX1_wantedAt_65 (by decide) ?_
              refine lv_goto (tgt := 70) hx hb dX1_wantedAt_66 (by decide) ?_
              refine lv_istore (lv' := [(5, .int 1), (4, .int (nI (e_ask n Hd G a e))), (0, .ref (ad 0)), (1, .int (nI v)), (2, .int (e_o nI (e_wl n T Hd G (O v) sk a v e))), (3, .int (nI e))]) hx hb dX1_wantedAt_70 hl (by decide) rfl (fun ls hl => ?_)
              refine lv_iload hx hb dX1_wantedAt_72 (lv_at hl 0 rfl) ?_
              refine lv_if_eq (tgt := 82) hx hb dX1_wantedAt_74 (by decide) (fun c_74 => absurd c_74 (by decide)) (fun c_74 => ?_)
              refine lv_iload hx hb dX1_wantedAt_77 (lv_at hl 1 rfl) ?_
              refine lv_goto (tgt := 83) hx hb dX1_wantedAt_79 (by decide) ?_
              refine lv_istore_n (lv' := [(2, .int (nI (e_ask n Hd G a e))), (5, .int 1), (4, .int (nI (e_ask n Hd G a e))), (0, .ref (ad 0)), (1, .int (nI v)), (3, .int (nI e))]) hx hb dX1_wantedAt_83 rfl hl (by decide) rfl (fun ls hl => ?_)
              refine lv_iinc (v := nI (e + 1)) (lv' := [(3, .int (nI (e + 1))), (2, .int (nI (e_ask n Hd G a e))), (5, .int 1), (4, .int (nI (e_ask n Hd G a e))), (0, .ref (ad 0)), (1, .int (nI v))]) hx hb dX1_wantedAt_84 hl (k := 5) rfl (e_inc _) (by decide) rfl (fun ls hl => ?_)
              refine lv_goto (tgt := 4) hx hb dX1_wantedAt_87 (by decide) ?_
              rw [e_take_y (p := O v) hE e_ask_le (e_wl_le e) (Or.inl c_38), ← e_wl_y c_19 c_27] at hl
              exact ih_4 (e + 1) (by omega) (by omega) ls (lv_sub hl [4, 5, 1, 0] rfl)
            · refine lv_aload_n hx hb dX1_wantedAt_41 rfl (lv_at hl 1 rfl) ?_
              refine va_get (D := (dC, dI)) (ci := 0) (v := .ref (ad 4)) (C := RX1) (T := TX1) (N := 12) hx hb hts in_X1 hown hK hP 0 rfl rfl 3 (by decide) (hts _ q32) (fun _ h9 => h9) rfl dX1_wantedAt_42 ?_
              refine lv_iload_n hx hb dX1_wantedAt_45 rfl (lv_at hl 2 rfl) ?_
              refine e_ild (v := O v) hx hb hK hP 4 0 rfl rfl v rfl (by omega) (by decide) rfl dX1_wantedAt_46 ?_
              refine lv_if_ne (tgt := 59) hx hb dX1_wantedAt_47 (by decide) (fun c_47 => ?_) (fun c_47 => ?_)
              · refine lv_iload hx hb dX1_wantedAt_59 (lv_at hl 0 rfl) ?_
                refine lv_iload_n hx hb dX1_wantedAt_61 rfl (lv_at hl 3 rfl) ?_
                refine lv_icmp_le (tgt := 69) hx hb dX1_wantedAt_62 (by decide) (fun c_62 => ?_) (fun c_62 => ?_)
                · refine lv_iconst (v := 0) hx hb dX1_wantedAt_69 (by decide) ?_
                  refine lv_istore (lv' := [(5, .int 0), (4, .int (nI (e_ask n Hd G a e))), (0, .ref (ad 0)), (1, .int (nI v)), (2, .int (e_o nI (e_wl n T Hd G (O v) sk a v e))), (3, .int (nI e))]) hx hb dX1_wantedAt_70 hl (by decide) rfl (fun ls hl => ?_)
                  refine lv_iload hx hb dX1_wantedAt_72 (lv_at hl 0 rfl) ?_
                  refine lv_if_eq (tgt := 82) hx hb dX1_wantedAt_74 (by decide) (fun c_74 => ?_) (fun c_74 => absurd c_74 (by decide))
                  refine lv_iload_n hx hb dX1_wantedAt_82 rfl (lv_at hl 4 rfl) ?_
                  refine lv_istore_n (lv' := [(2, .int (e_o nI (e_wl n T Hd G (O v) sk a v e))), (5, .int 0), (4, .int (nI (e_ask n Hd G a e))), (0, .ref (ad 0)), (1, .int (nI v)), (3, .int (nI e))]) hx hb dX1_wantedAt_83 rfl hl (by decide) rfl (fun ls hl => ?_)
                  refine lv_iinc (v := nI (e + 1)) (lv' := [(3, .int (nI (e + 1))), (2, .int (e_o nI (e_wl n T Hd G (O v) sk a v e))), (5, .int 0), (4, .int (nI (e_ask n Hd G a e))), (0, .ref (ad 0)), (1, .int (nI v))]) hx hb dX1_wantedAt_84 hl (k := 5) rfl (e_inc _) (by decide) rfl (fun ls hl => ?_)
                  refine lv_goto (tgt := 4) hx hb dX1_wantedAt_87 (by decide) ?_
                  rw [e_take_n (p := O v) (x := e_ask n Hd G a e) hE e_ask_le (e_wl_le e) c_38 (Or.inr ⟨c_47, Int32.not_lt.mpr c_62⟩), ← e_wl_y c_19 c_27] at hl
                  exact ih_4 (e + 1) (by omega) (by omega) ls (lv_sub hl [4, 5, 1, 0] rfl)
                · refine lv_iconst (v := 1) hx hb dX1_wantedAt_65 (by decide) ?_
                  refine lv_goto (tgt := 70) hx hb dX1_wantedAt_66 (by decide) ?_
                  refine lv_istore (lv' := [(5, .int 1), (4, .int (nI (e_ask n Hd G a e))), (0, .ref (ad 0)), (1, .int (nI v)), (2, .int (e_o nI (e_wl n T Hd G (O v) sk a v e))), (3, .int (nI e))]) hx hb dX1_wantedAt_70 hl (by decide) rfl (fun ls hl => ?_)
                  refine lv_iload hx hb dX1_wantedAt_72 (lv_at hl 0 rfl) ?_
                  refine lv_if_eq (tgt := 82) hx hb dX1_wantedAt_74 (by decide) (fun c_74 => absurd c_74 (by decide)) (fun c_74 => ?_)
                  refine lv_iload hx hb dX1_wantedAt_77 (lv_at hl 1 rfl) ?_
                  refine lv_goto (tgt := 83) hx hb dX1_wantedAt_79 (by decide) ?_
                  refine lv_istore_n (lv' := [(2, .int (nI (e_ask n Hd G a e))), (5, .int 1), (4, .int (nI (e_ask n Hd G a e))), (0, .ref (ad 0)), (1, .int (nI v)), (3, .int (nI e))]) hx hb dX1_wantedAt_83 rfl hl (by decide) rfl (fun ls hl => ?_)
                  refine lv_iinc (v := nI (e + 1)) (lv' := [(3, .int (nI (e + 1))), (2, .int (nI (e_ask n Hd G a e))), (5, .int 1), (4, .int (nI (e_ask n Hd G a e))), (0, .ref (ad 0)), (1, .int (nI v))]) hx hb dX1_wantedAt_84 hl (k := 5) rfl (e_inc _) (by decide) rfl (fun ls hl => ?_)
                  refine lv_goto (tgt := 4) hx hb dX1_wantedAt_87 (by decide) ?_
                  rw [e_take_y (p := O v) hE e_ask_le (e_wl_le e) (Or.inr (Or.inr ⟨c_47, Int32.not_le.mp c_62⟩)), ← e_wl_y c_19 c_27] at hl
                  exact ih_4 (e + 1) (by omega) (by omega) ls (lv_sub hl [4, 5, 1, 0] rfl)
              · refine lv_iload hx hb dX1_wantedAt_50 (lv_at hl 0 rfl) ?_
                refine lv_iload_n hx hb dX1_wantedAt_52 rfl (lv_at hl 3 rfl) ?_
                refine lv_icmp_ge (tgt := 69) hx hb dX1_wantedAt_53 (by decide) (fun c_53 => ?_) (fun c_53 => ?_)
                · refine lv_iconst (v := 0) hx hb dX1_wantedAt_69 (by decide) ?_
                  refine lv_istore (lv' := [(5, .int 0), (4, .int (nI (e_ask n Hd G a e))), (0, .ref (ad 0)), (1, .int (nI v)), (2, .int (e_o nI (e_wl n T Hd G (O v) sk a v e))), (3, .int (nI e))]) hx hb dX1_wantedAt_70 hl (by decide) rfl (fun ls hl => ?_)
                  refine lv_iload hx hb dX1_wantedAt_72 (lv_at hl 0 rfl) ?_
                  refine lv_if_eq (tgt := 82) hx hb dX1_wantedAt_74 (by decide) (fun c_74 => ?_) (fun c_74 => absurd c_74 (by decide))
                  refine lv_iload_n hx hb dX1_wantedAt_82 rfl (lv_at hl 4 rfl) ?_
                  refine lv_istore_n (lv' := [(2, .int (e_o nI (e_wl n T Hd G (O v) sk a v e))), (5, .int 0), (4, .int (nI (e_ask n Hd G a e))), (0, .ref (ad 0)), (1, .int (nI v)), (3, .int (nI e))]) hx hb dX1_wantedAt_83 rfl hl (by decide) rfl (fun ls hl => ?_)
                  refine lv_iinc (v := nI (e + 1)) (lv' := [(3, .int (nI (e + 1))), (2, .int (e_o nI (e_wl n T Hd G (O v) sk a v e))), (5, .int 0), (4, .int (nI (e_ask n Hd G a e))), (0, .ref (ad 0)), (1, .int (nI v))]) hx hb dX1_wantedAt_84 hl (k := 5) rfl (e_inc _) (by decide) rfl (fun ls hl => ?_)
                  refine lv_goto (tgt := 4) hx hb dX1_wantedAt_87 (by decide) ?_
                  rw [e_take_n (p := O v) (x := e_ask n Hd G a e) hE e_ask_le (e_wl_le e) c_38 (Or.inl ⟨c_47, Int32.not_lt.mpr c_53⟩), ← e_wl_y c_19 c_27] at hl
                  exact ih_4 (e + 1) (by omega) (by omega) ls (lv_sub hl [4, 5, 1, 0] rfl)
                · refine lv_goto (tgt := 65) hx hb dX1_wantedAt_56 (by decide) ?_
                  refine lv_iconst (v := 1) hx hb dX1_wantedAt_65 (by decide) ?_
                  refine lv_goto (tgt := 70) hx hb dX1_wantedAt_66 (by decide) ?_
                  refine lv_istore (lv' := [(5, .int 1), (4, .int (nI (e_ask n Hd G a e))), (0, .ref (ad 0)), (1, .int (nI v)), (2, .int (e_o nI (e_wl n T Hd G (O v) sk a v e))), (3, .int (nI e))]) hx hb dX1_wantedAt_70 hl (by decide) rfl (fun ls hl => ?_)
                  refine lv_iload hx hb dX1_wantedAt_72 (lv_at hl 0 rfl) ?_
                  refine lv_if_eq (tgt := 82) hx hb dX1_wantedAt_74 (by decide) (fun c_74 => absurd c_74 (by decide)) (fun c_74 => ?_)
                  refine lv_iload hx hb dX1_wantedAt_77 (lv_at hl 1 rfl) ?_
                  refine lv_goto (tgt := 83) hx hb dX1_wantedAt_79 (by decide) ?_
                  refine lv_istore_n (lv' := [(2, .int (nI (e_ask n Hd G a e))), (5, .int 1), (4, .int (nI (e_ask n Hd G a e))), (0, .ref (ad 0)), (1, .int (nI v)), (3, .int (nI e))]) hx hb dX1_wantedAt_83 rfl hl (by decide) rfl (fun ls hl => ?_)
                  refine lv_iinc (v := nI (e + 1)) (lv' := [(3, .int (nI (e + 1))), (2, .int (nI (e_ask n Hd G a e))), (5, .int 1), (4, .int (nI (e_ask n Hd G a e))), (0, .ref (ad 0)), (1, .int (nI v))]) hx hb dX1_wantedAt_84 hl (k := 5) rfl (e_inc _) (by decide) rfl (fun ls hl => ?_)
                  refine lv_goto (tgt := 4) hx hb dX1_wantedAt_87 (by decide) ?_
                  rw [e_take_y (p := O v) hE e_ask_le (e_wl_le e) (Or.inr (Or.inl ⟨c_47, Int32.not_le.mp c_53⟩)), ← e_wl_y c_19 c_27] at hl
                  exact ih_4 (e + 1) (by omega) (by omega) ls (lv_sub hl [4, 5, 1, 0] rfl)
  exact lp_4 (c + 1) 0 (by omega) (by omega) ls (lv_sub hl [2, 3, 1, 0] rfl)
end
section
/-! EnergyGameModel: the methods that only read -/
set_option maxRecDepth 100000
abbrev rX2_vertices : Room := { frames := 0, cells := 0, slots := 0, locals := 0 }
set_option maxHeartbeats 4000000 in
set_option maxRecDepth 100000 in
theorem metX2_vertices (l : Launch) (dC : Nat → ClassId) (dI : Nat → Nat → Nat) (ad : Nat → Nat) (cI : ClassId) (n c : Nat) (T Hd G O Nw Lt : eFn) : Met l yX2_vertices (ws_ yX2_vertices cX2_vertices 1 (some .int)) rX2_vertices (va_Pc [.ref (ad 0)] (e_PR (dC, dI) vwCl [(cI, .int)] (wM ad cI n c T Hd G O Nw Lt))) (e_R (fun r => r = nI n)) 0 0 (fun _ => False) := by
  refine e_startRi (by decide) (Nat.le_of_ble_eq_true rfl) ?_
  intro pg ev st mi ar bl mt cd H QQ hx hb hml hown hts hK hP hret ls hl
  have hown : st.vm.findClass RX2 = some mi.cls := hown
  have hP : va_P (dC, dI) vwCl [(ad 0, .inr (1, [.int (nI n), .int (nI c), .ref (ad 1), .ref (ad 2), .ref (ad 3), .ref (ad 4), .ref (ad 5), .ref (ad 6)])), (ad 1, .inl (cI, 8, .inl O)), (ad 2, .inl (cI, 14, .inl T)), (ad 3, .inl (cI, 14, .inl Hd)), (ad 4, .inl (cI, 14, .inl G)), (ad 5, .inl (cI, 8, .inl Nw)), (ad 6, .inl (cI, 8, .inl Lt))] H := hP
  have hl : lv_has ls 1 [(0, .ref (ad 0))] := hl
  refine lv_aload_n hx hb dX2_vertices_0 rfl (lv_at hl 0 rfl) ?_
  refine va_get (D := (dC, dI)) (ci := 1) (v := .int (nI n)) (C := RX2) (T := TX2) (N := 8) hx hb hts in_X2 hown hK hP 0 rfl rfl 0 (by decide) (hts _ q174) (fun _ h9 => h9) rfl dX2_vertices_1 ?_
  exact hret dX2_vertices_4 rfl
abbrev rX2_edges : Room := { frames := 0, cells := 0, slots := 0, locals := 0 }
set_option maxHeartbeats 4000000 in
set_option maxRecDepth 100000 in
theorem metX2_edges (l : Launch) (dC : Nat → ClassId) (dI : Nat → Nat → Nat) (ad : Nat → Nat) (cI : ClassId) (n c : Nat) (T Hd G O Nw Lt : eFn) : Met l yX2_edges (ws_ yX2_edges cX2_edges 1 (some .int)) rX2_edges (va_Pc [.ref (ad 0)] (e_PR (dC, dI) vwCl [(cI, .int)] (wM ad cI n c T Hd G O Nw Lt))) (e_R (fun r => r = nI c)) 0 0 (fun _ => False) := by
  refine e_startRi (by decide) (Nat.le_of_ble_eq_true rfl) ?_
  intro pg ev st mi ar bl mt cd H QQ hx hb hml hown hts hK hP hret ls hl
  have hown : st.vm.findClass RX2 = some mi.cls := hown
  have hP : va_P (dC, dI) vwCl [(ad 0, .inr (1, [.int (nI n), .int (nI c), .ref (ad 1), .ref (ad 2), .ref (ad 3), .ref (ad 4), .ref (ad 5), .ref (ad 6)])), (ad 1, .inl (cI, 8, .inl O)), (ad 2, .inl (cI, 14, .inl T)), (ad 3, .inl (cI, 14, .inl Hd)), (ad 4, .inl (cI, 14, .inl G)), (ad 5, .inl (cI, 8, .inl Nw)), (ad 6, .inl (cI, 8, .inl Lt))] H := hP
  have hl : lv_has ls 1 [(0, .ref (ad 0))] := hl
  refine lv_aload_n hx hb dX2_edges_0 rfl (lv_at hl 0 rfl) ?_
  refine va_get (D := (dC, dI)) (ci := 1) (v := .int (nI c)) (C := RX2) (T := TX2) (N := 8) hx hb hts in_X2 hown hK hP 0 rfl rfl 1 (by decide) (hts _ q175) (fun _ h9 => h9) rfl dX2_edges_1 ?_
  exact hret dX2_edges_4 rfl
abbrev rX2_bad : Room := { frames := 0, cells := 0, slots := 0, locals := 0 }
set_option maxHeartbeats 4000000 in
set_option maxRecDepth 100000 in
theorem metX2_bad (l : Launch) (dC : Nat → ClassId) (dI : Nat → Nat → Nat) (ad : Nat → Nat) (cI : ClassId) (n c : Nat) (T Hd G O Nw Lt : eFn) (hok : e_ok n c T Hd G) (p0 : Int32) : Met l yX2_bad (ws_ yX2_bad cX2_bad 2 (some .boolean)) rX2_bad (va_Pc [.ref (ad 0), .int p0] (e_PR (dC, dI) vwCl [(cI, .int)] (wM ad cI n c T Hd G O Nw Lt))) (e_R (fun r => (r = 1 ∧ ¬ e_v n p0) ∨ (r = 0 ∧ e_v n p0))) 0 0 (fun _ => False) := by
  refine e_startRz (by decide) (Nat.le_of_ble_eq_true rfl) ?_
  intro pg ev st mi ar bl mt cd H QQ hx hb hml hown hts hK hP hret ls hl
  have hown : st.vm.findClass RX2 = some mi.cls := hown
  have hP : va_P (dC, dI) vwCl [(ad 0, .inr (1, [.int (nI n), .int (nI c), .ref (ad 1), .ref (ad 2), .ref (ad 3), .ref (ad 4), .ref (ad 5), .ref (ad 6)])), (ad 1, .inl (cI, 8, .inl O)), (ad 2, .inl (cI, 14, .inl T)), (ad 3, .inl (cI, 14, .inl Hd)), (ad 4, .inl (cI, 14, .inl G)), (ad 5, .inl (cI, 8, .inl Nw)), (ad 6, .inl (cI, 8, .inl Lt))] H := hP
  have hl : lv_has ls 2 [(0, .ref (ad 0)), (1, .int p0)] := hl
  have hn2 := hok.1
  have hn6 := hok.2.1
  have hc14 := hok.2.2.1
  refine lv_iload_n hx hb dX2_bad_0 rfl (lv_at hl 1 rfl) ?_
  refine lv_if_lt (tgt := 17) hx hb dX2_bad_1 (by decide) (fun c_1 => ?_) (fun c_1 => ?_)
  · refine lv_iconst (v := 1) hx hb dX2_bad_17 (by decide) ?_
    refine lv_goto (tgt := 22) hx hb dX2_bad_18 (by decide) ?_
    exact hret dX2_bad_22 rfl (Or.inl ⟨rfl, fun h => h.1 c_1⟩)
  · refine lv_iload_n hx hb dX2_bad_4 rfl (lv_at hl 1 rfl) ?_
    refine lv_aload_n hx hb dX2_bad_5 rfl (lv_at hl 0 rfl) ?_
    refine va_get (D := (dC, dI)) (ci := 1) (v := .int (nI n)) (C := RX2) (T := TX2) (N := 8) hx hb hts in_X2 hown hK hP 0 rfl rfl 0 (by decide) (hts _ q174) (fun _ h9 => h9) rfl dX2_bad_6 ?_
    refine lv_icmp_ge (tgt := 17) hx hb dX2_bad_9 (by decide) (fun c_9 => ?_) (fun c_9 => ?_)
    · refine lv_iconst (v := 1) hx hb dX2_bad_17 (by decide) ?_
      refine lv_goto (tgt := 22) hx hb dX2_bad_18 (by decide) ?_
      exact hret dX2_bad_22 rfl (Or.inl ⟨rfl, fun h => absurd h.2 (Int32.not_lt.mpr c_9)⟩)
    · refine lv_iload_n hx hb dX2_bad_12 rfl (lv_at hl 1 rfl) ?_
      refine lv_iconst (v := 5) hx hb dX2_bad_13 (by decide) ?_
      refine lv_icmp_le (tgt := 21) hx hb dX2_bad_14 (by decide) (fun c_14 => ?_) (fun c_14 => absurd (e_v_le5 hn6 ⟨c_1, Int32.not_le.mp c_9⟩) c_14)
      refine lv_iconst (v := 0) hx hb dX2_bad_21 (by decide) ?_
      exact hret dX2_bad_22 rfl (Or.inr ⟨rfl, c_1, Int32.not_le.mp c_9⟩)
abbrev rX2_badEdge : Room := { frames := 0, cells := 0, slots := 0, locals := 0 }
set_option maxHeartbeats 4000000 in
set_option maxRecDepth 100000 in
theorem metX2_badEdge (l : Launch) (dC : Nat → ClassId) (dI : Nat → Nat → Nat) (ad : Nat → Nat) (cI : ClassId) (n c : Nat) (T Hd G O Nw Lt : eFn) (hok : e_ok n c T Hd G) (p0 : Int32) : Met l yX2_badEdge (ws_ yX2_badEdge cX2_badEdge 2 (some .boolean)) rX2_badEdge (va_Pc [.ref (ad 0), .int p0] (e_PR (dC, dI) vwCl [(cI, .int)] (wM ad cI n c T Hd G O Nw Lt))) (e_R (fun r => (r = 1 ∧ ¬ e_v c p0) ∨ (r = 0 ∧ e_v c p0))) 0 0 (fun _ => False) := by
  refine e_startRz (by decide) (Nat.le_of_ble_eq_true rfl) ?_
  intro pg ev st mi ar bl mt cd H QQ hx hb hml hown hts hK hP hret ls hl
  have hown : st.vm.findClass RX2 = some mi.cls := hown
  have hP : va_P (dC, dI) vwCl [(ad 0, .inr (1, [.int (nI n), .int (nI c), .ref (ad 1), .ref (ad 2), .ref (ad 3), .ref (ad 4), .ref (ad 5), .ref (ad 6)])), (ad 1, .inl (cI, 8, .inl O)), (ad 2, .inl (cI, 14, .inl T)), (ad 3, .inl (cI, 14, .inl Hd)), (ad 4, .inl (cI, 14, .inl G)), (ad 5, .inl (cI, 8, .inl Nw)), (ad 6, .inl (cI, 8, .inl Lt))] H := hP
  have hl : lv_has ls 2 [(0, .ref (ad 0)), (1, .int p0)] := hl
  have hn2 := hok.1
  have hn6 := hok.2.1
  have hc14 := hok.2.2.1
  refine lv_iload_n hx hb dX2_badEdge_0 rfl (lv_at hl 1 rfl) ?_
  refine lv_if_lt (tgt := 18) hx hb dX2_badEdge_1 (by decide) (fun c_1 => ?_) (fun c_1 => ?_)
  · refine lv_iconst (v := 1) hx hb dX2_badEdge_18 (by decide) ?_
    refine lv_goto (tgt := 23) hx hb dX2_badEdge_19 (by decide) ?_
    exact hret dX2_badEdge_23 rfl (Or.inl ⟨rfl, fun h => h.1 c_1⟩)
  · refine lv_iload_n hx hb dX2_badEdge_4 rfl (lv_at hl 1 rfl) ?_
    refine lv_aload_n hx hb dX2_badEdge_5 rfl (lv_at hl 0 rfl) ?_
    refine va_get (D := (dC, dI)) (ci := 1) (v := .int (nI c)) (C := RX2) (T := TX2) (N := 8) hx hb hts in_X2 hown hK hP 0 rfl rfl 1 (by decide) (hts _ q175) (fun _ h9 => h9) rfl dX2_badEdge_6 ?_
    refine lv_icmp_ge (tgt := 18) hx hb dX2_badEdge_9 (by decide) (fun c_9 => ?_) (fun c_9 => ?_)
    · refine lv_iconst (v := 1) hx hb dX2_badEdge_18 (by decide) ?_
      refine lv_goto (tgt := 23) hx hb dX2_badEdge_19 (by decide) ?_
      exact hret dX2_badEdge_23 rfl (Or.inl ⟨rfl, fun h => absurd h.2 (Int32.not_lt.mpr c_9)⟩)
    · refine lv_iload_n hx hb dX2_badEdge_12 rfl (lv_at hl 1 rfl) ?_
      refine lv_bipush (v := 13) hx hb dX2_badEdge_13 (by decide) ?_
      refine lv_icmp_le (tgt := 22) hx hb dX2_badEdge_15 (by decide) (fun c_15 => ?_) (fun c_15 => absurd (e_v_le13 hc14 ⟨c_1, Int32.not_le.mp c_9⟩) c_15)
      refine lv_iconst (v := 0) hx hb dX2_badEdge_22 (by decide) ?_
      exact hret dX2_badEdge_23 rfl (Or.inr ⟨rfl, c_1, Int32.not_le.mp c_9⟩)
abbrev rX2_badGain : Room := { frames := 0, cells := 0, slots := 0, locals := 0 }
set_option maxHeartbeats 4000000 in
set_option maxRecDepth 100000 in
theorem metX2_badGain (l : Launch) (dC : Nat → ClassId) (dI : Nat → Nat → Nat) (ad : Nat → Nat) (cI : ClassId) (n c : Nat) (T Hd G O Nw Lt : eFn) (p0 : Int32) : Met l yX2_badGain (ws_ yX2_badGain cX2_badGain 2 (some .boolean)) rX2_badGain (va_Pc [.ref (ad 0), .int p0] (e_PR (dC, dI) vwCl [(cI, .int)] (wM ad cI n c T Hd G O Nw Lt))) (e_R (fun r => (r = 1 ∧ ¬ e_g p0) ∨ (r = 0 ∧ e_g p0))) 0 0 (fun _ => False) := by
  refine e_startRz (by decide) (Nat.le_of_ble_eq_true rfl) ?_
  intro pg ev st mi ar bl mt cd H QQ hx hb hml hown hts hK hP hret ls hl
  have hown : st.vm.findClass RX2 = some mi.cls := hown
  have hP : va_P (dC, dI) vwCl [(ad 0, .inr (1, [.int (nI n), .int (nI c), .ref (ad 1), .ref (ad 2), .ref (ad 3), .ref (ad 4), .ref (ad 5), .ref (ad 6)])), (ad 1, .inl (cI, 8, .inl O)), (ad 2, .inl (cI, 14, .inl T)), (ad 3, .inl (cI, 14, .inl Hd)), (ad 4, .inl (cI, 14, .inl G)), (ad 5, .inl (cI, 8, .inl Nw)), (ad 6, .inl (cI, 8, .inl Lt))] H := hP
  have hl : lv_has ls 2 [(0, .ref (ad 0)), (1, .int p0)] := hl
  refine lv_iload_n hx hb dX2_badGain_0 rfl (lv_at hl 1 rfl) ?_
  refine lv_bipush (v := -6) hx hb dX2_badGain_1 (by decide) ?_
  refine lv_icmp_lt (tgt := 12) hx hb dX2_badGain_3 (by decide) (fun c_3 => ?_) (fun c_3 => ?_)
  · refine lv_iconst (v := 1) hx hb dX2_badGain_12 (by decide) ?_
    refine lv_goto (tgt := 17) hx hb dX2_badGain_13 (by decide) ?_
    exact hret dX2_badGain_17 rfl (Or.inl ⟨rfl, fun h => h.1 c_3⟩)
  · refine lv_iload_n hx hb dX2_badGain_6 rfl (lv_at hl 1 rfl) ?_
    refine lv_bipush (v := 6) hx hb dX2_badGain_7 (by decide) ?_
    refine lv_icmp_le (tgt := 16) hx hb dX2_badGain_9 (by decide) (fun c_9 => ?_) (fun c_9 => ?_)
    · refine lv_iconst (v := 0) hx hb dX2_badGain_16 (by decide) ?_
      exact hret dX2_badGain_17 rfl (Or.inr ⟨rfl, c_3, Int32.not_lt.mpr c_9⟩)
    · refine lv_iconst (v := 1) hx hb dX2_badGain_12 (by decide) ?_
      refine lv_goto (tgt := 17) hx hb dX2_badGain_13 (by decide) ?_
      exact hret dX2_badGain_17 rfl (Or.inl ⟨rfl, fun h => h.2 (Int32.not_le.mp c_9)⟩)
abbrev rX2_told : Room := { frames := 0, cells := 0, slots := 0, locals := 0 }
set_option maxHeartbeats 4000000 in
set_option maxRecDepth 100000 in
theorem metX2_told (l : Launch) (dC : Nat → ClassId) (dI : Nat → Nat → Nat) (ad : Nat → Nat) (cI : ClassId) (n c : Nat) (T Hd G O Nw Lt : eFn) (hok : e_ok n c T Hd G) (a : Nat → Nat) (hN : ∀ v, v < n → Nw v = e_enc n (a v)) (ha : ∀ v, v < n → a v ≤ e_tp n) (v : Nat) (hv : v < n) : Met l yX2_told (ws_ yX2_told cX2_told 2 (some .int)) rX2_told (va_Pc [.ref (ad 0), .int (nI v)] (e_PR (dC, dI) vwCl [(cI, .int)] (wM ad cI n c T Hd G O Nw Lt))) (e_R (fun r => r = e_shn n (a v))) 0 0 (fun _ => False) := by
  refine e_startRi (by decide) (Nat.le_of_ble_eq_true rfl) ?_
  intro pg ev st mi ar bl mt cd H QQ hx hb hml hown hts hK hP hret ls hl
  have hown : st.vm.findClass RX2 = some mi.cls := hown
  have hP : va_P (dC, dI) vwCl [(ad 0, .inr (1, [.int (nI n), .int (nI c), .ref (ad 1), .ref (ad 2), .ref (ad 3), .ref (ad 4), .ref (ad 5), .ref (ad 6)])), (ad 1, .inl (cI, 8, .inl O)), (ad 2, .inl (cI, 14, .inl T)), (ad 3, .inl (cI, 14, .inl Hd)), (ad 4, .inl (cI, 14, .inl G)), (ad 5, .inl (cI, 8, .inl Nw)), (ad 6, .inl (cI, 8, .inl Lt))] H := hP
  have hl : lv_has ls 2 [(0, .ref (ad 0)), (1, .int (nI v))] := hl
  have hn2 := hok.1
  have hn6 := hok.2.1
  have hc14 := hok.2.2.1
  have ht31 := e_tp_le hn6
  have hav := ha v hv
  refine lv_aload_n hx hb dX2_told_0 rfl (lv_at hl 0 rfl) ?_
  refine va_get (D := (dC, dI)) (ci := 1) (v := .ref (ad 5)) (C := RX2) (T := TX2) (N := 8) hx hb hts in_X2 hown hK hP 0 rfl rfl 6 (by decide) (hts _ q180) (fun _ h9 => h9) rfl dX2_told_1 ?_
  refine lv_iload_n hx hb dX2_told_4 rfl (lv_at hl 1 rfl) ?_
  refine e_ild (v := e_enc n (a v)) hx hb hK hP 5 0 rfl rfl v rfl (by omega) (by decide) (hN v hv) dX2_told_5 ?_
  refine lv_bipush (v := 99) hx hb dX2_told_6 (by decide) ?_
  refine lv_icmp_ne (tgt := 16) hx hb dX2_told_8 (by decide) (fun c_8 => ?_) (fun c_8 => ?_)
  · have d_8 : ¬ a v = e_tp n := fun z => c_8 ((e_enc_99 hn6 hav).mpr z)
    refine lv_aload_n hx hb dX2_told_16 rfl (lv_at hl 0 rfl) ?_
    refine va_get (D := (dC, dI)) (ci := 1) (v := .ref (ad 5)) (C := RX2) (T := TX2) (N := 8) hx hb hts in_X2 hown hK hP 0 rfl rfl 6 (by decide) (hts _ q180) (fun _ h9 => h9) rfl dX2_told_17 ?_
    refine lv_iload_n hx hb dX2_told_20 rfl (lv_at hl 1 rfl) ?_
    refine e_ild (v := e_enc n (a v)) hx hb hK hP 5 0 rfl rfl v rfl (by omega) (by decide) (hN v hv) dX2_told_21 ?_
    exact hret dX2_told_22 (by unfold e_shn; rw [if_neg d_8, e_enc_lo d_8])
  · have d_8 : a v = e_tp n := (e_enc_99 hn6 hav).mp c_8
    refine lv_bipush (v := -2) hx hb dX2_told_11 (by decide) ?_
    refine lv_goto (tgt := 22) hx hb dX2_told_13 (by decide) ?_
    exact hret dX2_told_22 (by unfold e_shn; rw [if_pos d_8])
abbrev rX2_asks : Room := { frames := 0, cells := 0, slots := 0, locals := 0 }
set_option maxHeartbeats 4000000 in
set_option maxRecDepth 100000 in
theorem metX2_asks (l : Launch) (dC : Nat → ClassId) (dI : Nat → Nat → Nat) (ad : Nat → Nat) (cI : ClassId) (n c : Nat) (T Hd G O Nw Lt : eFn) (hok : e_ok n c T Hd G) (a : Nat → Nat) (hN : ∀ v, v < n → Nw v = e_enc n (a v)) (ha : ∀ v, v < n → a v ≤ e_tp n) (e : Nat) (he : e < c) : Met l yX2_asks (ws_ yX2_asks cX2_asks 3 (some .int)) rX2_asks (va_Pc [.ref (ad 0), .int (nI e)] (e_PR (dC, dI) vwCl [(cI, .int)] (wM ad cI n c T Hd G O Nw Lt))) (e_R (fun r => r = e_enc n (e_ask n Hd G a e))) 0 0 (fun _ => False) := by
  refine e_startRi (by decide) (Nat.le_of_ble_eq_true rfl) ?_
  intro pg ev st mi ar bl mt cd H QQ hx hb hml hown hts hK hP hret ls hl
  have hown : st.vm.findClass RX2 = some mi.cls := hown
  have hP : va_P (dC, dI) vwCl [(ad 0, .inr (1, [.int (nI n), .int (nI c), .ref (ad 1), .ref (ad 2), .ref (ad 3), .ref (ad 4), .ref (ad 5), .ref (ad 6)])), (ad 1, .inl (cI, 8, .inl O)), (ad 2, .inl (cI, 14, .inl T)), (ad 3, .inl (cI, 14, .inl Hd)), (ad 4, .inl (cI, 14, .inl G)), (ad 5, .inl (cI, 8, .inl Nw)), (ad 6, .inl (cI, 8, .inl Lt))] H := hP
  have hl : lv_has ls 3 [(0, .ref (ad 0)), (1, .int (nI e))] := hl
  have hn2 := hok.1
  have hn6 := hok.2.1
  have hc14 := hok.2.2.1
  have ht31 := e_tp_le hn6
  obtain ⟨w, hw, ew⟩ := hok.2.2.2.2.1 e he
  have hg := hok.2.2.2.2.2.1 e he
  have haw := ha w hw
  refine lv_aload_n hx hb dX2_asks_0 rfl (lv_at hl 0 rfl) ?_
  refine va_get (D := (dC, dI)) (ci := 1) (v := .ref (ad 5)) (C := RX2) (T := TX2) (N := 8) hx hb hts in_X2 hown hK hP 0 rfl rfl 6 (by decide) (hts _ q180) (fun _ h9 => h9) rfl dX2_asks_1 ?_
  refine lv_aload_n hx hb dX2_asks_4 rfl (lv_at hl 0 rfl) ?_
  refine va_get (D := (dC, dI)) (ci := 1) (v := .ref (ad 3)) (C := RX2) (T := TX2) (N := 8) hx hb hts in_X2 hown hK hP 0 rfl rfl 4 (by decide) (hts _ q178) (fun _ h9 => h9) rfl dX2_asks_5 ?_
  refine lv_iload_n hx hb dX2_asks_8 rfl (lv_at hl 1 rfl) ?_
  refine e_ild (v := nI w) hx hb hK hP 3 0 rfl rfl e rfl (by omega) (by decide) ew dX2_asks_9 ?_
  refine e_ild (v := e_enc n (a w)) hx hb hK hP 5 0 rfl rfl w rfl (by omega) (by decide) (hN w hw) dX2_asks_10 ?_
  refine lv_bipush (v := 99) hx hb dX2_asks_11 (by decide) ?_
  refine lv_icmp_ne (tgt := 19) hx hb dX2_asks_13 (by decide) (fun c_13 => ?_) (fun c_13 => ?_)
  · have d_13 : ¬ a w = e_tp n := fun z => c_13 ((e_enc_99 hn6 haw).mpr z)
    refine lv_aload_n hx hb dX2_asks_19 rfl (lv_at hl 0 rfl) ?_
    refine va_get (D := (dC, dI)) (ci := 1) (v := .ref (ad 5)) (C := RX2) (T := TX2) (N := 8) hx hb hts in_X2 hown hK hP 0 rfl rfl 6 (by decide) (hts _ q180) (fun _ h9 => h9) rfl dX2_asks_20 ?_
    refine lv_aload_n hx hb dX2_asks_23 rfl (lv_at hl 0 rfl) ?_
    refine va_get (D := (dC, dI)) (ci := 1) (v := .ref (ad 3)) (C := RX2) (T := TX2) (N := 8) hx hb hts in_X2 hown hK hP 0 rfl rfl 4 (by decide) (hts _ q178) (fun _ h9 => h9) rfl dX2_asks_24 ?_
    refine lv_iload_n hx hb dX2_asks_27 rfl (lv_at hl 1 rfl) ?_
    refine e_ild (v := nI w) hx hb hK hP 3 0 rfl rfl e rfl (by omega) (by decide) ew dX2_asks_28 ?_
    refine e_ild (v := nI (a w)) hx hb hK hP 5 0 rfl rfl w rfl (by omega) (by decide) ((hN w hw).trans (e_enc_lo d_13)) dX2_asks_29 ?_
    refine lv_aload_n hx hb dX2_asks_30 rfl (lv_at hl 0 rfl) ?_
    refine va_get (D := (dC, dI)) (ci := 1) (v := .ref (ad 4)) (C := RX2) (T := TX2) (N := 8) hx hb hts in_X2 hown hK hP 0 rfl rfl 5 (by decide) (hts _ q179) (fun _ h9 => h9) rfl dX2_asks_31 ?_
    refine lv_iload_n hx hb dX2_asks_34 rfl (lv_at hl 1 rfl) ?_
    refine e_ild (v := G e) hx hb hK hP 4 0 rfl rfl e rfl (by omega) (by decide) rfl dX2_asks_35 ?_
    refine lv_isub hx hb dX2_asks_36 ?_
    refine lv_istore_n (lv' := [(2, .int ((nI (a w)) - (G e))), (0, .ref (ad 0)), (1, .int (nI e))]) hx hb dX2_asks_37 rfl hl (by decide) rfl (fun ls hl => ?_)
    refine lv_iload_n hx hb dX2_asks_38 rfl (lv_at hl 0 rfl) ?_
    refine lv_if_ge (tgt := 44) hx hb dX2_asks_39 (by decide) (fun c_39 => ?_) (fun c_39 => ?_)
    · have d_39 : ¬ (a w : Int) - (G e).toInt < 0 := fun z => absurd c_39 (Int32.not_le.mpr ((e_sub_neg (by omega) hg).mpr z))
      refine lv_iload_n hx hb dX2_asks_44 rfl (lv_at hl 0 rfl) ?_
      refine lv_bipush (v := 6) hx hb dX2_asks_45 (by decide) ?_
      refine lv_aload_n hx hb dX2_asks_47 rfl (lv_at hl 1 rfl) ?_
      refine va_get (D := (dC, dI)) (ci := 1) (v := .int (nI n)) (C := RX2) (T := TX2) (N := 8) hx hb hts in_X2 hown hK hP 0 rfl rfl 0 (by decide) (hts _ q174) (fun _ h9 => h9) rfl dX2_asks_48 ?_
      refine lv_iconst (v := 1) hx hb dX2_asks_51 (by decide) ?_
      refine lv_isub hx hb dX2_asks_52 ?_
      refine lv_imul hx hb dX2_asks_53 ?_
      refine e_top (nI (e_tp n - 1)) (e_m6 hn2) ?_
      refine lv_icmp_le (tgt := 62) hx hb dX2_asks_54 (by decide) (fun c_54 => ?_) (fun c_54 => ?_)
      · have d_54 : (a w : Int) - (G e).toInt < (e_tp n : Int) := by
          have z := (e_sub_le (by omega) (by omega) hg).mp c_54
          have z2 : 1 ≤ e_tp n := by unfold e_tp; omega
          omega
        refine lv_iload_n hx hb dX2_asks_62 rfl (lv_at hl 0 rfl) ?_
        exact hret dX2_asks_63 (by rw [e_ask_at ew (by omega), if_neg d_13, if_neg d_39, if_pos d_54, e_enc_lo (by omega)]; exact e_sub_of (by omega) hg d_39)
      · have d_54 : ¬ (a w : Int) - (G e).toInt < (e_tp n : Int) := by
          have z := (e_sub_gt (by omega) (by omega) hg).mp (Int32.not_le.mp c_54)
          omega
        refine lv_bipush (v := 99) hx hb dX2_asks_57 (by decide) ?_
        refine lv_goto (tgt := 63) hx hb dX2_asks_59 (by decide) ?_
        exact hret dX2_asks_63 (by rw [e_ask_at ew (by omega), if_neg d_13, if_neg d_39, if_neg d_54, e_enc_top])
    · have d_39 : (a w : Int) - (G e).toInt < 0 := (e_sub_neg (by omega) hg).mp (Int32.not_le.mp c_39)
      refine lv_iconst (v := 0) hx hb dX2_asks_42 (by decide) ?_
      exact hret dX2_asks_43 (by rw [e_ask_at ew (by omega), if_neg d_13, if_pos d_39]; exact e_enc_0.symm)
  · have d_13 : a w = e_tp n := (e_enc_99 hn6 haw).mp c_13
    refine lv_bipush (v := 99) hx hb dX2_asks_16 (by decide) ?_
    exact hret dX2_asks_18 (by rw [e_ask_at ew (by omega), if_pos d_13, e_enc_top])
abbrev rX2_next : Room := { frames := 1, cells := 0, slots := 0, locals := 22 }
set_option maxHeartbeats 4000000 in
set_option maxRecDepth 100000 in
theorem metX2_next (l : Launch) (dC : Nat → ClassId) (dI : Nat → Nat → Nat) (ad : Nat → Nat) (cI : ClassId) (n c : Nat) (T Hd G O Nw Lt : eFn) (hok : e_ok n c T Hd G) (a : Nat → Nat) (hN : ∀ v, v < n → Nw v = e_enc n (a v)) (ha : ∀ v, v < n → a v ≤ e_tp n) (v : Nat) (hv : v < n) (pl sk : Int32) : Met l yX2_next (ws_ yX2_next cX2_next 8 (some .int)) rX2_next (va_Pc [.ref (ad 0), .int (nI v), .int pl, .int sk] (e_PR (dC, dI) vwCl [(cI, .int)] (wM ad cI n c T Hd G O Nw Lt))) (e_R (fun r => r = e_enc n (e_want n c T Hd G pl sk a v))) 0 0 (fun _ => False) := by
  refine e_startRi (by decide) (Nat.le_of_ble_eq_true rfl) ?_
  intro pg ev st mi ar bl mt cd H QQ hx hb hml hown hts hK hP hret ls hl
  have hown : st.vm.findClass RX2 = some mi.cls := hown
  have hP : va_P (dC, dI) vwCl [(ad 0, .inr (1, [.int (nI n), .int (nI c), .ref (ad 1), .ref (ad 2), .ref (ad 3), .ref (ad 4), .ref (ad 5), .ref (ad 6)])), (ad 1, .inl (cI, 8, .inl O)), (ad 2, .inl (cI, 14, .inl T)), (ad 3, .inl (cI, 14, .inl Hd)), (ad 4, .inl (cI, 14, .inl G)), (ad 5, .inl (cI, 8, .inl Nw)), (ad 6, .inl (cI, 8, .inl Lt))] H := hP
  have hl : lv_has ls 8 [(0, .ref (ad 0)), (1, .int (nI v)), (2, .int pl), (3, .int sk)] := hl
  have hn2 := hok.1
  have hn6 := hok.2.1
  have hc14 := hok.2.2.1
  have ht31 := e_tp_le hn6
  have hE := e_E_M hn6
  refine lv_iconst (v := -1) hx hb dX2_next_0 (by decide) ?_
  refine lv_istore (lv' := [(4, .int (-1)), (0, .ref (ad 0)), (1, .int (nI v)), (2, .int pl), (3, .int sk)]) hx hb dX2_next_1 hl (by decide) rfl (fun ls hl => ?_)
  refine lv_iconst (v := nI 0) hx hb dX2_next_3 (by decide) ?_
  refine lv_istore (lv' := [(5, .int (nI 0)), (4, .int (-1)), (0, .ref (ad 0)), (1, .int (nI v)), (2, .int pl), (3, .int sk)]) hx hb dX2_next_4 hl (by decide) rfl (fun ls hl => ?_)
  have lp_6 : ∀ (k_6 : Nat) (e : Nat), (e ≤ c) → (c < e + k_6) → ∀ ls : Array Slot, lv_has ls 8 [(0, .ref (ad 0)), (1, .int (nI v)), (2, .int pl), (3, .int sk), (4, .int (e_o (e_enc n) (e_wl n T Hd G pl sk a v e))), (5, .int (nI e))] → W pg l ev rX2_next st mi ar bl mt cd H [] 0 0 QQ (F0 mi 6 ls []) := by
    intro k_6
    induction k_6 with
    | zero =>
      intro e he hk
      exfalso; omega
    | succ k_6 ih_6 =>
      intro e he hk ls hl
      refine lv_iload hx hb dX2_next_6 (lv_at hl 5 rfl) ?_
      refine lv_aload_n hx hb dX2_next_8 rfl (lv_at hl 0 rfl) ?_
      refine va_get (D := (dC, dI)) (ci := 1) (v := .int (nI c)) (C := RX2) (T := TX2) (N := 8) hx hb hts in_X2 hown hK hP 0 rfl rfl 1 (by decide) (hts _ q175) (fun _ h9 => h9) rfl dX2_next_9 ?_
      refine e_ge (tgt := 100) hx hb (by omega) (by omega) dX2_next_12 (by decide) (fun c_12 => ?_) (fun c_12 => ?_)
      · have heq : e = c := by omega
        rw [heq] at hl
        refine lv_iload hx hb dX2_next_100 (lv_at hl 4 rfl) ?_
        refine lv_if_ge (tgt := 109) hx hb dX2_next_102 (by decide) (fun c_102 => ?_) (fun c_102 => ?_)
        · refine lv_iload hx hb dX2_next_109 (lv_at hl 4 rfl) ?_
          exact hret dX2_next_111 (e_o_y (Int32.not_lt.mpr c_102))
        · refine lv_iconst (v := 0) hx hb dX2_next_105 (by decide) ?_
          refine lv_goto (tgt := 111) hx hb dX2_next_106 (by decide) ?_
          exact hret dX2_next_111 (e_o_n hE (e_wl_le c) (Int32.not_le.mp c_102))
      · refine lv_iload hx hb dX2_next_15 (lv_at hl 5 rfl) ?_
        refine lv_bipush (v := nI 14) hx hb dX2_next_17 (by decide) ?_
        refine e_ge (tgt := 100) hx hb (by omega) (by omega) dX2_next_19 (by decide) (fun c_19 => absurd c_19 (by omega)) (fun c_19 => ?_)
        refine lv_aload_n hx hb dX2_next_22 rfl (lv_at hl 0 rfl) ?_
        refine va_get (D := (dC, dI)) (ci := 1) (v := .ref (ad 2)) (C := RX2) (T := TX2) (N := 8) hx hb hts in_X2 hown hK hP 0 rfl rfl 3 (by decide) (hts _ q177) (fun _ h9 => h9) rfl dX2_next_23 ?_
        refine lv_iload hx hb dX2_next_26 (lv_at hl 5 rfl) ?_
        refine e_ild (v := T e) hx hb hK hP 2 0 rfl rfl e rfl (by omega) (by decide) rfl dX2_next_28 ?_
        refine lv_iload_n hx hb dX2_next_29 rfl (lv_at hl 1 rfl) ?_
        refine lv_icmp_ne (tgt := 94) hx hb dX2_next_30 (by decide) (fun c_30 => ?_) (fun c_30 => ?_)
        · refine lv_iinc (v := nI (e + 1)) (lv' := [(5, .int (nI (e + 1))), (0, .ref (ad 0)), (1, .int (nI v)), (2, .int pl), (3, .int sk), (4, .int (e_o (e_enc n) (e_wl n T Hd G pl sk a v e)))]) hx hb dX2_next_94 hl (k := 5) rfl (e_inc _) (by decide) rfl (fun ls hl => ?_)
          refine lv_goto (tgt := 6) hx hb dX2_next_97 (by decide) ?_
          rw [← e_wl_n (fun z => c_30 z.1)] at hl
          exact ih_6 (e + 1) (by omega) (by omega) ls (lv_sub hl [1, 2, 3, 4, 5, 0] rfl)
        · refine lv_iload hx hb dX2_next_33 (lv_at hl 5 rfl) ?_
          refine lv_iload_n hx hb dX2_next_35 rfl (lv_at hl 3 rfl) ?_
          refine lv_icmp_eq (tgt := 94) hx hb dX2_next_36 (by decide) (fun c_36 => ?_) (fun c_36 => ?_)
          · refine lv_iinc (v := nI (e + 1)) (lv' := [(5, .int (nI (e + 1))), (0, .ref (ad 0)), (1, .int (nI v)), (2, .int pl), (3, .int sk), (4, .int (e_o (e_enc n) (e_wl n T Hd G pl sk a v e)))]) hx hb dX2_next_94 hl (k := 5) rfl (e_inc _) (by decide) rfl (fun ls hl => ?_)
            refine lv_goto (tgt := 6) hx hb dX2_next_97 (by decide) ?_
            rw [← e_wl_n (fun z => z.2 c_36)] at hl
            exact ih_6 (e + 1) (by omega) (by omega) ls (lv_sub hl [1, 2, 3, 4, 5, 0] rfl)
          · refine lv_aload_n hx hb dX2_next_39 rfl (lv_at hl 0 rfl) ?_
            refine lv_iload hx hb dX2_next_40 (lv_at hl 5 rfl) ?_
            refine e_callR (q0 := 0) (ci := 1) (rest := []) ⟨hx, hb, hml, hown, hts⟩ (metX2_asks l dC dI ad cI n c T Hd G O Nw Lt hok a hN ha e (by omega)) (cwV 1 hts (lw_V q247 q249 qs14 q20 q250) rfl rfl rfl (by decide +kernel) ⟨Nat.le_of_ble_eq_true rfl, Nat.le_of_ble_eq_true rfl⟩) hK hP rfl rfl rfl rfl hl.1 rfl (Nat.le_of_ble_eq_true rfl) dX2_next_42 ⟨Nat.zero_le _, Nat.zero_le _⟩ (fun r_42 hr_42 => ?_)
            subst hr_42
            refine lv_istore (lv' := [(6, .int (e_enc n (e_ask n Hd G a e))), (0, .ref (ad 0)), (1, .int (nI v)), (2, .int pl), (3, .int sk), (4, .int (e_o (e_enc n) (e_wl n T Hd G pl sk a v e))), (5, .int (nI e))]) hx hb dX2_next_45 hl (by decide) rfl (fun ls hl => ?_)
            refine lv_iload_n hx hb dX2_next_47 rfl (lv_at hl 3 rfl) ?_
            refine lv_if_ne (tgt := 66) hx hb dX2_next_48 (by decide) (fun c_48 => ?_) (fun c_48 => ?_)
            · refine lv_iload hx hb dX2_next_66 (lv_at hl 0 rfl) ?_
              refine lv_iload hx hb dX2_next_68 (lv_at hl 5 rfl) ?_
              refine lv_icmp_le (tgt := 77) hx hb dX2_next_70 (by decide) (fun c_70 => ?_) (fun c_70 => ?_)
              · refine lv_iconst (v := 0) hx hb dX2_next_77 (by decide) ?_
                refine lv_istore (lv' := [(7, .int 0), (6, .int (e_enc n (e_ask n Hd G a e))), (0, .ref (ad 0)), (1, .int (nI v)), (2, .int pl), (3, .int sk), (4, .int (e_o (e_enc n) (e_wl n T Hd G pl sk a v e))), (5, .int (nI e))]) hx hb dX2_next_78 hl (by decide) rfl (fun ls hl => ?_)
                refine lv_iload hx hb dX2_next_80 (lv_at hl 6 rfl) ?_
                refine lv_if_lt (tgt := 90) hx hb dX2_next_82 (by decide) (fun c_82 => ?_) (fun c_82 => ?_)
                · refine lv_iload hx hb dX2_next_90 (lv_at hl 1 rfl) ?_
                  refine lv_istore (lv' := [(4, .int (e_enc n (e_ask n Hd G a e))), (7, .int 0), (6, .int (e_enc n (e_ask n Hd G a e))), (0, .ref (ad 0)), (1, .int (nI v)), (2, .int pl), (3, .int sk), (5, .int (nI e))]) hx hb dX2_next_92 hl (by decide) rfl (fun ls hl => ?_)
                  refine lv_iinc (v := nI (e + 1)) (lv' := [(5, .int (nI (e + 1))), (4, .int (e_enc n (e_ask n Hd G a e))), (7, .int 0), (6, .int (e_enc n (e_ask n Hd G a e))), (0, .ref (ad 0)), (1, .int (nI v)), (2, .int pl), (3, .int sk)]) hx hb dX2_next_94 hl (k := 7) rfl (e_inc _) (by decide) rfl (fun ls hl => ?_)
                  refine lv_goto (tgt := 6) hx hb dX2_next_97 (by decide) ?_
                  rw [e_take_y (p := pl) hE e_ask_le (e_wl_le e) (Or.inl c_82), ← e_wl_y c_30 c_36] at hl
                  exact ih_6 (e + 1) (by omega) (by omega) ls (lv_sub hl [4, 5, 6, 7, 1, 0] rfl)
                · refine lv_iload hx hb dX2_next_85 (lv_at hl 0 rfl) ?_
                  refine lv_if_eq (tgt := 94) hx hb dX2_next_87 (by decide) (fun c_87 => ?_) (fun c_87 => absurd c_87 (by decide))
                  refine lv_iinc (v := nI (e + 1)) (lv' := [(5, .int (nI (e + 1))), (7, .int 0), (6, .int (e_enc n (e_ask n Hd G a e))), (0, .ref (ad 0)), (1, .int (nI v)), (2, .int pl), (3, .int sk), (4, .int (e_o (e_enc n) (e_wl n T Hd G pl sk a v e)))]) hx hb dX2_next_94 hl (k := 7) rfl (e_inc _) (by decide) rfl (fun ls hl => ?_)
                  refine lv_goto (tgt := 6) hx hb dX2_next_97 (by decide) ?_
                  rw [e_take_n (p := pl) (x := e_ask n Hd G a e) hE e_ask_le (e_wl_le e) c_82 (Or.inr ⟨c_48, Int32.not_lt.mpr c_70⟩), ← e_wl_y c_30 c_36] at hl
                  exact ih_6 (e + 1) (by omega) (by omega) ls (lv_sub hl [3, 4, 5, 6, 7, 0] rfl)
              · refine lv_iconst (v := 1) hx hb dX2_next_73 (by decide) ?_
                refine lv_goto (tgt := 78) hx hb dX2_next_74 (by decide) ?_
                refine lv_istore (lv' := [(7, .int 1), (6, .int (e_enc n (e_ask n Hd G a e))), (0, .ref (ad 0)), (1, .int (nI v)), (2, .int pl), (3, .int sk), (4, .int (e_o (e_enc n) (e_wl n T Hd G pl sk a v e))), (5, .int (nI e))]) hx hb dX2_next_78 hl (by decide) rfl (fun ls hl => ?_)
                refine lv_iload hx hb dX2_next_80 (lv_at hl 6 rfl) ?_
                refine lv_if_lt (tgt := 90) hx hb dX2_next_82 (by decide) (fun c_82 => ?_) (fun c_82 => ?_)
                · refine lv_iload hx hb dX2_next_90 (lv_at hl 1 rfl) ?_
                  refine lv_istore (lv' := [(4, .int (e_enc n (e_ask n Hd G a e))), (7, .int 1), (6, .int (e_enc n (e_ask n Hd G a e))), (0, .ref (ad 0)), (1, .int (nI v)), (2, .int pl), (3, .int sk), (5, .int (nI e))]) hx hb dX2_next_92 hl (by decide) rfl (fun ls hl => ?_)
                  refine lv_iinc (v := nI (e + 1)) (lv' := [(5, .int (nI (e + 1))), (4, .int (e_enc n (e_ask n Hd G a e))), (7, .int 1), (6, .int (e_enc n (e_ask n Hd G a e))), (0, .ref (ad 0)), (1, .int (nI v)), (2, .int pl), (3, .int sk)]) hx hb dX2_next_94 hl (k := 7) rfl (e_inc _) (by decide) rfl (fun ls hl => ?_)
                  refine lv_goto (tgt := 6) hx hb dX2_next_97 (by decide) ?_
                  rw [e_take_y (p := pl) hE e_ask_le (e_wl_le e) (Or.inl c_82), ← e_wl_y c_30 c_36] at hl
                  exact ih_6 (e + 1) (by omega) (by omega) ls (lv_sub hl [4, 5, 6, 7, 1, 0] rfl)
                · refine lv_iload hx hb dX2_next_85 (lv_at hl 0 rfl) ?_
                  refine lv_if_eq (tgt := 94) hx hb dX2_next_87 (by decide) (fun c_87 => absurd c_87 (by decide)) (fun c_87 => ?_)
                  refine lv_iload hx hb dX2_next_90 (lv_at hl 1 rfl) ?_
                  refine lv_istore (lv' := [(4, .int (e_enc n (e_ask n Hd G a e))), (7, .int 1), (6, .int (e_enc n (e_ask n Hd G a e))), (0, .ref (ad 0)), (1, .int (nI v)), (2, .int pl), (3, .int sk), (5, .int (nI e))]) hx hb dX2_next_92 hl (by decide) rfl (fun ls hl => ?_)
                  refine lv_iinc (v := nI (e + 1)) (lv' := [(5, .int (nI (e + 1))), (4, .int (e_enc n (e_ask n Hd G a e))), (7, .int 1), (6, .int (e_enc n (e_ask n Hd G a e))), (0, .ref (ad 0)), (1, .int (nI v)), (2, .int pl), (3, .int sk)]) hx hb dX2_next_94 hl (k := 7) rfl (e_inc _) (by decide) rfl (fun ls hl => ?_)
                  refine lv_goto (tgt := 6) hx hb dX2_next_97 (by decide) ?_
                  rw [e_take_y (p := pl) hE e_ask_le (e_wl_le e) (Or.inr (Or.inr ⟨c_48, Int32.not_le.mp c_70⟩)), ← e_wl_y c_30 c_36] at hl
                  exact ih_6 (e + 1) (by omega) (by omega) ls (lv_sub hl [4, 5, 6, 7, 1, 0] rfl)
            · refine lv_iload hx hb dX2_next_51 (lv_at hl 0 rfl) ?_
              refine lv_iload hx hb dX2_next_53 (lv_at hl 5 rfl) ?_
              refine lv_icmp_ge (tgt := 62) hx hb dX2_next_55 (by decide) (fun c_55 => ?_) (fun c_55 => ?_)
              · refine lv_iconst (v := 0) hx hb dX2_next_62 (by decide) ?_
                refine lv_goto (tgt := 78) hx hb dX2_next_63 (by decide) ?_
                refine lv_istore (lv' := [(7, .int 0), (6, .int (e_enc n (e_ask n Hd G a e))), (0, .ref (ad 0)), (1, .int (nI v)), (2, .int pl), (3, .int sk), (4, .int (e_o (e_enc n) (e_wl n T Hd G pl sk a v e))), (5, .int (nI e))]) hx hb dX2_next_78 hl (by decide) rfl (fun ls hl => ?_)
                refine lv_iload hx hb dX2_next_80 (lv_at hl 6 rfl) ?_
                refine lv_if_lt (tgt := 90) hx hb dX2_next_82 (by decide) (fun c_82 => ?_) (fun c_82 => ?_)
                · refine lv_iload hx hb dX2_next_90 (lv_at hl 1 rfl) ?_
                  refine lv_istore (lv' := [(4, .int (e_enc n (e_ask n Hd G a e))), (7, .int 0), (6, .int (e_enc n (e_ask n Hd G a e))), (0, .ref (ad 0)), (1, .int (nI v)), (2, .int pl), (3, .int sk), (5, .int (nI e))]) hx hb dX2_next_92 hl (by decide) rfl (fun ls hl => ?_)
                  refine lv_iinc (v := nI (e + 1)) (lv' := [(5, .int (nI (e + 1))), (4, .int (e_enc n (e_ask n Hd G a e))), (7, .int 0), (6, .int (e_enc n (e_ask n Hd G a e))), (0, .ref (ad 0)), (1, .int (nI v)), (2, .int pl), (3, .int sk)]) hx hb dX2_next_94 hl (k := 7) rfl (e_inc _) (by decide) rfl (fun ls hl => ?_)
                  refine lv_goto (tgt := 6) hx hb dX2_next_97 (by decide) ?_
                  rw [e_take_y (p := pl) hE e_ask_le (e_wl_le e) (Or.inl c_82), ← e_wl_y c_30 c_36] at hl
                  exact ih_6 (e + 1) (by omega) (by omega) ls (lv_sub hl [4, 5, 6, 7, 1, 0] rfl)
                · refine lv_iload hx hb dX2_next_85 (lv_at hl 0 rfl) ?_
                  refine lv_if_eq (tgt := 94) hx hb dX2_next_87 (by decide) (fun c_87 => ?_) (fun c_87 => absurd c_87 (by decide))
                  refine lv_iinc (v := nI (e + 1)) (lv' := [(5, .int (nI (e + 1))), (7, .int 0), (6, .int (e_enc n (e_ask n Hd G a e))), (0, .ref (ad 0)), (1, .int (nI v)), (2, .int pl), (3, .int sk), (4, .int (e_o (e_enc n) (e_wl n T Hd G pl sk a v e)))]) hx hb dX2_next_94 hl (k := 7) rfl (e_inc _) (by decide) rfl (fun ls hl => ?_)
                  refine lv_goto (tgt := 6) hx hb dX2_next_97 (by decide) ?_
                  rw [e_take_n (p := pl) (x := e_ask n Hd G a e) hE e_ask_le (e_wl_le e) c_82 (Or.inl ⟨c_48, Int32.not_lt.mpr c_55⟩), ← e_wl_y c_30 c_36] at hl
                  exact ih_6 (e + 1) (by omega) (by omega) ls (lv_sub hl [3, 4, 5, 6, 7, 0] rfl)
              · refine lv_iconst (v := 1) hx hb dX2_next_58 (by decide) ?_
                refine lv_goto (tgt := 78) hx hb dX2_next_59 (by decide) ?_
                refine lv_istore (lv' := [(7, .int 1), (6, .int (e_enc n (e_ask n Hd G a e))), (0, .ref (ad 0)), (1, .int (nI v)), (2, .int pl), (3, .int sk), (4, .int (e_o (e_enc n) (e_wl n T Hd G pl sk a v e))), (5, .int (nI e))]) hx hb dX2_next_78 hl (by decide) rfl (fun ls hl => ?_)
                refine lv_iload hx hb dX2_next_80 (lv_at hl 6 rfl) ?_
                refine lv_if_lt (tgt := 90) hx hb dX2_next_82 (by decide) (fun c_82 => ?_) (fun c_82 => ?_)
                · refine lv_iload hx hb dX2_next_90 (lv_at hl 1 rfl) ?_
                  refine lv_istore (lv' := [(4, .int (e_enc n (e_ask n Hd G a e))), (7, .int 1), (6, .int (e_enc n (e_ask n Hd G a e))), (0, .ref (ad 0)), (1, .int (nI v)), (2, .int pl), (3, .int sk), (5, .int (nI e))]) hx hb dX2_next_92 hl (by decide) rfl (fun ls hl => ?_)
                  refine lv_iinc (v := nI (e + 1)) (lv' := [(5, .int (nI (e + 1))), (4, .int (e_enc n (e_ask n Hd G a e))), (7, .int 1), (6, .int (e_enc n (e_ask n Hd G a e))), (0, .ref (ad 0)), (1, .int (nI v)), (2, .int pl), (3, .int sk)]) hx hb dX2_next_94 hl (k := 7) rfl (e_inc _) (by decide) rfl (fun ls hl => ?_)
                  refine lv_goto (tgt := 6) hx hb dX2_next_97 (by decide) ?_
                  rw [e_take_y (p := pl) hE e_ask_le (e_wl_le e) (Or.inl c_82), ← e_wl_y c_30 c_36] at hl
                  exact ih_6 (e + 1) (by omega) (by omega) ls (lv_sub hl [4, 5, 6, 7, 1, 0] rfl)
                · refine lv_iload hx hb dX2_next_85 (lv_at hl 0 rfl) ?_
                  refine lv_if_eq (tgt := 94) hx hb dX2_next_87 (by decide) (fun c_87 => absurd c_87 (by decide)) (fun c_87 => ?_)
                  refine lv_iload hx hb dX2_next_90 (lv_at hl 1 rfl) ?_
                  refine lv_istore (lv' := [(4, .int (e_enc n (e_ask n Hd G a e))), (7, .int 1), (6, .int (e_enc n (e_ask n Hd G a e))), (0, .ref (ad 0)), (1, .int (nI v)), (2, .int pl), (3, .int sk), (5, .int (nI e))]) hx hb dX2_next_92 hl (by decide) rfl (fun ls hl => ?_)
                  refine lv_iinc (v := nI (e + 1)) (lv' := [(5, .int (nI (e + 1))), (4, .int (e_enc n (e_ask n Hd G a e))), (7, .int 1), (6, .int (e_enc n (e_ask n Hd G a e))), (0, .ref (ad 0)), (1, .int (nI v)), (2, .int pl), (3, .int sk)]) hx hb dX2_next_94 hl (k := 7) rfl (e_inc _) (by decide) rfl (fun ls hl => ?_)
                  refine lv_goto (tgt := 6) hx hb dX2_next_97 (by decide) ?_
                  rw [e_take_y (p := pl) hE e_ask_le (e_wl_le e) (Or.inr (Or.inl ⟨c_48, Int32.not_le.mp c_55⟩)), ← e_wl_y c_30 c_36] at hl
                  exact ih_6 (e + 1) (by omega) (by omega) ls (lv_sub hl [4, 5, 6, 7, 1, 0] rfl)
  exact lp_6 (c + 1) 0 (by omega) (by omega) ls (lv_sub hl [2, 3, 4, 5, 1, 0] rfl)
abbrev rX2_good : Room := { frames := 0, cells := 0, slots := 0, locals := 0 }
set_option maxHeartbeats 4000000 in
set_option maxRecDepth 100000 in
theorem metX2_good (l : Launch) (dC : Nat → ClassId) (dI : Nat → Nat → Nat) (ad : Nat → Nat) (cI : ClassId) (n c : Nat) (T Hd G O Nw Lt : eFn) (hok : e_ok n c T Hd G) (a : Nat → Nat) (hN : ∀ v, v < n → Nw v = e_enc n (a v)) (ha : ∀ v, v < n → a v ≤ e_tp n) (e : Nat) (he : e < c) : Met l yX2_good (ws_ yX2_good cX2_good 4 (some .boolean)) rX2_good (va_Pc [.ref (ad 0), .int (nI e)] (e_PR (dC, dI) vwCl [(cI, .int)] (wM ad cI n c T Hd G O Nw Lt))) (e_R (fun r => (r = 1 ∧ e_gd n T Hd G O a e = true) ∨ (r = 0 ∧ ¬ e_gd n T Hd G O a e = true))) 0 0 (fun _ => False) := by
  refine e_startRz (by decide) (Nat.le_of_ble_eq_true rfl) ?_
  intro pg ev st mi ar bl mt cd H QQ hx hb hml hown hts hK hP hret ls hl
  have hown : st.vm.findClass RX2 = some mi.cls := hown
  have hP : va_P (dC, dI) vwCl [(ad 0, .inr (1, [.int (nI n), .int (nI c), .ref (ad 1), .ref (ad 2), .ref (ad 3), .ref (ad 4), .ref (ad 5), .ref (ad 6)])), (ad 1, .inl (cI, 8, .inl O)), (ad 2, .inl (cI, 14, .inl T)), (ad 3, .inl (cI, 14, .inl Hd)), (ad 4, .inl (cI, 14, .inl G)), (ad 5, .inl (cI, 8, .inl Nw)), (ad 6, .inl (cI, 8, .inl Lt))] H := hP
  have hl : lv_has ls 4 [(0, .ref (ad 0)), (1, .int (nI e))] := hl
  have hn2 := hok.1
  have hn6 := hok.2.1
  have hc14 := hok.2.2.1
  have ht31 := e_tp_le hn6
  obtain ⟨u, hu, eu⟩ := hok.2.2.2.1 e he
  have hau := ha u hu
  obtain ⟨w, hw, ew⟩ := hok.2.2.2.2.1 e he
  have hg := hok.2.2.2.2.2.1 e he
  have haw := ha w hw
  refine lv_aload_n hx hb dX2_good_0 rfl (lv_at hl 0 rfl) ?_
  refine va_get (D := (dC, dI)) (ci := 1) (v := .ref (ad 2)) (C := RX2) (T := TX2) (N := 8) hx hb hts in_X2 hown hK hP 0 rfl rfl 3 (by decide) (hts _ q177) (fun _ h9 => h9) rfl dX2_good_1 ?_
  refine lv_iload_n hx hb dX2_good_4 rfl (lv_at hl 1 rfl) ?_
  refine e_ild (v := nI u) hx hb hK hP 2 0 rfl rfl e rfl (by omega) (by decide) eu dX2_good_5 ?_
  refine lv_istore_n (lv' := [(2, .int (nI u)), (0, .ref (ad 0)), (1, .int (nI e))]) hx hb dX2_good_6 rfl hl (by decide) rfl (fun ls hl => ?_)
  refine lv_aload_n hx hb dX2_good_7 rfl (lv_at hl 1 rfl) ?_
  refine va_get (D := (dC, dI)) (ci := 1) (v := .ref (ad 5)) (C := RX2) (T := TX2) (N := 8) hx hb hts in_X2 hown hK hP 0 rfl rfl 6 (by decide) (hts _ q180) (fun _ h9 => h9) rfl dX2_good_8 ?_
  refine lv_iload_n hx hb dX2_good_11 rfl (lv_at hl 0 rfl) ?_
  refine e_ild (v := e_enc n (a u)) hx hb hK hP 5 0 rfl rfl u rfl (by omega) (by decide) (hN u hu) dX2_good_12 ?_
  refine lv_bipush (v := 99) hx hb dX2_good_13 (by decide) ?_
  refine lv_icmp_ne (tgt := 50) hx hb dX2_good_15 (by decide) (fun c_15 => ?_) (fun c_15 => ?_)
  · have d_15 : ¬ a u = e_tp n := fun z => c_15 ((e_enc_99 hn6 hau).mpr z)
    refine lv_aload_n hx hb dX2_good_50 rfl (lv_at hl 1 rfl) ?_
    refine va_get (D := (dC, dI)) (ci := 1) (v := .ref (ad 5)) (C := RX2) (T := TX2) (N := 8) hx hb hts in_X2 hown hK hP 0 rfl rfl 6 (by decide) (hts _ q180) (fun _ h9 => h9) rfl dX2_good_51 ?_
    refine lv_aload_n hx hb dX2_good_54 rfl (lv_at hl 1 rfl) ?_
    refine va_get (D := (dC, dI)) (ci := 1) (v := .ref (ad 3)) (C := RX2) (T := TX2) (N := 8) hx hb hts in_X2 hown hK hP 0 rfl rfl 4 (by decide) (hts _ q178) (fun _ h9 => h9) rfl dX2_good_55 ?_
    refine lv_iload_n hx hb dX2_good_58 rfl (lv_at hl 2 rfl) ?_
    refine e_ild (v := nI w) hx hb hK hP 3 0 rfl rfl e rfl (by omega) (by decide) ew dX2_good_59 ?_
    refine e_ild (v := e_enc n (a w)) hx hb hK hP 5 0 rfl rfl w rfl (by omega) (by decide) (hN w hw) dX2_good_60 ?_
    refine lv_aload_n hx hb dX2_good_61 rfl (lv_at hl 1 rfl) ?_
    refine va_get (D := (dC, dI)) (ci := 1) (v := .ref (ad 4)) (C := RX2) (T := TX2) (N := 8) hx hb hts in_X2 hown hK hP 0 rfl rfl 5 (by decide) (hts _ q179) (fun _ h9 => h9) rfl dX2_good_62 ?_
    refine lv_iload_n hx hb dX2_good_65 rfl (lv_at hl 2 rfl) ?_
    refine e_ild (v := G e) hx hb hK hP 4 0 rfl rfl e rfl (by omega) (by decide) rfl dX2_good_66 ?_
    refine lv_isub hx hb dX2_good_67 ?_
    refine lv_istore_n (lv' := [(3, .int ((e_enc n (a w)) - (G e))), (2, .int (nI u)), (0, .ref (ad 0)), (1, .int (nI e))]) hx hb dX2_good_68 rfl hl (by decide) rfl (fun ls hl => ?_)
    refine lv_aload_n hx hb dX2_good_69 rfl (lv_at hl 2 rfl) ?_
    refine va_get (D := (dC, dI)) (ci := 1) (v := .ref (ad 5)) (C := RX2) (T := TX2) (N := 8) hx hb hts in_X2 hown hK hP 0 rfl rfl 6 (by decide) (hts _ q180) (fun _ h9 => h9) rfl dX2_good_70 ?_
    refine lv_aload_n hx hb dX2_good_73 rfl (lv_at hl 2 rfl) ?_
    refine va_get (D := (dC, dI)) (ci := 1) (v := .ref (ad 3)) (C := RX2) (T := TX2) (N := 8) hx hb hts in_X2 hown hK hP 0 rfl rfl 4 (by decide) (hts _ q178) (fun _ h9 => h9) rfl dX2_good_74 ?_
    refine lv_iload_n hx hb dX2_good_77 rfl (lv_at hl 3 rfl) ?_
    refine e_ild (v := nI w) hx hb hK hP 3 0 rfl rfl e rfl (by omega) (by decide) ew dX2_good_78 ?_
    refine e_ild (v := e_enc n (a w)) hx hb hK hP 5 0 rfl rfl w rfl (by omega) (by decide) (hN w hw) dX2_good_79 ?_
    refine lv_bipush (v := 99) hx hb dX2_good_80 (by decide) ?_
    refine lv_icmp_eq (tgt := 107) hx hb dX2_good_82 (by decide) (fun c_82 => ?_) (fun c_82 => ?_)
    · have d_82 : a w = e_tp n := (e_enc_99 hn6 haw).mp c_82
      refine lv_iconst (v := 0) hx hb dX2_good_107 (by decide) ?_
      exact hret dX2_good_108 rfl (Or.inr ⟨rfl, by rw [e_gd_at eu (by omega) ew (by omega), if_neg d_15]; exact fun z => absurd (of_decide_eq_true z).2 (by omega)⟩)
    · have d_82 : ¬ a w = e_tp n := fun z => c_82 ((e_enc_99 hn6 haw).mpr z)
      refine lv_iload_n hx hb dX2_good_85 rfl (lv_at hl 0 rfl) ?_
      refine lv_if_ge (tgt := 93) hx hb dX2_good_86 (by decide) (fun c_86 => ?_) (fun c_86 => ?_)
      · refine lv_iload_n hx hb dX2_good_93 rfl (lv_at hl 0 rfl) ?_
        refine lv_aload_n hx hb dX2_good_94 rfl (lv_at hl 2 rfl) ?_
        refine va_get (D := (dC, dI)) (ci := 1) (v := .ref (ad 5)) (C := RX2) (T := TX2) (N := 8) hx hb hts in_X2 hown hK hP 0 rfl rfl 6 (by decide) (hts _ q180) (fun _ h9 => h9) rfl dX2_good_95 ?_
        refine lv_iload_n hx hb dX2_good_98 rfl (lv_at hl 1 rfl) ?_
        refine e_ild (v := nI (a u)) hx hb hK hP 5 0 rfl rfl u rfl (by omega) (by decide) ((hN u hu).trans (e_enc_lo d_15)) dX2_good_99 ?_
        refine lv_icmp_ne (tgt := 107) hx hb dX2_good_100 (by decide) (fun c_100 => ?_) (fun c_100 => ?_)
        · refine lv_iconst (v := 0) hx hb dX2_good_107 (by decide) ?_
          exact hret dX2_good_108 rfl (Or.inr ⟨rfl, by rw [e_gd_at eu (by omega) ew (by omega), if_neg d_15]; exact fun z => c_100 ((e_gm_pos hn6 ew (by omega) haw hg d_82 (Int32.not_lt.mpr c_86) (by omega)).symm.mp (of_decide_eq_true z).1)⟩)
        · refine lv_iconst (v := 1) hx hb dX2_good_103 (by decide) ?_
          refine lv_goto (tgt := 108) hx hb dX2_good_104 (by decide) ?_
          exact hret dX2_good_108 rfl (Or.inl ⟨rfl, by rw [e_gd_at eu (by omega) ew (by omega), if_neg d_15]; exact decide_eq_true ⟨(e_gm_pos hn6 ew (by omega) haw hg d_82 (Int32.not_lt.mpr c_86) (by omega)).symm.mpr c_100, by omega⟩⟩)
      · refine lv_iconst (v := 0) hx hb dX2_good_89 (by decide) ?_
        refine lv_goto (tgt := 94) hx hb dX2_good_90 (by decide) ?_
        refine lv_aload_n hx hb dX2_good_94 rfl (lv_at hl 2 rfl) ?_
        refine va_get (D := (dC, dI)) (ci := 1) (v := .ref (ad 5)) (C := RX2) (T := TX2) (N := 8) hx hb hts in_X2 hown hK hP 0 rfl rfl 6 (by decide) (hts _ q180) (fun _ h9 => h9) rfl dX2_good_95 ?_
        refine lv_iload_n hx hb dX2_good_98 rfl (lv_at hl 1 rfl) ?_
        refine e_ild (v := nI (a u)) hx hb hK hP 5 0 rfl rfl u rfl (by omega) (by decide) ((hN u hu).trans (e_enc_lo d_15)) dX2_good_99 ?_
        refine lv_icmp_ne (tgt := 107) hx hb dX2_good_100 (by decide) (fun c_100 => ?_) (fun c_100 => ?_)
        · refine lv_iconst (v := 0) hx hb dX2_good_107 (by decide) ?_
          exact hret dX2_good_108 rfl (Or.inr ⟨rfl, by rw [e_gd_at eu (by omega) ew (by omega), if_neg d_15]; exact fun z => c_100 ((show e_ask n Hd G a e = a u ↔ (0 : Int32) = nI (a u) by rw [e_gm_neg hn6 ew (by omega) haw hg d_82 (Int32.not_le.mp c_86), ← nI_0, nI_eq (by omega) (by omega)]).mp (of_decide_eq_true z).1)⟩)
        · refine lv_iconst (v := 1) hx hb dX2_good_103 (by decide) ?_
          refine lv_goto (tgt := 108) hx hb dX2_good_104 (by decide) ?_
          exact hret dX2_good_108 rfl (Or.inl ⟨rfl, by rw [e_gd_at eu (by omega) ew (by omega), if_neg d_15]; exact decide_eq_true ⟨(show e_ask n Hd G a e = a u ↔ (0 : Int32) = nI (a u) by rw [e_gm_neg hn6 ew (by omega) haw hg d_82 (Int32.not_le.mp c_86), ← nI_0, nI_eq (by omega) (by omega)]).mpr c_100, by omega⟩⟩)
  · have d_15 : a u = e_tp n := (e_enc_99 hn6 hau).mp c_15
    refine lv_aload_n hx hb dX2_good_18 rfl (lv_at hl 1 rfl) ?_
    refine va_get (D := (dC, dI)) (ci := 1) (v := .ref (ad 1)) (C := RX2) (T := TX2) (N := 8) hx hb hts in_X2 hown hK hP 0 rfl rfl 2 (by decide) (hts _ q176) (fun _ h9 => h9) rfl dX2_good_19 ?_
    refine lv_iload_n hx hb dX2_good_22 rfl (lv_at hl 0 rfl) ?_
    refine e_ild (v := O u) hx hb hK hP 1 0 rfl rfl u rfl (by omega) (by decide) rfl dX2_good_23 ?_
    refine lv_iconst (v := 1) hx hb dX2_good_24 (by decide) ?_
    refine lv_icmp_ne (tgt := 48) hx hb dX2_good_25 (by decide) (fun c_25 => ?_) (fun c_25 => ?_)
    · refine lv_iconst (v := 0) hx hb dX2_good_48 (by decide) ?_
      exact hret dX2_good_49 rfl (Or.inr ⟨rfl, by rw [e_gd_at eu (by omega) ew (by omega), if_pos d_15]; exact fun z => c_25 (of_decide_eq_true z).1⟩)
    · refine lv_aload_n hx hb dX2_good_28 rfl (lv_at hl 1 rfl) ?_
      refine va_get (D := (dC, dI)) (ci := 1) (v := .ref (ad 5)) (C := RX2) (T := TX2) (N := 8) hx hb hts in_X2 hown hK hP 0 rfl rfl 6 (by decide) (hts _ q180) (fun _ h9 => h9) rfl dX2_good_29 ?_
      refine lv_aload_n hx hb dX2_good_32 rfl (lv_at hl 1 rfl) ?_
      refine va_get (D := (dC, dI)) (ci := 1) (v := .ref (ad 3)) (C := RX2) (T := TX2) (N := 8) hx hb hts in_X2 hown hK hP 0 rfl rfl 4 (by decide) (hts _ q178) (fun _ h9 => h9) rfl dX2_good_33 ?_
      refine lv_iload_n hx hb dX2_good_36 rfl (lv_at hl 2 rfl) ?_
      refine e_ild (v := nI w) hx hb hK hP 3 0 rfl rfl e rfl (by omega) (by decide) ew dX2_good_37 ?_
      refine e_ild (v := e_enc n (a w)) hx hb hK hP 5 0 rfl rfl w rfl (by omega) (by decide) (hN w hw) dX2_good_38 ?_
      refine lv_bipush (v := 99) hx hb dX2_good_39 (by decide) ?_
      refine lv_icmp_ne (tgt := 48) hx hb dX2_good_41 (by decide) (fun c_41 => ?_) (fun c_41 => ?_)
      · have d_41 : ¬ a w = e_tp n := fun z => c_41 ((e_enc_99 hn6 haw).mpr z)
        refine lv_iconst (v := 0) hx hb dX2_good_48 (by decide) ?_
        exact hret dX2_good_49 rfl (Or.inr ⟨rfl, by rw [e_gd_at eu (by omega) ew (by omega), if_pos d_15]; exact fun z => d_41 (of_decide_eq_true z).2⟩)
      · have d_41 : a w = e_tp n := (e_enc_99 hn6 haw).mp c_41
        refine lv_iconst (v := 1) hx hb dX2_good_44 (by decide) ?_
        refine lv_goto (tgt := 49) hx hb dX2_good_45 (by decide) ?_
        exact hret dX2_good_49 rfl (Or.inl ⟨rfl, by rw [e_gd_at eu (by omega) ew (by omega), if_pos d_15]; exact decide_eq_true ⟨c_25, d_41⟩⟩)
abbrev rX2_chosen : Room := { frames := 1, cells := 0, slots := 0, locals := 23 }
set_option maxHeartbeats 4000000 in
set_option maxRecDepth 100000 in
theorem metX2_chosen (l : Launch) (dC : Nat → ClassId) (dI : Nat → Nat → Nat) (ad : Nat → Nat) (cI : ClassId) (n c : Nat) (T Hd G O Nw Lt : eFn) (hok : e_ok n c T Hd G) (a : Nat → Nat) (hN : ∀ v, v < n → Nw v = e_enc n (a v)) (ha : ∀ v, v < n → a v ≤ e_tp n) (p0 : Int32) : Met l yX2_chosen (ws_ yX2_chosen cX2_chosen 3 (some .int)) rX2_chosen (va_Pc [.ref (ad 0), .int p0] (e_PR (dC, dI) vwCl [(cI, .int)] (wM ad cI n c T Hd G O Nw Lt))) (e_R (fun r => r = e_ch T (e_gd n T Hd G O a) p0 c 0)) 0 0 (fun _ => False) := by
  refine e_startRi (by decide) (Nat.le_of_ble_eq_true rfl) ?_
  intro pg ev st mi ar bl mt cd H QQ hx hb hml hown hts hK hP hret ls hl
  have hown : st.vm.findClass RX2 = some mi.cls := hown
  have hP : va_P (dC, dI) vwCl [(ad 0, .inr (1, [.int (nI n), .int (nI c), .ref (ad 1), .ref (ad 2), .ref (ad 3), .ref (ad 4), .ref (ad 5), .ref (ad 6)])), (ad 1, .inl (cI, 8, .inl O)), (ad 2, .inl (cI, 14, .inl T)), (ad 3, .inl (cI, 14, .inl Hd)), (ad 4, .inl (cI, 14, .inl G)), (ad 5, .inl (cI, 8, .inl Nw)), (ad 6, .inl (cI, 8, .inl Lt))] H := hP
  have hl : lv_has ls 3 [(0, .ref (ad 0)), (1, .int p0)] := hl
  have hn2 := hok.1
  have hn6 := hok.2.1
  have hc14 := hok.2.2.1
  refine lv_iconst (v := nI 0) hx hb dX2_chosen_0 (by decide) ?_
  refine lv_istore_n (lv' := [(2, .int (nI 0)), (0, .ref (ad 0)), (1, .int p0)]) hx hb dX2_chosen_1 rfl hl (by decide) rfl (fun ls hl => ?_)
  have lp_2 : ∀ (k_2 : Nat) (e : Nat), (e ≤ c) → (c < e + k_2) → (e_ch T (e_gd n T Hd G O a) p0 c 0 = e_ch T (e_gd n T Hd G O a) p0 (c - e) e) → ∀ ls : Array Slot, lv_has ls 3 [(0, .ref (ad 0)), (1, .int p0), (2, .int (nI e))] → W pg l ev rX2_chosen st mi ar bl mt cd H [] 0 0 QQ (F0 mi 2 ls []) := by
    intro k_2
    induction k_2 with
    | zero =>
      intro e he hk hz
      exfalso; omega
    | succ k_2 ih_2 =>
      intro e he hk hz ls hl
      refine lv_iload_n hx hb dX2_chosen_2 rfl (lv_at hl 2 rfl) ?_
      refine lv_aload_n hx hb dX2_chosen_3 rfl (lv_at hl 0 rfl) ?_
      refine va_get (D := (dC, dI)) (ci := 1) (v := .int (nI c)) (C := RX2) (T := TX2) (N := 8) hx hb hts in_X2 hown hK hP 0 rfl rfl 1 (by decide) (hts _ q175) (fun _ h9 => h9) rfl dX2_chosen_4 ?_
      refine e_ge (tgt := 42) hx hb (by omega) (by omega) dX2_chosen_7 (by decide) (fun c_7 => ?_) (fun c_7 => ?_)
      · refine lv_bipush (v := -2) hx hb dX2_chosen_42 (by decide) ?_
        exact hret dX2_chosen_44 (by rw [hz, e_ch_0 (by omega)])
      · refine lv_iload_n hx hb dX2_chosen_10 rfl (lv_at hl 2 rfl) ?_
        refine lv_bipush (v := nI 14) hx hb dX2_chosen_11 (by decide) ?_
        refine e_ge (tgt := 42) hx hb (by omega) (by omega) dX2_chosen_13 (by decide) (fun c_13 => absurd c_13 (by omega)) (fun c_13 => ?_)
        refine lv_aload_n hx hb dX2_chosen_16 rfl (lv_at hl 0 rfl) ?_
        refine va_get (D := (dC, dI)) (ci := 1) (v := .ref (ad 2)) (C := RX2) (T := TX2) (N := 8) hx hb hts in_X2 hown hK hP 0 rfl rfl 3 (by decide) (hts _ q177) (fun _ h9 => h9) rfl dX2_chosen_17 ?_
        refine lv_iload_n hx hb dX2_chosen_20 rfl (lv_at hl 2 rfl) ?_
        refine e_ild (v := T e) hx hb hK hP 2 0 rfl rfl e rfl (by omega) (by decide) rfl dX2_chosen_21 ?_
        refine lv_iload_n hx hb dX2_chosen_22 rfl (lv_at hl 1 rfl) ?_
        refine lv_icmp_ne (tgt := 36) hx hb dX2_chosen_23 (by decide) (fun c_23 => ?_) (fun c_23 => ?_)
        · refine lv_iinc (v := nI (e + 1)) (lv' := [(2, .int (nI (e + 1))), (0, .ref (ad 0)), (1, .int p0)]) hx hb dX2_chosen_36 hl (k := 2) rfl (e_inc _) (by decide) rfl (fun ls hl => ?_)
          refine lv_goto (tgt := 2) hx hb dX2_chosen_39 (by decide) ?_
          exact ih_2 (e + 1) (by omega) (by omega) (hz.trans (e_ch_n (by omega) (fun z => c_23 z.1))) ls (lv_sub hl [1, 2, 0] rfl)
        · refine lv_aload_n hx hb dX2_chosen_26 rfl (lv_at hl 0 rfl) ?_
          refine lv_iload_n hx hb dX2_chosen_27 rfl (lv_at hl 2 rfl) ?_
          refine e_callR (q0 := 0) (ci := 1) (rest := []) ⟨hx, hb, hml, hown, hts⟩ (metX2_good l dC dI ad cI n c T Hd G O Nw Lt hok a hN ha e (by omega)) (cwV 1 hts (lw_V q271 q273 qs17 q20 q274) rfl rfl rfl (by decide +kernel) ⟨Nat.le_of_ble_eq_true rfl, Nat.le_of_ble_eq_true rfl⟩) hK hP rfl rfl rfl rfl hl.1 rfl (Nat.le_of_ble_eq_true rfl) dX2_chosen_28 ⟨Nat.zero_le _, Nat.zero_le _⟩ (fun r_28 hr_28 => ?_)
          rcases hr_28 with ⟨rfl, hv_28⟩ | ⟨rfl, hv_28⟩
          · refine lv_if_eq (tgt := 36) hx hb dX2_chosen_31 (by decide) (fun c_31 => absurd c_31 (by decide)) (fun c_31 => ?_)
            refine lv_iload_n hx hb dX2_chosen_34 rfl (lv_at hl 2 rfl) ?_
            exact hret dX2_chosen_35 (by rw [hz, e_ch_y (by omega) ⟨c_23, hv_28⟩])
          · refine lv_if_eq (tgt := 36) hx hb dX2_chosen_31 (by decide) (fun c_31 => ?_) (fun c_31 => absurd c_31 (by decide))
            refine lv_iinc (v := nI (e + 1)) (lv' := [(2, .int (nI (e + 1))), (0, .ref (ad 0)), (1, .int p0)]) hx hb dX2_chosen_36 hl (k := 2) rfl (e_inc _) (by decide) rfl (fun ls hl => ?_)
            refine lv_goto (tgt := 2) hx hb dX2_chosen_39 (by decide) ?_
            exact ih_2 (e + 1) (by omega) (by omega) (hz.trans (e_ch_n (by omega) (fun z => hv_28 z.2))) ls (lv_sub hl [1, 2, 0] rfl)
  exact lp_2 (c + 1) 0 (by omega) (by omega) rfl ls (lv_sub hl [1, 2, 0] rfl)
end
section
/-! THE PLAIN PART, 5: the waiting list's turns; small steps of the walks that write -/
set_option maxRecDepth 100000
abbrev e_gdG (n c : Nat) (T Hd G O N : eFn) (cu : Int32) : Prop := cu = 0 ∨ (cu = 1 ∧ ∀ v, v < n → N v = nI (e_lf n c T Hd G O (-1) v))
theorem e_pred {e : Nat} (h : 1 ≤ e) : nI e - 1 = nI (e - 1) := by
  rw [show (1 : Int32) = nI 1 by decide]
  exact pk_sub h
theorem e_shf_p {f : eFn} {j e : Nat} (h : j + 1 ≤ e) : upd (e_shf f j e) (e - 1) (f e) = e_shf f j (e + 1) := by
  obtain ⟨d, rfl⟩ : ∃ d, e = d + 1 := ⟨e - 1, by omega⟩
  rw [show d + 1 - 1 = d by omega]
  exact e_shf_s (by omega)
theorem e_upd_back {f : eFn} {j : Nat} {x : Int32} : upd (upd f j x) j (f j) = f := by
  funext i
  by_cases h : i = j
  · subst h; rw [pk_us]
  · rw [pk_un h, pk_un h]
theorem e_and7i {x : Nat} (h : x < 8) : nI x &&& 7 = nI x := by
  rw [e_and7 (by omega), Nat.mod_eq_of_lt h]
theorem e_init_s {v : Nat} {N Wt Qu : eFn} (h : ∀ u, u < v → N u = nI 0 ∧ Wt u = 1 ∧ Qu u = nI u) : ∀ u, u < v + 1 → upd N v (nI 0) u = nI 0 ∧ upd Wt v 1 u = 1 ∧ upd Qu v (nI v) u = nI u := by
  intro u hu
  by_cases hq : u = v
  · subst hq
    rw [pk_us, pk_us, pk_us]
    exact ⟨rfl, rfl, rfl⟩
  · rw [pk_un hq, pk_un hq, pk_un hq]
    exact h u (by omega)
theorem e_q_nil {n : Nat} {Wt Qu : eFn} {f : Nat} {ql : List Nat} (hn : n ≤ 6) (hf : f < 8) (hq : e_q n Wt Qu f ql) (h : nI f = nI ((f + ql.length) % 8)) : ql = [] := by
  have h1 := (nI_eq (by omega) (by omega)).mp h
  have h2 := e_q_len hq
  cases ql with
  | nil => rfl
  | cons a t =>
    simp only [List.length_cons] at h1 h2
    omega
theorem e_q_cons {f : Nat} {ql : List Nat} (hf : f < 8) (h : ¬ nI f = nI ((f + ql.length) % 8)) : ∃ v r, ql = v :: r := by
  cases ql with
  | nil =>
    exfalso
    apply h
    rw [List.length_nil, Nat.add_zero, Nat.mod_eq_of_lt hf]
  | cons a t => exact ⟨a, t, rfl⟩
theorem e_start_m {n : Nat} (hn : n ≤ 6) : 0 + ((List.range n).length + 6 * e_sum (fun v => e_tp n - (fun _ => 0 : Nat → Nat) v) n) ≤ 1199 := by
  have h1 : e_sum (fun v => e_tp n - (fun _ => 0 : Nat → Nat) v) n ≤ n * e_tp n := e_sum_bd n (fun v _ => Nat.sub_le _ _)
  have h2 : n * e_tp n ≤ 6 * 31 := Nat.mul_le_mul hn (e_tp_le hn)
  rw [List.length_range]
  omega
theorem e_start_w {n c : Nat} {T Hd G O : eFn} {sk : Int32} : ∀ v, v < n → v ∉ List.range n → e_want n c T Hd G (O v) sk (fun _ => 0) v ≤ (fun _ => 0 : Nat → Nat) v := fun v hv h => absurd (List.mem_range.mpr hv) h
theorem e_pop_w {n c : Nat} {T Hd G O : eFn} {sk : Int32} {a : Nat → Nat} {v : Nat} {r : List Nat} (hw : ∀ w, w < n → w ∉ v :: r → e_want n c T Hd G (O w) sk a w ≤ a w) (h : e_want n c T Hd G (O v) sk a v ≤ a v) : ∀ w, w < n → w ∉ r → e_want n c T Hd G (O w) sk a w ≤ a w := by
  intro w hwn hwr
  by_cases e : w = v
  · subst e; exact h
  · exact hw w hwn (fun z => by
      rcases List.mem_cons.mp z with z | z
      · exact e z
      · exact hwr z)
theorem e_up_s {a : Nat → Nat} {v x : Nat} : va_up a v x v = x := by
  unfold va_up
  rw [if_pos rfl]
theorem e_up_n {a : Nat → Nat} {v x w : Nat} (h : w ≠ v) : va_up a v x w = a w := by
  unfold va_up
  rw [if_neg h]
theorem e_raise_N {n : Nat} {N : eFn} {a : Nat → Nat} {v x : Nat} (hN : ∀ v, v < n → N v = nI (a v)) : ∀ w, w < n → upd N v (nI x) w = nI (va_up a v x w) := by
  intro w hw
  by_cases e : w = v
  · subst e; rw [pk_us, e_up_s]
  · rw [pk_un e, e_up_n e]; exact hN w hw
theorem e_raise_al {n c : Nat} {T Hd G O : eFn} {sk : Int32} {a : Nat → Nat} {v : Nat} (hok : e_ok n c T Hd G) (hal : ∀ v, v < n → a v ≤ e_lf n c T Hd G O sk v) (hv : v < n) : ∀ w, w < n → va_up a v (e_want n c T Hd G (O v) sk a v) w ≤ e_lf n c T Hd G O sk w := by
  intro w hw
  by_cases e : w = v
  · subst e; rw [e_up_s]; exact e_lf_raise hok.2.1 hok.hd hal hv
  · rw [e_up_n e]; exact hal w hw
theorem e_raise_w {n c : Nat} {T Hd G O : eFn} {sk : Int32} {a : Nat → Nat} {v : Nat} {r q2 : List Nat} (hok : e_ok n c T Hd G) (hv : v < n) (hw : ∀ w, w < n → w ∉ v :: r → e_want n c T Hd G (O w) sk a w ≤ a w) (hr : ∀ w, w ∈ r → w ∈ q2) (hin : ∀ i, i < c → Hd i = nI v → (T i).toNatClampNeg ∈ q2) : ∀ w, w < n → w ∉ q2 → e_want n c T Hd G (O w) sk (va_up a v (e_want n c T Hd G (O v) sk a v)) w ≤ va_up a v (e_want n c T Hd G (O v) sk a v) w := by
  intro w hwn hwq
  have hn6 := hok.2.1
  have key : e_want n c T Hd G (O w) sk (va_up a v (e_want n c T Hd G (O v) sk a v)) w = e_want n c T Hd G (O w) sk a w := by
    refine e_want_congr (fun e he hT => ?_)
    obtain ⟨y, hy, ey⟩ := hok.2.2.2.2.1 e he
    rw [ey, nI_clamp (by omega)]
    by_cases q : y = v
    · exfalso
      subst q
      have h1 := hin e he ey
      rw [hT, nI_clamp (by omega)] at h1
      exact hwq h1
    · exact e_up_n q
  rw [key]
  by_cases e : w = v
  · subst e
    rw [e_up_s]
    exact Nat.le_refl _
  · rw [e_up_n e]
    exact hw w hwn (fun z => by
      rcases List.mem_cons.mp z with z | z
      · exact e z
      · exact hwq (hr w z))
theorem e_raise_m {n : Nat} {a : Nat → Nat} {v x : Nat} (hv : v < n) (h1 : a v < x) (h2 : x ≤ e_tp n) : e_sum (fun w => e_tp n - va_up a v x w) n < e_sum (fun w => e_tp n - a w) n := by
  refine e_sum_lt n (fun w hw => ?_) ⟨v, hv, ?_⟩
  · by_cases e : w = v
    · subst e; show e_tp n - va_up a w x w ≤ e_tp n - a w; rw [e_up_s]; omega
    · show e_tp n - va_up a v x w ≤ e_tp n - a w; rw [e_up_n e]; exact Nat.le_refl _
  · show e_tp n - va_up a v x v < e_tp n - a v
    rw [e_up_s]
    omega
theorem e_in_s {e v : Nat} {T Hd : eFn} {q2 : List Nat} (h : ∀ i, i < e → Hd i = nI v → (T i).toNatClampNeg ∈ q2) (h1 : Hd e = nI v → (T e).toNatClampNeg ∈ q2) : ∀ i, i < e + 1 → Hd i = nI v → (T i).toNatClampNeg ∈ q2 := by
  intro i hi
  by_cases q : i = e
  · subst q; exact h1
  · exact h i (by omega)
theorem e_safe_y {n : Nat} {L : Nat → Nat} {cr : Int32} {v : Nat} (h : L v < e_tp n ∧ nI (L v) ≤ cr) : e_safe n L cr (v + 1) = e_safe n L cr v ||| ((1 : Int32) <<< (nI v &&& 31)) := by
  simp only [e_safe]
  rw [if_pos h]
theorem e_safe_n {n : Nat} {L : Nat → Nat} {cr : Int32} {v : Nat} (h : ¬ (L v < e_tp n ∧ nI (L v) ≤ cr)) : e_safe n L cr (v + 1) = e_safe n L cr v := by
  simp only [e_safe]
  rw [if_neg h]
theorem e_hop_y {n : Nat} {L : Nat → Nat} {v : Nat} (h : L v = e_tp n) : e_hop n L v + 1 = e_hop n L (v + 1) := by
  simp only [e_hop]
  rw [if_pos h]
theorem e_hop_n {n : Nat} {L : Nat → Nat} {v : Nat} (h : ¬ L v = e_tp n) : e_hop n L v + 0 = e_hop n L (v + 1) := by
  simp only [e_hop]
  rw [if_neg h]
theorem e_gst_y {n : Nat} {L : Nat → Nat} {v : Nat} (h : L v < e_tp n ∧ e_gst n L v < nI (L v)) : e_gst n L (v + 1) = nI (L v) := by
  simp only [e_gst]
  rw [if_pos h]
theorem e_gst_n {n : Nat} {L : Nat → Nat} {v : Nat} (h : ¬ (L v < e_tp n ∧ e_gst n L v < nI (L v))) : e_gst n L (v + 1) = e_gst n L v := by
  simp only [e_gst]
  rw [if_neg h]
theorem e_shr7 {m : Nat} (h : m < 2 ^ 31) : nI m >>> ((7 : Int32) &&& 31) = nI (m / 128) := pk_shrN h _ 7 (by decide)
theorem e_and127 {m : Nat} (h : m < 2 ^ 31) : nI m &&& 127 = nI (m % 128) := pk_andN (k := 7) (by omega) (by decide)
theorem e_chn_pos {n c : Nat} {T Hd G O : eFn} {v : Int32} (hc : c ≤ 14) (h : ¬ s_chn n c T Hd G O v < 0) : ∃ i, i < c ∧ s_chn n c T Hd G O v = nI i := (s_chn_in hc).resolve_left h
theorem e_sto_n {n c : Nat} {T Hd G O : eFn} {v sm : Int32} {k d : Nat} (hk : k < d) (h : s_chn n c T Hd G O v < 0) : e_sto n c T Hd G O (d - k) v sm = sm := by
  rw [show d - k = (d - k - 1) + 1 by omega]
  simp only [e_sto]
  rw [if_pos h]
theorem e_sto_y {n c : Nat} {T Hd G O : eFn} {v sm : Int32} {k d i : Nat} (hk : k < d) (h : s_chn n c T Hd G O v = nI i) (hi : i < 14) : e_sto n c T Hd G O (d - k) v sm = e_sto n c T Hd G O (d - (k + 1)) (Hd i) (sm + G i) := by
  rw [show d - k = (d - (k + 1)) + 1 by omega]
  simp only [e_sto]
  rw [h, if_neg (nI_pos (by omega)), nI_clamp (by omega)]
theorem e_sto_0 {n c : Nat} {T Hd G O : eFn} {v sm : Int32} {d : Nat} : e_sto n c T Hd G O (d - d) v sm = sm := by
  rw [Nat.sub_self]
  rfl
end
section
/-! EnergyGame.solve -/
set_option maxRecDepth 100000
abbrev rX1_solve : Room := { frames := 2, cells := 0, slots := 0, locals := 48 }
set_option maxHeartbeats 4000000 in
set_option maxRecDepth 100000 in
theorem metX1_solve (l : Launch) (dC : Nat → ClassId) (dI : Nat → Nat → Nat) (ad : Nat → Nat) (cI cZ : ClassId) (n c : Nat) (T Hd G O N Wt Qu : eFn) (sk cu : Int32) (hok : e_ok n c T Hd G) (sz : Nat) : Met l yX1_solve (ws_ yX1_solve cX1_solve 7 none) rX1_solve (va_Pc [.ref (ad 0)] (e_PW (dC, dI) vwCl [(cI, .int), (cZ, .boolean)] (wG ad cI cZ n c T Hd G O N Wt Qu sk cu) sz)) (va_Qv (fun (u : eFn × eFn × eFn) => ∀ v, v < n → u.1 v = nI (e_lf n c T Hd G O sk v)) (e_B (dC, dI) vwCl [(cI, .int), (cZ, .boolean)] (fun u => wG ad cI cZ n c T Hd G O u.1 u.2.1 u.2.2 sk cu) (va_A (wG ad cI cZ n c T Hd G O N Wt Qu sk cu) sz)) (va_A (wG ad cI cZ n c T Hd G O N Wt Qu sk cu) sz)) 0 0 (va_A (wG ad cI cZ n c T Hd G O N Wt Qu sk cu) sz) := by
  refine e_startWv (by decide) (Nat.le_of_ble_eq_true rfl) ?_
  intro pg ev st mi ar bl mt cd H A QQ hx hb hml hown hts hA hK hP hD hS hret ls hl
  have hown : st.vm.findClass RX1 = some mi.cls := hown
  have hP : va_P (dC, dI) vwCl [(ad 0, .inr (0, [.ref (ad 1), .ref (ad 2), .ref (ad 3), .ref (ad 4), .ref (ad 5), .ref (ad 6), .ref (ad 7), .int (nI n), .int (nI c), .int (nI (e_tp n)), .int sk, .int cu])), (ad 1, .inl (cI, 14, .inl T)), (ad 2, .inl (cI, 14, .inl Hd)), (ad 3, .inl (cI, 14, .inl G)), (ad 4, .inl (cI, 6, .inl O)), (ad 5, .inl (cI, 6, .inl N)), (ad 6, .inl (cZ, 6, .inl Wt)), (ad 7, .inl (cI, 8, .inl Qu))] H := hP
  have hD : va_D A [(ad 0, .inr (0, [.ref (ad 1), .ref (ad 2), .ref (ad 3), .ref (ad 4), .ref (ad 5), .ref (ad 6), .ref (ad 7), .int (nI n), .int (nI c), .int (nI (e_tp n)), .int sk, .int cu])), (ad 1, .inl (cI, 14, .inl T)), (ad 2, .inl (cI, 14, .inl Hd)), (ad 3, .inl (cI, 14, .inl G)), (ad 4, .inl (cI, 6, .inl O)), (ad 5, .inl (cI, 6, .inl N)), (ad 6, .inl (cZ, 6, .inl Wt)), (ad 7, .inl (cI, 8, .inl Qu))] := hD
  generalize hlocs : ([] : List Loc) = locs at hS ⊢
  have hl : lv_has ls 7 [(0, .ref (ad 0))] := hl
  have hn2 := hok.1
  have hn6 := hok.2.1
  have hc14 := hok.2.2.1
  have ht31 := e_tp_le hn6
  refine lv_iconst (v := nI 0) hx hb dX1_solve_0 (by decide) ?_
  refine lv_istore_n (lv' := [(1, .int (nI 0)), (0, .ref (ad 0))]) hx hb dX1_solve_1 rfl hl (by decide) rfl (fun ls hl => ?_)
  refine lv_iconst (v := nI 0) hx hb dX1_solve_2 (by decide) ?_
  refine lv_istore_n (lv' := [(2, .int (nI 0)), (1, .int (nI 0)), (0, .ref (ad 0))]) hx hb dX1_solve_3 rfl hl (by decide) rfl (fun ls hl => ?_)
  refine lv_iconst (v := nI 0) hx hb dX1_solve_4 (by decide) ?_
  refine lv_istore_n (lv' := [(3, .int (nI 0)), (2, .int (nI 0)), (1, .int (nI 0)), (0, .ref (ad 0))]) hx hb dX1_solve_5 rfl hl (by decide) rfl (fun ls hl => ?_)
  have lp_6 : ∀ (k_6 : Nat) (v : Nat) (N : eFn) (Wt : eFn) (Qu : eFn), (v ≤ n) → (n < v + k_6) → (∀ u, u < v → N u = nI 0 ∧ Wt u = 1 ∧ Qu u = nI u) → ∀ (H : Heap) (locs : List Loc), va_P (dC, dI) vwCl [(ad 0, .inr (0, [.ref (ad 1), .ref (ad 2), .ref (ad 3), .ref (ad 4), .ref (ad 5), .ref (ad 6), .ref (ad 7), .int (nI n), .int (nI c), .int (nI (e_tp n)), .int sk, .int cu])), (ad 1, .inl (cI, 14, .inl T)), (ad 2, .inl (cI, 14, .inl Hd)), (ad 3, .inl (cI, 14, .inl G)), (ad 4, .inl (cI, 6, .inl O)), (ad 5, .inl (cI, 6, .inl N)), (ad 6, .inl (cZ, 6, .inl Wt)), (ad 7, .inl (cI, 8, .inl Qu))] H → va_D A [(ad 0, .inr (0, [.ref (ad 1), .ref (ad 2), .ref (ad 3), .ref (ad 4), .ref (ad 5), .ref (ad 6), .ref (ad 7), .int (nI n), .int (nI c), .int (nI (e_tp n)), .int sk, .int cu])), (ad 1, .inl (cI, 14, .inl T)), (ad 2, .inl (cI, 14, .inl Hd)), (ad 3, .inl (cI, 14, .inl G)), (ad 4, .inl (cI, 6, .inl O)), (ad 5, .inl (cI, 6, .inl N)), (ad 6, .inl (cZ, 6, .inl Wt)), (ad 7, .inl (cI, 8, .inl Qu))] → va_S A st.heap H locs → ∀ ls : Array Slot, lv_has ls 7 [(0, .ref (ad 0)), (1, .int (nI 0)), (2, .int (nI v)), (3, .int (nI v))] → W pg l ev rX1_solve st mi ar bl mt cd H locs 0 0 QQ (F0 mi 6 ls []) := by
    intro k_6
    induction k_6 with
    | zero =>
      intro v N Wt Qu hv hk hi
      exfalso; omega
    | succ k_6 ih_6 =>
      intro v N Wt Qu hv hk hi H locs hP hD hS ls hl
      refine lv_iload_n hx hb dX1_solve_6 rfl (lv_at hl 3 rfl) ?_
      refine lv_aload_n hx hb dX1_solve_7 rfl (lv_at hl 0 rfl) ?_
      refine va_get (D := (dC, dI)) (ci := 0) (v := .int (nI n)) (C := RX1) (T := TX1) (N := 12) hx hb hts in_X1 hown hK hP 0 rfl rfl 7 (by decide) (hts _ q36) (fun _ h9 => h9) rfl dX1_solve_8 ?_
      refine e_ge (tgt := 44) hx hb (by omega) (by omega) dX1_solve_11 (by decide) (fun c_11 => ?_) (fun c_11 => ?_)
      · have heq : n = v := by omega
        subst heq
        rw [show nI n = nI ((0 + (List.range n).length) % 8) by rw [List.length_range, Nat.zero_add, Nat.mod_eq_of_lt (by omega)]] at hl
        refine lv_iconst (v := nI 0) hx hb dX1_solve_44 (by decide) ?_
        refine lv_istore_n (lv' := [(3, .int (nI 0)), (0, .ref (ad 0)), (1, .int (nI 0)), (2, .int (nI ((0 + (List.range n).length) % 8)))]) hx hb dX1_solve_45 rfl hl (by decide) rfl (fun ls hl => ?_)
        have lp_46 : ∀ (k_46 : Nat) (k : Nat) (f : Nat) (ql : List Nat) (a : Nat → Nat) (N : eFn) (Wt : eFn) (Qu : eFn), (f < 8) → (e_q n Wt Qu f ql) → (∀ v, v < n → N v = nI (a v)) → (∀ v, v < n → a v ≤ e_lf n c T Hd G O sk v) → (∀ v, v < n → v ∉ ql → e_want n c T Hd G (O v) sk a v ≤ a v) → (k + (ql.length + 6 * e_sum (fun v => e_tp n - a v) n) ≤ 1199) → ((ql.length + 6 * e_sum (fun v => e_tp n - a v) n) < k_46) → ∀ (H : Heap) (locs : List Loc), va_P (dC, dI) vwCl [(ad 0, .inr (0, [.ref (ad 1), .ref (ad 2), .ref (ad 3), .ref (ad 4), .ref (ad 5), .ref (ad 6), .ref (ad 7), .int (nI n), .int (nI c), .int (nI (e_tp n)), .int sk, .int cu])), (ad 1, .inl (cI, 14, .inl T)), (ad 2, .inl (cI, 14, .inl Hd)), (ad 3, .inl (cI, 14, .inl G)), (ad 4, .inl (cI, 6, .inl O)), (ad 5, .inl (cI, 6, .inl N)), (ad 6, .inl (cZ, 6, .inl Wt)), (ad 7, .inl (cI, 8, .inl Qu))] H → va_D A [(ad 0, .inr (0, [.ref (ad 1), .ref (ad 2), .ref (ad 3), .ref (ad 4), .ref (ad 5), .ref (ad 6), .ref (ad 7), .int (nI n), .int (nI c), .int (nI (e_tp n)), .int sk, .int cu])), (ad 1, .inl (cI, 14, .inl T)), (ad 2, .inl (cI, 14, .inl Hd)), (ad 3, .inl (cI, 14, .inl G)), (ad 4, .inl (cI, 6, .inl O)), (ad 5, .inl (cI, 6, .inl N)), (ad 6, .inl (cZ, 6, .inl Wt)), (ad 7, .inl (cI, 8, .inl Qu))] → va_S A st.heap H locs → ∀ ls : Array Slot, lv_has ls 7 [(0, .ref (ad 0)), (1, .int (nI f)), (2, .int (nI ((f + ql.length) % 8))), (3, .int (nI k))] → W pg l ev rX1_solve st mi ar bl mt cd H locs 0 0 QQ (F0 mi 46 ls []) := by
          intro k_46
          induction k_46 with
          | zero =>
            intro k f ql a N Wt Qu hf hq hN hal hw hm hk
            exfalso; omega
          | succ k_46 ih_46 =>
            intro k f ql a N Wt Qu hf hq hN hal hw hm hk H locs hP hD hS ls hl
            refine lv_iload_n hx hb dX1_solve_46 rfl (lv_at hl 3 rfl) ?_
            refine lv_sipush (v := nI 1200) hx hb dX1_solve_47 (by decide) ?_
            refine e_ge (tgt := 200) hx hb (by omega) (by omega) dX1_solve_50 (by decide) (fun c_50 => absurd c_50 (by omega)) (fun c_50 => ?_)
            refine lv_iload_n hx hb dX1_solve_53 rfl (lv_at hl 1 rfl) ?_
            refine lv_iload_n hx hb dX1_solve_54 rfl (lv_at hl 2 rfl) ?_
            refine lv_icmp_eq (tgt := 200) hx hb dX1_solve_55 (by decide) (fun c_55 => ?_) (fun c_55 => ?_)
            · have hql : ql = [] := e_q_nil hn6 hf hq c_55
              subst hql
              exact hret (N, Wt, Qu) dX1_solve_200 (fun v hv => (hN v hv).trans (congrArg nI (e_lf_done hok.hd hal (fun w hw2 => hw w hw2 List.not_mem_nil) v hv))) hP hD hS
            · obtain ⟨v, r, rfl⟩ := e_q_cons hf c_55
              obtain ⟨hq2, hQv, hv, hvr⟩ := e_q_pop hq
              rw [show (f + (v :: r).length) % 8 = ((f + 1) % 8 + r.length) % 8 by simp only [List.length_cons]; omega] at hl
              simp only [List.length_cons] at hm hk
              have hav : a v ≤ e_tp n := Nat.le_trans (hal v hv) e_lf_le
              have hwl := e_want_le (n := n) (c := c) (T := T) (Hd := Hd) (G := G) (p := O v) (sk := sk) (a := a) (v := v)
              refine lv_aload_n hx hb dX1_solve_58 rfl (lv_at hl 0 rfl) ?_
              refine va_get (D := (dC, dI)) (ci := 0) (v := .ref (ad 7)) (C := RX1) (T := TX1) (N := 12) hx hb hts in_X1 hown hK hP 0 rfl rfl 6 (by decide) (hts _ q35) (fun _ h9 => h9) rfl dX1_solve_59 ?_
              refine lv_iload_n hx hb dX1_solve_62 rfl (lv_at hl 1 rfl) ?_
              refine lv_bipush (v := 7) hx hb dX1_solve_63 (by decide) ?_
              refine lv_iand hx hb dX1_solve_65 ?_
              refine e_top (nI (f % 8)) (e_and7 (by omega)) ?_
              refine e_ild (v := nI v) hx hb hK hP 7 0 rfl rfl (f % 8) rfl (by omega) (by decide) hQv dX1_solve_66 ?_
              refine lv_istore (lv' := [(4, .int (nI v)), (0, .ref (ad 0)), (1, .int (nI f)), (2, .int (nI (((f + 1) % 8 + r.length) % 8))), (3, .int (nI k))]) hx hb dX1_solve_67 hl (by decide) rfl (fun ls hl => ?_)
              refine lv_iload_n hx hb dX1_solve_69 rfl (lv_at hl 2 rfl) ?_
              refine lv_iconst (v := 1) hx hb dX1_solve_70 (by decide) ?_
              refine lv_iadd hx hb dX1_solve_71 ?_
              refine e_top (nI (f + 1)) (nI_1 f) ?_
              refine lv_bipush (v := 7) hx hb dX1_solve_72 (by decide) ?_
              refine lv_iand hx hb dX1_solve_74 ?_
              refine e_top (nI ((f + 1) % 8)) (e_and7 (by omega)) ?_
              refine lv_istore_n (lv' := [(1, .int (nI ((f + 1) % 8))), (4, .int (nI v)), (0, .ref (ad 0)), (2, .int (nI (((f + 1) % 8 + r.length) % 8))), (3, .int (nI k))]) hx hb dX1_solve_75 rfl hl (by decide) rfl (fun ls hl => ?_)
              refine lv_aload_n hx hb dX1_solve_76 rfl (lv_at hl 2 rfl) ?_
              refine va_get (D := (dC, dI)) (ci := 0) (v := .ref (ad 6)) (C := RX1) (T := TX1) (N := 12) hx hb hts in_X1 hown hK hP 0 rfl rfl 5 (by decide) (hts _ q34) (fun _ h9 => h9) rfl dX1_solve_77 ?_
              refine lv_iload hx hb dX1_solve_80 (lv_at hl 1 rfl) ?_
              refine lv_iconst (v := 0) hx hb dX1_solve_82 (by decide) ?_
              refine e_zst (f2 := upd Wt v 0) hx hb hK hP hD hS 6 1 rfl rfl v rfl (by omega) (by decide) rfl rfl dX1_solve_83 (fun H locs hP hD hS => ?_)
              have hP : va_P (dC, dI) vwCl [(ad 0, .inr (0, [.ref (ad 1), .ref (ad 2), .ref (ad 3), .ref (ad 4), .ref (ad 5), .ref (ad 6), .ref (ad 7), .int (nI n), .int (nI c), .int (nI (e_tp n)), .int sk, .int cu])), (ad 1, .inl (cI, 14, .inl T)), (ad 2, .inl (cI, 14, .inl Hd)), (ad 3, .inl (cI, 14, .inl G)), (ad 4, .inl (cI, 6, .inl O)), (ad 5, .inl (cI, 6, .inl N)), (ad 6, .inl (cZ, 6, .inl (upd Wt v 0))), (ad 7, .inl (cI, 8, .inl Qu))] H := hP
              have hD : va_D A [(ad 0, .inr (0, [.ref (ad 1), .ref (ad 2), .ref (ad 3), .ref (ad 4), .ref (ad 5), .ref (ad 6), .ref (ad 7), .int (nI n), .int (nI c), .int (nI (e_tp n)), .int sk, .int cu])), (ad 1, .inl (cI, 14, .inl T)), (ad 2, .inl (cI, 14, .inl Hd)), (ad 3, .inl (cI, 14, .inl G)), (ad 4, .inl (cI, 6, .inl O)), (ad 5, .inl (cI, 6, .inl N)), (ad 6, .inl (cZ, 6, .inl (upd Wt v 0))), (ad 7, .inl (cI, 8, .inl Qu))] := hD
              refine lv_aload_n hx hb dX1_solve_84 rfl (lv_at hl 2 rfl) ?_
              refine lv_iload hx hb dX1_solve_85 (lv_at hl 1 rfl) ?_
              refine e_callR (q0 := 0) (ci := 0) (rest := []) ⟨hx, hb, hml, hown, hts⟩ (metX1_wantedAt l dC dI ad cI cZ n c T Hd G O N (upd Wt v 0) Qu sk cu hok a hN (fun w hw2 => Nat.le_trans (hal w hw2) e_lf_le) v hv) (cwV 1 hts (lw_V q116 q118 qs5 q19 q119) rfl rfl rfl (by decide +kernel) ⟨Nat.le_of_ble_eq_true rfl, Nat.le_of_ble_eq_true rfl⟩) hK hP rfl rfl rfl rfl hl.1 rfl (Nat.le_of_ble_eq_true rfl) dX1_solve_87 ⟨Nat.zero_le _, Nat.zero_le _⟩ (fun r_87 hr_87 => ?_)
              subst hr_87
              refine lv_istore (lv' := [(5, .int (nI (e_want n c T Hd G (O v) sk a v))), (1, .int (nI ((f + 1) % 8))), (4, .int (nI v)), (0, .ref (ad 0)), (2, .int (nI (((f + 1) % 8 + r.length) % 8))), (3, .int (nI k))]) hx hb dX1_solve_90 hl (by decide) rfl (fun ls hl => ?_)
              refine lv_iload hx hb dX1_solve_92 (lv_at hl 0 rfl) ?_
              refine lv_aload_n hx hb dX1_solve_94 rfl (lv_at hl 3 rfl) ?_
              refine va_get (D := (dC, dI)) (ci := 0) (v := .ref (ad 5)) (C := RX1) (T := TX1) (N := 12) hx hb hts in_X1 hown hK hP 0 rfl rfl 4 (by decide) (hts _ q33) (fun _ h9 => h9) rfl dX1_solve_95 ?_
              refine lv_iload hx hb dX1_solve_98 (lv_at hl 2 rfl) ?_
              refine e_ild (v := nI (a v)) hx hb hK hP 5 0 rfl rfl v rfl (by omega) (by decide) (hN v hv) dX1_solve_100 ?_
              refine lv_icmp_le (tgt := 194) hx hb dX1_solve_101 (by decide) (fun c_101 => ?_) (fun c_101 => ?_)
              · have d_101 : e_want n c T Hd G (O v) sk a v ≤ a v := (nI_leI (by omega) (by omega)).mp c_101
                refine lv_iinc (v := nI (k + 1)) (lv' := [(3, .int (nI (k + 1))), (5, .int (nI (e_want n c T Hd G (O v) sk a v))), (1, .int (nI ((f + 1) % 8))), (4, .int (nI v)), (0, .ref (ad 0)), (2, .int (nI (((f + 1) % 8 + r.length) % 8)))]) hx hb dX1_solve_194 hl (k := 5) rfl (e_inc _) (by decide) rfl (fun ls hl => ?_)
                refine lv_goto (tgt := 46) hx hb dX1_solve_197 (by decide) ?_
                exact ih_46 (k + 1) ((f + 1) % 8) r a N (upd Wt v 0) Qu (by omega) hq2 hN hal (e_pop_w hw d_101) (by omega) (by omega) _ _ hP hD hS ls (lv_sub hl [4, 2, 5, 0] rfl)
              · have d_101 : a v < e_want n c T Hd G (O v) sk a v := Nat.not_le.mp fun z => c_101 (nI_le z (by omega))
                refine lv_aload_n hx hb dX1_solve_104 rfl (lv_at hl 3 rfl) ?_
                refine va_get (D := (dC, dI)) (ci := 0) (v := .ref (ad 5)) (C := RX1) (T := TX1) (N := 12) hx hb hts in_X1 hown hK hP 0 rfl rfl 4 (by decide) (hts _ q33) (fun _ h9 => h9) rfl dX1_solve_105 ?_
                refine lv_iload hx hb dX1_solve_108 (lv_at hl 2 rfl) ?_
                refine lv_iload hx hb dX1_solve_110 (lv_at hl 0 rfl) ?_
                refine e_ist (f2 := upd N v (nI (e_want n c T Hd G (O v) sk a v))) hx hb hK hP hD hS 5 0 rfl rfl v rfl (by omega) (by decide) rfl dX1_solve_112 (fun H locs hP hD hS => ?_)
                have hP : va_P (dC, dI) vwCl [(ad 0, .inr (0, [.ref (ad 1), .ref (ad 2), .ref (ad 3), .ref (ad 4), .ref (ad 5), .ref (ad 6), .ref (ad 7), .int (nI n), .int (nI c), .int (nI (e_tp n)), .int sk, .int cu])), (ad 1, .inl (cI, 14, .inl T)), (ad 2, .inl (cI, 14, .inl Hd)), (ad 3, .inl (cI, 14, .inl G)), (ad 4, .inl (cI, 6, .inl O)), (ad 5, .inl (cI, 6, .inl (upd N v (nI (e_want n c T Hd G (O v) sk a v))))), (ad 6, .inl (cZ, 6, .inl (upd Wt v 0))), (ad 7, .inl (cI, 8, .inl Qu))] H := hP
                have hD : va_D A [(ad 0, .inr (0, [.ref (ad 1), .ref (ad 2), .ref (ad 3), .ref (ad 4), .ref (ad 5), .ref (ad 6), .ref (ad 7), .int (nI n), .int (nI c), .int (nI (e_tp n)), .int sk, .int cu])), (ad 1, .inl (cI, 14, .inl T)), (ad 2, .inl (cI, 14, .inl Hd)), (ad 3, .inl (cI, 14, .inl G)), (ad 4, .inl (cI, 6, .inl O)), (ad 5, .inl (cI, 6, .inl (upd N v (nI (e_want n c T Hd G (O v) sk a v))))), (ad 6, .inl (cZ, 6, .inl (upd Wt v 0))), (ad 7, .inl (cI, 8, .inl Qu))] := hD
                refine lv_iconst (v := nI 0) hx hb dX1_solve_113 (by decide) ?_
                refine lv_istore (lv' := [(6, .int (nI 0)), (5, .int (nI (e_want n c T Hd G (O v) sk a v))), (1, .int (nI ((f + 1) % 8))), (4, .int (nI v)), (0, .ref (ad 0)), (2, .int (nI (((f + 1) % 8 + r.length) % 8))), (3, .int (nI k))]) hx hb dX1_solve_114 hl (by decide) rfl (fun ls hl => ?_)
                have lp_116 : ∀ (k_116 : Nat) (e : Nat) (q2 : List Nat) (Wt : eFn) (Qu : eFn), (e ≤ c) → (c < e + k_116) → (e_q n Wt Qu ((f + 1) % 8) q2) → (∀ w, w ∈ r → w ∈ q2) → (∀ i, i < e → Hd i = nI v → (T i).toNatClampNeg ∈ q2) → ∀ (H : Heap) (locs : List Loc), va_P (dC, dI) vwCl [(ad 0, .inr (0, [.ref (ad 1), .ref (ad 2), .ref (ad 3), .ref (ad 4), .ref (ad 5), .ref (ad 6), .ref (ad 7), .int (nI n), .int (nI c), .int (nI (e_tp n)), .int sk, .int cu])), (ad 1, .inl (cI, 14, .inl T)), (ad 2, .inl (cI, 14, .inl Hd)), (ad 3, .inl (cI, 14, .inl G)), (ad 4, .inl (cI, 6, .inl O)), (ad 5, .inl (cI, 6, .inl (upd N v (nI (e_want n c T Hd G (O v) sk a v))))), (ad 6, .inl (cZ, 6, .inl Wt)), (ad 7, .inl (cI, 8, .inl Qu))] H → va_D A [(ad 0, .inr (0, [.ref (ad 1), .ref (ad 2), .ref (ad 3), .ref (ad 4), .ref (ad 5), .ref (ad 6), .ref (ad 7), .int (nI n), .int (nI c), .int (nI (e_tp n)), .int sk, .int cu])), (ad 1, .inl (cI, 14, .inl T)), (ad 2, .inl (cI, 14, .inl Hd)), (ad 3, .inl (cI, 14, .inl G)), (ad 4, .inl (cI, 6, .inl O)), (ad 5, .inl (cI, 6, .inl (upd N v (nI (e_want n c T Hd G (O v) sk a v))))), (ad 6, .inl (cZ, 6, .inl Wt)), (ad 7, .inl (cI, 8, .inl Qu))] → va_S A st.heap H locs → ∀ ls : Array Slot, lv_has ls 7 [(0, .ref (ad 0)), (1, .int (nI ((f + 1) % 8))), (2, .int (nI (((f + 1) % 8 + q2.length) % 8))), (3, .int (nI k)), (4, .int (nI v)), (6, .int (nI e))] → W pg l ev rX1_solve st mi ar bl mt cd H locs 0 0 QQ (F0 mi 116 ls []) := by
                  intro k_116
                  induction k_116 with
                  | zero =>
                    intro e q2 Wt Qu he hke hq hr hin
                    exfalso; omega
                  | succ k_116 ih_116 =>
                    intro e q2 Wt Qu he hke hq hr hin H locs hP hD hS ls hl
                    refine lv_iload hx hb dX1_solve_116 (lv_at hl 5 rfl) ?_
                    refine lv_aload_n hx hb dX1_solve_118 rfl (lv_at hl 0 rfl) ?_
                    refine va_get (D := (dC, dI)) (ci := 0) (v := .int (nI c)) (C := RX1) (T := TX1) (N := 12) hx hb hts in_X1 hown hK hP 0 rfl rfl 8 (by decide) (hts _ q37) (fun _ h9 => h9) rfl dX1_solve_119 ?_
                    refine e_ge (tgt := 194) hx hb (by omega) (by omega) dX1_solve_122 (by decide) (fun c_122 => ?_) (fun c_122 => ?_)
                    · have hlq := e_q_len hq
                      have hms := e_raise_m hv d_101 hwl
                      refine lv_iinc (v := nI (k + 1)) (lv' := [(3, .int (nI (k + 1))), (0, .ref (ad 0)), (1, .int (nI ((f + 1) % 8))), (2, .int (nI (((f + 1) % 8 + q2.length) % 8))), (4, .int (nI v)), (6, .int (nI e))]) hx hb dX1_solve_194 hl (k := 3) rfl (e_inc _) (by decide) rfl (fun ls hl => ?_)
                      refine lv_goto (tgt := 46) hx hb dX1_solve_197 (by decide) ?_
                      exact ih_46 (k + 1) ((f + 1) % 8) q2 (va_up a v (e_want n c T Hd G (O v) sk a v)) (upd N v (nI (e_want n c T Hd G (O v) sk a v))) Wt Qu (by omega) hq (e_raise_N hN) (e_raise_al hok hal hv) (e_raise_w hok hv hw hr (fun i hi => hin i (by omega))) (by omega) (by omega) _ _ hP hD hS ls (lv_sub hl [1, 2, 3, 0] rfl)
                    · obtain ⟨u, hu, eu⟩ := hok.2.2.2.1 e (by omega)
                      refine lv_aload_n hx hb dX1_solve_125 rfl (lv_at hl 0 rfl) ?_
                      refine va_get (D := (dC, dI)) (ci := 0) (v := .ref (ad 2)) (C := RX1) (T := TX1) (N := 12) hx hb hts in_X1 hown hK hP 0 rfl rfl 1 (by decide) (hts _ q30) (fun _ h9 => h9) rfl dX1_solve_126 ?_
                      refine lv_iload hx hb dX1_solve_129 (lv_at hl 5 rfl) ?_
                      refine e_ild (v := Hd e) hx hb hK hP 2 0 rfl rfl e rfl (by omega) (by decide) rfl dX1_solve_131 ?_
                      refine lv_iload hx hb dX1_solve_132 (lv_at hl 4 rfl) ?_
                      refine lv_icmp_ne (tgt := 188) hx hb dX1_solve_134 (by decide) (fun c_134 => ?_) (fun c_134 => ?_)
                      · refine lv_iinc (v := nI (e + 1)) (lv' := [(6, .int (nI (e + 1))), (0, .ref (ad 0)), (1, .int (nI ((f + 1) % 8))), (2, .int (nI (((f + 1) % 8 + q2.length) % 8))), (3, .int (nI k)), (4, .int (nI v))]) hx hb dX1_solve_188 hl (k := 5) rfl (e_inc _) (by decide) rfl (fun ls hl => ?_)
                        refine lv_goto (tgt := 116) hx hb dX1_solve_191 (by decide) ?_
                        exact ih_116 (e + 1) q2 Wt Qu (by omega) (by omega) hq hr (e_in_s hin (fun z => absurd z c_134)) _ _ hP hD hS ls (lv_sub hl [1, 2, 3, 4, 5, 0] rfl)
                      · refine lv_aload_n hx hb dX1_solve_137 rfl (lv_at hl 0 rfl) ?_
                        refine va_get (D := (dC, dI)) (ci := 0) (v := .ref (ad 6)) (C := RX1) (T := TX1) (N := 12) hx hb hts in_X1 hown hK hP 0 rfl rfl 5 (by decide) (hts _ q34) (fun _ h9 => h9) rfl dX1_solve_138 ?_
                        refine lv_aload_n hx hb dX1_solve_141 rfl (lv_at hl 0 rfl) ?_
                        refine va_get (D := (dC, dI)) (ci := 0) (v := .ref (ad 1)) (C := RX1) (T := TX1) (N := 12) hx hb hts in_X1 hown hK hP 0 rfl rfl 0 (by decide) (hts _ q29) (fun _ h9 => h9) rfl dX1_solve_142 ?_
                        refine lv_iload hx hb dX1_solve_145 (lv_at hl 5 rfl) ?_
                        refine e_ild (v := nI u) hx hb hK hP 1 0 rfl rfl e rfl (by omega) (by decide) eu dX1_solve_147 ?_
                        refine e_zld (v := Wt u) hx hb hK hP 6 1 rfl rfl u rfl (by omega) (by decide) rfl dX1_solve_148 ?_
                        refine lv_if_ne (tgt := 188) hx hb dX1_solve_149 (by decide) (fun c_149 => ?_) (fun c_149 => ?_)
                        · refine lv_iinc (v := nI (e + 1)) (lv' := [(6, .int (nI (e + 1))), (0, .ref (ad 0)), (1, .int (nI ((f + 1) % 8))), (2, .int (nI (((f + 1) % 8 + q2.length) % 8))), (3, .int (nI k)), (4, .int (nI v))]) hx hb dX1_solve_188 hl (k := 5) rfl (e_inc _) (by decide) rfl (fun ls hl => ?_)
                          refine lv_goto (tgt := 116) hx hb dX1_solve_191 (by decide) ?_
                          exact ih_116 (e + 1) q2 Wt Qu (by omega) (by omega) hq hr (e_in_s hin (fun _ => by rw [eu, nI_clamp (by omega)]; exact e_q_in hq hu c_149)) _ _ hP hD hS ls (lv_sub hl [1, 2, 3, 4, 5, 0] rfl)
                        · refine lv_aload_n hx hb dX1_solve_152 rfl (lv_at hl 0 rfl) ?_
                          refine va_get (D := (dC, dI)) (ci := 0) (v := .ref (ad 6)) (C := RX1) (T := TX1) (N := 12) hx hb hts in_X1 hown hK hP 0 rfl rfl 5 (by decide) (hts _ q34) (fun _ h9 => h9) rfl dX1_solve_153 ?_
                          refine lv_aload_n hx hb dX1_solve_156 rfl (lv_at hl 0 rfl) ?_
                          refine va_get (D := (dC, dI)) (ci := 0) (v := .ref (ad 1)) (C := RX1) (T := TX1) (N := 12) hx hb hts in_X1 hown hK hP 0 rfl rfl 0 (by decide) (hts _ q29) (fun _ h9 => h9) rfl dX1_solve_157 ?_
                          refine lv_iload hx hb dX1_solve_160 (lv_at hl 5 rfl) ?_
                          refine e_ild (v := nI u) hx hb hK hP 1 0 rfl rfl e rfl (by omega) (by decide) eu dX1_solve_162 ?_
                          refine lv_iconst (v := 1) hx hb dX1_solve_163 (by decide) ?_
                          refine e_zst (f2 := upd Wt u 1) hx hb hK hP hD hS 6 1 rfl rfl u rfl (by omega) (by decide) rfl rfl dX1_solve_164 (fun H locs hP hD hS => ?_)
                          have hP : va_P (dC, dI) vwCl [(ad 0, .inr (0, [.ref (ad 1), .ref (ad 2), .ref (ad 3), .ref (ad 4), .ref (ad 5), .ref (ad 6), .ref (ad 7), .int (nI n), .int (nI c), .int (nI (e_tp n)), .int sk, .int cu])), (ad 1, .inl (cI, 14, .inl T)), (ad 2, .inl (cI, 14, .inl Hd)), (ad 3, .inl (cI, 14, .inl G)), (ad 4, .inl (cI, 6, .inl O)), (ad 5, .inl (cI, 6, .inl (upd N v (nI (e_want n c T Hd G (O v) sk a v))))), (ad 6, .inl (cZ, 6, .inl (upd Wt u 1))), (ad 7, .inl (cI, 8, .inl Qu))] H := hP
                          have hD : va_D A [(ad 0, .inr (0, [.ref (ad 1), .ref (ad 2), .ref (ad 3), .ref (ad 4), .ref (ad 5), .ref (ad 6), .ref (ad 7), .int (nI n), .int (nI c), .int (nI (e_tp n)), .int sk, .int cu])), (ad 1, .inl (cI, 14, .inl T)), (ad 2, .inl (cI, 14, .inl Hd)), (ad 3, .inl (cI, 14, .inl G)), (ad 4, .inl (cI, 6, .inl O)), (ad 5, .inl (cI, 6, .inl (upd N v (nI (e_want n c T Hd G (O v) sk a v))))), (ad 6, .inl (cZ, 6, .inl (upd Wt u 1))), (ad 7, .inl (cI, 8, .inl Qu))] := hD
                          refine lv_aload_n hx hb dX1_solve_165 rfl (lv_at hl 0 rfl) ?_
                          refine va_get (D := (dC, dI)) (ci := 0) (v := .ref (ad 7)) (C := RX1) (T := TX1) (N := 12) hx hb hts in_X1 hown hK hP 0 rfl rfl 6 (by decide) (hts _ q35) (fun _ h9 => h9) rfl dX1_solve_166 ?_
                          refine lv_iload_n hx hb dX1_solve_169 rfl (lv_at hl 2 rfl) ?_
                          refine lv_bipush (v := 7) hx hb dX1_solve_170 (by decide) ?_
                          refine lv_iand hx hb dX1_solve_172 ?_
                          refine e_top (nI (((f + 1) % 8 + q2.length) % 8)) (e_and7i (by omega)) ?_
                          refine lv_aload_n hx hb dX1_solve_173 rfl (lv_at hl 0 rfl) ?_
                          refine va_get (D := (dC, dI)) (ci := 0) (v := .ref (ad 1)) (C := RX1) (T := TX1) (N := 12) hx hb hts in_X1 hown hK hP 0 rfl rfl 0 (by decide) (hts _ q29) (fun _ h9 => h9) rfl dX1_solve_174 ?_
                          refine lv_iload hx hb dX1_solve_177 (lv_at hl 5 rfl) ?_
                          refine e_ild (v := nI u) hx hb hK hP 1 0 rfl rfl e rfl (by omega) (by decide) eu dX1_solve_179 ?_
                          refine e_ist (f2 := upd Qu (((f + 1) % 8 + q2.length) % 8) (nI u)) hx hb hK hP hD hS 7 0 rfl rfl (((f + 1) % 8 + q2.length) % 8) rfl (by omega) (by decide) rfl dX1_solve_180 (fun H locs hP hD hS => ?_)
                          have hP : va_P (dC, dI) vwCl [(ad 0, .inr (0, [.ref (ad 1), .ref (ad 2), .ref (ad 3), .ref (ad 4), .ref (ad 5), .ref (ad 6), .ref (ad 7), .int (nI n), .int (nI c), .int (nI (e_tp n)), .int sk, .int cu])), (ad 1, .inl (cI, 14, .inl T)), (ad 2, .inl (cI, 14, .inl Hd)), (ad 3, .inl (cI, 14, .inl G)), (ad 4, .inl (cI, 6, .inl O)), (ad 5, .inl (cI, 6, .inl (upd N v (nI (e_want n c T Hd G (O v) sk a v))))), (ad 6, .inl (cZ, 6, .inl (upd Wt u 1))), (ad 7, .inl (cI, 8, .inl (upd Qu (((f + 1) % 8 + q2.length) % 8) (nI u))))] H := hP
                          have hD : va_D A [(ad 0, .inr (0, [.ref (ad 1), .ref (ad 2), .ref (ad 3), .ref (ad 4), .ref (ad 5), .ref (ad 6), .ref (ad 7), .int (nI n), .int (nI c), .int (nI (e_tp n)), .int sk, .int cu])), (ad 1, .inl (cI, 14, .inl T)), (ad 2, .inl (cI, 14, .inl Hd)), (ad 3, .inl (cI, 14, .inl G)), (ad 4, .inl (cI, 6, .inl O)), (ad 5, .inl (cI, 6, .inl (upd N v (nI (e_want n c T Hd G (O v) sk a v))))), (ad 6, .inl (cZ, 6, .inl (upd Wt u 1))), (ad 7, .inl (cI, 8, .inl (upd Qu (((f + 1) % 8 + q2.length) % 8) (nI u))))] := hD
                          refine lv_iload_n hx hb dX1_solve_181 rfl (lv_at hl 2 rfl) ?_
                          refine lv_iconst (v := 1) hx hb dX1_solve_182 (by decide) ?_
                          refine lv_iadd hx hb dX1_solve_183 ?_
                          refine e_top (nI (((f + 1) % 8 + q2.length) % 8 + 1)) (nI_1 _) ?_
                          refine lv_bipush (v := 7) hx hb dX1_solve_184 (by decide) ?_
                          refine lv_iand hx hb dX1_solve_186 ?_
                          refine e_top (nI (((f + 1) % 8 + (q2 ++ [u]).length) % 8)) ((e_and7 (by omega)).trans (congrArg nI (by simp only [List.length_append, List.length_cons, List.length_nil]; omega))) ?_
                          refine lv_istore_n (lv' := [(2, .int (nI (((f + 1) % 8 + (q2 ++ [u]).length) % 8))), (0, .ref (ad 0)), (1, .int (nI ((f + 1) % 8))), (3, .int (nI k)), (4, .int (nI v)), (6, .int (nI e))]) hx hb dX1_solve_187 rfl hl (by decide) rfl (fun ls hl => ?_)
                          refine lv_iinc (v := nI (e + 1)) (lv' := [(6, .int (nI (e + 1))), (2, .int (nI (((f + 1) % 8 + (q2 ++ [u]).length) % 8))), (0, .ref (ad 0)), (1, .int (nI ((f + 1) % 8))), (3, .int (nI k)), (4, .int (nI v))]) hx hb dX1_solve_188 hl (k := 5) rfl (e_inc _) (by decide) rfl (fun ls hl => ?_)
                          refine lv_goto (tgt := 116) hx hb dX1_solve_191 (by decide) ?_
                          exact ih_116 (e + 1) (q2 ++ [u]) (upd Wt u 1) (upd Qu (((f + 1) % 8 + q2.length) % 8) (nI u)) (by omega) (by omega) (e_q_push hq hn6 hu c_149) (fun w z => List.mem_append_left _ (hr w z)) (e_in_s (fun i hi z => List.mem_append_left _ (hin i hi z)) (fun _ => by rw [eu, nI_clamp (by omega)]; exact List.mem_append_right _ (List.mem_singleton.mpr rfl))) _ _ hP hD hS ls (lv_sub hl [2, 3, 1, 4, 5, 0] rfl)
                exact lp_116 (c + 1) 0 r (upd Wt v 0) Qu (by omega) (by omega) hq2 (fun _ z => z) (fun i hi => absurd hi (Nat.not_lt_zero _)) _ _ hP hD hS ls (lv_sub hl [4, 2, 5, 6, 3, 0] rfl)
        exact lp_46 1200 0 0 (List.range n) (fun _ => 0) N Wt Qu (by decide) (e_q_init (fun v hv => (hi v hv).2) hn6) (fun v hv => (hi v hv).1) (fun _ _ => Nat.zero_le _) e_start_w (e_start_m hn6) (Nat.lt_of_le_of_lt (Nat.le_of_eq (Nat.zero_add _).symm) (Nat.lt_succ_of_le (e_start_m hn6))) _ _ hP hD hS ls (lv_sub hl [1, 2, 3, 0] rfl)
      · refine lv_aload_n hx hb dX1_solve_14 rfl (lv_at hl 0 rfl) ?_
        refine va_get (D := (dC, dI)) (ci := 0) (v := .ref (ad 5)) (C := RX1) (T := TX1) (N := 12) hx hb hts in_X1 hown hK hP 0 rfl rfl 4 (by decide) (hts _ q33) (fun _ h9 => h9) rfl dX1_solve_15 ?_
        refine lv_iload_n hx hb dX1_solve_18 rfl (lv_at hl 3 rfl) ?_
        refine lv_iconst (v := nI 0) hx hb dX1_solve_19 (by decide) ?_
        refine e_ist (f2 := upd N v (nI 0)) hx hb hK hP hD hS 5 0 rfl rfl v rfl (by omega) (by decide) rfl dX1_solve_20 (fun H locs hP hD hS => ?_)
        have hP : va_P (dC, dI) vwCl [(ad 0, .inr (0, [.ref (ad 1), .ref (ad 2), .ref (ad 3), .ref (ad 4), .ref (ad 5), .ref (ad 6), .ref (ad 7), .int (nI n), .int (nI c), .int (nI (e_tp n)), .int sk, .int cu])), (ad 1, .inl (cI, 14, .inl T)), (ad 2, .inl (cI, 14, .inl Hd)), (ad 3, .inl (cI, 14, .inl G)), (ad 4, .inl (cI, 6, .inl O)), (ad 5, .inl (cI, 6, .inl (upd N v (nI 0)))), (ad 6, .inl (cZ, 6, .inl Wt)), (ad 7, .inl (cI, 8, .inl Qu))] H := hP
        have hD : va_D A [(ad 0, .inr (0, [.ref (ad 1), .ref (ad 2), .ref (ad 3), .ref (ad 4), .ref (ad 5), .ref (ad 6), .ref (ad 7), .int (nI n), .int (nI c), .int (nI (e_tp n)), .int sk, .int cu])), (ad 1, .inl (cI, 14, .inl T)), (ad 2, .inl (cI, 14, .inl Hd)), (ad 3, .inl (cI, 14, .inl G)), (ad 4, .inl (cI, 6, .inl O)), (ad 5, .inl (cI, 6, .inl (upd N v (nI 0)))), (ad 6, .inl (cZ, 6, .inl Wt)), (ad 7, .inl (cI, 8, .inl Qu))] := hD
        refine lv_aload_n hx hb dX1_solve_21 rfl (lv_at hl 0 rfl) ?_
        refine va_get (D := (dC, dI)) (ci := 0) (v := .ref (ad 6)) (C := RX1) (T := TX1) (N := 12) hx hb hts in_X1 hown hK hP 0 rfl rfl 5 (by decide) (hts _ q34) (fun _ h9 => h9) rfl dX1_solve_22 ?_
        refine lv_iload_n hx hb dX1_solve_25 rfl (lv_at hl 3 rfl) ?_
        refine lv_iconst (v := 1) hx hb dX1_solve_26 (by decide) ?_
        refine e_zst (f2 := upd Wt v 1) hx hb hK hP hD hS 6 1 rfl rfl v rfl (by omega) (by decide) rfl rfl dX1_solve_27 (fun H locs hP hD hS => ?_)
        have hP : va_P (dC, dI) vwCl [(ad 0, .inr (0, [.ref (ad 1), .ref (ad 2), .ref (ad 3), .ref (ad 4), .ref (ad 5), .ref (ad 6), .ref (ad 7), .int (nI n), .int (nI c), .int (nI (e_tp n)), .int sk, .int cu])), (ad 1, .inl (cI, 14, .inl T)), (ad 2, .inl (cI, 14, .inl Hd)), (ad 3, .inl (cI, 14, .inl G)), (ad 4, .inl (cI, 6, .inl O)), (ad 5, .inl (cI, 6, .inl (upd N v (nI 0)))), (ad 6, .inl (cZ, 6, .inl (upd Wt v 1))), (ad 7, .inl (cI, 8, .inl Qu))] H := hP
        have hD : va_D A [(ad 0, .inr (0, [.ref (ad 1), .ref (ad 2), .ref (ad 3), .ref (ad 4), .ref (ad 5), .ref (ad 6), .ref (ad 7), .int (nI n), .int (nI c), .int (nI (e_tp n)), .int sk, .int cu])), (ad 1, .inl (cI, 14, .inl T)), (ad 2, .inl (cI, 14, .inl Hd)), (ad 3, .inl (cI, 14, .inl G)), (ad 4, .inl (cI, 6, .inl O)), (ad 5, .inl (cI, 6, .inl (upd N v (nI 0)))), (ad 6, .inl (cZ, 6, .inl (upd Wt v 1))), (ad 7, .inl (cI, 8, .inl Qu))] := hD
        refine lv_aload_n hx hb dX1_solve_28 rfl (lv_at hl 0 rfl) ?_
        refine va_get (D := (dC, dI)) (ci := 0) (v := .ref (ad 7)) (C := RX1) (T := TX1) (N := 12) hx hb hts in_X1 hown hK hP 0 rfl rfl 6 (by decide) (hts _ q35) (fun _ h9 => h9) rfl dX1_solve_29 ?_
        refine lv_iload_n hx hb dX1_solve_32 rfl (lv_at hl 2 rfl) ?_
        refine lv_iload_n hx hb dX1_solve_33 rfl (lv_at hl 3 rfl) ?_
        refine e_ist (f2 := upd Qu v (nI v)) hx hb hK hP hD hS 7 0 rfl rfl v rfl (by omega) (by decide) rfl dX1_solve_34 (fun H locs hP hD hS => ?_)
        have hP : va_P (dC, dI) vwCl [(ad 0, .inr (0, [.ref (ad 1), .ref (ad 2), .ref (ad 3), .ref (ad 4), .ref (ad 5), .ref (ad 6), .ref (ad 7), .int (nI n), .int (nI c), .int (nI (e_tp n)), .int sk, .int cu])), (ad 1, .inl (cI, 14, .inl T)), (ad 2, .inl (cI, 14, .inl Hd)), (ad 3, .inl (cI, 14, .inl G)), (ad 4, .inl (cI, 6, .inl O)), (ad 5, .inl (cI, 6, .inl (upd N v (nI 0)))), (ad 6, .inl (cZ, 6, .inl (upd Wt v 1))), (ad 7, .inl (cI, 8, .inl (upd Qu v (nI v))))] H := hP
        have hD : va_D A [(ad 0, .inr (0, [.ref (ad 1), .ref (ad 2), .ref (ad 3), .ref (ad 4), .ref (ad 5), .ref (ad 6), .ref (ad 7), .int (nI n), .int (nI c), .int (nI (e_tp n)), .int sk, .int cu])), (ad 1, .inl (cI, 14, .inl T)), (ad 2, .inl (cI, 14, .inl Hd)), (ad 3, .inl (cI, 14, .inl G)), (ad 4, .inl (cI, 6, .inl O)), (ad 5, .inl (cI, 6, .inl (upd N v (nI 0)))), (ad 6, .inl (cZ, 6, .inl (upd Wt v 1))), (ad 7, .inl (cI, 8, .inl (upd Qu v (nI v))))] := hD
        refine lv_iinc (v := nI (v + 1)) (lv' := [(2, .int (nI (v + 1))), (0, .ref (ad 0)), (1, .int (nI 0)), (3, .int (nI v))]) hx hb dX1_solve_35 hl (k := 2) rfl (e_inc _) (by decide) rfl (fun ls hl => ?_)
        refine lv_iinc (v := nI (v + 1)) (lv' := [(3, .int (nI (v + 1))), (2, .int (nI (v + 1))), (0, .ref (ad 0)), (1, .int (nI 0))]) hx hb dX1_solve_38 hl (k := 3) rfl (e_inc _) (by decide) rfl (fun ls hl => ?_)
        refine lv_goto (tgt := 6) hx hb dX1_solve_41 (by decide) ?_
        exact ih_6 (v + 1) (upd N v (nI 0)) (upd Wt v 1) (upd Qu v (nI v)) (by omega) (by omega) (e_init_s hi) _ _ hP hD hS ls (lv_sub hl [2, 3, 1, 0] rfl)
  exact lp_6 (n + 1) 0 N Wt Qu (by omega) (by omega) (fun u hu => absurd hu (Nat.not_lt_zero _)) _ _ hP hD hS ls (lv_sub hl [3, 2, 1, 0] rfl)
end
section
/-! EnergyGame: its operations -/
set_option maxRecDepth 100000
abbrev rX1_refresh : Room := { frames := 3, cells := 0, slots := 0, locals := 74 }
set_option maxHeartbeats 4000000 in
set_option maxRecDepth 100000 in
theorem metX1_refresh (l : Launch) (dC : Nat → ClassId) (dI : Nat → Nat → Nat) (ad : Nat → Nat) (cI cZ : ClassId) (n c : Nat) (T Hd G O N Wt Qu : eFn) (cu : Int32) (hok : e_ok n c T Hd G) (hgd : e_gdG n c T Hd G O N cu) (sz : Nat) : Met l yX1_refresh (ws_ yX1_refresh cX1_refresh 1 none) rX1_refresh (va_Pc [.ref (ad 0)] (e_PW (dC, dI) vwCl [(cI, .int), (cZ, .boolean)] (wG ad cI cZ n c T Hd G O N Wt Qu (-1) cu) sz)) (va_Qv (fun (u : eFn × eFn × eFn) => ∀ v, v < n → u.1 v = nI (e_lf n c T Hd G O (-1) v)) (e_B (dC, dI) vwCl [(cI, .int), (cZ, .boolean)] (fun u => wG ad cI cZ n c T Hd G O u.1 u.2.1 u.2.2 (-1) 1) (va_A (wG ad cI cZ n c T Hd G O N Wt Qu (-1) cu) sz)) (va_A (wG ad cI cZ n c T Hd G O N Wt Qu (-1) cu) sz)) 0 0 (va_A (wG ad cI cZ n c T Hd G O N Wt Qu (-1) cu) sz) := by
  refine e_startWv (by decide) (Nat.le_of_ble_eq_true rfl) ?_
  intro pg ev st mi ar bl mt cd H A QQ hx hb hml hown hts hA hK hP hD hS hret ls hl
  have hown : st.vm.findClass RX1 = some mi.cls := hown
  have hP : va_P (dC, dI) vwCl [(ad 0, .inr (0, [.ref (ad 1), .ref (ad 2), .ref (ad 3), .ref (ad 4), .ref (ad 5), .ref (ad 6), .ref (ad 7), .int (nI n), .int (nI c), .int (nI (e_tp n)), .int (-1), .int cu])), (ad 1, .inl (cI, 14, .inl T)), (ad 2, .inl (cI, 14, .inl Hd)), (ad 3, .inl (cI, 14, .inl G)), (ad 4, .inl (cI, 6, .inl O)), (ad 5, .inl (cI, 6, .inl N)), (ad 6, .inl (cZ, 6, .inl Wt)), (ad 7, .inl (cI, 8, .inl Qu))] H := hP
  have hD : va_D A [(ad 0, .inr (0, [.ref (ad 1), .ref (ad 2), .ref (ad 3), .ref (ad 4), .ref (ad 5), .ref (ad 6), .ref (ad 7), .int (nI n), .int (nI c), .int (nI (e_tp n)), .int (-1), .int cu])), (ad 1, .inl (cI, 14, .inl T)), (ad 2, .inl (cI, 14, .inl Hd)), (ad 3, .inl (cI, 14, .inl G)), (ad 4, .inl (cI, 6, .inl O)), (ad 5, .inl (cI, 6, .inl N)), (ad 6, .inl (cZ, 6, .inl Wt)), (ad 7, .inl (cI, 8, .inl Qu))] := hD
  generalize hlocs : ([] : List Loc) = locs at hS ⊢
  have hl : lv_has ls 1 [(0, .ref (ad 0))] := hl
  have hn2 := hok.1
  have hn6 := hok.2.1
  have hc14 := hok.2.2.1
  refine lv_aload_n hx hb dX1_refresh_0 rfl (lv_at hl 0 rfl) ?_
  refine va_get (D := (dC, dI)) (ci := 0) (v := .int cu) (C := RX1) (T := TX1) (N := 12) hx hb hts in_X1 hown hK hP 0 rfl rfl 11 (by decide) (hts _ q40) (fun _ h9 => h9) rfl dX1_refresh_1 ?_
  refine lv_if_ne (tgt := 16) hx hb dX1_refresh_4 (by decide) (fun c_4 => ?_) (fun c_4 => ?_)
  · obtain ⟨rfl, hg⟩ := hgd.resolve_left c_4
    exact hret (N, Wt, Qu) dX1_refresh_16 hg hP hD hS
  · refine lv_aload_n hx hb dX1_refresh_7 rfl (lv_at hl 0 rfl) ?_
    refine e_callV (q0 := 0) (ci := 0) (rest := []) (wr := []) ⟨hx, hb, hml, hown, hts⟩ (metX1_solve l dC dI ad cI cZ n c T Hd G O N Wt Qu (-1) cu hok H.size) (cwV 0 hts (lw_V q112 q114 qs4 q19 q115) rfl rfl rfl (by decide +kernel) ⟨Nat.le_of_ble_eq_true rfl, Nat.le_of_ble_eq_true rfl⟩) hK hP hD hS hA [0, 1, 2, 3, 4, 5, 6, 7] [] rfl rfl (by decide) (by decide) (by decide) rfl rfl rfl rfl hl.1 rfl (Nat.le_of_ble_eq_true rfl) dX1_refresh_8 ⟨Nat.zero_le _, Nat.zero_le _⟩ (fun u_8 H locs hw_8 hP hD hS => ?_)
    obtain ⟨N2, Wt2, Qu2⟩ := u_8
    have hP : va_P (dC, dI) vwCl [(ad 0, .inr (0, [.ref (ad 1), .ref (ad 2), .ref (ad 3), .ref (ad 4), .ref (ad 5), .ref (ad 6), .ref (ad 7), .int (nI n), .int (nI c), .int (nI (e_tp n)), .int (-1), .int cu])), (ad 1, .inl (cI, 14, .inl T)), (ad 2, .inl (cI, 14, .inl Hd)), (ad 3, .inl (cI, 14, .inl G)), (ad 4, .inl (cI, 6, .inl O)), (ad 5, .inl (cI, 6, .inl N2)), (ad 6, .inl (cZ, 6, .inl Wt2)), (ad 7, .inl (cI, 8, .inl Qu2))] H := hP
    have hD : va_D A [(ad 0, .inr (0, [.ref (ad 1), .ref (ad 2), .ref (ad 3), .ref (ad 4), .ref (ad 5), .ref (ad 6), .ref (ad 7), .int (nI n), .int (nI c), .int (nI (e_tp n)), .int (-1), .int cu])), (ad 1, .inl (cI, 14, .inl T)), (ad 2, .inl (cI, 14, .inl Hd)), (ad 3, .inl (cI, 14, .inl G)), (ad 4, .inl (cI, 6, .inl O)), (ad 5, .inl (cI, 6, .inl N2)), (ad 6, .inl (cZ, 6, .inl Wt2)), (ad 7, .inl (cI, 8, .inl Qu2))] := hD
    refine lv_aload_n hx hb dX1_refresh_11 rfl (lv_at hl 0 rfl) ?_
    refine lv_iconst (v := 1) hx hb dX1_refresh_12 (by decide) ?_
    refine va_put (D := (dC, dI)) (ci := 0) (v := .int 1) (ty := .boolean) (C := RX1) (T := TX1) (N := 12) hx hb hts in_X1 tyX1 tyX1_ok nmX1 hown hK hP hD hS 0 rfl rfl 11 (by decide) (hts _ q40) (fun _ h9 => h9) rfl (by decide +kernel) rfl rfl (Nat.le_of_ble_eq_true rfl) dX1_refresh_13 (fun H locs hP hD hS => ?_)
    have hP : va_P (dC, dI) vwCl [(ad 0, .inr (0, [.ref (ad 1), .ref (ad 2), .ref (ad 3), .ref (ad 4), .ref (ad 5), .ref (ad 6), .ref (ad 7), .int (nI n), .int (nI c), .int (nI (e_tp n)), .int (-1), .int 1])), (ad 1, .inl (cI, 14, .inl T)), (ad 2, .inl (cI, 14, .inl Hd)), (ad 3, .inl (cI, 14, .inl G)), (ad 4, .inl (cI, 6, .inl O)), (ad 5, .inl (cI, 6, .inl N2)), (ad 6, .inl (cZ, 6, .inl Wt2)), (ad 7, .inl (cI, 8, .inl Qu2))] H := hP
    have hD : va_D A [(ad 0, .inr (0, [.ref (ad 1), .ref (ad 2), .ref (ad 3), .ref (ad 4), .ref (ad 5), .ref (ad 6), .ref (ad 7), .int (nI n), .int (nI c), .int (nI (e_tp n)), .int (-1), .int 1])), (ad 1, .inl (cI, 14, .inl T)), (ad 2, .inl (cI, 14, .inl Hd)), (ad 3, .inl (cI, 14, .inl G)), (ad 4, .inl (cI, 6, .inl O)), (ad 5, .inl (cI, 6, .inl N2)), (ad 6, .inl (cZ, 6, .inl Wt2)), (ad 7, .inl (cI, 8, .inl Qu2))] := hD
    exact hret (N2, Wt2, Qu2) dX1_refresh_16 hw_8 hP hD hS
abbrev rX1_need : Room := { frames := 4, cells := 0, slots := 0, locals := 94 }
set_option maxHeartbeats 4000000 in
set_option maxRecDepth 100000 in
theorem metX1_need (l : Launch) (dC : Nat → ClassId) (dI : Nat → Nat → Nat) (ad : Nat → Nat) (cI cZ : ClassId) (n c : Nat) (T Hd G O N Wt Qu : eFn) (cu : Int32) (hok : e_ok n c T Hd G) (hgd : e_gdG n c T Hd G O N cu) (p0 : Int32) (sz : Nat) : Met l yX1_need (ws_ yX1_need cX1_need 2 (some .int)) rX1_need (va_Pc [.ref (ad 0), .int p0] (e_PW (dC, dI) vwCl [(cI, .int), (cZ, .boolean)] (wG ad cI cZ n c T Hd G O N Wt Qu (-1) cu) sz)) (va_Qi (fun r (u : eFn × eFn × eFn × Int32) => r = s_need n c T Hd G O p0 ∧ e_gdG n c T Hd G O u.1 u.2.2.2) (e_B (dC, dI) vwCl [(cI, .int), (cZ, .boolean)] (fun u => wG ad cI cZ n c T Hd G O u.1 u.2.1 u.2.2.1 (-1) u.2.2.2) (va_A (wG ad cI cZ n c T Hd G O N Wt Qu (-1) cu) sz)) (va_A (wG ad cI cZ n c T Hd G O N Wt Qu (-1) cu) sz)) 0 0 (va_A (wG ad cI cZ n c T Hd G O N Wt Qu (-1) cu) sz) := by
  refine e_startWi (by decide) (Nat.le_of_ble_eq_true rfl) ?_
  intro pg ev st mi ar bl mt cd H A QQ hx hb hml hown hts hA hK hP hD hS hret ls hl
  have hown : st.vm.findClass RX1 = some mi.cls := hown
  have hP : va_P (dC, dI) vwCl [(ad 0, .inr (0, [.ref (ad 1), .ref (ad 2), .ref (ad 3), .ref (ad 4), .ref (ad 5), .ref (ad 6), .ref (ad 7), .int (nI n), .int (nI c), .int (nI (e_tp n)), .int (-1), .int cu])), (ad 1, .inl (cI, 14, .inl T)), (ad 2, .inl (cI, 14, .inl Hd)), (ad 3, .inl (cI, 14, .inl G)), (ad 4, .inl (cI, 6, .inl O)), (ad 5, .inl (cI, 6, .inl N)), (ad 6, .inl (cZ, 6, .inl Wt)), (ad 7, .inl (cI, 8, .inl Qu))] H := hP
  have hD : va_D A [(ad 0, .inr (0, [.ref (ad 1), .ref (ad 2), .ref (ad 3), .ref (ad 4), .ref (ad 5), .ref (ad 6), .ref (ad 7), .int (nI n), .int (nI c), .int (nI (e_tp n)), .int (-1), .int cu])), (ad 1, .inl (cI, 14, .inl T)), (ad 2, .inl (cI, 14, .inl Hd)), (ad 3, .inl (cI, 14, .inl G)), (ad 4, .inl (cI, 6, .inl O)), (ad 5, .inl (cI, 6, .inl N)), (ad 6, .inl (cZ, 6, .inl Wt)), (ad 7, .inl (cI, 8, .inl Qu))] := hD
  generalize hlocs : ([] : List Loc) = locs at hS ⊢
  have hl : lv_has ls 2 [(0, .ref (ad 0)), (1, .int p0)] := hl
  have hn2 := hok.1
  have hn6 := hok.2.1
  have hc14 := hok.2.2.1
  refine lv_aload_n hx hb dX1_need_0 rfl (lv_at hl 0 rfl) ?_
  refine lv_iload_n hx hb dX1_need_1 rfl (lv_at hl 1 rfl) ?_
  refine e_callR (q0 := 0) (ci := 0) (rest := []) ⟨hx, hb, hml, hown, hts⟩ (metX1_isVertex l dC dI ad cI cZ n c T Hd G O N Wt Qu (-1) cu p0) (cwV 1 hts (lw_V q76 q78 qs0 q19 q79) rfl rfl rfl (by decide +kernel) ⟨Nat.le_of_ble_eq_true rfl, Nat.le_of_ble_eq_true rfl⟩) hK hP rfl rfl rfl rfl hl.1 rfl (Nat.le_of_ble_eq_true rfl) dX1_need_2 ⟨Nat.zero_le _, Nat.zero_le _⟩ (fun r_2 hr_2 => ?_)
  rcases hr_2 with ⟨rfl, hv_2⟩ | ⟨rfl, hv_2⟩
  · obtain ⟨j, hj, rfl⟩ := e_v_of hv_2 (by omega)
    refine lv_if_ne (tgt := 10) hx hb dX1_need_5 (by decide) (fun c_5 => ?_) (fun c_5 => absurd c_5 (by decide))
    refine lv_aload_n hx hb dX1_need_10 rfl (lv_at hl 0 rfl) ?_
    refine e_callV (q0 := 0) (ci := 0) (rest := []) (wr := []) ⟨hx, hb, hml, hown, hts⟩ (metX1_refresh l dC dI ad cI cZ n c T Hd G O N Wt Qu cu hok hgd H.size) (cwV 0 hts (lw_V q108 q110 qs3 q19 q111) rfl rfl rfl (by decide +kernel) ⟨Nat.le_of_ble_eq_true rfl, Nat.le_of_ble_eq_true rfl⟩) hK hP hD hS hA [0, 1, 2, 3, 4, 5, 6, 7] [] rfl rfl (by decide) (by decide) (by decide) rfl rfl rfl rfl hl.1 rfl (Nat.le_of_ble_eq_true rfl) dX1_need_11 ⟨Nat.zero_le _, Nat.zero_le _⟩ (fun u_11 H locs hw_11 hP hD hS => ?_)
    obtain ⟨N2, Wt2, Qu2⟩ := u_11
    have hw_11 : ∀ v, v < n → N2 v = nI (e_lf n c T Hd G O (-1) v) := hw_11
    have hP : va_P (dC, dI) vwCl [(ad 0, .inr (0, [.ref (ad 1), .ref (ad 2), .ref (ad 3), .ref (ad 4), .ref (ad 5), .ref (ad 6), .ref (ad 7), .int (nI n), .int (nI c), .int (nI (e_tp n)), .int (-1), .int 1])), (ad 1, .inl (cI, 14, .inl T)), (ad 2, .inl (cI, 14, .inl Hd)), (ad 3, .inl (cI, 14, .inl G)), (ad 4, .inl (cI, 6, .inl O)), (ad 5, .inl (cI, 6, .inl N2)), (ad 6, .inl (cZ, 6, .inl Wt2)), (ad 7, .inl (cI, 8, .inl Qu2))] H := hP
    have hD : va_D A [(ad 0, .inr (0, [.ref (ad 1), .ref (ad 2), .ref (ad 3), .ref (ad 4), .ref (ad 5), .ref (ad 6), .ref (ad 7), .int (nI n), .int (nI c), .int (nI (e_tp n)), .int (-1), .int 1])), (ad 1, .inl (cI, 14, .inl T)), (ad 2, .inl (cI, 14, .inl Hd)), (ad 3, .inl (cI, 14, .inl G)), (ad 4, .inl (cI, 6, .inl O)), (ad 5, .inl (cI, 6, .inl N2)), (ad 6, .inl (cZ, 6, .inl Wt2)), (ad 7, .inl (cI, 8, .inl Qu2))] := hD
    refine lv_aload_n hx hb dX1_need_14 rfl (lv_at hl 0 rfl) ?_
    refine lv_iload_n hx hb dX1_need_15 rfl (lv_at hl 1 rfl) ?_
    refine e_callR (q0 := 0) (ci := 0) (rest := []) ⟨hx, hb, hml, hown, hts⟩ (metX1_shown l dC dI ad cI cZ n c T Hd G O N2 Wt2 Qu2 (-1) 1 hok (e_lf n c T Hd G O (-1)) hw_11 (fun _ _ => e_lf_le) j hj) (cwV 1 hts (lw_V q124 q126 qs7 q19 q127) rfl rfl rfl (by decide +kernel) ⟨Nat.le_of_ble_eq_true rfl, Nat.le_of_ble_eq_true rfl⟩) hK hP rfl rfl rfl rfl hl.1 rfl (Nat.le_of_ble_eq_true rfl) dX1_need_16 ⟨Nat.zero_le _, Nat.zero_le _⟩ (fun r_16 hr_16 => ?_)
    subst hr_16
    exact hret (N2, Wt2, Qu2, 1) dX1_need_19 ⟨by unfold s_need; rw [if_neg (fun z => z hv_2), nI_clamp (by omega)], Or.inr ⟨rfl, hw_11⟩⟩ hP hD hS
  · refine lv_if_ne (tgt := 10) hx hb dX1_need_5 (by decide) (fun c_5 => absurd c_5 (by decide)) (fun c_5 => ?_)
    refine lv_iconst (v := -1) hx hb dX1_need_8 (by decide) ?_
    exact hret (N, Wt, Qu, cu) dX1_need_9 ⟨by unfold s_need; rw [if_pos hv_2], hgd⟩ hP hD hS
abbrev rX1_safe : Room := { frames := 4, cells := 0, slots := 0, locals := 94 }
set_option maxHeartbeats 4000000 in
set_option maxRecDepth 100000 in
theorem metX1_safe (l : Launch) (dC : Nat → ClassId) (dI : Nat → Nat → Nat) (ad : Nat → Nat) (cI cZ : ClassId) (n c : Nat) (T Hd G O N Wt Qu : eFn) (cu : Int32) (hok : e_ok n c T Hd G) (hgd : e_gdG n c T Hd G O N cu) (p0 : Int32) (sz : Nat) : Met l yX1_safe (ws_ yX1_safe cX1_safe 4 (some .int)) rX1_safe (va_Pc [.ref (ad 0), .int p0] (e_PW (dC, dI) vwCl [(cI, .int), (cZ, .boolean)] (wG ad cI cZ n c T Hd G O N Wt Qu (-1) cu) sz)) (va_Qi (fun r (u : eFn × eFn × eFn × Int32) => r = s_safe n c T Hd G O p0 ∧ e_gdG n c T Hd G O u.1 u.2.2.2) (e_B (dC, dI) vwCl [(cI, .int), (cZ, .boolean)] (fun u => wG ad cI cZ n c T Hd G O u.1 u.2.1 u.2.2.1 (-1) u.2.2.2) (va_A (wG ad cI cZ n c T Hd G O N Wt Qu (-1) cu) sz)) (va_A (wG ad cI cZ n c T Hd G O N Wt Qu (-1) cu) sz)) 0 0 (va_A (wG ad cI cZ n c T Hd G O N Wt Qu (-1) cu) sz) := by
  refine e_startWi (by decide) (Nat.le_of_ble_eq_true rfl) ?_
  intro pg ev st mi ar bl mt cd H A QQ hx hb hml hown hts hA hK hP hD hS hret ls hl
  have hown : st.vm.findClass RX1 = some mi.cls := hown
  have hP : va_P (dC, dI) vwCl [(ad 0, .inr (0, [.ref (ad 1), .ref (ad 2), .ref (ad 3), .ref (ad 4), .ref (ad 5), .ref (ad 6), .ref (ad 7), .int (nI n), .int (nI c), .int (nI (e_tp n)), .int (-1), .int cu])), (ad 1, .inl (cI, 14, .inl T)), (ad 2, .inl (cI, 14, .inl Hd)), (ad 3, .inl (cI, 14, .inl G)), (ad 4, .inl (cI, 6, .inl O)), (ad 5, .inl (cI, 6, .inl N)), (ad 6, .inl (cZ, 6, .inl Wt)), (ad 7, .inl (cI, 8, .inl Qu))] H := hP
  have hD : va_D A [(ad 0, .inr (0, [.ref (ad 1), .ref (ad 2), .ref (ad 3), .ref (ad 4), .ref (ad 5), .ref (ad 6), .ref (ad 7), .int (nI n), .int (nI c), .int (nI (e_tp n)), .int (-1), .int cu])), (ad 1, .inl (cI, 14, .inl T)), (ad 2, .inl (cI, 14, .inl Hd)), (ad 3, .inl (cI, 14, .inl G)), (ad 4, .inl (cI, 6, .inl O)), (ad 5, .inl (cI, 6, .inl N)), (ad 6, .inl (cZ, 6, .inl Wt)), (ad 7, .inl (cI, 8, .inl Qu))] := hD
  generalize hlocs : ([] : List Loc) = locs at hS ⊢
  have hl : lv_has ls 4 [(0, .ref (ad 0)), (1, .int p0)] := hl
  have hn2 := hok.1
  have hn6 := hok.2.1
  have hc14 := hok.2.2.1
  have ht31 := e_tp_le hn6
  refine lv_aload_n hx hb dX1_safe_0 rfl (lv_at hl 0 rfl) ?_
  refine e_callV (q0 := 0) (ci := 0) (rest := []) (wr := []) ⟨hx, hb, hml, hown, hts⟩ (metX1_refresh l dC dI ad cI cZ n c T Hd G O N Wt Qu cu hok hgd H.size) (cwV 0 hts (lw_V q108 q110 qs3 q19 q111) rfl rfl rfl (by decide +kernel) ⟨Nat.le_of_ble_eq_true rfl, Nat.le_of_ble_eq_true rfl⟩) hK hP hD hS hA [0, 1, 2, 3, 4, 5, 6, 7] [] rfl rfl (by decide) (by decide) (by decide) rfl rfl rfl rfl hl.1 rfl (Nat.le_of_ble_eq_true rfl) dX1_safe_1 ⟨Nat.zero_le _, Nat.zero_le _⟩ (fun u_1 H locs hw_1 hP hD hS => ?_)
  obtain ⟨N2, Wt2, Qu2⟩ := u_1
  have hw_1 : ∀ v, v < n → N2 v = nI (e_lf n c T Hd G O (-1) v) := hw_1
  have hP : va_P (dC, dI) vwCl [(ad 0, .inr (0, [.ref (ad 1), .ref (ad 2), .ref (ad 3), .ref (ad 4), .ref (ad 5), .ref (ad 6), .ref (ad 7), .int (nI n), .int (nI c), .int (nI (e_tp n)), .int (-1), .int 1])), (ad 1, .inl (cI, 14, .inl T)), (ad 2, .inl (cI, 14, .inl Hd)), (ad 3, .inl (cI, 14, .inl G)), (ad 4, .inl (cI, 6, .inl O)), (ad 5, .inl (cI, 6, .inl N2)), (ad 6, .inl (cZ, 6, .inl Wt2)), (ad 7, .inl (cI, 8, .inl Qu2))] H := hP
  have hD : va_D A [(ad 0, .inr (0, [.ref (ad 1), .ref (ad 2), .ref (ad 3), .ref (ad 4), .ref (ad 5), .ref (ad 6), .ref (ad 7), .int (nI n), .int (nI c), .int (nI (e_tp n)), .int (-1), .int 1])), (ad 1, .inl (cI, 14, .inl T)), (ad 2, .inl (cI, 14, .inl Hd)), (ad 3, .inl (cI, 14, .inl G)), (ad 4, .inl (cI, 6, .inl O)), (ad 5, .inl (cI, 6, .inl N2)), (ad 6, .inl (cZ, 6, .inl Wt2)), (ad 7, .inl (cI, 8, .inl Qu2))] := hD
  refine lv_iconst (v := 0) hx hb dX1_safe_4 (by decide) ?_
  refine lv_istore_n (lv' := [(2, .int 0), (0, .ref (ad 0)), (1, .int p0)]) hx hb dX1_safe_5 rfl hl (by decide) rfl (fun ls hl => ?_)
  refine lv_iconst (v := nI 0) hx hb dX1_safe_6 (by decide) ?_
  refine lv_istore_n (lv' := [(3, .int (nI 0)), (2, .int 0), (0, .ref (ad 0)), (1, .int p0)]) hx hb dX1_safe_7 rfl hl (by decide) rfl (fun ls hl => ?_)
  have lp_8 : ∀ (k_8 : Nat) (v : Nat), (v ≤ n) → (n < v + k_8) → ∀ (H : Heap) (locs : List Loc), va_P (dC, dI) vwCl [(ad 0, .inr (0, [.ref (ad 1), .ref (ad 2), .ref (ad 3), .ref (ad 4), .ref (ad 5), .ref (ad 6), .ref (ad 7), .int (nI n), .int (nI c), .int (nI (e_tp n)), .int (-1), .int 1])), (ad 1, .inl (cI, 14, .inl T)), (ad 2, .inl (cI, 14, .inl Hd)), (ad 3, .inl (cI, 14, .inl G)), (ad 4, .inl (cI, 6, .inl O)), (ad 5, .inl (cI, 6, .inl N2)), (ad 6, .inl (cZ, 6, .inl Wt2)), (ad 7, .inl (cI, 8, .inl Qu2))] H → va_D A [(ad 0, .inr (0, [.ref (ad 1), .ref (ad 2), .ref (ad 3), .ref (ad 4), .ref (ad 5), .ref (ad 6), .ref (ad 7), .int (nI n), .int (nI c), .int (nI (e_tp n)), .int (-1), .int 1])), (ad 1, .inl (cI, 14, .inl T)), (ad 2, .inl (cI, 14, .inl Hd)), (ad 3, .inl (cI, 14, .inl G)), (ad 4, .inl (cI, 6, .inl O)), (ad 5, .inl (cI, 6, .inl N2)), (ad 6, .inl (cZ, 6, .inl Wt2)), (ad 7, .inl (cI, 8, .inl Qu2))] → va_S A st.heap H locs → ∀ ls : Array Slot, lv_has ls 4 [(0, .ref (ad 0)), (1, .int p0), (2, .int (e_safe n (e_lf n c T Hd G O (-1)) p0 v)), (3, .int (nI v))] → W pg l ev rX1_safe st mi ar bl mt cd H locs 0 0 QQ (F0 mi 8 ls []) := by
    intro k_8
    induction k_8 with
    | zero =>
      intro v hvn hk
      exfalso; omega
    | succ k_8 ih_8 =>
      intro v hvn hk H locs hP hD hS ls hl
      have hLv := e_lf_le (n := n) (c := c) (T := T) (Hd := Hd) (G := G) (P := O) (sk := -1) (v := v)
      refine lv_iload_n hx hb dX1_safe_8 rfl (lv_at hl 3 rfl) ?_
      refine lv_aload_n hx hb dX1_safe_9 rfl (lv_at hl 0 rfl) ?_
      refine va_get (D := (dC, dI)) (ci := 0) (v := .int (nI n)) (C := RX1) (T := TX1) (N := 12) hx hb hts in_X1 hown hK hP 0 rfl rfl 7 (by decide) (hts _ q36) (fun _ h9 => h9) rfl dX1_safe_10 ?_
      refine e_ge (tgt := 51) hx hb (by omega) (by omega) dX1_safe_13 (by decide) (fun c_13 => ?_) (fun c_13 => ?_)
      · have heq : n = v := by omega
        subst heq
        refine lv_iload_n hx hb dX1_safe_51 rfl (lv_at hl 2 rfl) ?_
        exact hret (N2, Wt2, Qu2, 1) dX1_safe_52 ⟨rfl, Or.inr ⟨rfl, hw_1⟩⟩ hP hD hS
      · refine lv_aload_n hx hb dX1_safe_16 rfl (lv_at hl 0 rfl) ?_
        refine va_get (D := (dC, dI)) (ci := 0) (v := .ref (ad 5)) (C := RX1) (T := TX1) (N := 12) hx hb hts in_X1 hown hK hP 0 rfl rfl 4 (by decide) (hts _ q33) (fun _ h9 => h9) rfl dX1_safe_17 ?_
        refine lv_iload_n hx hb dX1_safe_20 rfl (lv_at hl 3 rfl) ?_
        refine e_ild (v := nI (e_lf n c T Hd G O (-1) v)) hx hb hK hP 5 0 rfl rfl v rfl (by omega) (by decide) (hw_1 v (by omega)) dX1_safe_21 ?_
        refine lv_aload_n hx hb dX1_safe_22 rfl (lv_at hl 0 rfl) ?_
        refine va_get (D := (dC, dI)) (ci := 0) (v := .int (nI (e_tp n))) (C := RX1) (T := TX1) (N := 12) hx hb hts in_X1 hown hK hP 0 rfl rfl 9 (by decide) (hts _ q38) (fun _ h9 => h9) rfl dX1_safe_23 ?_
        refine e_ge (tgt := 45) hx hb (by omega) (by omega) dX1_safe_26 (by decide) (fun c_26 => ?_) (fun c_26 => ?_)
        · refine lv_iinc (v := nI (v + 1)) (lv' := [(3, .int (nI (v + 1))), (0, .ref (ad 0)), (1, .int p0), (2, .int (e_safe n (e_lf n c T Hd G O (-1)) p0 v))]) hx hb dX1_safe_45 hl (k := 3) rfl (e_inc _) (by decide) rfl (fun ls hl => ?_)
          refine lv_goto (tgt := 8) hx hb dX1_safe_48 (by decide) ?_
          rw [← e_safe_n (L := (e_lf n c T Hd G O (-1))) (cr := p0) (fun z => absurd z.1 (Nat.not_lt.mpr c_26))] at hl
          exact ih_8 (v + 1) (by omega) (by omega) _ _ hP hD hS ls (lv_sub hl [1, 2, 3, 0] rfl)
        · refine lv_aload_n hx hb dX1_safe_29 rfl (lv_at hl 0 rfl) ?_
          refine va_get (D := (dC, dI)) (ci := 0) (v := .ref (ad 5)) (C := RX1) (T := TX1) (N := 12) hx hb hts in_X1 hown hK hP 0 rfl rfl 4 (by decide) (hts _ q33) (fun _ h9 => h9) rfl dX1_safe_30 ?_
          refine lv_iload_n hx hb dX1_safe_33 rfl (lv_at hl 3 rfl) ?_
          refine e_ild (v := nI (e_lf n c T Hd G O (-1) v)) hx hb hK hP 5 0 rfl rfl v rfl (by omega) (by decide) (hw_1 v (by omega)) dX1_safe_34 ?_
          refine lv_iload_n hx hb dX1_safe_35 rfl (lv_at hl 1 rfl) ?_
          refine lv_icmp_gt (tgt := 45) hx hb dX1_safe_36 (by decide) (fun c_36 => ?_) (fun c_36 => ?_)
          · refine lv_iinc (v := nI (v + 1)) (lv' := [(3, .int (nI (v + 1))), (0, .ref (ad 0)), (1, .int p0), (2, .int (e_safe n (e_lf n c T Hd G O (-1)) p0 v))]) hx hb dX1_safe_45 hl (k := 3) rfl (e_inc _) (by decide) rfl (fun ls hl => ?_)
            refine lv_goto (tgt := 8) hx hb dX1_safe_48 (by decide) ?_
            rw [← e_safe_n (L := (e_lf n c T Hd G O (-1))) (fun z => absurd z.2 (Int32.not_le.mpr c_36))] at hl
            exact ih_8 (v + 1) (by omega) (by omega) _ _ hP hD hS ls (lv_sub hl [1, 2, 3, 0] rfl)
          · refine lv_iload_n hx hb dX1_safe_39 rfl (lv_at hl 2 rfl) ?_
            refine lv_iconst (v := 1) hx hb dX1_safe_40 (by decide) ?_
            refine lv_iload_n hx hb dX1_safe_41 rfl (lv_at hl 3 rfl) ?_
            refine lv_ishl hx hb dX1_safe_42 ?_
            refine lv_ior hx hb dX1_safe_43 ?_
            refine lv_istore_n (lv' := [(2, .int ((e_safe n (e_lf n c T Hd G O (-1)) p0 v) ||| (1 <<< ((nI v) &&& 31)))), (0, .ref (ad 0)), (1, .int p0), (3, .int (nI v))]) hx hb dX1_safe_44 rfl hl (by decide) rfl (fun ls hl => ?_)
            refine lv_iinc (v := nI (v + 1)) (lv' := [(3, .int (nI (v + 1))), (2, .int ((e_safe n (e_lf n c T Hd G O (-1)) p0 v) ||| (1 <<< ((nI v) &&& 31)))), (0, .ref (ad 0)), (1, .int p0)]) hx hb dX1_safe_45 hl (k := 3) rfl (e_inc _) (by decide) rfl (fun ls hl => ?_)
            refine lv_goto (tgt := 8) hx hb dX1_safe_48 (by decide) ?_
            rw [← e_safe_y (L := (e_lf n c T Hd G O (-1))) ⟨c_26, Int32.not_lt.mp c_36⟩] at hl
            exact ih_8 (v + 1) (by omega) (by omega) _ _ hP hD hS ls (lv_sub hl [2, 3, 1, 0] rfl)
  exact lp_8 (n + 1) 0 (by omega) (by omega) _ _ hP hD hS ls (lv_sub hl [2, 3, 1, 0] rfl)
abbrev rX1_hopeless : Room := { frames := 4, cells := 0, slots := 0, locals := 94 }
set_option maxHeartbeats 4000000 in
set_option maxRecDepth 100000 in
theorem metX1_hopeless (l : Launch) (dC : Nat → ClassId) (dI : Nat → Nat → Nat) (ad : Nat → Nat) (cI cZ : ClassId) (n c : Nat) (T Hd G O N Wt Qu : eFn) (cu : Int32) (hok : e_ok n c T Hd G) (hgd : e_gdG n c T Hd G O N cu) (sz : Nat) : Met l yX1_hopeless (ws_ yX1_hopeless cX1_hopeless 3 (some .int)) rX1_hopeless (va_Pc [.ref (ad 0)] (e_PW (dC, dI) vwCl [(cI, .int), (cZ, .boolean)] (wG ad cI cZ n c T Hd G O N Wt Qu (-1) cu) sz)) (va_Qi (fun r (u : eFn × eFn × eFn × Int32) => r = s_hop n c T Hd G O ∧ e_gdG n c T Hd G O u.1 u.2.2.2) (e_B (dC, dI) vwCl [(cI, .int), (cZ, .boolean)] (fun u => wG ad cI cZ n c T Hd G O u.1 u.2.1 u.2.2.1 (-1) u.2.2.2) (va_A (wG ad cI cZ n c T Hd G O N Wt Qu (-1) cu) sz)) (va_A (wG ad cI cZ n c T Hd G O N Wt Qu (-1) cu) sz)) 0 0 (va_A (wG ad cI cZ n c T Hd G O N Wt Qu (-1) cu) sz) := by
  refine e_startWi (by decide) (Nat.le_of_ble_eq_true rfl) ?_
  intro pg ev st mi ar bl mt cd H A QQ hx hb hml hown hts hA hK hP hD hS hret ls hl
  have hown : st.vm.findClass RX1 = some mi.cls := hown
  have hP : va_P (dC, dI) vwCl [(ad 0, .inr (0, [.ref (ad 1), .ref (ad 2), .ref (ad 3), .ref (ad 4), .ref (ad 5), .ref (ad 6), .ref (ad 7), .int (nI n), .int (nI c), .int (nI (e_tp n)), .int (-1), .int cu])), (ad 1, .inl (cI, 14, .inl T)), (ad 2, .inl (cI, 14, .inl Hd)), (ad 3, .inl (cI, 14, .inl G)), (ad 4, .inl (cI, 6, .inl O)), (ad 5, .inl (cI, 6, .inl N)), (ad 6, .inl (cZ, 6, .inl Wt)), (ad 7, .inl (cI, 8, .inl Qu))] H := hP
  have hD : va_D A [(ad 0, .inr (0, [.ref (ad 1), .ref (ad 2), .ref (ad 3), .ref (ad 4), .ref (ad 5), .ref (ad 6), .ref (ad 7), .int (nI n), .int (nI c), .int (nI (e_tp n)), .int (-1), .int cu])), (ad 1, .inl (cI, 14, .inl T)), (ad 2, .inl (cI, 14, .inl Hd)), (ad 3, .inl (cI, 14, .inl G)), (ad 4, .inl (cI, 6, .inl O)), (ad 5, .inl (cI, 6, .inl N)), (ad 6, .inl (cZ, 6, .inl Wt)), (ad 7, .inl (cI, 8, .inl Qu))] := hD
  generalize hlocs : ([] : List Loc) = locs at hS ⊢
  have hl : lv_has ls 3 [(0, .ref (ad 0))] := hl
  have hn2 := hok.1
  have hn6 := hok.2.1
  have hc14 := hok.2.2.1
  have ht31 := e_tp_le hn6
  refine lv_aload_n hx hb dX1_hopeless_0 rfl (lv_at hl 0 rfl) ?_
  refine e_callV (q0 := 0) (ci := 0) (rest := []) (wr := []) ⟨hx, hb, hml, hown, hts⟩ (metX1_refresh l dC dI ad cI cZ n c T Hd G O N Wt Qu cu hok hgd H.size) (cwV 0 hts (lw_V q108 q110 qs3 q19 q111) rfl rfl rfl (by decide +kernel) ⟨Nat.le_of_ble_eq_true rfl, Nat.le_of_ble_eq_true rfl⟩) hK hP hD hS hA [0, 1, 2, 3, 4, 5, 6, 7] [] rfl rfl (by decide) (by decide) (by decide) rfl rfl rfl rfl hl.1 rfl (Nat.le_of_ble_eq_true rfl) dX1_hopeless_1 ⟨Nat.zero_le _, Nat.zero_le _⟩ (fun u_1 H locs hw_1 hP hD hS => ?_)
  obtain ⟨N2, Wt2, Qu2⟩ := u_1
  have hw_1 : ∀ v, v < n → N2 v = nI (e_lf n c T Hd G O (-1) v) := hw_1
  have hP : va_P (dC, dI) vwCl [(ad 0, .inr (0, [.ref (ad 1), .ref (ad 2), .ref (ad 3), .ref (ad 4), .ref (ad 5), .ref (ad 6), .ref (ad 7), .int (nI n), .int (nI c), .int (nI (e_tp n)), .int (-1), .int 1])), (ad 1, .inl (cI, 14, .inl T)), (ad 2, .inl (cI, 14, .inl Hd)), (ad 3, .inl (cI, 14, .inl G)), (ad 4, .inl (cI, 6, .inl O)), (ad 5, .inl (cI, 6, .inl N2)), (ad 6, .inl (cZ, 6, .inl Wt2)), (ad 7, .inl (cI, 8, .inl Qu2))] H := hP
  have hD : va_D A [(ad 0, .inr (0, [.ref (ad 1), .ref (ad 2), .ref (ad 3), .ref (ad 4), .ref (ad 5), .ref (ad 6), .ref (ad 7), .int (nI n), .int (nI c), .int (nI (e_tp n)), .int (-1), .int 1])), (ad 1, .inl (cI, 14, .inl T)), (ad 2, .inl (cI, 14, .inl Hd)), (ad 3, .inl (cI, 14, .inl G)), (ad 4, .inl (cI, 6, .inl O)), (ad 5, .inl (cI, 6, .inl N2)), (ad 6, .inl (cZ, 6, .inl Wt2)), (ad 7, .inl (cI, 8, .inl Qu2))] := hD
  refine lv_iconst (v := 0) hx hb dX1_hopeless_4 (by decide) ?_
  refine lv_istore_n (lv' := [(1, .int 0), (0, .ref (ad 0))]) hx hb dX1_hopeless_5 rfl hl (by decide) rfl (fun ls hl => ?_)
  refine lv_iconst (v := nI 0) hx hb dX1_hopeless_6 (by decide) ?_
  refine lv_istore_n (lv' := [(2, .int (nI 0)), (1, .int 0), (0, .ref (ad 0))]) hx hb dX1_hopeless_7 rfl hl (by decide) rfl (fun ls hl => ?_)
  have lp_8 : ∀ (k_8 : Nat) (v : Nat), (v ≤ n) → (n < v + k_8) → ∀ (H : Heap) (locs : List Loc), va_P (dC, dI) vwCl [(ad 0, .inr (0, [.ref (ad 1), .ref (ad 2), .ref (ad 3), .ref (ad 4), .ref (ad 5), .ref (ad 6), .ref (ad 7), .int (nI n), .int (nI c), .int (nI (e_tp n)), .int (-1), .int 1])), (ad 1, .inl (cI, 14, .inl T)), (ad 2, .inl (cI, 14, .inl Hd)), (ad 3, .inl (cI, 14, .inl G)), (ad 4, .inl (cI, 6, .inl O)), (ad 5, .inl (cI, 6, .inl N2)), (ad 6, .inl (cZ, 6, .inl Wt2)), (ad 7, .inl (cI, 8, .inl Qu2))] H → va_D A [(ad 0, .inr (0, [.ref (ad 1), .ref (ad 2), .ref (ad 3), .ref (ad 4), .ref (ad 5), .ref (ad 6), .ref (ad 7), .int (nI n), .int (nI c), .int (nI (e_tp n)), .int (-1), .int 1])), (ad 1, .inl (cI, 14, .inl T)), (ad 2, .inl (cI, 14, .inl Hd)), (ad 3, .inl (cI, 14, .inl G)), (ad 4, .inl (cI, 6, .inl O)), (ad 5, .inl (cI, 6, .inl N2)), (ad 6, .inl (cZ, 6, .inl Wt2)), (ad 7, .inl (cI, 8, .inl Qu2))] → va_S A st.heap H locs → ∀ ls : Array Slot, lv_has ls 3 [(0, .ref (ad 0)), (1, .int (e_hop n (e_lf n c T Hd G O (-1)) v)), (2, .int (nI v))] → W pg l ev rX1_hopeless st mi ar bl mt cd H locs 0 0 QQ (F0 mi 8 ls []) := by
    intro k_8
    induction k_8 with
    | zero =>
      intro v hvn hk
      exfalso; omega
    | succ k_8 ih_8 =>
      intro v hvn hk H locs hP hD hS ls hl
      have hLv := e_lf_le (n := n) (c := c) (T := T) (Hd := Hd) (G := G) (P := O) (sk := -1) (v := v)
      refine lv_iload_n hx hb dX1_hopeless_8 rfl (lv_at hl 2 rfl) ?_
      refine lv_aload_n hx hb dX1_hopeless_9 rfl (lv_at hl 0 rfl) ?_
      refine va_get (D := (dC, dI)) (ci := 0) (v := .int (nI n)) (C := RX1) (T := TX1) (N := 12) hx hb hts in_X1 hown hK hP 0 rfl rfl 7 (by decide) (hts _ q36) (fun _ h9 => h9) rfl dX1_hopeless_10 ?_
      refine e_ge (tgt := 43) hx hb (by omega) (by omega) dX1_hopeless_13 (by decide) (fun c_13 => ?_) (fun c_13 => ?_)
      · have heq : n = v := by omega
        subst heq
        refine lv_iload_n hx hb dX1_hopeless_43 rfl (lv_at hl 1 rfl) ?_
        exact hret (N2, Wt2, Qu2, 1) dX1_hopeless_44 ⟨rfl, Or.inr ⟨rfl, hw_1⟩⟩ hP hD hS
      · refine lv_iload_n hx hb dX1_hopeless_16 rfl (lv_at hl 1 rfl) ?_
        refine lv_aload_n hx hb dX1_hopeless_17 rfl (lv_at hl 0 rfl) ?_
        refine va_get (D := (dC, dI)) (ci := 0) (v := .ref (ad 5)) (C := RX1) (T := TX1) (N := 12) hx hb hts in_X1 hown hK hP 0 rfl rfl 4 (by decide) (hts _ q33) (fun _ h9 => h9) rfl dX1_hopeless_18 ?_
        refine lv_iload_n hx hb dX1_hopeless_21 rfl (lv_at hl 2 rfl) ?_
        refine e_ild (v := nI (e_lf n c T Hd G O (-1) v)) hx hb hK hP 5 0 rfl rfl v rfl (by omega) (by decide) (hw_1 v (by omega)) dX1_hopeless_22 ?_
        refine lv_aload_n hx hb dX1_hopeless_23 rfl (lv_at hl 0 rfl) ?_
        refine va_get (D := (dC, dI)) (ci := 0) (v := .int (nI (e_tp n))) (C := RX1) (T := TX1) (N := 12) hx hb hts in_X1 hown hK hP 0 rfl rfl 9 (by decide) (hts _ q38) (fun _ h9 => h9) rfl dX1_hopeless_24 ?_
        refine lv_icmp_ne (tgt := 34) hx hb dX1_hopeless_27 (by decide) (fun c_27 => ?_) (fun c_27 => ?_)
        · refine lv_iconst (v := 0) hx hb dX1_hopeless_34 (by decide) ?_
          refine lv_iadd hx hb dX1_hopeless_35 ?_
          refine e_top (e_hop n (e_lf n c T Hd G O (-1)) (v + 1)) (e_hop_n (L := (e_lf n c T Hd G O (-1))) (fun z => c_27 (congrArg nI z))) ?_
          refine lv_istore_n (lv' := [(1, .int (e_hop n (e_lf n c T Hd G O (-1)) (v + 1))), (0, .ref (ad 0)), (2, .int (nI v))]) hx hb dX1_hopeless_36 rfl hl (by decide) rfl (fun ls hl => ?_)
          refine lv_iinc (v := nI (v + 1)) (lv' := [(2, .int (nI (v + 1))), (1, .int (e_hop n (e_lf n c T Hd G O (-1)) (v + 1))), (0, .ref (ad 0))]) hx hb dX1_hopeless_37 hl (k := 2) rfl (e_inc _) (by decide) rfl (fun ls hl => ?_)
          refine lv_goto (tgt := 8) hx hb dX1_hopeless_40 (by decide) ?_
          exact ih_8 (v + 1) (by omega) (by omega) _ _ hP hD hS ls (lv_sub hl [2, 1, 0] rfl)
        · refine lv_iconst (v := 1) hx hb dX1_hopeless_30 (by decide) ?_
          refine lv_goto (tgt := 35) hx hb dX1_hopeless_31 (by decide) ?_
          refine lv_iadd hx hb dX1_hopeless_35 ?_
          refine e_top (e_hop n (e_lf n c T Hd G O (-1)) (v + 1)) (e_hop_y (L := (e_lf n c T Hd G O (-1))) ((nI_eq (by omega) (by omega)).mp c_27)) ?_
          refine lv_istore_n (lv' := [(1, .int (e_hop n (e_lf n c T Hd G O (-1)) (v + 1))), (0, .ref (ad 0)), (2, .int (nI v))]) hx hb dX1_hopeless_36 rfl hl (by decide) rfl (fun ls hl => ?_)
          refine lv_iinc (v := nI (v + 1)) (lv' := [(2, .int (nI (v + 1))), (1, .int (e_hop n (e_lf n c T Hd G O (-1)) (v + 1))), (0, .ref (ad 0))]) hx hb dX1_hopeless_37 hl (k := 2) rfl (e_inc _) (by decide) rfl (fun ls hl => ?_)
          refine lv_goto (tgt := 8) hx hb dX1_hopeless_40 (by decide) ?_
          exact ih_8 (v + 1) (by omega) (by omega) _ _ hP hD hS ls (lv_sub hl [2, 1, 0] rfl)
  exact lp_8 (n + 1) 0 (by omega) (by omega) _ _ hP hD hS ls (lv_sub hl [2, 1, 0] rfl)
abbrev rX1_greatest : Room := { frames := 4, cells := 0, slots := 0, locals := 94 }
set_option maxHeartbeats 4000000 in
set_option maxRecDepth 100000 in
theorem metX1_greatest (l : Launch) (dC : Nat → ClassId) (dI : Nat → Nat → Nat) (ad : Nat → Nat) (cI cZ : ClassId) (n c : Nat) (T Hd G O N Wt Qu : eFn) (cu : Int32) (hok : e_ok n c T Hd G) (hgd : e_gdG n c T Hd G O N cu) (sz : Nat) : Met l yX1_greatest (ws_ yX1_greatest cX1_greatest 3 (some .int)) rX1_greatest (va_Pc [.ref (ad 0)] (e_PW (dC, dI) vwCl [(cI, .int), (cZ, .boolean)] (wG ad cI cZ n c T Hd G O N Wt Qu (-1) cu) sz)) (va_Qi (fun r (u : eFn × eFn × eFn × Int32) => r = s_gst n c T Hd G O ∧ e_gdG n c T Hd G O u.1 u.2.2.2) (e_B (dC, dI) vwCl [(cI, .int), (cZ, .boolean)] (fun u => wG ad cI cZ n c T Hd G O u.1 u.2.1 u.2.2.1 (-1) u.2.2.2) (va_A (wG ad cI cZ n c T Hd G O N Wt Qu (-1) cu) sz)) (va_A (wG ad cI cZ n c T Hd G O N Wt Qu (-1) cu) sz)) 0 0 (va_A (wG ad cI cZ n c T Hd G O N Wt Qu (-1) cu) sz) := by
  refine e_startWi (by decide) (Nat.le_of_ble_eq_true rfl) ?_
  intro pg ev st mi ar bl mt cd H A QQ hx hb hml hown hts hA hK hP hD hS hret ls hl
  have hown : st.vm.findClass RX1 = some mi.cls := hown
  have hP : va_P (dC, dI) vwCl [(ad 0, .inr (0, [.ref (ad 1), .ref (ad 2), .ref (ad 3), .ref (ad 4), .ref (ad 5), .ref (ad 6), .ref (ad 7), .int (nI n), .int (nI c), .int (nI (e_tp n)), .int (-1), .int cu])), (ad 1, .inl (cI, 14, .inl T)), (ad 2, .inl (cI, 14, .inl Hd)), (ad 3, .inl (cI, 14, .inl G)), (ad 4, .inl (cI, 6, .inl O)), (ad 5, .inl (cI, 6, .inl N)), (ad 6, .inl (cZ, 6, .inl Wt)), (ad 7, .inl (cI, 8, .inl Qu))] H := hP
  have hD : va_D A [(ad 0, .inr (0, [.ref (ad 1), .ref (ad 2), .ref (ad 3), .ref (ad 4), .ref (ad 5), .ref (ad 6), .ref (ad 7), .int (nI n), .int (nI c), .int (nI (e_tp n)), .int (-1), .int cu])), (ad 1, .inl (cI, 14, .inl T)), (ad 2, .inl (cI, 14, .inl Hd)), (ad 3, .inl (cI, 14, .inl G)), (ad 4, .inl (cI, 6, .inl O)), (ad 5, .inl (cI, 6, .inl N)), (ad 6, .inl (cZ, 6, .inl Wt)), (ad 7, .inl (cI, 8, .inl Qu))] := hD
  generalize hlocs : ([] : List Loc) = locs at hS ⊢
  have hl : lv_has ls 3 [(0, .ref (ad 0))] := hl
  have hn2 := hok.1
  have hn6 := hok.2.1
  have hc14 := hok.2.2.1
  have ht31 := e_tp_le hn6
  refine lv_aload_n hx hb dX1_greatest_0 rfl (lv_at hl 0 rfl) ?_
  refine e_callV (q0 := 0) (ci := 0) (rest := []) (wr := []) ⟨hx, hb, hml, hown, hts⟩ (metX1_refresh l dC dI ad cI cZ n c T Hd G O N Wt Qu cu hok hgd H.size) (cwV 0 hts (lw_V q108 q110 qs3 q19 q111) rfl rfl rfl (by decide +kernel) ⟨Nat.le_of_ble_eq_true rfl, Nat.le_of_ble_eq_true rfl⟩) hK hP hD hS hA [0, 1, 2, 3, 4, 5, 6, 7] [] rfl rfl (by decide) (by decide) (by decide) rfl rfl rfl rfl hl.1 rfl (Nat.le_of_ble_eq_true rfl) dX1_greatest_1 ⟨Nat.zero_le _, Nat.zero_le _⟩ (fun u_1 H locs hw_1 hP hD hS => ?_)
  obtain ⟨N2, Wt2, Qu2⟩ := u_1
  have hw_1 : ∀ v, v < n → N2 v = nI (e_lf n c T Hd G O (-1) v) := hw_1
  have hP : va_P (dC, dI) vwCl [(ad 0, .inr (0, [.ref (ad 1), .ref (ad 2), .ref (ad 3), .ref (ad 4), .ref (ad 5), .ref (ad 6), .ref (ad 7), .int (nI n), .int (nI c), .int (nI (e_tp n)), .int (-1), .int 1])), (ad 1, .inl (cI, 14, .inl T)), (ad 2, .inl (cI, 14, .inl Hd)), (ad 3, .inl (cI, 14, .inl G)), (ad 4, .inl (cI, 6, .inl O)), (ad 5, .inl (cI, 6, .inl N2)), (ad 6, .inl (cZ, 6, .inl Wt2)), (ad 7, .inl (cI, 8, .inl Qu2))] H := hP
  have hD : va_D A [(ad 0, .inr (0, [.ref (ad 1), .ref (ad 2), .ref (ad 3), .ref (ad 4), .ref (ad 5), .ref (ad 6), .ref (ad 7), .int (nI n), .int (nI c), .int (nI (e_tp n)), .int (-1), .int 1])), (ad 1, .inl (cI, 14, .inl T)), (ad 2, .inl (cI, 14, .inl Hd)), (ad 3, .inl (cI, 14, .inl G)), (ad 4, .inl (cI, 6, .inl O)), (ad 5, .inl (cI, 6, .inl N2)), (ad 6, .inl (cZ, 6, .inl Wt2)), (ad 7, .inl (cI, 8, .inl Qu2))] := hD
  refine lv_iconst (v := 0) hx hb dX1_greatest_4 (by decide) ?_
  refine lv_istore_n (lv' := [(1, .int 0), (0, .ref (ad 0))]) hx hb dX1_greatest_5 rfl hl (by decide) rfl (fun ls hl => ?_)
  refine lv_iconst (v := nI 0) hx hb dX1_greatest_6 (by decide) ?_
  refine lv_istore_n (lv' := [(2, .int (nI 0)), (1, .int 0), (0, .ref (ad 0))]) hx hb dX1_greatest_7 rfl hl (by decide) rfl (fun ls hl => ?_)
  have lp_8 : ∀ (k_8 : Nat) (v : Nat), (v ≤ n) → (n < v + k_8) → ∀ (H : Heap) (locs : List Loc), va_P (dC, dI) vwCl [(ad 0, .inr (0, [.ref (ad 1), .ref (ad 2), .ref (ad 3), .ref (ad 4), .ref (ad 5), .ref (ad 6), .ref (ad 7), .int (nI n), .int (nI c), .int (nI (e_tp n)), .int (-1), .int 1])), (ad 1, .inl (cI, 14, .inl T)), (ad 2, .inl (cI, 14, .inl Hd)), (ad 3, .inl (cI, 14, .inl G)), (ad 4, .inl (cI, 6, .inl O)), (ad 5, .inl (cI, 6, .inl N2)), (ad 6, .inl (cZ, 6, .inl Wt2)), (ad 7, .inl (cI, 8, .inl Qu2))] H → va_D A [(ad 0, .inr (0, [.ref (ad 1), .ref (ad 2), .ref (ad 3), .ref (ad 4), .ref (ad 5), .ref (ad 6), .ref (ad 7), .int (nI n), .int (nI c), .int (nI (e_tp n)), .int (-1), .int 1])), (ad 1, .inl (cI, 14, .inl T)), (ad 2, .inl (cI, 14, .inl Hd)), (ad 3, .inl (cI, 14, .inl G)), (ad 4, .inl (cI, 6, .inl O)), (ad 5, .inl (cI, 6, .inl N2)), (ad 6, .inl (cZ, 6, .inl Wt2)), (ad 7, .inl (cI, 8, .inl Qu2))] → va_S A st.heap H locs → ∀ ls : Array Slot, lv_has ls 3 [(0, .ref (ad 0)), (1, .int (e_gst n (e_lf n c T Hd G O (-1)) v)), (2, .int (nI v))] → W pg l ev rX1_greatest st mi ar bl mt cd H locs 0 0 QQ (F0 mi 8 ls []) := by
    intro k_8
    induction k_8 with
    | zero =>
      intro v hvn hk
      exfalso; omega
    | succ k_8 ih_8 =>
      intro v hvn hk H locs hP hD hS ls hl
      have hLv := e_lf_le (n := n) (c := c) (T := T) (Hd := Hd) (G := G) (P := O) (sk := -1) (v := v)
      refine lv_iload_n hx hb dX1_greatest_8 rfl (lv_at hl 2 rfl) ?_
      refine lv_aload_n hx hb dX1_greatest_9 rfl (lv_at hl 0 rfl) ?_
      refine va_get (D := (dC, dI)) (ci := 0) (v := .int (nI n)) (C := RX1) (T := TX1) (N := 12) hx hb hts in_X1 hown hK hP 0 rfl rfl 7 (by decide) (hts _ q36) (fun _ h9 => h9) rfl dX1_greatest_10 ?_
      refine e_ge (tgt := 52) hx hb (by omega) (by omega) dX1_greatest_13 (by decide) (fun c_13 => ?_) (fun c_13 => ?_)
      · have heq : n = v := by omega
        subst heq
        refine lv_iload_n hx hb dX1_greatest_52 rfl (lv_at hl 1 rfl) ?_
        exact hret (N2, Wt2, Qu2, 1) dX1_greatest_53 ⟨rfl, Or.inr ⟨rfl, hw_1⟩⟩ hP hD hS
      · refine lv_aload_n hx hb dX1_greatest_16 rfl (lv_at hl 0 rfl) ?_
        refine va_get (D := (dC, dI)) (ci := 0) (v := .ref (ad 5)) (C := RX1) (T := TX1) (N := 12) hx hb hts in_X1 hown hK hP 0 rfl rfl 4 (by decide) (hts _ q33) (fun _ h9 => h9) rfl dX1_greatest_17 ?_
        refine lv_iload_n hx hb dX1_greatest_20 rfl (lv_at hl 2 rfl) ?_
        refine e_ild (v := nI (e_lf n c T Hd G O (-1) v)) hx hb hK hP 5 0 rfl rfl v rfl (by omega) (by decide) (hw_1 v (by omega)) dX1_greatest_21 ?_
        refine lv_aload_n hx hb dX1_greatest_22 rfl (lv_at hl 0 rfl) ?_
        refine va_get (D := (dC, dI)) (ci := 0) (v := .int (nI (e_tp n))) (C := RX1) (T := TX1) (N := 12) hx hb hts in_X1 hown hK hP 0 rfl rfl 9 (by decide) (hts _ q38) (fun _ h9 => h9) rfl dX1_greatest_23 ?_
        refine e_ge (tgt := 46) hx hb (by omega) (by omega) dX1_greatest_26 (by decide) (fun c_26 => ?_) (fun c_26 => ?_)
        · refine lv_iinc (v := nI (v + 1)) (lv' := [(2, .int (nI (v + 1))), (0, .ref (ad 0)), (1, .int (e_gst n (e_lf n c T Hd G O (-1)) v))]) hx hb dX1_greatest_46 hl (k := 2) rfl (e_inc _) (by decide) rfl (fun ls hl => ?_)
          refine lv_goto (tgt := 8) hx hb dX1_greatest_49 (by decide) ?_
          rw [← e_gst_n (L := (e_lf n c T Hd G O (-1))) (fun z => absurd z.1 (Nat.not_lt.mpr c_26))] at hl
          exact ih_8 (v + 1) (by omega) (by omega) _ _ hP hD hS ls (lv_sub hl [1, 2, 0] rfl)
        · refine lv_aload_n hx hb dX1_greatest_29 rfl (lv_at hl 0 rfl) ?_
          refine va_get (D := (dC, dI)) (ci := 0) (v := .ref (ad 5)) (C := RX1) (T := TX1) (N := 12) hx hb hts in_X1 hown hK hP 0 rfl rfl 4 (by decide) (hts _ q33) (fun _ h9 => h9) rfl dX1_greatest_30 ?_
          refine lv_iload_n hx hb dX1_greatest_33 rfl (lv_at hl 2 rfl) ?_
          refine e_ild (v := nI (e_lf n c T Hd G O (-1) v)) hx hb hK hP 5 0 rfl rfl v rfl (by omega) (by decide) (hw_1 v (by omega)) dX1_greatest_34 ?_
          refine lv_iload_n hx hb dX1_greatest_35 rfl (lv_at hl 1 rfl) ?_
          refine lv_icmp_le (tgt := 46) hx hb dX1_greatest_36 (by decide) (fun c_36 => ?_) (fun c_36 => ?_)
          · refine lv_iinc (v := nI (v + 1)) (lv' := [(2, .int (nI (v + 1))), (0, .ref (ad 0)), (1, .int (e_gst n (e_lf n c T Hd G O (-1)) v))]) hx hb dX1_greatest_46 hl (k := 2) rfl (e_inc _) (by decide) rfl (fun ls hl => ?_)
            refine lv_goto (tgt := 8) hx hb dX1_greatest_49 (by decide) ?_
            rw [← e_gst_n (L := (e_lf n c T Hd G O (-1))) (fun z => absurd z.2 (Int32.not_lt.mpr c_36))] at hl
            exact ih_8 (v + 1) (by omega) (by omega) _ _ hP hD hS ls (lv_sub hl [1, 2, 0] rfl)
          · refine lv_aload_n hx hb dX1_greatest_39 rfl (lv_at hl 0 rfl) ?_
            refine va_get (D := (dC, dI)) (ci := 0) (v := .ref (ad 5)) (C := RX1) (T := TX1) (N := 12) hx hb hts in_X1 hown hK hP 0 rfl rfl 4 (by decide) (hts _ q33) (fun _ h9 => h9) rfl dX1_greatest_40 ?_
            refine lv_iload_n hx hb dX1_greatest_43 rfl (lv_at hl 2 rfl) ?_
            refine e_ild (v := nI (e_lf n c T Hd G O (-1) v)) hx hb hK hP 5 0 rfl rfl v rfl (by omega) (by decide) (hw_1 v (by omega)) dX1_greatest_44 ?_
            refine lv_istore_n (lv' := [(1, .int (nI (e_lf n c T Hd G O (-1) v))), (0, .ref (ad 0)), (2, .int (nI v))]) hx hb dX1_greatest_45 rfl hl (by decide) rfl (fun ls hl => ?_)
            refine lv_iinc (v := nI (v + 1)) (lv' := [(2, .int (nI (v + 1))), (1, .int (nI (e_lf n c T Hd G O (-1) v))), (0, .ref (ad 0))]) hx hb dX1_greatest_46 hl (k := 2) rfl (e_inc _) (by decide) rfl (fun ls hl => ?_)
            refine lv_goto (tgt := 8) hx hb dX1_greatest_49 (by decide) ?_
            rw [← e_gst_y (L := (e_lf n c T Hd G O (-1))) ⟨c_26, Int32.not_le.mp c_36⟩] at hl
            exact ih_8 (v + 1) (by omega) (by omega) _ _ hP hD hS ls (lv_sub hl [2, 1, 0] rfl)
  exact lp_8 (n + 1) 0 (by omega) (by omega) _ _ hP hD hS ls (lv_sub hl [2, 1, 0] rfl)
abbrev rX1_choice : Room := { frames := 4, cells := 0, slots := 0, locals := 94 }
set_option maxHeartbeats 4000000 in
set_option maxRecDepth 100000 in
theorem metX1_choice (l : Launch) (dC : Nat → ClassId) (dI : Nat → Nat → Nat) (ad : Nat → Nat) (cI cZ : ClassId) (n c : Nat) (T Hd G O N Wt Qu : eFn) (cu : Int32) (hok : e_ok n c T Hd G) (hgd : e_gdG n c T Hd G O N cu) (p0 : Int32) (sz : Nat) : Met l yX1_choice (ws_ yX1_choice cX1_choice 3 (some .int)) rX1_choice (va_Pc [.ref (ad 0), .int p0] (e_PW (dC, dI) vwCl [(cI, .int), (cZ, .boolean)] (wG ad cI cZ n c T Hd G O N Wt Qu (-1) cu) sz)) (va_Qi (fun r (u : eFn × eFn × eFn × Int32) => r = s_choice n c T Hd G O p0 ∧ e_gdG n c T Hd G O u.1 u.2.2.2) (e_B (dC, dI) vwCl [(cI, .int), (cZ, .boolean)] (fun u => wG ad cI cZ n c T Hd G O u.1 u.2.1 u.2.2.1 (-1) u.2.2.2) (va_A (wG ad cI cZ n c T Hd G O N Wt Qu (-1) cu) sz)) (va_A (wG ad cI cZ n c T Hd G O N Wt Qu (-1) cu) sz)) 0 0 (va_A (wG ad cI cZ n c T Hd G O N Wt Qu (-1) cu) sz) := by
  refine e_startWi (by decide) (Nat.le_of_ble_eq_true rfl) ?_
  intro pg ev st mi ar bl mt cd H A QQ hx hb hml hown hts hA hK hP hD hS hret ls hl
  have hown : st.vm.findClass RX1 = some mi.cls := hown
  have hP : va_P (dC, dI) vwCl [(ad 0, .inr (0, [.ref (ad 1), .ref (ad 2), .ref (ad 3), .ref (ad 4), .ref (ad 5), .ref (ad 6), .ref (ad 7), .int (nI n), .int (nI c), .int (nI (e_tp n)), .int (-1), .int cu])), (ad 1, .inl (cI, 14, .inl T)), (ad 2, .inl (cI, 14, .inl Hd)), (ad 3, .inl (cI, 14, .inl G)), (ad 4, .inl (cI, 6, .inl O)), (ad 5, .inl (cI, 6, .inl N)), (ad 6, .inl (cZ, 6, .inl Wt)), (ad 7, .inl (cI, 8, .inl Qu))] H := hP
  have hD : va_D A [(ad 0, .inr (0, [.ref (ad 1), .ref (ad 2), .ref (ad 3), .ref (ad 4), .ref (ad 5), .ref (ad 6), .ref (ad 7), .int (nI n), .int (nI c), .int (nI (e_tp n)), .int (-1), .int cu])), (ad 1, .inl (cI, 14, .inl T)), (ad 2, .inl (cI, 14, .inl Hd)), (ad 3, .inl (cI, 14, .inl G)), (ad 4, .inl (cI, 6, .inl O)), (ad 5, .inl (cI, 6, .inl N)), (ad 6, .inl (cZ, 6, .inl Wt)), (ad 7, .inl (cI, 8, .inl Qu))] := hD
  generalize hlocs : ([] : List Loc) = locs at hS ⊢
  have hl : lv_has ls 3 [(0, .ref (ad 0)), (1, .int p0)] := hl
  have hn2 := hok.1
  have hn6 := hok.2.1
  have hc14 := hok.2.2.1
  refine lv_aload_n hx hb dX1_choice_0 rfl (lv_at hl 0 rfl) ?_
  refine lv_iload_n hx hb dX1_choice_1 rfl (lv_at hl 1 rfl) ?_
  refine e_callR (q0 := 0) (ci := 0) (rest := []) ⟨hx, hb, hml, hown, hts⟩ (metX1_isVertex l dC dI ad cI cZ n c T Hd G O N Wt Qu (-1) cu p0) (cwV 1 hts (lw_V q76 q78 qs0 q19 q79) rfl rfl rfl (by decide +kernel) ⟨Nat.le_of_ble_eq_true rfl, Nat.le_of_ble_eq_true rfl⟩) hK hP rfl rfl rfl rfl hl.1 rfl (Nat.le_of_ble_eq_true rfl) dX1_choice_2 ⟨Nat.zero_le _, Nat.zero_le _⟩ (fun r_2 hr_2 => ?_)
  rcases hr_2 with ⟨rfl, hv_2⟩ | ⟨rfl, hv_2⟩
  · obtain ⟨j, hj, rfl⟩ := e_v_of hv_2 (by omega)
    refine lv_if_ne (tgt := 10) hx hb dX1_choice_5 (by decide) (fun c_5 => ?_) (fun c_5 => absurd c_5 (by decide))
    refine lv_aload_n hx hb dX1_choice_10 rfl (lv_at hl 0 rfl) ?_
    refine e_callV (q0 := 0) (ci := 0) (rest := []) (wr := []) ⟨hx, hb, hml, hown, hts⟩ (metX1_refresh l dC dI ad cI cZ n c T Hd G O N Wt Qu cu hok hgd H.size) (cwV 0 hts (lw_V q108 q110 qs3 q19 q111) rfl rfl rfl (by decide +kernel) ⟨Nat.le_of_ble_eq_true rfl, Nat.le_of_ble_eq_true rfl⟩) hK hP hD hS hA [0, 1, 2, 3, 4, 5, 6, 7] [] rfl rfl (by decide) (by decide) (by decide) rfl rfl rfl rfl hl.1 rfl (Nat.le_of_ble_eq_true rfl) dX1_choice_11 ⟨Nat.zero_le _, Nat.zero_le _⟩ (fun u_11 H locs hw_11 hP hD hS => ?_)
    obtain ⟨N2, Wt2, Qu2⟩ := u_11
    have hw_11 : ∀ v, v < n → N2 v = nI (e_lf n c T Hd G O (-1) v) := hw_11
    have hP : va_P (dC, dI) vwCl [(ad 0, .inr (0, [.ref (ad 1), .ref (ad 2), .ref (ad 3), .ref (ad 4), .ref (ad 5), .ref (ad 6), .ref (ad 7), .int (nI n), .int (nI c), .int (nI (e_tp n)), .int (-1), .int 1])), (ad 1, .inl (cI, 14, .inl T)), (ad 2, .inl (cI, 14, .inl Hd)), (ad 3, .inl (cI, 14, .inl G)), (ad 4, .inl (cI, 6, .inl O)), (ad 5, .inl (cI, 6, .inl N2)), (ad 6, .inl (cZ, 6, .inl Wt2)), (ad 7, .inl (cI, 8, .inl Qu2))] H := hP
    have hD : va_D A [(ad 0, .inr (0, [.ref (ad 1), .ref (ad 2), .ref (ad 3), .ref (ad 4), .ref (ad 5), .ref (ad 6), .ref (ad 7), .int (nI n), .int (nI c), .int (nI (e_tp n)), .int (-1), .int 1])), (ad 1, .inl (cI, 14, .inl T)), (ad 2, .inl (cI, 14, .inl Hd)), (ad 3, .inl (cI, 14, .inl G)), (ad 4, .inl (cI, 6, .inl O)), (ad 5, .inl (cI, 6, .inl N2)), (ad 6, .inl (cZ, 6, .inl Wt2)), (ad 7, .inl (cI, 8, .inl Qu2))] := hD
    refine lv_iconst (v := nI 0) hx hb dX1_choice_14 (by decide) ?_
    refine lv_istore_n (lv' := [(2, .int (nI 0)), (0, .ref (ad 0)), (1, .int (nI j))]) hx hb dX1_choice_15 rfl hl (by decide) rfl (fun ls hl => ?_)
    have lp_16 : ∀ (k_16 : Nat) (e : Nat), (e ≤ c) → (c < e + k_16) → (s_choice n c T Hd G O (nI j) = e_ch T (e_gd n T Hd G O (e_lf n c T Hd G O (-1))) (nI j) (c - e) e) → ∀ (H : Heap) (locs : List Loc), va_P (dC, dI) vwCl [(ad 0, .inr (0, [.ref (ad 1), .ref (ad 2), .ref (ad 3), .ref (ad 4), .ref (ad 5), .ref (ad 6), .ref (ad 7), .int (nI n), .int (nI c), .int (nI (e_tp n)), .int (-1), .int 1])), (ad 1, .inl (cI, 14, .inl T)), (ad 2, .inl (cI, 14, .inl Hd)), (ad 3, .inl (cI, 14, .inl G)), (ad 4, .inl (cI, 6, .inl O)), (ad 5, .inl (cI, 6, .inl N2)), (ad 6, .inl (cZ, 6, .inl Wt2)), (ad 7, .inl (cI, 8, .inl Qu2))] H → va_D A [(ad 0, .inr (0, [.ref (ad 1), .ref (ad 2), .ref (ad 3), .ref (ad 4), .ref (ad 5), .ref (ad 6), .ref (ad 7), .int (nI n), .int (nI c), .int (nI (e_tp n)), .int (-1), .int 1])), (ad 1, .inl (cI, 14, .inl T)), (ad 2, .inl (cI, 14, .inl Hd)), (ad 3, .inl (cI, 14, .inl G)), (ad 4, .inl (cI, 6, .inl O)), (ad 5, .inl (cI, 6, .inl N2)), (ad 6, .inl (cZ, 6, .inl Wt2)), (ad 7, .inl (cI, 8, .inl Qu2))] → va_S A st.heap H locs → ∀ ls : Array Slot, lv_has ls 3 [(0, .ref (ad 0)), (1, .int (nI j)), (2, .int (nI e))] → W pg l ev rX1_choice st mi ar bl mt cd H locs 0 0 QQ (F0 mi 16 ls []) := by
      intro k_16
      induction k_16 with
      | zero =>
        intro e he hk hz
        exfalso; omega
      | succ k_16 ih_16 =>
        intro e he hk hz H locs hP hD hS ls hl
        refine lv_iload_n hx hb dX1_choice_16 rfl (lv_at hl 2 rfl) ?_
        refine lv_aload_n hx hb dX1_choice_17 rfl (lv_at hl 0 rfl) ?_
        refine va_get (D := (dC, dI)) (ci := 0) (v := .int (nI c)) (C := RX1) (T := TX1) (N := 12) hx hb hts in_X1 hown hK hP 0 rfl rfl 8 (by decide) (hts _ q37) (fun _ h9 => h9) rfl dX1_choice_18 ?_
        refine e_ge (tgt := 50) hx hb (by omega) (by omega) dX1_choice_21 (by decide) (fun c_21 => ?_) (fun c_21 => ?_)
        · refine lv_bipush (v := -2) hx hb dX1_choice_50 (by decide) ?_
          exact hret (N2, Wt2, Qu2, 1) dX1_choice_52 ⟨by rw [hz, e_ch_0 (by omega)], Or.inr ⟨rfl, hw_11⟩⟩ hP hD hS
        · refine lv_aload_n hx hb dX1_choice_24 rfl (lv_at hl 0 rfl) ?_
          refine va_get (D := (dC, dI)) (ci := 0) (v := .ref (ad 1)) (C := RX1) (T := TX1) (N := 12) hx hb hts in_X1 hown hK hP 0 rfl rfl 0 (by decide) (hts _ q29) (fun _ h9 => h9) rfl dX1_choice_25 ?_
          refine lv_iload_n hx hb dX1_choice_28 rfl (lv_at hl 2 rfl) ?_
          refine e_ild (v := T e) hx hb hK hP 1 0 rfl rfl e rfl (by omega) (by decide) rfl dX1_choice_29 ?_
          refine lv_iload_n hx hb dX1_choice_30 rfl (lv_at hl 1 rfl) ?_
          refine lv_icmp_ne (tgt := 44) hx hb dX1_choice_31 (by decide) (fun c_31 => ?_) (fun c_31 => ?_)
          · refine lv_iinc (v := nI (e + 1)) (lv' := [(2, .int (nI (e + 1))), (0, .ref (ad 0)), (1, .int (nI j))]) hx hb dX1_choice_44 hl (k := 2) rfl (e_inc _) (by decide) rfl (fun ls hl => ?_)
            refine lv_goto (tgt := 16) hx hb dX1_choice_47 (by decide) ?_
            exact ih_16 (e + 1) (by omega) (by omega) (hz.trans (e_ch_n (by omega) (fun z => c_31 z.1))) _ _ hP hD hS ls (lv_sub hl [1, 2, 0] rfl)
          · refine lv_aload_n hx hb dX1_choice_34 rfl (lv_at hl 0 rfl) ?_
            refine lv_iload_n hx hb dX1_choice_35 rfl (lv_at hl 2 rfl) ?_
            refine e_callR (q0 := 0) (ci := 0) (rest := []) ⟨hx, hb, hml, hown, hts⟩ (metX1_isGood l dC dI ad cI cZ n c T Hd G O N2 Wt2 Qu2 (-1) 1 hok (e_lf n c T Hd G O (-1)) hw_11 (fun _ _ => e_lf_le) e (by omega)) (cwV 1 hts (lw_V q140 q142 qs8 q19 q143) rfl rfl rfl (by decide +kernel) ⟨Nat.le_of_ble_eq_true rfl, Nat.le_of_ble_eq_true rfl⟩) hK hP rfl rfl rfl rfl hl.1 rfl (Nat.le_of_ble_eq_true rfl) dX1_choice_36 ⟨Nat.zero_le _, Nat.zero_le _⟩ (fun r_36 hr_36 => ?_)
            rcases hr_36 with ⟨rfl, hv_36⟩ | ⟨rfl, hv_36⟩
            · refine lv_if_eq (tgt := 44) hx hb dX1_choice_39 (by decide) (fun c_39 => absurd c_39 (by decide)) (fun c_39 => ?_)
              refine lv_iload_n hx hb dX1_choice_42 rfl (lv_at hl 2 rfl) ?_
              exact hret (N2, Wt2, Qu2, 1) dX1_choice_43 ⟨by rw [hz, e_ch_y (by omega) ⟨c_31, hv_36⟩], Or.inr ⟨rfl, hw_11⟩⟩ hP hD hS
            · refine lv_if_eq (tgt := 44) hx hb dX1_choice_39 (by decide) (fun c_39 => ?_) (fun c_39 => absurd c_39 (by decide))
              refine lv_iinc (v := nI (e + 1)) (lv' := [(2, .int (nI (e + 1))), (0, .ref (ad 0)), (1, .int (nI j))]) hx hb dX1_choice_44 hl (k := 2) rfl (e_inc _) (by decide) rfl (fun ls hl => ?_)
              refine lv_goto (tgt := 16) hx hb dX1_choice_47 (by decide) ?_
              exact ih_16 (e + 1) (by omega) (by omega) (hz.trans (e_ch_n (by omega) (fun z => hv_36 z.2))) _ _ hP hD hS ls (lv_sub hl [1, 2, 0] rfl)
    exact lp_16 (c + 1) 0 (by omega) (by omega) (by unfold s_choice; rw [if_neg (fun z => z hv_2)]; rfl) _ _ hP hD hS ls (lv_sub hl [1, 2, 0] rfl)
  · refine lv_if_ne (tgt := 10) hx hb dX1_choice_5 (by decide) (fun c_5 => absurd c_5 (by decide)) (fun c_5 => ?_)
    refine lv_iconst (v := -1) hx hb dX1_choice_8 (by decide) ?_
    exact hret (N, Wt, Qu, cu) dX1_choice_9 ⟨by unfold s_choice; rw [if_pos hv_2], hgd⟩ hP hD hS
abbrev rX1_choices : Room := { frames := 4, cells := 0, slots := 0, locals := 94 }
set_option maxHeartbeats 4000000 in
set_option maxRecDepth 100000 in
theorem metX1_choices (l : Launch) (dC : Nat → ClassId) (dI : Nat → Nat → Nat) (ad : Nat → Nat) (cI cZ : ClassId) (n c : Nat) (T Hd G O N Wt Qu : eFn) (cu : Int32) (hok : e_ok n c T Hd G) (hgd : e_gdG n c T Hd G O N cu) (p0 : Int32) (sz : Nat) : Met l yX1_choices (ws_ yX1_choices cX1_choices 4 (some .int)) rX1_choices (va_Pc [.ref (ad 0), .int p0] (e_PW (dC, dI) vwCl [(cI, .int), (cZ, .boolean)] (wG ad cI cZ n c T Hd G O N Wt Qu (-1) cu) sz)) (va_Qi (fun r (u : eFn × eFn × eFn × Int32) => r = s_choices n c T Hd G O p0 ∧ e_gdG n c T Hd G O u.1 u.2.2.2) (e_B (dC, dI) vwCl [(cI, .int), (cZ, .boolean)] (fun u => wG ad cI cZ n c T Hd G O u.1 u.2.1 u.2.2.1 (-1) u.2.2.2) (va_A (wG ad cI cZ n c T Hd G O N Wt Qu (-1) cu) sz)) (va_A (wG ad cI cZ n c T Hd G O N Wt Qu (-1) cu) sz)) 0 0 (va_A (wG ad cI cZ n c T Hd G O N Wt Qu (-1) cu) sz) := by
  refine e_startWi (by decide) (Nat.le_of_ble_eq_true rfl) ?_
  intro pg ev st mi ar bl mt cd H A QQ hx hb hml hown hts hA hK hP hD hS hret ls hl
  have hown : st.vm.findClass RX1 = some mi.cls := hown
  have hP : va_P (dC, dI) vwCl [(ad 0, .inr (0, [.ref (ad 1), .ref (ad 2), .ref (ad 3), .ref (ad 4), .ref (ad 5), .ref (ad 6), .ref (ad 7), .int (nI n), .int (nI c), .int (nI (e_tp n)), .int (-1), .int cu])), (ad 1, .inl (cI, 14, .inl T)), (ad 2, .inl (cI, 14, .inl Hd)), (ad 3, .inl (cI, 14, .inl G)), (ad 4, .inl (cI, 6, .inl O)), (ad 5, .inl (cI, 6, .inl N)), (ad 6, .inl (cZ, 6, .inl Wt)), (ad 7, .inl (cI, 8, .inl Qu))] H := hP
  have hD : va_D A [(ad 0, .inr (0, [.ref (ad 1), .ref (ad 2), .ref (ad 3), .ref (ad 4), .ref (ad 5), .ref (ad 6), .ref (ad 7), .int (nI n), .int (nI c), .int (nI (e_tp n)), .int (-1), .int cu])), (ad 1, .inl (cI, 14, .inl T)), (ad 2, .inl (cI, 14, .inl Hd)), (ad 3, .inl (cI, 14, .inl G)), (ad 4, .inl (cI, 6, .inl O)), (ad 5, .inl (cI, 6, .inl N)), (ad 6, .inl (cZ, 6, .inl Wt)), (ad 7, .inl (cI, 8, .inl Qu))] := hD
  generalize hlocs : ([] : List Loc) = locs at hS ⊢
  have hl : lv_has ls 4 [(0, .ref (ad 0)), (1, .int p0)] := hl
  have hn2 := hok.1
  have hn6 := hok.2.1
  have hc14 := hok.2.2.1
  refine lv_aload_n hx hb dX1_choices_0 rfl (lv_at hl 0 rfl) ?_
  refine lv_iload_n hx hb dX1_choices_1 rfl (lv_at hl 1 rfl) ?_
  refine e_callR (q0 := 0) (ci := 0) (rest := []) ⟨hx, hb, hml, hown, hts⟩ (metX1_isVertex l dC dI ad cI cZ n c T Hd G O N Wt Qu (-1) cu p0) (cwV 1 hts (lw_V q76 q78 qs0 q19 q79) rfl rfl rfl (by decide +kernel) ⟨Nat.le_of_ble_eq_true rfl, Nat.le_of_ble_eq_true rfl⟩) hK hP rfl rfl rfl rfl hl.1 rfl (Nat.le_of_ble_eq_true rfl) dX1_choices_2 ⟨Nat.zero_le _, Nat.zero_le _⟩ (fun r_2 hr_2 => ?_)
  rcases hr_2 with ⟨rfl, hv_2⟩ | ⟨rfl, hv_2⟩
  · obtain ⟨j, hj, rfl⟩ := e_v_of hv_2 (by omega)
    refine lv_if_ne (tgt := 10) hx hb dX1_choices_5 (by decide) (fun c_5 => ?_) (fun c_5 => absurd c_5 (by decide))
    refine lv_aload_n hx hb dX1_choices_10 rfl (lv_at hl 0 rfl) ?_
    refine e_callV (q0 := 0) (ci := 0) (rest := []) (wr := []) ⟨hx, hb, hml, hown, hts⟩ (metX1_refresh l dC dI ad cI cZ n c T Hd G O N Wt Qu cu hok hgd H.size) (cwV 0 hts (lw_V q108 q110 qs3 q19 q111) rfl rfl rfl (by decide +kernel) ⟨Nat.le_of_ble_eq_true rfl, Nat.le_of_ble_eq_true rfl⟩) hK hP hD hS hA [0, 1, 2, 3, 4, 5, 6, 7] [] rfl rfl (by decide) (by decide) (by decide) rfl rfl rfl rfl hl.1 rfl (Nat.le_of_ble_eq_true rfl) dX1_choices_11 ⟨Nat.zero_le _, Nat.zero_le _⟩ (fun u_11 H locs hw_11 hP hD hS => ?_)
    obtain ⟨N2, Wt2, Qu2⟩ := u_11
    have hw_11 : ∀ v, v < n → N2 v = nI (e_lf n c T Hd G O (-1) v) := hw_11
    have hP : va_P (dC, dI) vwCl [(ad 0, .inr (0, [.ref (ad 1), .ref (ad 2), .ref (ad 3), .ref (ad 4), .ref (ad 5), .ref (ad 6), .ref (ad 7), .int (nI n), .int (nI c), .int (nI (e_tp n)), .int (-1), .int 1])), (ad 1, .inl (cI, 14, .inl T)), (ad 2, .inl (cI, 14, .inl Hd)), (ad 3, .inl (cI, 14, .inl G)), (ad 4, .inl (cI, 6, .inl O)), (ad 5, .inl (cI, 6, .inl N2)), (ad 6, .inl (cZ, 6, .inl Wt2)), (ad 7, .inl (cI, 8, .inl Qu2))] H := hP
    have hD : va_D A [(ad 0, .inr (0, [.ref (ad 1), .ref (ad 2), .ref (ad 3), .ref (ad 4), .ref (ad 5), .ref (ad 6), .ref (ad 7), .int (nI n), .int (nI c), .int (nI (e_tp n)), .int (-1), .int 1])), (ad 1, .inl (cI, 14, .inl T)), (ad 2, .inl (cI, 14, .inl Hd)), (ad 3, .inl (cI, 14, .inl G)), (ad 4, .inl (cI, 6, .inl O)), (ad 5, .inl (cI, 6, .inl N2)), (ad 6, .inl (cZ, 6, .inl Wt2)), (ad 7, .inl (cI, 8, .inl Qu2))] := hD
    refine lv_iconst (v := 0) hx hb dX1_choices_14 (by decide) ?_
    refine lv_istore_n (lv' := [(2, .int 0), (0, .ref (ad 0)), (1, .int (nI j))]) hx hb dX1_choices_15 rfl hl (by decide) rfl (fun ls hl => ?_)
    refine lv_iconst (v := nI 0) hx hb dX1_choices_16 (by decide) ?_
    refine lv_istore_n (lv' := [(3, .int (nI 0)), (2, .int 0), (0, .ref (ad 0)), (1, .int (nI j))]) hx hb dX1_choices_17 rfl hl (by decide) rfl (fun ls hl => ?_)
    have lp_18 : ∀ (k_18 : Nat) (e : Nat), (e ≤ c) → (c < e + k_18) → ∀ (H : Heap) (locs : List Loc), va_P (dC, dI) vwCl [(ad 0, .inr (0, [.ref (ad 1), .ref (ad 2), .ref (ad 3), .ref (ad 4), .ref (ad 5), .ref (ad 6), .ref (ad 7), .int (nI n), .int (nI c), .int (nI (e_tp n)), .int (-1), .int 1])), (ad 1, .inl (cI, 14, .inl T)), (ad 2, .inl (cI, 14, .inl Hd)), (ad 3, .inl (cI, 14, .inl G)), (ad 4, .inl (cI, 6, .inl O)), (ad 5, .inl (cI, 6, .inl N2)), (ad 6, .inl (cZ, 6, .inl Wt2)), (ad 7, .inl (cI, 8, .inl Qu2))] H → va_D A [(ad 0, .inr (0, [.ref (ad 1), .ref (ad 2), .ref (ad 3), .ref (ad 4), .ref (ad 5), .ref (ad 6), .ref (ad 7), .int (nI n), .int (nI c), .int (nI (e_tp n)), .int (-1), .int 1])), (ad 1, .inl (cI, 14, .inl T)), (ad 2, .inl (cI, 14, .inl Hd)), (ad 3, .inl (cI, 14, .inl G)), (ad 4, .inl (cI, 6, .inl O)), (ad 5, .inl (cI, 6, .inl N2)), (ad 6, .inl (cZ, 6, .inl Wt2)), (ad 7, .inl (cI, 8, .inl Qu2))] → va_S A st.heap H locs → ∀ ls : Array Slot, lv_has ls 4 [(0, .ref (ad 0)), (1, .int (nI j)), (2, .int (e_chs T (e_gd n T Hd G O (e_lf n c T Hd G O (-1))) (nI j) e)), (3, .int (nI e))] → W pg l ev rX1_choices st mi ar bl mt cd H locs 0 0 QQ (F0 mi 18 ls []) := by
      intro k_18
      induction k_18 with
      | zero =>
        intro e he hk
        exfalso; omega
      | succ k_18 ih_18 =>
        intro e he hk H locs hP hD hS ls hl
        refine lv_iload_n hx hb dX1_choices_18 rfl (lv_at hl 3 rfl) ?_
        refine lv_aload_n hx hb dX1_choices_19 rfl (lv_at hl 0 rfl) ?_
        refine va_get (D := (dC, dI)) (ci := 0) (v := .int (nI c)) (C := RX1) (T := TX1) (N := 12) hx hb hts in_X1 hown hK hP 0 rfl rfl 8 (by decide) (hts _ q37) (fun _ h9 => h9) rfl dX1_choices_20 ?_
        refine e_ge (tgt := 58) hx hb (by omega) (by omega) dX1_choices_23 (by decide) (fun c_23 => ?_) (fun c_23 => ?_)
        · have heq : c = e := by omega
          subst heq
          refine lv_iload_n hx hb dX1_choices_58 rfl (lv_at hl 2 rfl) ?_
          exact hret (N2, Wt2, Qu2, 1) dX1_choices_59 ⟨by unfold s_choices; rw [if_neg (fun z => z hv_2)], Or.inr ⟨rfl, hw_11⟩⟩ hP hD hS
        · refine lv_iload_n hx hb dX1_choices_26 rfl (lv_at hl 2 rfl) ?_
          refine lv_aload_n hx hb dX1_choices_27 rfl (lv_at hl 0 rfl) ?_
          refine va_get (D := (dC, dI)) (ci := 0) (v := .ref (ad 1)) (C := RX1) (T := TX1) (N := 12) hx hb hts in_X1 hown hK hP 0 rfl rfl 0 (by decide) (hts _ q29) (fun _ h9 => h9) rfl dX1_choices_28 ?_
          refine lv_iload_n hx hb dX1_choices_31 rfl (lv_at hl 3 rfl) ?_
          refine e_ild (v := T e) hx hb hK hP 1 0 rfl rfl e rfl (by omega) (by decide) rfl dX1_choices_32 ?_
          refine lv_iload_n hx hb dX1_choices_33 rfl (lv_at hl 1 rfl) ?_
          refine lv_icmp_ne (tgt := 49) hx hb dX1_choices_34 (by decide) (fun c_34 => ?_) (fun c_34 => ?_)
          · refine lv_iconst (v := 0) hx hb dX1_choices_49 (by decide) ?_
            refine lv_iadd hx hb dX1_choices_50 ?_
            refine e_top (e_chs T (e_gd n T Hd G O (e_lf n c T Hd G O (-1))) (nI j) (e + 1)) (e_chs_n (fun z => c_34 z.1)) ?_
            refine lv_istore_n (lv' := [(2, .int (e_chs T (e_gd n T Hd G O (e_lf n c T Hd G O (-1))) (nI j) (e + 1))), (0, .ref (ad 0)), (1, .int (nI j)), (3, .int (nI e))]) hx hb dX1_choices_51 rfl hl (by decide) rfl (fun ls hl => ?_)
            refine lv_iinc (v := nI (e + 1)) (lv' := [(3, .int (nI (e + 1))), (2, .int (e_chs T (e_gd n T Hd G O (e_lf n c T Hd G O (-1))) (nI j) (e + 1))), (0, .ref (ad 0)), (1, .int (nI j))]) hx hb dX1_choices_52 hl (k := 3) rfl (e_inc _) (by decide) rfl (fun ls hl => ?_)
            refine lv_goto (tgt := 18) hx hb dX1_choices_55 (by decide) ?_
            exact ih_18 (e + 1) (by omega) (by omega) _ _ hP hD hS ls (lv_sub hl [2, 3, 1, 0] rfl)
          · refine lv_aload_n hx hb dX1_choices_37 rfl (lv_at hl 0 rfl) ?_
            refine lv_iload_n hx hb dX1_choices_38 rfl (lv_at hl 3 rfl) ?_
            refine e_callR (q0 := 0) (ci := 0) (rest := [.int (e_chs T (e_gd n T Hd G O (e_lf n c T Hd G O (-1))) (nI j) e)]) ⟨hx, hb, hml, hown, hts⟩ (metX1_isGood l dC dI ad cI cZ n c T Hd G O N2 Wt2 Qu2 (-1) 1 hok (e_lf n c T Hd G O (-1)) hw_11 (fun _ _ => e_lf_le) e (by omega)) (cwV 1 hts (lw_V q140 q142 qs8 q19 q143) rfl rfl rfl (by decide +kernel) ⟨Nat.le_of_ble_eq_true rfl, Nat.le_of_ble_eq_true rfl⟩) hK hP rfl rfl rfl rfl hl.1 rfl (Nat.le_of_ble_eq_true rfl) dX1_choices_39 ⟨Nat.zero_le _, Nat.zero_le _⟩ (fun r_39 hr_39 => ?_)
            rcases hr_39 with ⟨rfl, hv_39⟩ | ⟨rfl, hv_39⟩
            · refine lv_if_eq (tgt := 49) hx hb dX1_choices_42 (by decide) (fun c_42 => absurd c_42 (by decide)) (fun c_42 => ?_)
              refine lv_iconst (v := 1) hx hb dX1_choices_45 (by decide) ?_
              refine lv_goto (tgt := 50) hx hb dX1_choices_46 (by decide) ?_
              refine lv_iadd hx hb dX1_choices_50 ?_
              refine e_top (e_chs T (e_gd n T Hd G O (e_lf n c T Hd G O (-1))) (nI j) (e + 1)) (e_chs_y ⟨c_34, hv_39⟩) ?_
              refine lv_istore_n (lv' := [(2, .int (e_chs T (e_gd n T Hd G O (e_lf n c T Hd G O (-1))) (nI j) (e + 1))), (0, .ref (ad 0)), (1, .int (nI j)), (3, .int (nI e))]) hx hb dX1_choices_51 rfl hl (by decide) rfl (fun ls hl => ?_)
              refine lv_iinc (v := nI (e + 1)) (lv' := [(3, .int (nI (e + 1))), (2, .int (e_chs T (e_gd n T Hd G O (e_lf n c T Hd G O (-1))) (nI j) (e + 1))), (0, .ref (ad 0)), (1, .int (nI j))]) hx hb dX1_choices_52 hl (k := 3) rfl (e_inc _) (by decide) rfl (fun ls hl => ?_)
              refine lv_goto (tgt := 18) hx hb dX1_choices_55 (by decide) ?_
              exact ih_18 (e + 1) (by omega) (by omega) _ _ hP hD hS ls (lv_sub hl [2, 3, 1, 0] rfl)
            · refine lv_if_eq (tgt := 49) hx hb dX1_choices_42 (by decide) (fun c_42 => ?_) (fun c_42 => absurd c_42 (by decide))
              refine lv_iconst (v := 0) hx hb dX1_choices_49 (by decide) ?_
              refine lv_iadd hx hb dX1_choices_50 ?_
              refine e_top (e_chs T (e_gd n T Hd G O (e_lf n c T Hd G O (-1))) (nI j) (e + 1)) (e_chs_n (fun z => hv_39 z.2)) ?_
              refine lv_istore_n (lv' := [(2, .int (e_chs T (e_gd n T Hd G O (e_lf n c T Hd G O (-1))) (nI j) (e + 1))), (0, .ref (ad 0)), (1, .int (nI j)), (3, .int (nI e))]) hx hb dX1_choices_51 rfl hl (by decide) rfl (fun ls hl => ?_)
              refine lv_iinc (v := nI (e + 1)) (lv' := [(3, .int (nI (e + 1))), (2, .int (e_chs T (e_gd n T Hd G O (e_lf n c T Hd G O (-1))) (nI j) (e + 1))), (0, .ref (ad 0)), (1, .int (nI j))]) hx hb dX1_choices_52 hl (k := 3) rfl (e_inc _) (by decide) rfl (fun ls hl => ?_)
              refine lv_goto (tgt := 18) hx hb dX1_choices_55 (by decide) ?_
              exact ih_18 (e + 1) (by omega) (by omega) _ _ hP hD hS ls (lv_sub hl [2, 3, 1, 0] rfl)
    exact lp_18 (c + 1) 0 (by omega) (by omega) _ _ hP hD hS ls (lv_sub hl [2, 3, 1, 0] rfl)
  · refine lv_if_ne (tgt := 10) hx hb dX1_choices_5 (by decide) (fun c_5 => absurd c_5 (by decide)) (fun c_5 => ?_)
    refine lv_iconst (v := -1) hx hb dX1_choices_8 (by decide) ?_
    exact hret (N, Wt, Qu, cu) dX1_choices_9 ⟨by unfold s_choices; rw [if_pos hv_2], hgd⟩ hP hD hS
abbrev rX1_needWithout : Room := { frames := 3, cells := 0, slots := 0, locals := 74 }
set_option maxHeartbeats 4000000 in
set_option maxRecDepth 100000 in
theorem metX1_needWithout (l : Launch) (dC : Nat → ClassId) (dI : Nat → Nat → Nat) (ad : Nat → Nat) (cI cZ : ClassId) (n c : Nat) (T Hd G O N Wt Qu : eFn) (cu : Int32) (hok : e_ok n c T Hd G) (hgd : e_gdG n c T Hd G O N cu) (p0 p1 : Int32) (sz : Nat) : Met l yX1_needWithout (ws_ yX1_needWithout cX1_needWithout 3 (some .int)) rX1_needWithout (va_Pc [.ref (ad 0), .int p0, .int p1] (e_PW (dC, dI) vwCl [(cI, .int), (cZ, .boolean)] (wG ad cI cZ n c T Hd G O N Wt Qu (-1) cu) sz)) (va_Qi (fun r (u : eFn × eFn × eFn × Int32) => r = s_without n c T Hd G O p0 p1 ∧ e_gdG n c T Hd G O u.1 u.2.2.2) (e_B (dC, dI) vwCl [(cI, .int), (cZ, .boolean)] (fun u => wG ad cI cZ n c T Hd G O u.1 u.2.1 u.2.2.1 (-1) u.2.2.2) (va_A (wG ad cI cZ n c T Hd G O N Wt Qu (-1) cu) sz)) (va_A (wG ad cI cZ n c T Hd G O N Wt Qu (-1) cu) sz)) 0 0 (va_A (wG ad cI cZ n c T Hd G O N Wt Qu (-1) cu) sz) := by
  refine e_startWi (by decide) (Nat.le_of_ble_eq_true rfl) ?_
  intro pg ev st mi ar bl mt cd H A QQ hx hb hml hown hts hA hK hP hD hS hret ls hl
  have hown : st.vm.findClass RX1 = some mi.cls := hown
  have hP : va_P (dC, dI) vwCl [(ad 0, .inr (0, [.ref (ad 1), .ref (ad 2), .ref (ad 3), .ref (ad 4), .ref (ad 5), .ref (ad 6), .ref (ad 7), .int (nI n), .int (nI c), .int (nI (e_tp n)), .int (-1), .int cu])), (ad 1, .inl (cI, 14, .inl T)), (ad 2, .inl (cI, 14, .inl Hd)), (ad 3, .inl (cI, 14, .inl G)), (ad 4, .inl (cI, 6, .inl O)), (ad 5, .inl (cI, 6, .inl N)), (ad 6, .inl (cZ, 6, .inl Wt)), (ad 7, .inl (cI, 8, .inl Qu))] H := hP
  have hD : va_D A [(ad 0, .inr (0, [.ref (ad 1), .ref (ad 2), .ref (ad 3), .ref (ad 4), .ref (ad 5), .ref (ad 6), .ref (ad 7), .int (nI n), .int (nI c), .int (nI (e_tp n)), .int (-1), .int cu])), (ad 1, .inl (cI, 14, .inl T)), (ad 2, .inl (cI, 14, .inl Hd)), (ad 3, .inl (cI, 14, .inl G)), (ad 4, .inl (cI, 6, .inl O)), (ad 5, .inl (cI, 6, .inl N)), (ad 6, .inl (cZ, 6, .inl Wt)), (ad 7, .inl (cI, 8, .inl Qu))] := hD
  generalize hlocs : ([] : List Loc) = locs at hS ⊢
  have hl : lv_has ls 3 [(0, .ref (ad 0)), (1, .int p0), (2, .int p1)] := hl
  have hn2 := hok.1
  have hn6 := hok.2.1
  have hc14 := hok.2.2.1
  refine lv_aload_n hx hb dX1_needWithout_0 rfl (lv_at hl 0 rfl) ?_
  refine lv_iload_n hx hb dX1_needWithout_1 rfl (lv_at hl 1 rfl) ?_
  refine e_callR (q0 := 0) (ci := 0) (rest := []) ⟨hx, hb, hml, hown, hts⟩ (metX1_isVertex l dC dI ad cI cZ n c T Hd G O N Wt Qu (-1) cu p0) (cwV 1 hts (lw_V q76 q78 qs0 q19 q79) rfl rfl rfl (by decide +kernel) ⟨Nat.le_of_ble_eq_true rfl, Nat.le_of_ble_eq_true rfl⟩) hK hP rfl rfl rfl rfl hl.1 rfl (Nat.le_of_ble_eq_true rfl) dX1_needWithout_2 ⟨Nat.zero_le _, Nat.zero_le _⟩ (fun r_2 hr_2 => ?_)
  rcases hr_2 with ⟨rfl, hv_2⟩ | ⟨rfl, hv_2⟩
  · obtain ⟨j, hj, rfl⟩ := e_v_of hv_2 (by omega)
    refine lv_if_ne (tgt := 10) hx hb dX1_needWithout_5 (by decide) (fun c_5 => ?_) (fun c_5 => absurd c_5 (by decide))
    refine lv_aload_n hx hb dX1_needWithout_10 rfl (lv_at hl 0 rfl) ?_
    refine lv_iload_n hx hb dX1_needWithout_11 rfl (lv_at hl 2 rfl) ?_
    refine e_callR (q0 := 0) (ci := 0) (rest := []) ⟨hx, hb, hml, hown, hts⟩ (metX1_isEdge l dC dI ad cI cZ n c T Hd G O N Wt Qu (-1) cu p1) (cwV 1 hts (lw_V q92 q94 qs2 q19 q95) rfl rfl rfl (by decide +kernel) ⟨Nat.le_of_ble_eq_true rfl, Nat.le_of_ble_eq_true rfl⟩) hK hP rfl rfl rfl rfl hl.1 rfl (Nat.le_of_ble_eq_true rfl) dX1_needWithout_12 ⟨Nat.zero_le _, Nat.zero_le _⟩ (fun r_12 hr_12 => ?_)
    rcases hr_12 with ⟨rfl, hv_12⟩ | ⟨rfl, hv_12⟩
    · refine lv_if_ne (tgt := 21) hx hb dX1_needWithout_15 (by decide) (fun c_15 => ?_) (fun c_15 => absurd c_15 (by decide))
      refine lv_aload_n hx hb dX1_needWithout_21 rfl (lv_at hl 0 rfl) ?_
      refine lv_iload_n hx hb dX1_needWithout_22 rfl (lv_at hl 2 rfl) ?_
      refine va_put (D := (dC, dI)) (ci := 0) (v := .int p1) (ty := .int) (C := RX1) (T := TX1) (N := 12) hx hb hts in_X1 tyX1 tyX1_ok nmX1 hown hK hP hD hS 0 rfl rfl 10 (by decide) (hts _ q39) (fun _ h9 => h9) rfl (by decide +kernel) rfl rfl (Nat.le_of_ble_eq_true rfl) dX1_needWithout_23 (fun H locs hP hD hS => ?_)
      have hP : va_P (dC, dI) vwCl [(ad 0, .inr (0, [.ref (ad 1), .ref (ad 2), .ref (ad 3), .ref (ad 4), .ref (ad 5), .ref (ad 6), .ref (ad 7), .int (nI n), .int (nI c), .int (nI (e_tp n)), .int p1, .int cu])), (ad 1, .inl (cI, 14, .inl T)), (ad 2, .inl (cI, 14, .inl Hd)), (ad 3, .inl (cI, 14, .inl G)), (ad 4, .inl (cI, 6, .inl O)), (ad 5, .inl (cI, 6, .inl N)), (ad 6, .inl (cZ, 6, .inl Wt)), (ad 7, .inl (cI, 8, .inl Qu))] H := hP
      have hD : va_D A [(ad 0, .inr (0, [.ref (ad 1), .ref (ad 2), .ref (ad 3), .ref (ad 4), .ref (ad 5), .ref (ad 6), .ref (ad 7), .int (nI n), .int (nI c), .int (nI (e_tp n)), .int p1, .int cu])), (ad 1, .inl (cI, 14, .inl T)), (ad 2, .inl (cI, 14, .inl Hd)), (ad 3, .inl (cI, 14, .inl G)), (ad 4, .inl (cI, 6, .inl O)), (ad 5, .inl (cI, 6, .inl N)), (ad 6, .inl (cZ, 6, .inl Wt)), (ad 7, .inl (cI, 8, .inl Qu))] := hD
      refine lv_aload_n hx hb dX1_needWithout_26 rfl (lv_at hl 0 rfl) ?_
      refine e_callV (q0 := 0) (ci := 0) (rest := []) (wr := []) ⟨hx, hb, hml, hown, hts⟩ (metX1_solve l dC dI ad cI cZ n c T Hd G O N Wt Qu p1 cu hok H.size) (cwV 0 hts (lw_V q112 q114 qs4 q19 q115) rfl rfl rfl (by decide +kernel) ⟨Nat.le_of_ble_eq_true rfl, Nat.le_of_ble_eq_true rfl⟩) hK hP hD hS hA [0, 1, 2, 3, 4, 5, 6, 7] [] rfl rfl (by decide) (by decide) (by decide) rfl rfl rfl rfl hl.1 rfl (Nat.le_of_ble_eq_true rfl) dX1_needWithout_27 ⟨Nat.zero_le _, Nat.zero_le _⟩ (fun u_27 H locs hw_27 hP hD hS => ?_)
      obtain ⟨N2, Wt2, Qu2⟩ := u_27
      have hw_27 : ∀ v, v < n → N2 v = nI (e_lf n c T Hd G O p1 v) := hw_27
      have hP : va_P (dC, dI) vwCl [(ad 0, .inr (0, [.ref (ad 1), .ref (ad 2), .ref (ad 3), .ref (ad 4), .ref (ad 5), .ref (ad 6), .ref (ad 7), .int (nI n), .int (nI c), .int (nI (e_tp n)), .int p1, .int cu])), (ad 1, .inl (cI, 14, .inl T)), (ad 2, .inl (cI, 14, .inl Hd)), (ad 3, .inl (cI, 14, .inl G)), (ad 4, .inl (cI, 6, .inl O)), (ad 5, .inl (cI, 6, .inl N2)), (ad 6, .inl (cZ, 6, .inl Wt2)), (ad 7, .inl (cI, 8, .inl Qu2))] H := hP
      have hD : va_D A [(ad 0, .inr (0, [.ref (ad 1), .ref (ad 2), .ref (ad 3), .ref (ad 4), .ref (ad 5), .ref (ad 6), .ref (ad 7), .int (nI n), .int (nI c), .int (nI (e_tp n)), .int p1, .int cu])), (ad 1, .inl (cI, 14, .inl T)), (ad 2, .inl (cI, 14, .inl Hd)), (ad 3, .inl (cI, 14, .inl G)), (ad 4, .inl (cI, 6, .inl O)), (ad 5, .inl (cI, 6, .inl N2)), (ad 6, .inl (cZ, 6, .inl Wt2)), (ad 7, .inl (cI, 8, .inl Qu2))] := hD
      refine lv_aload_n hx hb dX1_needWithout_30 rfl (lv_at hl 0 rfl) ?_
      refine lv_iconst (v := (-1)) hx hb dX1_needWithout_31 (by decide) ?_
      refine va_put (D := (dC, dI)) (ci := 0) (v := .int (-1)) (ty := .int) (C := RX1) (T := TX1) (N := 12) hx hb hts in_X1 tyX1 tyX1_ok nmX1 hown hK hP hD hS 0 rfl rfl 10 (by decide) (hts _ q39) (fun _ h9 => h9) rfl (by decide +kernel) rfl rfl (Nat.le_of_ble_eq_true rfl) dX1_needWithout_32 (fun H locs hP hD hS => ?_)
      have hP : va_P (dC, dI) vwCl [(ad 0, .inr (0, [.ref (ad 1), .ref (ad 2), .ref (ad 3), .ref (ad 4), .ref (ad 5), .ref (ad 6), .ref (ad 7), .int (nI n), .int (nI c), .int (nI (e_tp n)), .int (-1), .int cu])), (ad 1, .inl (cI, 14, .inl T)), (ad 2, .inl (cI, 14, .inl Hd)), (ad 3, .inl (cI, 14, .inl G)), (ad 4, .inl (cI, 6, .inl O)), (ad 5, .inl (cI, 6, .inl N2)), (ad 6, .inl (cZ, 6, .inl Wt2)), (ad 7, .inl (cI, 8, .inl Qu2))] H := hP
      have hD : va_D A [(ad 0, .inr (0, [.ref (ad 1), .ref (ad 2), .ref (ad 3), .ref (ad 4), .ref (ad 5), .ref (ad 6), .ref (ad 7), .int (nI n), .int (nI c), .int (nI (e_tp n)), .int (-1), .int cu])), (ad 1, .inl (cI, 14, .inl T)), (ad 2, .inl (cI, 14, .inl Hd)), (ad 3, .inl (cI, 14, .inl G)), (ad 4, .inl (cI, 6, .inl O)), (ad 5, .inl (cI, 6, .inl N2)), (ad 6, .inl (cZ, 6, .inl Wt2)), (ad 7, .inl (cI, 8, .inl Qu2))] := hD
      refine lv_aload_n hx hb dX1_needWithout_35 rfl (lv_at hl 0 rfl) ?_
      refine lv_iconst (v := 0) hx hb dX1_needWithout_36 (by decide) ?_
      refine va_put (D := (dC, dI)) (ci := 0) (v := .int 0) (ty := .boolean) (C := RX1) (T := TX1) (N := 12) hx hb hts in_X1 tyX1 tyX1_ok nmX1 hown hK hP hD hS 0 rfl rfl 11 (by decide) (hts _ q40) (fun _ h9 => h9) rfl (by decide +kernel) rfl rfl (Nat.le_of_ble_eq_true rfl) dX1_needWithout_37 (fun H locs hP hD hS => ?_)
      have hP : va_P (dC, dI) vwCl [(ad 0, .inr (0, [.ref (ad 1), .ref (ad 2), .ref (ad 3), .ref (ad 4), .ref (ad 5), .ref (ad 6), .ref (ad 7), .int (nI n), .int (nI c), .int (nI (e_tp n)), .int (-1), .int 0])), (ad 1, .inl (cI, 14, .inl T)), (ad 2, .inl (cI, 14, .inl Hd)), (ad 3, .inl (cI, 14, .inl G)), (ad 4, .inl (cI, 6, .inl O)), (ad 5, .inl (cI, 6, .inl N2)), (ad 6, .inl (cZ, 6, .inl Wt2)), (ad 7, .inl (cI, 8, .inl Qu2))] H := hP
      have hD : va_D A [(ad 0, .inr (0, [.ref (ad 1), .ref (ad 2), .ref (ad 3), .ref (ad 4), .ref (ad 5), .ref (ad 6), .ref (ad 7), .int (nI n), .int (nI c), .int (nI (e_tp n)), .int (-1), .int 0])), (ad 1, .inl (cI, 14, .inl T)), (ad 2, .inl (cI, 14, .inl Hd)), (ad 3, .inl (cI, 14, .inl G)), (ad 4, .inl (cI, 6, .inl O)), (ad 5, .inl (cI, 6, .inl N2)), (ad 6, .inl (cZ, 6, .inl Wt2)), (ad 7, .inl (cI, 8, .inl Qu2))] := hD
      refine lv_aload_n hx hb dX1_needWithout_40 rfl (lv_at hl 0 rfl) ?_
      refine lv_iload_n hx hb dX1_needWithout_41 rfl (lv_at hl 1 rfl) ?_
      refine e_callR (q0 := 0) (ci := 0) (rest := []) ⟨hx, hb, hml, hown, hts⟩ (metX1_shown l dC dI ad cI cZ n c T Hd G O N2 Wt2 Qu2 (-1) 0 hok (e_lf n c T Hd G O p1) hw_27 (fun _ _ => e_lf_le) j hj) (cwV 1 hts (lw_V q124 q126 qs7 q19 q127) rfl rfl rfl (by decide +kernel) ⟨Nat.le_of_ble_eq_true rfl, Nat.le_of_ble_eq_true rfl⟩) hK hP rfl rfl rfl rfl hl.1 rfl (Nat.le_of_ble_eq_true rfl) dX1_needWithout_42 ⟨Nat.zero_le _, Nat.zero_le _⟩ (fun r_42 hr_42 => ?_)
      subst hr_42
      exact hret (N2, Wt2, Qu2, 0) dX1_needWithout_45 ⟨by unfold s_without; rw [if_neg (fun z => z hv_2), if_neg (fun z => z hv_12), nI_clamp (by omega)], Or.inl rfl⟩ hP hD hS
    · refine lv_if_ne (tgt := 21) hx hb dX1_needWithout_15 (by decide) (fun c_15 => absurd c_15 (by decide)) (fun c_15 => ?_)
      refine lv_bipush (v := -3) hx hb dX1_needWithout_18 (by decide) ?_
      exact hret (N, Wt, Qu, cu) dX1_needWithout_20 ⟨by unfold s_without; rw [if_neg (fun z => z hv_2), if_pos hv_12], hgd⟩ hP hD hS
  · refine lv_if_ne (tgt := 10) hx hb dX1_needWithout_5 (by decide) (fun c_5 => absurd c_5 (by decide)) (fun c_5 => ?_)
    refine lv_iconst (v := -1) hx hb dX1_needWithout_8 (by decide) ?_
    exact hret (N, Wt, Qu, cu) dX1_needWithout_9 ⟨by unfold s_without; rw [if_pos hv_2], hgd⟩ hP hD hS
abbrev rX1_needOf : Room := { frames := 3, cells := 0, slots := 0, locals := 74 }
set_option maxHeartbeats 4000000 in
set_option maxRecDepth 100000 in
theorem metX1_needOf (l : Launch) (dC : Nat → ClassId) (dI : Nat → Nat → Nat) (ad : Nat → Nat) (cI cZ : ClassId) (n c : Nat) (T Hd G O N Wt Qu : eFn) (cu : Int32) (hok : e_ok n c T Hd G) (hgd : e_gdG n c T Hd G O N cu) (p0 p1 : Int32) (sz : Nat) : Met l yX1_needOf (ws_ yX1_needOf cX1_needOf 4 (some .int)) rX1_needOf (va_Pc [.ref (ad 0), .int p0, .int p1] (e_PW (dC, dI) vwCl [(cI, .int), (cZ, .boolean)] (wG ad cI cZ n c T Hd G O N Wt Qu (-1) cu) sz)) (va_Qi (fun r (u : eFn × eFn × eFn × Int32) => r = s_of n c T Hd G O p0 p1 ∧ e_gdG n c T Hd G O u.1 u.2.2.2) (e_B (dC, dI) vwCl [(cI, .int), (cZ, .boolean)] (fun u => wG ad cI cZ n c T Hd G O u.1 u.2.1 u.2.2.1 (-1) u.2.2.2) (va_A (wG ad cI cZ n c T Hd G O N Wt Qu (-1) cu) sz)) (va_A (wG ad cI cZ n c T Hd G O N Wt Qu (-1) cu) sz)) 0 0 (va_A (wG ad cI cZ n c T Hd G O N Wt Qu (-1) cu) sz) := by
  refine e_startWi (by decide) (Nat.le_of_ble_eq_true rfl) ?_
  intro pg ev st mi ar bl mt cd H A QQ hx hb hml hown hts hA hK hP hD hS hret ls hl
  have hown : st.vm.findClass RX1 = some mi.cls := hown
  have hP : va_P (dC, dI) vwCl [(ad 0, .inr (0, [.ref (ad 1), .ref (ad 2), .ref (ad 3), .ref (ad 4), .ref (ad 5), .ref (ad 6), .ref (ad 7), .int (nI n), .int (nI c), .int (nI (e_tp n)), .int (-1), .int cu])), (ad 1, .inl (cI, 14, .inl T)), (ad 2, .inl (cI, 14, .inl Hd)), (ad 3, .inl (cI, 14, .inl G)), (ad 4, .inl (cI, 6, .inl O)), (ad 5, .inl (cI, 6, .inl N)), (ad 6, .inl (cZ, 6, .inl Wt)), (ad 7, .inl (cI, 8, .inl Qu))] H := hP
  have hD : va_D A [(ad 0, .inr (0, [.ref (ad 1), .ref (ad 2), .ref (ad 3), .ref (ad 4), .ref (ad 5), .ref (ad 6), .ref (ad 7), .int (nI n), .int (nI c), .int (nI (e_tp n)), .int (-1), .int cu])), (ad 1, .inl (cI, 14, .inl T)), (ad 2, .inl (cI, 14, .inl Hd)), (ad 3, .inl (cI, 14, .inl G)), (ad 4, .inl (cI, 6, .inl O)), (ad 5, .inl (cI, 6, .inl N)), (ad 6, .inl (cZ, 6, .inl Wt)), (ad 7, .inl (cI, 8, .inl Qu))] := hD
  generalize hlocs : ([] : List Loc) = locs at hS ⊢
  have hl : lv_has ls 4 [(0, .ref (ad 0)), (1, .int p0), (2, .int p1)] := hl
  have hn2 := hok.1
  have hn6 := hok.2.1
  have hc14 := hok.2.2.1
  refine lv_aload_n hx hb dX1_needOf_0 rfl (lv_at hl 0 rfl) ?_
  refine lv_iload_n hx hb dX1_needOf_1 rfl (lv_at hl 1 rfl) ?_
  refine e_callR (q0 := 0) (ci := 0) (rest := []) ⟨hx, hb, hml, hown, hts⟩ (metX1_isVertex l dC dI ad cI cZ n c T Hd G O N Wt Qu (-1) cu p0) (cwV 1 hts (lw_V q76 q78 qs0 q19 q79) rfl rfl rfl (by decide +kernel) ⟨Nat.le_of_ble_eq_true rfl, Nat.le_of_ble_eq_true rfl⟩) hK hP rfl rfl rfl rfl hl.1 rfl (Nat.le_of_ble_eq_true rfl) dX1_needOf_2 ⟨Nat.zero_le _, Nat.zero_le _⟩ (fun r_2 hr_2 => ?_)
  rcases hr_2 with ⟨rfl, hv_2⟩ | ⟨rfl, hv_2⟩
  · obtain ⟨j, hj, rfl⟩ := e_v_of hv_2 (by omega)
    refine lv_if_ne (tgt := 10) hx hb dX1_needOf_5 (by decide) (fun c_5 => ?_) (fun c_5 => absurd c_5 (by decide))
    refine lv_iload_n hx hb dX1_needOf_10 rfl (lv_at hl 2 rfl) ?_
    refine lv_if_eq (tgt := 22) hx hb dX1_needOf_11 (by decide) (fun c_11 => ?_) (fun c_11 => ?_)
    · refine lv_aload_n hx hb dX1_needOf_22 rfl (lv_at hl 0 rfl) ?_
      refine va_get (D := (dC, dI)) (ci := 0) (v := .ref (ad 4)) (C := RX1) (T := TX1) (N := 12) hx hb hts in_X1 hown hK hP 0 rfl rfl 3 (by decide) (hts _ q32) (fun _ h9 => h9) rfl dX1_needOf_23 ?_
      refine lv_iload_n hx hb dX1_needOf_26 rfl (lv_at hl 1 rfl) ?_
      refine e_ild (v := O j) hx hb hK hP 4 0 rfl rfl j rfl (by omega) (by decide) rfl dX1_needOf_27 ?_
      refine lv_istore_n (lv' := [(3, .int (O j)), (0, .ref (ad 0)), (1, .int (nI j)), (2, .int p1)]) hx hb dX1_needOf_28 rfl hl (by decide) rfl (fun ls hl => ?_)
      refine lv_aload_n hx hb dX1_needOf_29 rfl (lv_at hl 1 rfl) ?_
      refine va_get (D := (dC, dI)) (ci := 0) (v := .ref (ad 4)) (C := RX1) (T := TX1) (N := 12) hx hb hts in_X1 hown hK hP 0 rfl rfl 3 (by decide) (hts _ q32) (fun _ h9 => h9) rfl dX1_needOf_30 ?_
      refine lv_iload_n hx hb dX1_needOf_33 rfl (lv_at hl 2 rfl) ?_
      refine lv_iload_n hx hb dX1_needOf_34 rfl (lv_at hl 3 rfl) ?_
      refine e_ist (f2 := upd O j p1) hx hb hK hP hD hS 4 0 rfl rfl j rfl (by omega) (by decide) rfl dX1_needOf_35 (fun H locs hP hD hS => ?_)
      have hP : va_P (dC, dI) vwCl [(ad 0, .inr (0, [.ref (ad 1), .ref (ad 2), .ref (ad 3), .ref (ad 4), .ref (ad 5), .ref (ad 6), .ref (ad 7), .int (nI n), .int (nI c), .int (nI (e_tp n)), .int (-1), .int cu])), (ad 1, .inl (cI, 14, .inl T)), (ad 2, .inl (cI, 14, .inl Hd)), (ad 3, .inl (cI, 14, .inl G)), (ad 4, .inl (cI, 6, .inl (upd O j p1))), (ad 5, .inl (cI, 6, .inl N)), (ad 6, .inl (cZ, 6, .inl Wt)), (ad 7, .inl (cI, 8, .inl Qu))] H := hP
      have hD : va_D A [(ad 0, .inr (0, [.ref (ad 1), .ref (ad 2), .ref (ad 3), .ref (ad 4), .ref (ad 5), .ref (ad 6), .ref (ad 7), .int (nI n), .int (nI c), .int (nI (e_tp n)), .int (-1), .int cu])), (ad 1, .inl (cI, 14, .inl T)), (ad 2, .inl (cI, 14, .inl Hd)), (ad 3, .inl (cI, 14, .inl G)), (ad 4, .inl (cI, 6, .inl (upd O j p1))), (ad 5, .inl (cI, 6, .inl N)), (ad 6, .inl (cZ, 6, .inl Wt)), (ad 7, .inl (cI, 8, .inl Qu))] := hD
      refine lv_aload_n hx hb dX1_needOf_36 rfl (lv_at hl 1 rfl) ?_
      refine e_callV (q0 := 0) (ci := 0) (rest := []) (wr := []) ⟨hx, hb, hml, hown, hts⟩ (metX1_solve l dC dI ad cI cZ n c T Hd G (upd O j p1) N Wt Qu (-1) cu hok H.size) (cwV 0 hts (lw_V q112 q114 qs4 q19 q115) rfl rfl rfl (by decide +kernel) ⟨Nat.le_of_ble_eq_true rfl, Nat.le_of_ble_eq_true rfl⟩) hK hP hD hS hA [0, 1, 2, 3, 4, 5, 6, 7] [] rfl rfl (by decide) (by decide) (by decide) rfl rfl rfl rfl hl.1 rfl (Nat.le_of_ble_eq_true rfl) dX1_needOf_37 ⟨Nat.zero_le _, Nat.zero_le _⟩ (fun u_37 H locs hw_37 hP hD hS => ?_)
      obtain ⟨N2, Wt2, Qu2⟩ := u_37
      have hw_37 : ∀ v, v < n → N2 v = nI (e_lf n c T Hd G (upd O j p1) (-1) v) := hw_37
      have hP : va_P (dC, dI) vwCl [(ad 0, .inr (0, [.ref (ad 1), .ref (ad 2), .ref (ad 3), .ref (ad 4), .ref (ad 5), .ref (ad 6), .ref (ad 7), .int (nI n), .int (nI c), .int (nI (e_tp n)), .int (-1), .int cu])), (ad 1, .inl (cI, 14, .inl T)), (ad 2, .inl (cI, 14, .inl Hd)), (ad 3, .inl (cI, 14, .inl G)), (ad 4, .inl (cI, 6, .inl (upd O j p1))), (ad 5, .inl (cI, 6, .inl N2)), (ad 6, .inl (cZ, 6, .inl Wt2)), (ad 7, .inl (cI, 8, .inl Qu2))] H := hP
      have hD : va_D A [(ad 0, .inr (0, [.ref (ad 1), .ref (ad 2), .ref (ad 3), .ref (ad 4), .ref (ad 5), .ref (ad 6), .ref (ad 7), .int (nI n), .int (nI c), .int (nI (e_tp n)), .int (-1), .int cu])), (ad 1, .inl (cI, 14, .inl T)), (ad 2, .inl (cI, 14, .inl Hd)), (ad 3, .inl (cI, 14, .inl G)), (ad 4, .inl (cI, 6, .inl (upd O j p1))), (ad 5, .inl (cI, 6, .inl N2)), (ad 6, .inl (cZ, 6, .inl Wt2)), (ad 7, .inl (cI, 8, .inl Qu2))] := hD
      refine lv_aload_n hx hb dX1_needOf_40 rfl (lv_at hl 1 rfl) ?_
      refine va_get (D := (dC, dI)) (ci := 0) (v := .ref (ad 4)) (C := RX1) (T := TX1) (N := 12) hx hb hts in_X1 hown hK hP 0 rfl rfl 3 (by decide) (hts _ q32) (fun _ h9 => h9) rfl dX1_needOf_41 ?_
      refine lv_iload_n hx hb dX1_needOf_44 rfl (lv_at hl 2 rfl) ?_
      refine lv_iload_n hx hb dX1_needOf_45 rfl (lv_at hl 0 rfl) ?_
      refine e_ist (f2 := O) hx hb hK hP hD hS 4 0 rfl rfl j rfl (by omega) (by decide) e_upd_back dX1_needOf_46 (fun H locs hP hD hS => ?_)
      have hP : va_P (dC, dI) vwCl [(ad 0, .inr (0, [.ref (ad 1), .ref (ad 2), .ref (ad 3), .ref (ad 4), .ref (ad 5), .ref (ad 6), .ref (ad 7), .int (nI n), .int (nI c), .int (nI (e_tp n)), .int (-1), .int cu])), (ad 1, .inl (cI, 14, .inl T)), (ad 2, .inl (cI, 14, .inl Hd)), (ad 3, .inl (cI, 14, .inl G)), (ad 4, .inl (cI, 6, .inl O)), (ad 5, .inl (cI, 6, .inl N2)), (ad 6, .inl (cZ, 6, .inl Wt2)), (ad 7, .inl (cI, 8, .inl Qu2))] H := hP
      have hD : va_D A [(ad 0, .inr (0, [.ref (ad 1), .ref (ad 2), .ref (ad 3), .ref (ad 4), .ref (ad 5), .ref (ad 6), .ref (ad 7), .int (nI n), .int (nI c), .int (nI (e_tp n)), .int (-1), .int cu])), (ad 1, .inl (cI, 14, .inl T)), (ad 2, .inl (cI, 14, .inl Hd)), (ad 3, .inl (cI, 14, .inl G)), (ad 4, .inl (cI, 6, .inl O)), (ad 5, .inl (cI, 6, .inl N2)), (ad 6, .inl (cZ, 6, .inl Wt2)), (ad 7, .inl (cI, 8, .inl Qu2))] := hD
      refine lv_aload_n hx hb dX1_needOf_47 rfl (lv_at hl 1 rfl) ?_
      refine lv_iconst (v := 0) hx hb dX1_needOf_48 (by decide) ?_
      refine va_put (D := (dC, dI)) (ci := 0) (v := .int 0) (ty := .boolean) (C := RX1) (T := TX1) (N := 12) hx hb hts in_X1 tyX1 tyX1_ok nmX1 hown hK hP hD hS 0 rfl rfl 11 (by decide) (hts _ q40) (fun _ h9 => h9) rfl (by decide +kernel) rfl rfl (Nat.le_of_ble_eq_true rfl) dX1_needOf_49 (fun H locs hP hD hS => ?_)
      have hP : va_P (dC, dI) vwCl [(ad 0, .inr (0, [.ref (ad 1), .ref (ad 2), .ref (ad 3), .ref (ad 4), .ref (ad 5), .ref (ad 6), .ref (ad 7), .int (nI n), .int (nI c), .int (nI (e_tp n)), .int (-1), .int 0])), (ad 1, .inl (cI, 14, .inl T)), (ad 2, .inl (cI, 14, .inl Hd)), (ad 3, .inl (cI, 14, .inl G)), (ad 4, .inl (cI, 6, .inl O)), (ad 5, .inl (cI, 6, .inl N2)), (ad 6, .inl (cZ, 6, .inl Wt2)), (ad 7, .inl (cI, 8, .inl Qu2))] H := hP
      have hD : va_D A [(ad 0, .inr (0, [.ref (ad 1), .ref (ad 2), .ref (ad 3), .ref (ad 4), .ref (ad 5), .ref (ad 6), .ref (ad 7), .int (nI n), .int (nI c), .int (nI (e_tp n)), .int (-1), .int 0])), (ad 1, .inl (cI, 14, .inl T)), (ad 2, .inl (cI, 14, .inl Hd)), (ad 3, .inl (cI, 14, .inl G)), (ad 4, .inl (cI, 6, .inl O)), (ad 5, .inl (cI, 6, .inl N2)), (ad 6, .inl (cZ, 6, .inl Wt2)), (ad 7, .inl (cI, 8, .inl Qu2))] := hD
      refine lv_aload_n hx hb dX1_needOf_52 rfl (lv_at hl 1 rfl) ?_
      refine lv_iload_n hx hb dX1_needOf_53 rfl (lv_at hl 2 rfl) ?_
      refine e_callR (q0 := 0) (ci := 0) (rest := []) ⟨hx, hb, hml, hown, hts⟩ (metX1_shown l dC dI ad cI cZ n c T Hd G O N2 Wt2 Qu2 (-1) 0 hok (e_lf n c T Hd G (upd O j p1) (-1)) hw_37 (fun _ _ => e_lf_le) j hj) (cwV 1 hts (lw_V q124 q126 qs7 q19 q127) rfl rfl rfl (by decide +kernel) ⟨Nat.le_of_ble_eq_true rfl, Nat.le_of_ble_eq_true rfl⟩) hK hP rfl rfl rfl rfl hl.1 rfl (Nat.le_of_ble_eq_true rfl) dX1_needOf_54 ⟨Nat.zero_le _, Nat.zero_le _⟩ (fun r_54 hr_54 => ?_)
      subst hr_54
      exact hret (N2, Wt2, Qu2, 0) dX1_needOf_57 ⟨by unfold s_of; rw [if_neg (fun z => z hv_2), if_neg (fun z => z.1 c_11), nI_clamp (by omega)], Or.inl rfl⟩ hP hD hS
    · refine lv_iload_n hx hb dX1_needOf_14 rfl (lv_at hl 2 rfl) ?_
      refine lv_iconst (v := 1) hx hb dX1_needOf_15 (by decide) ?_
      refine lv_icmp_eq (tgt := 22) hx hb dX1_needOf_16 (by decide) (fun c_16 => ?_) (fun c_16 => ?_)
      · refine lv_aload_n hx hb dX1_needOf_22 rfl (lv_at hl 0 rfl) ?_
        refine va_get (D := (dC, dI)) (ci := 0) (v := .ref (ad 4)) (C := RX1) (T := TX1) (N := 12) hx hb hts in_X1 hown hK hP 0 rfl rfl 3 (by decide) (hts _ q32) (fun _ h9 => h9) rfl dX1_needOf_23 ?_
        refine lv_iload_n hx hb dX1_needOf_26 rfl (lv_at hl 1 rfl) ?_
        refine e_ild (v := O j) hx hb hK hP 4 0 rfl rfl j rfl (by omega) (by decide) rfl dX1_needOf_27 ?_
        refine lv_istore_n (lv' := [(3, .int (O j)), (0, .ref (ad 0)), (1, .int (nI j)), (2, .int p1)]) hx hb dX1_needOf_28 rfl hl (by decide) rfl (fun ls hl => ?_)
        refine lv_aload_n hx hb dX1_needOf_29 rfl (lv_at hl 1 rfl) ?_
        refine va_get (D := (dC, dI)) (ci := 0) (v := .ref (ad 4)) (C := RX1) (T := TX1) (N := 12) hx hb hts in_X1 hown hK hP 0 rfl rfl 3 (by decide) (hts _ q32) (fun _ h9 => h9) rfl dX1_needOf_30 ?_
        refine lv_iload_n hx hb dX1_needOf_33 rfl (lv_at hl 2 rfl) ?_
        refine lv_iload_n hx hb dX1_needOf_34 rfl (lv_at hl 3 rfl) ?_
        refine e_ist (f2 := upd O j p1) hx hb hK hP hD hS 4 0 rfl rfl j rfl (by omega) (by decide) rfl dX1_needOf_35 (fun H locs hP hD hS => ?_)
        have hP : va_P (dC, dI) vwCl [(ad 0, .inr (0, [.ref (ad 1), .ref (ad 2), .ref (ad 3), .ref (ad 4), .ref (ad 5), .ref (ad 6), .ref (ad 7), .int (nI n), .int (nI c), .int (nI (e_tp n)), .int (-1), .int cu])), (ad 1, .inl (cI, 14, .inl T)), (ad 2, .inl (cI, 14, .inl Hd)), (ad 3, .inl (cI, 14, .inl G)), (ad 4, .inl (cI, 6, .inl (upd O j p1))), (ad 5, .inl (cI, 6, .inl N)), (ad 6, .inl (cZ, 6, .inl Wt)), (ad 7, .inl (cI, 8, .inl Qu))] H := hP
        have hD : va_D A [(ad 0, .inr (0, [.ref (ad 1), .ref (ad 2), .ref (ad 3), .ref (ad 4), .ref (ad 5), .ref (ad 6), .ref (ad 7), .int (nI n), .int (nI c), .int (nI (e_tp n)), .int (-1), .int cu])), (ad 1, .inl (cI, 14, .inl T)), (ad 2, .inl (cI, 14, .inl Hd)), (ad 3, .inl (cI, 14, .inl G)), (ad 4, .inl (cI, 6, .inl (upd O j p1))), (ad 5, .inl (cI, 6, .inl N)), (ad 6, .inl (cZ, 6, .inl Wt)), (ad 7, .inl (cI, 8, .inl Qu))] := hD
        refine lv_aload_n hx hb dX1_needOf_36 rfl (lv_at hl 1 rfl) ?_
        refine e_callV (q0 := 0) (ci := 0) (rest := []) (wr := []) ⟨hx, hb, hml, hown, hts⟩ (metX1_solve l dC dI ad cI cZ n c T Hd G (upd O j p1) N Wt Qu (-1) cu hok H.size) (cwV 0 hts (lw_V q112 q114 qs4 q19 q115) rfl rfl rfl (by decide +kernel) ⟨Nat.le_of_ble_eq_true rfl, Nat.le_of_ble_eq_true rfl⟩) hK hP hD hS hA [0, 1, 2, 3, 4, 5, 6, 7] [] rfl rfl (by decide) (by decide) (by decide) rfl rfl rfl rfl hl.1 rfl (Nat.le_of_ble_eq_true rfl) dX1_needOf_37 ⟨Nat.zero_le _, Nat.zero_le _⟩ (fun u_37 H locs hw_37 hP hD hS => ?_)
        obtain ⟨N2, Wt2, Qu2⟩ := u_37
        have hw_37 : ∀ v, v < n → N2 v = nI (e_lf n c T Hd G (upd O j p1) (-1) v) := hw_37
        have hP : va_P (dC, dI) vwCl [(ad 0, .inr (0, [.ref (ad 1), .ref (ad 2), .ref (ad 3), .ref (ad 4), .ref (ad 5), .ref (ad 6), .ref (ad 7), .int (nI n), .int (nI c), .int (nI (e_tp n)), .int (-1), .int cu])), (ad 1, .inl (cI, 14, .inl T)), (ad 2, .inl (cI, 14, .inl Hd)), (ad 3, .inl (cI, 14, .inl G)), (ad 4, .inl (cI, 6, .inl (upd O j p1))), (ad 5, .inl (cI, 6, .inl N2)), (ad 6, .inl (cZ, 6, .inl Wt2)), (ad 7, .inl (cI, 8, .inl Qu2))] H := hP
        have hD : va_D A [(ad 0, .inr (0, [.ref (ad 1), .ref (ad 2), .ref (ad 3), .ref (ad 4), .ref (ad 5), .ref (ad 6), .ref (ad 7), .int (nI n), .int (nI c), .int (nI (e_tp n)), .int (-1), .int cu])), (ad 1, .inl (cI, 14, .inl T)), (ad 2, .inl (cI, 14, .inl Hd)), (ad 3, .inl (cI, 14, .inl G)), (ad 4, .inl (cI, 6, .inl (upd O j p1))), (ad 5, .inl (cI, 6, .inl N2)), (ad 6, .inl (cZ, 6, .inl Wt2)), (ad 7, .inl (cI, 8, .inl Qu2))] := hD
        refine lv_aload_n hx hb dX1_needOf_40 rfl (lv_at hl 1 rfl) ?_
        refine va_get (D := (dC, dI)) (ci := 0) (v := .ref (ad 4)) (C := RX1) (T := TX1) (N := 12) hx hb hts in_X1 hown hK hP 0 rfl rfl 3 (by decide) (hts _ q32) (fun _ h9 => h9) rfl dX1_needOf_41 ?_
        refine lv_iload_n hx hb dX1_needOf_44 rfl (lv_at hl 2 rfl) ?_
        refine lv_iload_n hx hb dX1_needOf_45 rfl (lv_at hl 0 rfl) ?_
        refine e_ist (f2 := O) hx hb hK hP hD hS 4 0 rfl rfl j rfl (by omega) (by decide) e_upd_back dX1_needOf_46 (fun H locs hP hD hS => ?_)
        have hP : va_P (dC, dI) vwCl [(ad 0, .inr (0, [.ref (ad 1), .ref (ad 2), .ref (ad 3), .ref (ad 4), .ref (ad 5), .ref (ad 6), .ref (ad 7), .int (nI n), .int (nI c), .int (nI (e_tp n)), .int (-1), .int cu])), (ad 1, .inl (cI, 14, .inl T)), (ad 2, .inl (cI, 14, .inl Hd)), (ad 3, .inl (cI, 14, .inl G)), (ad 4, .inl (cI, 6, .inl O)), (ad 5, .inl (cI, 6, .inl N2)), (ad 6, .inl (cZ, 6, .inl Wt2)), (ad 7, .inl (cI, 8, .inl Qu2))] H := hP
        have hD : va_D A [(ad 0, .inr (0, [.ref (ad 1), .ref (ad 2), .ref (ad 3), .ref (ad 4), .ref (ad 5), .ref (ad 6), .ref (ad 7), .int (nI n), .int (nI c), .int (nI (e_tp n)), .int (-1), .int cu])), (ad 1, .inl (cI, 14, .inl T)), (ad 2, .inl (cI, 14, .inl Hd)), (ad 3, .inl (cI, 14, .inl G)), (ad 4, .inl (cI, 6, .inl O)), (ad 5, .inl (cI, 6, .inl N2)), (ad 6, .inl (cZ, 6, .inl Wt2)), (ad 7, .inl (cI, 8, .inl Qu2))] := hD
        refine lv_aload_n hx hb dX1_needOf_47 rfl (lv_at hl 1 rfl) ?_
        refine lv_iconst (v := 0) hx hb dX1_needOf_48 (by decide) ?_
        refine va_put (D := (dC, dI)) (ci := 0) (v := .int 0) (ty := .boolean) (C := RX1) (T := TX1) (N := 12) hx hb hts in_X1 tyX1 tyX1_ok nmX1 hown hK hP hD hS 0 rfl rfl 11 (by decide) (hts _ q40) (fun _ h9 => h9) rfl (by decide +kernel) rfl rfl (Nat.le_of_ble_eq_true rfl) dX1_needOf_49 (fun H locs hP hD hS => ?_)
        have hP : va_P (dC, dI) vwCl [(ad 0, .inr (0, [.ref (ad 1), .ref (ad 2), .ref (ad 3), .ref (ad 4), .ref (ad 5), .ref (ad 6), .ref (ad 7), .int (nI n), .int (nI c), .int (nI (e_tp n)), .int (-1), .int 0])), (ad 1, .inl (cI, 14, .inl T)), (ad 2, .inl (cI, 14, .inl Hd)), (ad 3, .inl (cI, 14, .inl G)), (ad 4, .inl (cI, 6, .inl O)), (ad 5, .inl (cI, 6, .inl N2)), (ad 6, .inl (cZ, 6, .inl Wt2)), (ad 7, .inl (cI, 8, .inl Qu2))] H := hP
        have hD : va_D A [(ad 0, .inr (0, [.ref (ad 1), .ref (ad 2), .ref (ad 3), .ref (ad 4), .ref (ad 5), .ref (ad 6), .ref (ad 7), .int (nI n), .int (nI c), .int (nI (e_tp n)), .int (-1), .int 0])), (ad 1, .inl (cI, 14, .inl T)), (ad 2, .inl (cI, 14, .inl Hd)), (ad 3, .inl (cI, 14, .inl G)), (ad 4, .inl (cI, 6, .inl O)), (ad 5, .inl (cI, 6, .inl N2)), (ad 6, .inl (cZ, 6, .inl Wt2)), (ad 7, .inl (cI, 8, .inl Qu2))] := hD
        refine lv_aload_n hx hb dX1_needOf_52 rfl (lv_at hl 1 rfl) ?_
        refine lv_iload_n hx hb dX1_needOf_53 rfl (lv_at hl 2 rfl) ?_
        refine e_callR (q0 := 0) (ci := 0) (rest := []) ⟨hx, hb, hml, hown, hts⟩ (metX1_shown l dC dI ad cI cZ n c T Hd G O N2 Wt2 Qu2 (-1) 0 hok (e_lf n c T Hd G (upd O j p1) (-1)) hw_37 (fun _ _ => e_lf_le) j hj) (cwV 1 hts (lw_V q124 q126 qs7 q19 q127) rfl rfl rfl (by decide +kernel) ⟨Nat.le_of_ble_eq_true rfl, Nat.le_of_ble_eq_true rfl⟩) hK hP rfl rfl rfl rfl hl.1 rfl (Nat.le_of_ble_eq_true rfl) dX1_needOf_54 ⟨Nat.zero_le _, Nat.zero_le _⟩ (fun r_54 hr_54 => ?_)
        subst hr_54
        exact hret (N2, Wt2, Qu2, 0) dX1_needOf_57 ⟨by unfold s_of; rw [if_neg (fun z => z hv_2), if_neg (fun z => z.2 c_16), nI_clamp (by omega)], Or.inl rfl⟩ hP hD hS
      · refine lv_bipush (v := -3) hx hb dX1_needOf_19 (by decide) ?_
        exact hret (N, Wt, Qu, cu) dX1_needOf_21 ⟨by unfold s_of; rw [if_neg (fun z => z hv_2), if_pos ⟨c_11, c_16⟩], hgd⟩ hP hD hS
  · refine lv_if_ne (tgt := 10) hx hb dX1_needOf_5 (by decide) (fun c_5 => absurd c_5 (by decide)) (fun c_5 => ?_)
    refine lv_iconst (v := -1) hx hb dX1_needOf_8 (by decide) ?_
    exact hret (N, Wt, Qu, cu) dX1_needOf_9 ⟨by unfold s_of; rw [if_pos hv_2], hgd⟩ hP hD hS
abbrev rX1_store : Room := { frames := 5, cells := 0, slots := 0, locals := 116 }
set_option maxHeartbeats 4000000 in
set_option maxRecDepth 100000 in
theorem metX1_store (l : Launch) (dC : Nat → ClassId) (dI : Nat → Nat → Nat) (ad : Nat → Nat) (cI cZ : ClassId) (n c : Nat) (T Hd G O N Wt Qu : eFn) (cu : Int32) (hok : e_ok n c T Hd G) (hgd : e_gdG n c T Hd G O N cu) (p0 p1 : Int32) (sz : Nat) : Met l yX1_store (ws_ yX1_store cX1_store 9 (some .int)) rX1_store (va_Pc [.ref (ad 0), .int p0, .int p1] (e_PW (dC, dI) vwCl [(cI, .int), (cZ, .boolean)] (wG ad cI cZ n c T Hd G O N Wt Qu (-1) cu) sz)) (va_Qi (fun r (u : eFn × eFn × eFn × Int32) => r = s_store n c T Hd G O p0 p1 ∧ e_gdG n c T Hd G O u.1 u.2.2.2) (e_B (dC, dI) vwCl [(cI, .int), (cZ, .boolean)] (fun u => wG ad cI cZ n c T Hd G O u.1 u.2.1 u.2.2.1 (-1) u.2.2.2) (va_A (wG ad cI cZ n c T Hd G O N Wt Qu (-1) cu) sz)) (va_A (wG ad cI cZ n c T Hd G O N Wt Qu (-1) cu) sz)) 0 0 (va_A (wG ad cI cZ n c T Hd G O N Wt Qu (-1) cu) sz) := by
  refine e_startWi (by decide) (Nat.le_of_ble_eq_true rfl) ?_
  intro pg ev st mi ar bl mt cd H A QQ hx hb hml hown hts hA hK hP hD hS hret ls hl
  have hown : st.vm.findClass RX1 = some mi.cls := hown
  have hP : va_P (dC, dI) vwCl [(ad 0, .inr (0, [.ref (ad 1), .ref (ad 2), .ref (ad 3), .ref (ad 4), .ref (ad 5), .ref (ad 6), .ref (ad 7), .int (nI n), .int (nI c), .int (nI (e_tp n)), .int (-1), .int cu])), (ad 1, .inl (cI, 14, .inl T)), (ad 2, .inl (cI, 14, .inl Hd)), (ad 3, .inl (cI, 14, .inl G)), (ad 4, .inl (cI, 6, .inl O)), (ad 5, .inl (cI, 6, .inl N)), (ad 6, .inl (cZ, 6, .inl Wt)), (ad 7, .inl (cI, 8, .inl Qu))] H := hP
  have hD : va_D A [(ad 0, .inr (0, [.ref (ad 1), .ref (ad 2), .ref (ad 3), .ref (ad 4), .ref (ad 5), .ref (ad 6), .ref (ad 7), .int (nI n), .int (nI c), .int (nI (e_tp n)), .int (-1), .int cu])), (ad 1, .inl (cI, 14, .inl T)), (ad 2, .inl (cI, 14, .inl Hd)), (ad 3, .inl (cI, 14, .inl G)), (ad 4, .inl (cI, 6, .inl O)), (ad 5, .inl (cI, 6, .inl N)), (ad 6, .inl (cZ, 6, .inl Wt)), (ad 7, .inl (cI, 8, .inl Qu))] := hD
  generalize hlocs : ([] : List Loc) = locs at hS ⊢
  have hl : lv_has ls 9 [(0, .ref (ad 0)), (1, .int p0), (2, .int p1)] := hl
  have hn2 := hok.1
  have hn6 := hok.2.1
  have hc14 := hok.2.2.1
  refine lv_aload_n hx hb dX1_store_0 rfl (lv_at hl 0 rfl) ?_
  refine lv_iload_n hx hb dX1_store_1 rfl (lv_at hl 1 rfl) ?_
  refine e_callR (q0 := 0) (ci := 0) (rest := []) ⟨hx, hb, hml, hown, hts⟩ (metX1_isVertex l dC dI ad cI cZ n c T Hd G O N Wt Qu (-1) cu p0) (cwV 1 hts (lw_V q76 q78 qs0 q19 q79) rfl rfl rfl (by decide +kernel) ⟨Nat.le_of_ble_eq_true rfl, Nat.le_of_ble_eq_true rfl⟩) hK hP rfl rfl rfl rfl hl.1 rfl (Nat.le_of_ble_eq_true rfl) dX1_store_2 ⟨Nat.zero_le _, Nat.zero_le _⟩ (fun r_2 hr_2 => ?_)
  rcases hr_2 with ⟨rfl, hv_2⟩ | ⟨rfl, hv_2⟩
  · obtain ⟨j, hj, rfl⟩ := e_v_of hv_2 (by omega)
    refine lv_if_ne (tgt := 12) hx hb dX1_store_5 (by decide) (fun c_5 => ?_) (fun c_5 => absurd c_5 (by decide))
    refine lv_iload_n hx hb dX1_store_12 rfl (lv_at hl 2 rfl) ?_
    refine lv_bipush (v := 7) hx hb dX1_store_13 (by decide) ?_
    refine lv_ishr hx hb dX1_store_15 ?_
    refine lv_istore_n (lv' := [(3, .int (p1 >>> (7 &&& 31))), (0, .ref (ad 0)), (1, .int (nI j)), (2, .int p1)]) hx hb dX1_store_16 rfl hl (by decide) rfl (fun ls hl => ?_)
    refine lv_iload_n hx hb dX1_store_17 rfl (lv_at hl 3 rfl) ?_
    refine lv_bipush (v := 127) hx hb dX1_store_18 (by decide) ?_
    refine lv_iand hx hb dX1_store_20 ?_
    refine lv_istore (lv' := [(4, .int (p1 &&& 127)), (3, .int (p1 >>> (7 &&& 31))), (0, .ref (ad 0)), (1, .int (nI j)), (2, .int p1)]) hx hb dX1_store_21 hl (by decide) rfl (fun ls hl => ?_)
    refine lv_iload_n hx hb dX1_store_23 rfl (lv_at hl 4 rfl) ?_
    refine lv_if_lt (tgt := 40) hx hb dX1_store_24 (by decide) (fun c_24 => ?_) (fun c_24 => ?_)
    · refine lv_sipush (v := -2000) hx hb dX1_store_40 (by decide) ?_
      exact hret (N, Wt, Qu, cu) dX1_store_43 ⟨by unfold s_store; rw [if_neg (fun z => z hv_2), if_pos (Or.inl c_24)], hgd⟩ hP hD hS
    · obtain ⟨m, hm, rfl⟩ := nI_of c_24
      rw [e_shr7 hm, e_and127 hm] at hl
      refine lv_iload hx hb dX1_store_27 (lv_at hl 0 rfl) ?_
      refine lv_bipush (v := nI 100) hx hb dX1_store_29 (by decide) ?_
      refine lv_icmp_gt (tgt := 40) hx hb dX1_store_31 (by decide) (fun c_31 => ?_) (fun c_31 => ?_)
      · refine lv_sipush (v := -2000) hx hb dX1_store_40 (by decide) ?_
        exact hret (N, Wt, Qu, cu) dX1_store_43 ⟨by unfold s_store; rw [if_neg (fun z => z hv_2), nI_clamp hm, if_pos (Or.inr (Or.inl ((nI_ltI (by omega) (by omega)).mp c_31)))], hgd⟩ hP hD hS
      · refine lv_iload_n hx hb dX1_store_34 rfl (lv_at hl 1 rfl) ?_
        refine lv_bipush (v := nI 30) hx hb dX1_store_35 (by decide) ?_
        refine lv_icmp_le (tgt := 44) hx hb dX1_store_37 (by decide) (fun c_37 => ?_) (fun c_37 => ?_)
        · refine lv_iload_n hx hb dX1_store_44 rfl (lv_at hl 3 rfl) ?_
          refine lv_istore (lv' := [(5, .int (nI j)), (4, .int (nI (m % 128))), (3, .int (nI (m / 128))), (0, .ref (ad 0)), (1, .int (nI j)), (2, .int (nI m))]) hx hb dX1_store_45 hl (by decide) rfl (fun ls hl => ?_)
          refine lv_iload hx hb dX1_store_47 (lv_at hl 1 rfl) ?_
          refine lv_istore (lv' := [(6, .int (nI (m % 128))), (5, .int (nI j)), (4, .int (nI (m % 128))), (3, .int (nI (m / 128))), (0, .ref (ad 0)), (1, .int (nI j)), (2, .int (nI m))]) hx hb dX1_store_49 hl (by decide) rfl (fun ls hl => ?_)
          refine lv_iconst (v := nI 0) hx hb dX1_store_51 (by decide) ?_
          refine lv_istore (lv' := [(7, .int (nI 0)), (6, .int (nI (m % 128))), (5, .int (nI j)), (4, .int (nI (m % 128))), (3, .int (nI (m / 128))), (0, .ref (ad 0)), (1, .int (nI j)), (2, .int (nI m))]) hx hb dX1_store_52 hl (by decide) rfl (fun ls hl => ?_)
          have lp_54 : ∀ (k_54 : Nat) (k : Nat) (q : Nat) (sm : Int32) (N : eFn) (Wt : eFn) (Qu : eFn) (cu : Int32), (k ≤ m / 128) → (m / 128 < k + k_54) → (q < n) → (s_store n c T Hd G O (nI j) (nI m) = e_sto n c T Hd G O (m / 128 - k) (nI q) sm) → (e_gdG n c T Hd G O N cu) → ∀ (H : Heap) (locs : List Loc), va_P (dC, dI) vwCl [(ad 0, .inr (0, [.ref (ad 1), .ref (ad 2), .ref (ad 3), .ref (ad 4), .ref (ad 5), .ref (ad 6), .ref (ad 7), .int (nI n), .int (nI c), .int (nI (e_tp n)), .int (-1), .int cu])), (ad 1, .inl (cI, 14, .inl T)), (ad 2, .inl (cI, 14, .inl Hd)), (ad 3, .inl (cI, 14, .inl G)), (ad 4, .inl (cI, 6, .inl O)), (ad 5, .inl (cI, 6, .inl N)), (ad 6, .inl (cZ, 6, .inl Wt)), (ad 7, .inl (cI, 8, .inl Qu))] H → va_D A [(ad 0, .inr (0, [.ref (ad 1), .ref (ad 2), .ref (ad 3), .ref (ad 4), .ref (ad 5), .ref (ad 6), .ref (ad 7), .int (nI n), .int (nI c), .int (nI (e_tp n)), .int (-1), .int cu])), (ad 1, .inl (cI, 14, .inl T)), (ad 2, .inl (cI, 14, .inl Hd)), (ad 3, .inl (cI, 14, .inl G)), (ad 4, .inl (cI, 6, .inl O)), (ad 5, .inl (cI, 6, .inl N)), (ad 6, .inl (cZ, 6, .inl Wt)), (ad 7, .inl (cI, 8, .inl Qu))] → va_S A st.heap H locs → ∀ ls : Array Slot, lv_has ls 9 [(0, .ref (ad 0)), (3, .int (nI (m / 128))), (5, .int (nI q)), (6, .int sm), (7, .int (nI k))] → W pg l ev rX1_store st mi ar bl mt cd H locs 0 0 QQ (F0 mi 54 ls []) := by
            intro k_54
            induction k_54 with
            | zero =>
              intro k q sm N Wt Qu cu hkm hk hq hz hgd
              exfalso; omega
            | succ k_54 ih_54 =>
              intro k q sm N Wt Qu cu hkm hk hq hz hgd H locs hP hD hS ls hl
              refine lv_iload hx hb dX1_store_54 (lv_at hl 4 rfl) ?_
              refine lv_iload_n hx hb dX1_store_56 rfl (lv_at hl 1 rfl) ?_
              refine e_ge (tgt := 103) hx hb (by omega) (by omega) dX1_store_57 (by decide) (fun c_57 => ?_) (fun c_57 => ?_)
              · have heq : k = m / 128 := by omega
                subst heq
                refine lv_iload hx hb dX1_store_103 (lv_at hl 3 rfl) ?_
                exact hret (N, Wt, Qu, cu) dX1_store_105 ⟨by rw [hz]; exact e_sto_0.symm, hgd⟩ hP hD hS
              · refine lv_aload_n hx hb dX1_store_60 rfl (lv_at hl 0 rfl) ?_
                refine lv_iload hx hb dX1_store_61 (lv_at hl 2 rfl) ?_
                refine e_callI (q0 := 0) (ci := 0) (rest := []) (wr := []) ⟨hx, hb, hml, hown, hts⟩ (metX1_choice l dC dI ad cI cZ n c T Hd G O N Wt Qu cu hok hgd (nI q) H.size) (cwV 1 hts (lw_V q164 q137 q138 q19 q139) rfl rfl rfl (by decide +kernel) ⟨Nat.le_of_ble_eq_true rfl, Nat.le_of_ble_eq_true rfl⟩) hK hP hD hS hA [0, 1, 2, 3, 4, 5, 6, 7] [] rfl rfl (by decide) (by decide) (by decide) rfl rfl rfl rfl hl.1 rfl (Nat.le_of_ble_eq_true rfl) dX1_store_63 ⟨Nat.zero_le _, Nat.zero_le _⟩ (fun r_63 u_63 H locs hw_63 hP hD hS => ?_)
                obtain ⟨N2, Wt2, Qu2, cu2⟩ := u_63
                have er : r_63 = s_chn n c T Hd G O (nI q) := by
                  have z := hw_63.1
                  unfold s_choice at z
                  rwa [if_neg (fun z => z (e_v_nI hq (by omega)))] at z
                have hgd2 : e_gdG n c T Hd G O N2 cu2 := hw_63.2
                have hP : va_P (dC, dI) vwCl [(ad 0, .inr (0, [.ref (ad 1), .ref (ad 2), .ref (ad 3), .ref (ad 4), .ref (ad 5), .ref (ad 6), .ref (ad 7), .int (nI n), .int (nI c), .int (nI (e_tp n)), .int (-1), .int cu2])), (ad 1, .inl (cI, 14, .inl T)), (ad 2, .inl (cI, 14, .inl Hd)), (ad 3, .inl (cI, 14, .inl G)), (ad 4, .inl (cI, 6, .inl O)), (ad 5, .inl (cI, 6, .inl N2)), (ad 6, .inl (cZ, 6, .inl Wt2)), (ad 7, .inl (cI, 8, .inl Qu2))] H := hP
                have hD : va_D A [(ad 0, .inr (0, [.ref (ad 1), .ref (ad 2), .ref (ad 3), .ref (ad 4), .ref (ad 5), .ref (ad 6), .ref (ad 7), .int (nI n), .int (nI c), .int (nI (e_tp n)), .int (-1), .int cu2])), (ad 1, .inl (cI, 14, .inl T)), (ad 2, .inl (cI, 14, .inl Hd)), (ad 3, .inl (cI, 14, .inl G)), (ad 4, .inl (cI, 6, .inl O)), (ad 5, .inl (cI, 6, .inl N2)), (ad 6, .inl (cZ, 6, .inl Wt2)), (ad 7, .inl (cI, 8, .inl Qu2))] := hD
                refine lv_istore (lv' := [(8, .int r_63), (0, .ref (ad 0)), (3, .int (nI (m / 128))), (5, .int (nI q)), (6, .int sm), (7, .int (nI k))]) hx hb dX1_store_66 hl (by decide) rfl (fun ls hl => ?_)
                refine lv_iload hx hb dX1_store_68 (lv_at hl 0 rfl) ?_
                refine lv_if_ge (tgt := 76) hx hb dX1_store_70 (by decide) (fun c_70 => ?_) (fun c_70 => ?_)
                · obtain ⟨i, hi, ei⟩ := e_chn_pos hc14 (by rw [← er]; exact Int32.not_lt.mpr c_70)
                  have ei2 : r_63 = nI i := er.trans ei
                  subst ei2
                  obtain ⟨w, hw, ew⟩ := hok.2.2.2.2.1 i hi
                  refine lv_iload hx hb dX1_store_76 (lv_at hl 4 rfl) ?_
                  refine lv_aload_n hx hb dX1_store_78 rfl (lv_at hl 1 rfl) ?_
                  refine va_get (D := (dC, dI)) (ci := 0) (v := .ref (ad 3)) (C := RX1) (T := TX1) (N := 12) hx hb hts in_X1 hown hK hP 0 rfl rfl 2 (by decide) (hts _ q31) (fun _ h9 => h9) rfl dX1_store_79 ?_
                  refine lv_iload hx hb dX1_store_82 (lv_at hl 0 rfl) ?_
                  refine e_ild (v := G i) hx hb hK hP 3 0 rfl rfl i rfl (by omega) (by decide) rfl dX1_store_84 ?_
                  refine lv_iadd hx hb dX1_store_85 ?_
                  refine lv_istore (lv' := [(6, .int (sm + (G i))), (8, .int (nI i)), (0, .ref (ad 0)), (3, .int (nI (m / 128))), (5, .int (nI q)), (7, .int (nI k))]) hx hb dX1_store_86 hl (by decide) rfl (fun ls hl => ?_)
                  refine lv_aload_n hx hb dX1_store_88 rfl (lv_at hl 2 rfl) ?_
                  refine va_get (D := (dC, dI)) (ci := 0) (v := .ref (ad 2)) (C := RX1) (T := TX1) (N := 12) hx hb hts in_X1 hown hK hP 0 rfl rfl 1 (by decide) (hts _ q30) (fun _ h9 => h9) rfl dX1_store_89 ?_
                  refine lv_iload hx hb dX1_store_92 (lv_at hl 1 rfl) ?_
                  refine e_ild (v := nI w) hx hb hK hP 2 0 rfl rfl i rfl (by omega) (by decide) ew dX1_store_94 ?_
                  refine lv_istore (lv' := [(5, .int (nI w)), (6, .int (sm + (G i))), (8, .int (nI i)), (0, .ref (ad 0)), (3, .int (nI (m / 128))), (7, .int (nI k))]) hx hb dX1_store_95 hl (by decide) rfl (fun ls hl => ?_)
                  refine lv_iinc (v := nI (k + 1)) (lv' := [(7, .int (nI (k + 1))), (5, .int (nI w)), (6, .int (sm + (G i))), (8, .int (nI i)), (0, .ref (ad 0)), (3, .int (nI (m / 128)))]) hx hb dX1_store_97 hl (k := 5) rfl (e_inc _) (by decide) rfl (fun ls hl => ?_)
                  refine lv_goto (tgt := 54) hx hb dX1_store_100 (by decide) ?_
                  exact ih_54 (k + 1) w (sm + G i) N2 Wt2 Qu2 cu2 (by omega) (by omega) hw (by rw [hz, e_sto_y c_57 ei (by omega), ew]) hgd2 _ _ hP hD hS ls (lv_sub hl [4, 5, 1, 2, 0] rfl)
                · refine lv_goto (tgt := 103) hx hb dX1_store_73 (by decide) ?_
                  refine lv_iload hx hb dX1_store_103 (lv_at hl 4 rfl) ?_
                  exact hret (N2, Wt2, Qu2, cu2) dX1_store_105 ⟨by rw [hz]; exact (e_sto_n c_57 (by rw [← er]; exact Int32.not_le.mp c_70)).symm, hgd2⟩ hP hD hS
          exact lp_54 (m / 128 + 1) 0 j (nI (m % 128)) N Wt Qu cu (by omega) (by omega) hj (by unfold s_store; rw [if_neg (fun z => z hv_2), nI_clamp hm, if_neg (fun z => z.elim c_24 (fun z => z.elim (fun z => c_31 (nI_lt z (by omega))) (fun z => absurd c_37 (Int32.not_le.mpr (nI_lt z (by omega))))))]; rfl) hgd _ _ hP hD hS ls (lv_sub hl [5, 4, 2, 1, 0] rfl)
        · refine lv_sipush (v := -2000) hx hb dX1_store_40 (by decide) ?_
          exact hret (N, Wt, Qu, cu) dX1_store_43 ⟨by unfold s_store; rw [if_neg (fun z => z hv_2), nI_clamp hm, if_pos (Or.inr (Or.inr (Nat.not_le.mp fun z => c_37 (nI_le z (by omega)))))], hgd⟩ hP hD hS
  · refine lv_if_ne (tgt := 12) hx hb dX1_store_5 (by decide) (fun c_5 => absurd c_5 (by decide)) (fun c_5 => ?_)
    refine lv_sipush (v := -1000) hx hb dX1_store_8 (by decide) ?_
    exact hret (N, Wt, Qu, cu) dX1_store_11 ⟨by unfold s_store; rw [if_pos hv_2], hgd⟩ hP hD hS
abbrev rX1_give : Room := { frames := 1, cells := 0, slots := 0, locals := 21 }
set_option maxHeartbeats 4000000 in
set_option maxRecDepth 100000 in
theorem metX1_give (l : Launch) (dC : Nat → ClassId) (dI : Nat → Nat → Nat) (ad : Nat → Nat) (cI cZ : ClassId) (n c : Nat) (T Hd G O N Wt Qu : eFn) (cu : Int32) (hok : e_ok n c T Hd G) (hgd : e_gdG n c T Hd G O N cu) (p0 p1 : Int32) (sz : Nat) : Met l yX1_give (ws_ yX1_give cX1_give 4 (some .int)) rX1_give (va_Pc [.ref (ad 0), .int p0, .int p1] (e_PW (dC, dI) vwCl [(cI, .int), (cZ, .boolean)] (wG ad cI cZ n c T Hd G O N Wt Qu (-1) cu) sz)) (va_Qi (fun r (u : eC × Int32) => (r, u.1) = s_give n c T Hd G O p0 p1 ∧ e_gdG n u.1.1 u.1.2.1 u.1.2.2.1 u.1.2.2.2.1 u.1.2.2.2.2 N u.2) (e_B (dC, dI) vwCl [(cI, .int), (cZ, .boolean)] (fun u => wG ad cI cZ n u.1.1 u.1.2.1 u.1.2.2.1 u.1.2.2.2.1 u.1.2.2.2.2 N Wt Qu (-1) u.2) (va_A (wG ad cI cZ n c T Hd G O N Wt Qu (-1) cu) sz)) (va_A (wG ad cI cZ n c T Hd G O N Wt Qu (-1) cu) sz)) 0 0 (va_A (wG ad cI cZ n c T Hd G O N Wt Qu (-1) cu) sz) := by
  refine e_startWi (by decide) (Nat.le_of_ble_eq_true rfl) ?_
  intro pg ev st mi ar bl mt cd H A QQ hx hb hml hown hts hA hK hP hD hS hret ls hl
  have hown : st.vm.findClass RX1 = some mi.cls := hown
  have hP : va_P (dC, dI) vwCl [(ad 0, .inr (0, [.ref (ad 1), .ref (ad 2), .ref (ad 3), .ref (ad 4), .ref (ad 5), .ref (ad 6), .ref (ad 7), .int (nI n), .int (nI c), .int (nI (e_tp n)), .int (-1), .int cu])), (ad 1, .inl (cI, 14, .inl T)), (ad 2, .inl (cI, 14, .inl Hd)), (ad 3, .inl (cI, 14, .inl G)), (ad 4, .inl (cI, 6, .inl O)), (ad 5, .inl (cI, 6, .inl N)), (ad 6, .inl (cZ, 6, .inl Wt)), (ad 7, .inl (cI, 8, .inl Qu))] H := hP
  have hD : va_D A [(ad 0, .inr (0, [.ref (ad 1), .ref (ad 2), .ref (ad 3), .ref (ad 4), .ref (ad 5), .ref (ad 6), .ref (ad 7), .int (nI n), .int (nI c), .int (nI (e_tp n)), .int (-1), .int cu])), (ad 1, .inl (cI, 14, .inl T)), (ad 2, .inl (cI, 14, .inl Hd)), (ad 3, .inl (cI, 14, .inl G)), (ad 4, .inl (cI, 6, .inl O)), (ad 5, .inl (cI, 6, .inl N)), (ad 6, .inl (cZ, 6, .inl Wt)), (ad 7, .inl (cI, 8, .inl Qu))] := hD
  generalize hlocs : ([] : List Loc) = locs at hS ⊢
  have hl : lv_has ls 4 [(0, .ref (ad 0)), (1, .int p0), (2, .int p1)] := hl
  have hn2 := hok.1
  have hn6 := hok.2.1
  have hc14 := hok.2.2.1
  refine lv_aload_n hx hb dX1_give_0 rfl (lv_at hl 0 rfl) ?_
  refine lv_iload_n hx hb dX1_give_1 rfl (lv_at hl 1 rfl) ?_
  refine e_callR (q0 := 0) (ci := 0) (rest := []) ⟨hx, hb, hml, hown, hts⟩ (metX1_isVertex l dC dI ad cI cZ n c T Hd G O N Wt Qu (-1) cu p0) (cwV 1 hts (lw_V q76 q78 qs0 q19 q79) rfl rfl rfl (by decide +kernel) ⟨Nat.le_of_ble_eq_true rfl, Nat.le_of_ble_eq_true rfl⟩) hK hP rfl rfl rfl rfl hl.1 rfl (Nat.le_of_ble_eq_true rfl) dX1_give_2 ⟨Nat.zero_le _, Nat.zero_le _⟩ (fun r_2 hr_2 => ?_)
  rcases hr_2 with ⟨rfl, hv_2⟩ | ⟨rfl, hv_2⟩
  · obtain ⟨j, hj, rfl⟩ := e_v_of hv_2 (by omega)
    refine lv_if_ne (tgt := 10) hx hb dX1_give_5 (by decide) (fun c_5 => ?_) (fun c_5 => absurd c_5 (by decide))
    refine lv_iload_n hx hb dX1_give_10 rfl (lv_at hl 2 rfl) ?_
    refine lv_if_eq (tgt := 22) hx hb dX1_give_11 (by decide) (fun c_11 => ?_) (fun c_11 => ?_)
    · refine lv_aload_n hx hb dX1_give_22 rfl (lv_at hl 0 rfl) ?_
      refine va_get (D := (dC, dI)) (ci := 0) (v := .ref (ad 4)) (C := RX1) (T := TX1) (N := 12) hx hb hts in_X1 hown hK hP 0 rfl rfl 3 (by decide) (hts _ q32) (fun _ h9 => h9) rfl dX1_give_23 ?_
      refine lv_iload_n hx hb dX1_give_26 rfl (lv_at hl 1 rfl) ?_
      refine e_ild (v := O j) hx hb hK hP 4 0 rfl rfl j rfl (by omega) (by decide) rfl dX1_give_27 ?_
      refine lv_istore_n (lv' := [(3, .int (O j)), (0, .ref (ad 0)), (1, .int (nI j)), (2, .int p1)]) hx hb dX1_give_28 rfl hl (by decide) rfl (fun ls hl => ?_)
      refine lv_aload_n hx hb dX1_give_29 rfl (lv_at hl 1 rfl) ?_
      refine va_get (D := (dC, dI)) (ci := 0) (v := .ref (ad 4)) (C := RX1) (T := TX1) (N := 12) hx hb hts in_X1 hown hK hP 0 rfl rfl 3 (by decide) (hts _ q32) (fun _ h9 => h9) rfl dX1_give_30 ?_
      refine lv_iload_n hx hb dX1_give_33 rfl (lv_at hl 2 rfl) ?_
      refine lv_iload_n hx hb dX1_give_34 rfl (lv_at hl 3 rfl) ?_
      refine e_ist (f2 := upd O j p1) hx hb hK hP hD hS 4 0 rfl rfl j rfl (by omega) (by decide) rfl dX1_give_35 (fun H locs hP hD hS => ?_)
      have hP : va_P (dC, dI) vwCl [(ad 0, .inr (0, [.ref (ad 1), .ref (ad 2), .ref (ad 3), .ref (ad 4), .ref (ad 5), .ref (ad 6), .ref (ad 7), .int (nI n), .int (nI c), .int (nI (e_tp n)), .int (-1), .int cu])), (ad 1, .inl (cI, 14, .inl T)), (ad 2, .inl (cI, 14, .inl Hd)), (ad 3, .inl (cI, 14, .inl G)), (ad 4, .inl (cI, 6, .inl (upd O j p1))), (ad 5, .inl (cI, 6, .inl N)), (ad 6, .inl (cZ, 6, .inl Wt)), (ad 7, .inl (cI, 8, .inl Qu))] H := hP
      have hD : va_D A [(ad 0, .inr (0, [.ref (ad 1), .ref (ad 2), .ref (ad 3), .ref (ad 4), .ref (ad 5), .ref (ad 6), .ref (ad 7), .int (nI n), .int (nI c), .int (nI (e_tp n)), .int (-1), .int cu])), (ad 1, .inl (cI, 14, .inl T)), (ad 2, .inl (cI, 14, .inl Hd)), (ad 3, .inl (cI, 14, .inl G)), (ad 4, .inl (cI, 6, .inl (upd O j p1))), (ad 5, .inl (cI, 6, .inl N)), (ad 6, .inl (cZ, 6, .inl Wt)), (ad 7, .inl (cI, 8, .inl Qu))] := hD
      refine lv_aload_n hx hb dX1_give_36 rfl (lv_at hl 1 rfl) ?_
      refine lv_iconst (v := 0) hx hb dX1_give_37 (by decide) ?_
      refine va_put (D := (dC, dI)) (ci := 0) (v := .int 0) (ty := .boolean) (C := RX1) (T := TX1) (N := 12) hx hb hts in_X1 tyX1 tyX1_ok nmX1 hown hK hP hD hS 0 rfl rfl 11 (by decide) (hts _ q40) (fun _ h9 => h9) rfl (by decide +kernel) rfl rfl (Nat.le_of_ble_eq_true rfl) dX1_give_38 (fun H locs hP hD hS => ?_)
      have hP : va_P (dC, dI) vwCl [(ad 0, .inr (0, [.ref (ad 1), .ref (ad 2), .ref (ad 3), .ref (ad 4), .ref (ad 5), .ref (ad 6), .ref (ad 7), .int (nI n), .int (nI c), .int (nI (e_tp n)), .int (-1), .int 0])), (ad 1, .inl (cI, 14, .inl T)), (ad 2, .inl (cI, 14, .inl Hd)), (ad 3, .inl (cI, 14, .inl G)), (ad 4, .inl (cI, 6, .inl (upd O j p1))), (ad 5, .inl (cI, 6, .inl N)), (ad 6, .inl (cZ, 6, .inl Wt)), (ad 7, .inl (cI, 8, .inl Qu))] H := hP
      have hD : va_D A [(ad 0, .inr (0, [.ref (ad 1), .ref (ad 2), .ref (ad 3), .ref (ad 4), .ref (ad 5), .ref (ad 6), .ref (ad 7), .int (nI n), .int (nI c), .int (nI (e_tp n)), .int (-1), .int 0])), (ad 1, .inl (cI, 14, .inl T)), (ad 2, .inl (cI, 14, .inl Hd)), (ad 3, .inl (cI, 14, .inl G)), (ad 4, .inl (cI, 6, .inl (upd O j p1))), (ad 5, .inl (cI, 6, .inl N)), (ad 6, .inl (cZ, 6, .inl Wt)), (ad 7, .inl (cI, 8, .inl Qu))] := hD
      refine lv_iload_n hx hb dX1_give_41 rfl (lv_at hl 0 rfl) ?_
      exact hret ((c, T, Hd, G, upd O j p1), 0) dX1_give_42 ⟨by unfold s_give; rw [if_neg (fun z => z hv_2), if_neg (fun z => z.1 c_11), nI_clamp (by omega)], Or.inl rfl⟩ hP hD hS
    · refine lv_iload_n hx hb dX1_give_14 rfl (lv_at hl 2 rfl) ?_
      refine lv_iconst (v := 1) hx hb dX1_give_15 (by decide) ?_
      refine lv_icmp_eq (tgt := 22) hx hb dX1_give_16 (by decide) (fun c_16 => ?_) (fun c_16 => ?_)
      · refine lv_aload_n hx hb dX1_give_22 rfl (lv_at hl 0 rfl) ?_
        refine va_get (D := (dC, dI)) (ci := 0) (v := .ref (ad 4)) (C := RX1) (T := TX1) (N := 12) hx hb hts in_X1 hown hK hP 0 rfl rfl 3 (by decide) (hts _ q32) (fun _ h9 => h9) rfl dX1_give_23 ?_
        refine lv_iload_n hx hb dX1_give_26 rfl (lv_at hl 1 rfl) ?_
        refine e_ild (v := O j) hx hb hK hP 4 0 rfl rfl j rfl (by omega) (by decide) rfl dX1_give_27 ?_
        refine lv_istore_n (lv' := [(3, .int (O j)), (0, .ref (ad 0)), (1, .int (nI j)), (2, .int p1)]) hx hb dX1_give_28 rfl hl (by decide) rfl (fun ls hl => ?_)
        refine lv_aload_n hx hb dX1_give_29 rfl (lv_at hl 1 rfl) ?_
        refine va_get (D := (dC, dI)) (ci := 0) (v := .ref (ad 4)) (C := RX1) (T := TX1) (N := 12) hx hb hts in_X1 hown hK hP 0 rfl rfl 3 (by decide) (hts _ q32) (fun _ h9 => h9) rfl dX1_give_30 ?_
        refine lv_iload_n hx hb dX1_give_33 rfl (lv_at hl 2 rfl) ?_
        refine lv_iload_n hx hb dX1_give_34 rfl (lv_at hl 3 rfl) ?_
        refine e_ist (f2 := upd O j p1) hx hb hK hP hD hS 4 0 rfl rfl j rfl (by omega) (by decide) rfl dX1_give_35 (fun H locs hP hD hS => ?_)
        have hP : va_P (dC, dI) vwCl [(ad 0, .inr (0, [.ref (ad 1), .ref (ad 2), .ref (ad 3), .ref (ad 4), .ref (ad 5), .ref (ad 6), .ref (ad 7), .int (nI n), .int (nI c), .int (nI (e_tp n)), .int (-1), .int cu])), (ad 1, .inl (cI, 14, .inl T)), (ad 2, .inl (cI, 14, .inl Hd)), (ad 3, .inl (cI, 14, .inl G)), (ad 4, .inl (cI, 6, .inl (upd O j p1))), (ad 5, .inl (cI, 6, .inl N)), (ad 6, .inl (cZ, 6, .inl Wt)), (ad 7, .inl (cI, 8, .inl Qu))] H := hP
        have hD : va_D A [(ad 0, .inr (0, [.ref (ad 1), .ref (ad 2), .ref (ad 3), .ref (ad 4), .ref (ad 5), .ref (ad 6), .ref (ad 7), .int (nI n), .int (nI c), .int (nI (e_tp n)), .int (-1), .int cu])), (ad 1, .inl (cI, 14, .inl T)), (ad 2, .inl (cI, 14, .inl Hd)), (ad 3, .inl (cI, 14, .inl G)), (ad 4, .inl (cI, 6, .inl (upd O j p1))), (ad 5, .inl (cI, 6, .inl N)), (ad 6, .inl (cZ, 6, .inl Wt)), (ad 7, .inl (cI, 8, .inl Qu))] := hD
        refine lv_aload_n hx hb dX1_give_36 rfl (lv_at hl 1 rfl) ?_
        refine lv_iconst (v := 0) hx hb dX1_give_37 (by decide) ?_
        refine va_put (D := (dC, dI)) (ci := 0) (v := .int 0) (ty := .boolean) (C := RX1) (T := TX1) (N := 12) hx hb hts in_X1 tyX1 tyX1_ok nmX1 hown hK hP hD hS 0 rfl rfl 11 (by decide) (hts _ q40) (fun _ h9 => h9) rfl (by decide +kernel) rfl rfl (Nat.le_of_ble_eq_true rfl) dX1_give_38 (fun H locs hP hD hS => ?_)
        have hP : va_P (dC, dI) vwCl [(ad 0, .inr (0, [.ref (ad 1), .ref (ad 2), .ref (ad 3), .ref (ad 4), .ref (ad 5), .ref (ad 6), .ref (ad 7), .int (nI n), .int (nI c), .int (nI (e_tp n)), .int (-1), .int 0])), (ad 1, .inl (cI, 14, .inl T)), (ad 2, .inl (cI, 14, .inl Hd)), (ad 3, .inl (cI, 14, .inl G)), (ad 4, .inl (cI, 6, .inl (upd O j p1))), (ad 5, .inl (cI, 6, .inl N)), (ad 6, .inl (cZ, 6, .inl Wt)), (ad 7, .inl (cI, 8, .inl Qu))] H := hP
        have hD : va_D A [(ad 0, .inr (0, [.ref (ad 1), .ref (ad 2), .ref (ad 3), .ref (ad 4), .ref (ad 5), .ref (ad 6), .ref (ad 7), .int (nI n), .int (nI c), .int (nI (e_tp n)), .int (-1), .int 0])), (ad 1, .inl (cI, 14, .inl T)), (ad 2, .inl (cI, 14, .inl Hd)), (ad 3, .inl (cI, 14, .inl G)), (ad 4, .inl (cI, 6, .inl (upd O j p1))), (ad 5, .inl (cI, 6, .inl N)), (ad 6, .inl (cZ, 6, .inl Wt)), (ad 7, .inl (cI, 8, .inl Qu))] := hD
        refine lv_iload_n hx hb dX1_give_41 rfl (lv_at hl 0 rfl) ?_
        exact hret ((c, T, Hd, G, upd O j p1), 0) dX1_give_42 ⟨by unfold s_give; rw [if_neg (fun z => z hv_2), if_neg (fun z => z.2 c_16), nI_clamp (by omega)], Or.inl rfl⟩ hP hD hS
      · refine lv_bipush (v := -2) hx hb dX1_give_19 (by decide) ?_
        exact hret ((c, T, Hd, G, O), cu) dX1_give_21 ⟨by unfold s_give; rw [if_neg (fun z => z hv_2), if_pos ⟨c_11, c_16⟩], hgd⟩ hP hD hS
  · refine lv_if_ne (tgt := 10) hx hb dX1_give_5 (by decide) (fun c_5 => absurd c_5 (by decide)) (fun c_5 => ?_)
    refine lv_iconst (v := -1) hx hb dX1_give_8 (by decide) ?_
    exact hret ((c, T, Hd, G, O), cu) dX1_give_9 ⟨by unfold s_give; rw [if_pos hv_2], hgd⟩ hP hD hS
abbrev rX1_set : Room := { frames := 1, cells := 0, slots := 0, locals := 21 }
set_option maxHeartbeats 4000000 in
set_option maxRecDepth 100000 in
theorem metX1_set (l : Launch) (dC : Nat → ClassId) (dI : Nat → Nat → Nat) (ad : Nat → Nat) (cI cZ : ClassId) (n c : Nat) (T Hd G O N Wt Qu : eFn) (cu : Int32) (hok : e_ok n c T Hd G) (hgd : e_gdG n c T Hd G O N cu) (p0 p1 : Int32) (sz : Nat) : Met l yX1_set (ws_ yX1_set cX1_set 4 (some .int)) rX1_set (va_Pc [.ref (ad 0), .int p0, .int p1] (e_PW (dC, dI) vwCl [(cI, .int), (cZ, .boolean)] (wG ad cI cZ n c T Hd G O N Wt Qu (-1) cu) sz)) (va_Qi (fun r (u : eC × Int32) => (r, u.1) = s_set n c T Hd G O p0 p1 ∧ e_gdG n u.1.1 u.1.2.1 u.1.2.2.1 u.1.2.2.2.1 u.1.2.2.2.2 N u.2) (e_B (dC, dI) vwCl [(cI, .int), (cZ, .boolean)] (fun u => wG ad cI cZ n u.1.1 u.1.2.1 u.1.2.2.1 u.1.2.2.2.1 u.1.2.2.2.2 N Wt Qu (-1) u.2) (va_A (wG ad cI cZ n c T Hd G O N Wt Qu (-1) cu) sz)) (va_A (wG ad cI cZ n c T Hd G O N Wt Qu (-1) cu) sz)) 0 0 (va_A (wG ad cI cZ n c T Hd G O N Wt Qu (-1) cu) sz) := by
  refine e_startWi (by decide) (Nat.le_of_ble_eq_true rfl) ?_
  intro pg ev st mi ar bl mt cd H A QQ hx hb hml hown hts hA hK hP hD hS hret ls hl
  have hown : st.vm.findClass RX1 = some mi.cls := hown
  have hP : va_P (dC, dI) vwCl [(ad 0, .inr (0, [.ref (ad 1), .ref (ad 2), .ref (ad 3), .ref (ad 4), .ref (ad 5), .ref (ad 6), .ref (ad 7), .int (nI n), .int (nI c), .int (nI (e_tp n)), .int (-1), .int cu])), (ad 1, .inl (cI, 14, .inl T)), (ad 2, .inl (cI, 14, .inl Hd)), (ad 3, .inl (cI, 14, .inl G)), (ad 4, .inl (cI, 6, .inl O)), (ad 5, .inl (cI, 6, .inl N)), (ad 6, .inl (cZ, 6, .inl Wt)), (ad 7, .inl (cI, 8, .inl Qu))] H := hP
  have hD : va_D A [(ad 0, .inr (0, [.ref (ad 1), .ref (ad 2), .ref (ad 3), .ref (ad 4), .ref (ad 5), .ref (ad 6), .ref (ad 7), .int (nI n), .int (nI c), .int (nI (e_tp n)), .int (-1), .int cu])), (ad 1, .inl (cI, 14, .inl T)), (ad 2, .inl (cI, 14, .inl Hd)), (ad 3, .inl (cI, 14, .inl G)), (ad 4, .inl (cI, 6, .inl O)), (ad 5, .inl (cI, 6, .inl N)), (ad 6, .inl (cZ, 6, .inl Wt)), (ad 7, .inl (cI, 8, .inl Qu))] := hD
  generalize hlocs : ([] : List Loc) = locs at hS ⊢
  have hl : lv_has ls 4 [(0, .ref (ad 0)), (1, .int p0), (2, .int p1)] := hl
  have hn2 := hok.1
  have hn6 := hok.2.1
  have hc14 := hok.2.2.1
  refine lv_aload_n hx hb dX1_set_0 rfl (lv_at hl 0 rfl) ?_
  refine lv_iload_n hx hb dX1_set_1 rfl (lv_at hl 1 rfl) ?_
  refine e_callR (q0 := 0) (ci := 0) (rest := []) ⟨hx, hb, hml, hown, hts⟩ (metX1_isEdge l dC dI ad cI cZ n c T Hd G O N Wt Qu (-1) cu p0) (cwV 1 hts (lw_V q92 q94 qs2 q19 q95) rfl rfl rfl (by decide +kernel) ⟨Nat.le_of_ble_eq_true rfl, Nat.le_of_ble_eq_true rfl⟩) hK hP rfl rfl rfl rfl hl.1 rfl (Nat.le_of_ble_eq_true rfl) dX1_set_2 ⟨Nat.zero_le _, Nat.zero_le _⟩ (fun r_2 hr_2 => ?_)
  rcases hr_2 with ⟨rfl, hv_2⟩ | ⟨rfl, hv_2⟩
  · obtain ⟨j, hj, rfl⟩ := e_v_of hv_2 (by omega)
    refine lv_if_ne (tgt := 10) hx hb dX1_set_5 (by decide) (fun c_5 => ?_) (fun c_5 => absurd c_5 (by decide))
    refine lv_iload_n hx hb dX1_set_10 rfl (lv_at hl 2 rfl) ?_
    refine lv_bipush (v := -6) hx hb dX1_set_11 (by decide) ?_
    refine lv_icmp_lt (tgt := 22) hx hb dX1_set_13 (by decide) (fun c_13 => ?_) (fun c_13 => ?_)
    · refine lv_bipush (v := -2) hx hb dX1_set_22 (by decide) ?_
      exact hret ((c, T, Hd, G, O), cu) dX1_set_24 ⟨by unfold s_set; rw [if_neg (fun z => z hv_2), if_pos (fun z => z.1 c_13)], hgd⟩ hP hD hS
    · refine lv_iload_n hx hb dX1_set_16 rfl (lv_at hl 2 rfl) ?_
      refine lv_bipush (v := 6) hx hb dX1_set_17 (by decide) ?_
      refine lv_icmp_le (tgt := 25) hx hb dX1_set_19 (by decide) (fun c_19 => ?_) (fun c_19 => ?_)
      · refine lv_aload_n hx hb dX1_set_25 rfl (lv_at hl 0 rfl) ?_
        refine va_get (D := (dC, dI)) (ci := 0) (v := .ref (ad 3)) (C := RX1) (T := TX1) (N := 12) hx hb hts in_X1 hown hK hP 0 rfl rfl 2 (by decide) (hts _ q31) (fun _ h9 => h9) rfl dX1_set_26 ?_
        refine lv_iload_n hx hb dX1_set_29 rfl (lv_at hl 1 rfl) ?_
        refine e_ild (v := G j) hx hb hK hP 3 0 rfl rfl j rfl (by omega) (by decide) rfl dX1_set_30 ?_
        refine lv_istore_n (lv' := [(3, .int (G j)), (0, .ref (ad 0)), (1, .int (nI j)), (2, .int p1)]) hx hb dX1_set_31 rfl hl (by decide) rfl (fun ls hl => ?_)
        refine lv_aload_n hx hb dX1_set_32 rfl (lv_at hl 1 rfl) ?_
        refine va_get (D := (dC, dI)) (ci := 0) (v := .ref (ad 3)) (C := RX1) (T := TX1) (N := 12) hx hb hts in_X1 hown hK hP 0 rfl rfl 2 (by decide) (hts _ q31) (fun _ h9 => h9) rfl dX1_set_33 ?_
        refine lv_iload_n hx hb dX1_set_36 rfl (lv_at hl 2 rfl) ?_
        refine lv_iload_n hx hb dX1_set_37 rfl (lv_at hl 3 rfl) ?_
        refine e_ist (f2 := upd G j p1) hx hb hK hP hD hS 3 0 rfl rfl j rfl (by omega) (by decide) rfl dX1_set_38 (fun H locs hP hD hS => ?_)
        have hP : va_P (dC, dI) vwCl [(ad 0, .inr (0, [.ref (ad 1), .ref (ad 2), .ref (ad 3), .ref (ad 4), .ref (ad 5), .ref (ad 6), .ref (ad 7), .int (nI n), .int (nI c), .int (nI (e_tp n)), .int (-1), .int cu])), (ad 1, .inl (cI, 14, .inl T)), (ad 2, .inl (cI, 14, .inl Hd)), (ad 3, .inl (cI, 14, .inl (upd G j p1))), (ad 4, .inl (cI, 6, .inl O)), (ad 5, .inl (cI, 6, .inl N)), (ad 6, .inl (cZ, 6, .inl Wt)), (ad 7, .inl (cI, 8, .inl Qu))] H := hP
        have hD : va_D A [(ad 0, .inr (0, [.ref (ad 1), .ref (ad 2), .ref (ad 3), .ref (ad 4), .ref (ad 5), .ref (ad 6), .ref (ad 7), .int (nI n), .int (nI c), .int (nI (e_tp n)), .int (-1), .int cu])), (ad 1, .inl (cI, 14, .inl T)), (ad 2, .inl (cI, 14, .inl Hd)), (ad 3, .inl (cI, 14, .inl (upd G j p1))), (ad 4, .inl (cI, 6, .inl O)), (ad 5, .inl (cI, 6, .inl N)), (ad 6, .inl (cZ, 6, .inl Wt)), (ad 7, .inl (cI, 8, .inl Qu))] := hD
        refine lv_aload_n hx hb dX1_set_39 rfl (lv_at hl 1 rfl) ?_
        refine lv_iconst (v := 0) hx hb dX1_set_40 (by decide) ?_
        refine va_put (D := (dC, dI)) (ci := 0) (v := .int 0) (ty := .boolean) (C := RX1) (T := TX1) (N := 12) hx hb hts in_X1 tyX1 tyX1_ok nmX1 hown hK hP hD hS 0 rfl rfl 11 (by decide) (hts _ q40) (fun _ h9 => h9) rfl (by decide +kernel) rfl rfl (Nat.le_of_ble_eq_true rfl) dX1_set_41 (fun H locs hP hD hS => ?_)
        have hP : va_P (dC, dI) vwCl [(ad 0, .inr (0, [.ref (ad 1), .ref (ad 2), .ref (ad 3), .ref (ad 4), .ref (ad 5), .ref (ad 6), .ref (ad 7), .int (nI n), .int (nI c), .int (nI (e_tp n)), .int (-1), .int 0])), (ad 1, .inl (cI, 14, .inl T)), (ad 2, .inl (cI, 14, .inl Hd)), (ad 3, .inl (cI, 14, .inl (upd G j p1))), (ad 4, .inl (cI, 6, .inl O)), (ad 5, .inl (cI, 6, .inl N)), (ad 6, .inl (cZ, 6, .inl Wt)), (ad 7, .inl (cI, 8, .inl Qu))] H := hP
        have hD : va_D A [(ad 0, .inr (0, [.ref (ad 1), .ref (ad 2), .ref (ad 3), .ref (ad 4), .ref (ad 5), .ref (ad 6), .ref (ad 7), .int (nI n), .int (nI c), .int (nI (e_tp n)), .int (-1), .int 0])), (ad 1, .inl (cI, 14, .inl T)), (ad 2, .inl (cI, 14, .inl Hd)), (ad 3, .inl (cI, 14, .inl (upd G j p1))), (ad 4, .inl (cI, 6, .inl O)), (ad 5, .inl (cI, 6, .inl N)), (ad 6, .inl (cZ, 6, .inl Wt)), (ad 7, .inl (cI, 8, .inl Qu))] := hD
        refine lv_iload_n hx hb dX1_set_44 rfl (lv_at hl 0 rfl) ?_
        exact hret ((c, T, Hd, upd G j p1, O), 0) dX1_set_45 ⟨by unfold s_set; rw [if_neg (fun z => z hv_2), if_neg (fun z => z ⟨c_13, Int32.not_lt.mpr c_19⟩), nI_clamp (by omega)], Or.inl rfl⟩ hP hD hS
      · refine lv_bipush (v := -2) hx hb dX1_set_22 (by decide) ?_
        exact hret ((c, T, Hd, G, O), cu) dX1_set_24 ⟨by unfold s_set; rw [if_neg (fun z => z hv_2), if_pos (fun z => z.2 (Int32.not_le.mp c_19))], hgd⟩ hP hD hS
  · refine lv_if_ne (tgt := 10) hx hb dX1_set_5 (by decide) (fun c_5 => absurd c_5 (by decide)) (fun c_5 => ?_)
    refine lv_iconst (v := -1) hx hb dX1_set_8 (by decide) ?_
    exact hret ((c, T, Hd, G, O), cu) dX1_set_9 ⟨by unfold s_set; rw [if_pos hv_2], hgd⟩ hP hD hS
abbrev rX1_link : Room := { frames := 1, cells := 0, slots := 0, locals := 23 }
set_option maxHeartbeats 4000000 in
set_option maxRecDepth 100000 in
theorem metX1_link (l : Launch) (dC : Nat → ClassId) (dI : Nat → Nat → Nat) (ad : Nat → Nat) (cI cZ : ClassId) (n c : Nat) (T Hd G O N Wt Qu : eFn) (cu : Int32) (hok : e_ok n c T Hd G) (hgd : e_gdG n c T Hd G O N cu) (p0 p1 p2 : Int32) (sz : Nat) : Met l yX1_link (ws_ yX1_link cX1_link 4 (some .int)) rX1_link (va_Pc [.ref (ad 0), .int p0, .int p1, .int p2] (e_PW (dC, dI) vwCl [(cI, .int), (cZ, .boolean)] (wG ad cI cZ n c T Hd G O N Wt Qu (-1) cu) sz)) (va_Qi (fun r (u : eC × Int32) => (r, u.1) = s_link n c T Hd G O p0 p1 p2 ∧ e_gdG n u.1.1 u.1.2.1 u.1.2.2.1 u.1.2.2.2.1 u.1.2.2.2.2 N u.2) (e_B (dC, dI) vwCl [(cI, .int), (cZ, .boolean)] (fun u => wG ad cI cZ n u.1.1 u.1.2.1 u.1.2.2.1 u.1.2.2.2.1 u.1.2.2.2.2 N Wt Qu (-1) u.2) (va_A (wG ad cI cZ n c T Hd G O N Wt Qu (-1) cu) sz)) (va_A (wG ad cI cZ n c T Hd G O N Wt Qu (-1) cu) sz)) 0 0 (va_A (wG ad cI cZ n c T Hd G O N Wt Qu (-1) cu) sz) := by
  refine e_startWi (by decide) (Nat.le_of_ble_eq_true rfl) ?_
  intro pg ev st mi ar bl mt cd H A QQ hx hb hml hown hts hA hK hP hD hS hret ls hl
  have hown : st.vm.findClass RX1 = some mi.cls := hown
  have hP : va_P (dC, dI) vwCl [(ad 0, .inr (0, [.ref (ad 1), .ref (ad 2), .ref (ad 3), .ref (ad 4), .ref (ad 5), .ref (ad 6), .ref (ad 7), .int (nI n), .int (nI c), .int (nI (e_tp n)), .int (-1), .int cu])), (ad 1, .inl (cI, 14, .inl T)), (ad 2, .inl (cI, 14, .inl Hd)), (ad 3, .inl (cI, 14, .inl G)), (ad 4, .inl (cI, 6, .inl O)), (ad 5, .inl (cI, 6, .inl N)), (ad 6, .inl (cZ, 6, .inl Wt)), (ad 7, .inl (cI, 8, .inl Qu))] H := hP
  have hD : va_D A [(ad 0, .inr (0, [.ref (ad 1), .ref (ad 2), .ref (ad 3), .ref (ad 4), .ref (ad 5), .ref (ad 6), .ref (ad 7), .int (nI n), .int (nI c), .int (nI (e_tp n)), .int (-1), .int cu])), (ad 1, .inl (cI, 14, .inl T)), (ad 2, .inl (cI, 14, .inl Hd)), (ad 3, .inl (cI, 14, .inl G)), (ad 4, .inl (cI, 6, .inl O)), (ad 5, .inl (cI, 6, .inl N)), (ad 6, .inl (cZ, 6, .inl Wt)), (ad 7, .inl (cI, 8, .inl Qu))] := hD
  generalize hlocs : ([] : List Loc) = locs at hS ⊢
  have hl : lv_has ls 4 [(0, .ref (ad 0)), (1, .int p0), (2, .int p1), (3, .int p2)] := hl
  have hn2 := hok.1
  have hn6 := hok.2.1
  have hc14 := hok.2.2.1
  refine lv_aload_n hx hb dX1_link_0 rfl (lv_at hl 0 rfl) ?_
  refine lv_iload_n hx hb dX1_link_1 rfl (lv_at hl 1 rfl) ?_
  refine e_callR (q0 := 0) (ci := 0) (rest := []) ⟨hx, hb, hml, hown, hts⟩ (metX1_isVertex l dC dI ad cI cZ n c T Hd G O N Wt Qu (-1) cu p0) (cwV 1 hts (lw_V q76 q78 qs0 q19 q79) rfl rfl rfl (by decide +kernel) ⟨Nat.le_of_ble_eq_true rfl, Nat.le_of_ble_eq_true rfl⟩) hK hP rfl rfl rfl rfl hl.1 rfl (Nat.le_of_ble_eq_true rfl) dX1_link_2 ⟨Nat.zero_le _, Nat.zero_le _⟩ (fun r_2 hr_2 => ?_)
  rcases hr_2 with ⟨rfl, hv_2⟩ | ⟨rfl, hv_2⟩
  · obtain ⟨j, hj, rfl⟩ := e_v_of hv_2 (by omega)
    refine lv_if_eq (tgt := 16) hx hb dX1_link_5 (by decide) (fun c_5 => absurd c_5 (by decide)) (fun c_5 => ?_)
    refine lv_aload_n hx hb dX1_link_8 rfl (lv_at hl 0 rfl) ?_
    refine lv_iload_n hx hb dX1_link_9 rfl (lv_at hl 2 rfl) ?_
    refine e_callR (q0 := 0) (ci := 0) (rest := []) ⟨hx, hb, hml, hown, hts⟩ (metX1_isVertex l dC dI ad cI cZ n c T Hd G O N Wt Qu (-1) cu p1) (cwV 1 hts (lw_V q76 q78 qs0 q19 q79) rfl rfl rfl (by decide +kernel) ⟨Nat.le_of_ble_eq_true rfl, Nat.le_of_ble_eq_true rfl⟩) hK hP rfl rfl rfl rfl hl.1 rfl (Nat.le_of_ble_eq_true rfl) dX1_link_10 ⟨Nat.zero_le _, Nat.zero_le _⟩ (fun r_10 hr_10 => ?_)
    rcases hr_10 with ⟨rfl, hv_10⟩ | ⟨rfl, hv_10⟩
    · obtain ⟨i, hi, rfl⟩ := e_v_of hv_10 (by omega)
      refine lv_if_ne (tgt := 18) hx hb dX1_link_13 (by decide) (fun c_13 => ?_) (fun c_13 => absurd c_13 (by decide))
      refine lv_iload_n hx hb dX1_link_18 rfl (lv_at hl 3 rfl) ?_
      refine lv_bipush (v := -6) hx hb dX1_link_19 (by decide) ?_
      refine lv_icmp_lt (tgt := 30) hx hb dX1_link_21 (by decide) (fun c_21 => ?_) (fun c_21 => ?_)
      · refine lv_bipush (v := -2) hx hb dX1_link_30 (by decide) ?_
        exact hret ((c, T, Hd, G, O), cu) dX1_link_32 ⟨by unfold s_link; rw [if_neg (fun z => z ⟨hv_2, hv_10⟩), if_pos (fun z => z.1 c_21)], hgd⟩ hP hD hS
      · refine lv_iload_n hx hb dX1_link_24 rfl (lv_at hl 3 rfl) ?_
        refine lv_bipush (v := 6) hx hb dX1_link_25 (by decide) ?_
        refine lv_icmp_le (tgt := 33) hx hb dX1_link_27 (by decide) (fun c_27 => ?_) (fun c_27 => ?_)
        · refine lv_aload_n hx hb dX1_link_33 rfl (lv_at hl 0 rfl) ?_
          refine va_get (D := (dC, dI)) (ci := 0) (v := .int (nI c)) (C := RX1) (T := TX1) (N := 12) hx hb hts in_X1 hown hK hP 0 rfl rfl 8 (by decide) (hts _ q37) (fun _ h9 => h9) rfl dX1_link_34 ?_
          refine lv_bipush (v := nI 14) hx hb dX1_link_37 (by decide) ?_
          refine lv_icmp_ne (tgt := 45) hx hb dX1_link_39 (by decide) (fun c_39 => ?_) (fun c_39 => ?_)
          · have d_39 : ¬ c = 14 := fun z => c_39 (by rw [z])
            refine lv_aload_n hx hb dX1_link_45 rfl (lv_at hl 0 rfl) ?_
            refine lv_iload_n hx hb dX1_link_46 rfl (lv_at hl 1 rfl) ?_
            refine e_callR (q0 := 0) (ci := 0) (rest := []) ⟨hx, hb, hml, hown, hts⟩ (metX1_degree l dC dI ad cI cZ n c T Hd G O N Wt Qu (-1) cu hok (nI j)) (cwV 1 hts (lw_V q84 q86 qs1 q19 q87) rfl rfl rfl (by decide +kernel) ⟨Nat.le_of_ble_eq_true rfl, Nat.le_of_ble_eq_true rfl⟩) hK hP rfl rfl rfl rfl hl.1 rfl (Nat.le_of_ble_eq_true rfl) dX1_link_47 ⟨Nat.zero_le _, Nat.zero_le _⟩ (fun r_47 hr_47 => ?_)
            subst hr_47
            have hdg := hok.2.2.2.2.2.2 (nI j)
            refine lv_iconst (v := nI 3) hx hb dX1_link_50 (by decide) ?_
            refine lv_icmp_ne (tgt := 57) hx hb dX1_link_51 (by decide) (fun c_51 => ?_) (fun c_51 => ?_)
            · have d_51 : ¬ e_deg T (nI j) c = 3 := fun z => c_51 (by rw [z])
              refine lv_aload_n hx hb dX1_link_57 rfl (lv_at hl 0 rfl) ?_
              refine va_get (D := (dC, dI)) (ci := 0) (v := .ref (ad 1)) (C := RX1) (T := TX1) (N := 12) hx hb hts in_X1 hown hK hP 0 rfl rfl 0 (by decide) (hts _ q29) (fun _ h9 => h9) rfl dX1_link_58 ?_
              refine lv_aload_n hx hb dX1_link_61 rfl (lv_at hl 0 rfl) ?_
              refine va_get (D := (dC, dI)) (ci := 0) (v := .int (nI c)) (C := RX1) (T := TX1) (N := 12) hx hb hts in_X1 hown hK hP 0 rfl rfl 8 (by decide) (hts _ q37) (fun _ h9 => h9) rfl dX1_link_62 ?_
              refine lv_iload_n hx hb dX1_link_65 rfl (lv_at hl 1 rfl) ?_
              refine e_ist (f2 := upd T c (nI j)) hx hb hK hP hD hS 1 0 rfl rfl c rfl (by omega) (by decide) rfl dX1_link_66 (fun H locs hP hD hS => ?_)
              have hP : va_P (dC, dI) vwCl [(ad 0, .inr (0, [.ref (ad 1), .ref (ad 2), .ref (ad 3), .ref (ad 4), .ref (ad 5), .ref (ad 6), .ref (ad 7), .int (nI n), .int (nI c), .int (nI (e_tp n)), .int (-1), .int cu])), (ad 1, .inl (cI, 14, .inl (upd T c (nI j)))), (ad 2, .inl (cI, 14, .inl Hd)), (ad 3, .inl (cI, 14, .inl G)), (ad 4, .inl (cI, 6, .inl O)), (ad 5, .inl (cI, 6, .inl N)), (ad 6, .inl (cZ, 6, .inl Wt)), (ad 7, .inl (cI, 8, .inl Qu))] H := hP
              have hD : va_D A [(ad 0, .inr (0, [.ref (ad 1), .ref (ad 2), .ref (ad 3), .ref (ad 4), .ref (ad 5), .ref (ad 6), .ref (ad 7), .int (nI n), .int (nI c), .int (nI (e_tp n)), .int (-1), .int cu])), (ad 1, .inl (cI, 14, .inl (upd T c (nI j)))), (ad 2, .inl (cI, 14, .inl Hd)), (ad 3, .inl (cI, 14, .inl G)), (ad 4, .inl (cI, 6, .inl O)), (ad 5, .inl (cI, 6, .inl N)), (ad 6, .inl (cZ, 6, .inl Wt)), (ad 7, .inl (cI, 8, .inl Qu))] := hD
              refine lv_aload_n hx hb dX1_link_67 rfl (lv_at hl 0 rfl) ?_
              refine va_get (D := (dC, dI)) (ci := 0) (v := .ref (ad 2)) (C := RX1) (T := TX1) (N := 12) hx hb hts in_X1 hown hK hP 0 rfl rfl 1 (by decide) (hts _ q30) (fun _ h9 => h9) rfl dX1_link_68 ?_
              refine lv_aload_n hx hb dX1_link_71 rfl (lv_at hl 0 rfl) ?_
              refine va_get (D := (dC, dI)) (ci := 0) (v := .int (nI c)) (C := RX1) (T := TX1) (N := 12) hx hb hts in_X1 hown hK hP 0 rfl rfl 8 (by decide) (hts _ q37) (fun _ h9 => h9) rfl dX1_link_72 ?_
              refine lv_iload_n hx hb dX1_link_75 rfl (lv_at hl 2 rfl) ?_
              refine e_ist (f2 := upd Hd c (nI i)) hx hb hK hP hD hS 2 0 rfl rfl c rfl (by omega) (by decide) rfl dX1_link_76 (fun H locs hP hD hS => ?_)
              have hP : va_P (dC, dI) vwCl [(ad 0, .inr (0, [.ref (ad 1), .ref (ad 2), .ref (ad 3), .ref (ad 4), .ref (ad 5), .ref (ad 6), .ref (ad 7), .int (nI n), .int (nI c), .int (nI (e_tp n)), .int (-1), .int cu])), (ad 1, .inl (cI, 14, .inl (upd T c (nI j)))), (ad 2, .inl (cI, 14, .inl (upd Hd c (nI i)))), (ad 3, .inl (cI, 14, .inl G)), (ad 4, .inl (cI, 6, .inl O)), (ad 5, .inl (cI, 6, .inl N)), (ad 6, .inl (cZ, 6, .inl Wt)), (ad 7, .inl (cI, 8, .inl Qu))] H := hP
              have hD : va_D A [(ad 0, .inr (0, [.ref (ad 1), .ref (ad 2), .ref (ad 3), .ref (ad 4), .ref (ad 5), .ref (ad 6), .ref (ad 7), .int (nI n), .int (nI c), .int (nI (e_tp n)), .int (-1), .int cu])), (ad 1, .inl (cI, 14, .inl (upd T c (nI j)))), (ad 2, .inl (cI, 14, .inl (upd Hd c (nI i)))), (ad 3, .inl (cI, 14, .inl G)), (ad 4, .inl (cI, 6, .inl O)), (ad 5, .inl (cI, 6, .inl N)), (ad 6, .inl (cZ, 6, .inl Wt)), (ad 7, .inl (cI, 8, .inl Qu))] := hD
              refine lv_aload_n hx hb dX1_link_77 rfl (lv_at hl 0 rfl) ?_
              refine va_get (D := (dC, dI)) (ci := 0) (v := .ref (ad 3)) (C := RX1) (T := TX1) (N := 12) hx hb hts in_X1 hown hK hP 0 rfl rfl 2 (by decide) (hts _ q31) (fun _ h9 => h9) rfl dX1_link_78 ?_
              refine lv_aload_n hx hb dX1_link_81 rfl (lv_at hl 0 rfl) ?_
              refine va_get (D := (dC, dI)) (ci := 0) (v := .int (nI c)) (C := RX1) (T := TX1) (N := 12) hx hb hts in_X1 hown hK hP 0 rfl rfl 8 (by decide) (hts _ q37) (fun _ h9 => h9) rfl dX1_link_82 ?_
              refine lv_iload_n hx hb dX1_link_85 rfl (lv_at hl 3 rfl) ?_
              refine e_ist (f2 := upd G c p2) hx hb hK hP hD hS 3 0 rfl rfl c rfl (by omega) (by decide) rfl dX1_link_86 (fun H locs hP hD hS => ?_)
              have hP : va_P (dC, dI) vwCl [(ad 0, .inr (0, [.ref (ad 1), .ref (ad 2), .ref (ad 3), .ref (ad 4), .ref (ad 5), .ref (ad 6), .ref (ad 7), .int (nI n), .int (nI c), .int (nI (e_tp n)), .int (-1), .int cu])), (ad 1, .inl (cI, 14, .inl (upd T c (nI j)))), (ad 2, .inl (cI, 14, .inl (upd Hd c (nI i)))), (ad 3, .inl (cI, 14, .inl (upd G c p2))), (ad 4, .inl (cI, 6, .inl O)), (ad 5, .inl (cI, 6, .inl N)), (ad 6, .inl (cZ, 6, .inl Wt)), (ad 7, .inl (cI, 8, .inl Qu))] H := hP
              have hD : va_D A [(ad 0, .inr (0, [.ref (ad 1), .ref (ad 2), .ref (ad 3), .ref (ad 4), .ref (ad 5), .ref (ad 6), .ref (ad 7), .int (nI n), .int (nI c), .int (nI (e_tp n)), .int (-1), .int cu])), (ad 1, .inl (cI, 14, .inl (upd T c (nI j)))), (ad 2, .inl (cI, 14, .inl (upd Hd c (nI i)))), (ad 3, .inl (cI, 14, .inl (upd G c p2))), (ad 4, .inl (cI, 6, .inl O)), (ad 5, .inl (cI, 6, .inl N)), (ad 6, .inl (cZ, 6, .inl Wt)), (ad 7, .inl (cI, 8, .inl Qu))] := hD
              refine lv_aload_n hx hb dX1_link_87 rfl (lv_at hl 0 rfl) ?_
              refine lv_dup hx hb dX1_link_88 rfl ?_
              refine va_get (D := (dC, dI)) (ci := 0) (v := .int (nI c)) (C := RX1) (T := TX1) (N := 12) hx hb hts in_X1 hown hK hP 0 rfl rfl 8 (by decide) (hts _ q37) (fun _ h9 => h9) rfl dX1_link_89 ?_
              refine lv_iconst (v := 1) hx hb dX1_link_92 (by decide) ?_
              refine lv_iadd hx hb dX1_link_93 ?_
              refine e_top (nI (c + 1)) (nI_1 c) ?_
              refine va_put (D := (dC, dI)) (ci := 0) (v := .int (nI (c + 1))) (ty := .int) (C := RX1) (T := TX1) (N := 12) hx hb hts in_X1 tyX1 tyX1_ok nmX1 hown hK hP hD hS 0 rfl rfl 8 (by decide) (hts _ q37) (fun _ h9 => h9) rfl (by decide +kernel) rfl rfl (Nat.le_of_ble_eq_true rfl) dX1_link_94 (fun H locs hP hD hS => ?_)
              have hP : va_P (dC, dI) vwCl [(ad 0, .inr (0, [.ref (ad 1), .ref (ad 2), .ref (ad 3), .ref (ad 4), .ref (ad 5), .ref (ad 6), .ref (ad 7), .int (nI n), .int (nI (c + 1)), .int (nI (e_tp n)), .int (-1), .int cu])), (ad 1, .inl (cI, 14, .inl (upd T c (nI j)))), (ad 2, .inl (cI, 14, .inl (upd Hd c (nI i)))), (ad 3, .inl (cI, 14, .inl (upd G c p2))), (ad 4, .inl (cI, 6, .inl O)), (ad 5, .inl (cI, 6, .inl N)), (ad 6, .inl (cZ, 6, .inl Wt)), (ad 7, .inl (cI, 8, .inl Qu))] H := hP
              have hD : va_D A [(ad 0, .inr (0, [.ref (ad 1), .ref (ad 2), .ref (ad 3), .ref (ad 4), .ref (ad 5), .ref (ad 6), .ref (ad 7), .int (nI n), .int (nI (c + 1)), .int (nI (e_tp n)), .int (-1), .int cu])), (ad 1, .inl (cI, 14, .inl (upd T c (nI j)))), (ad 2, .inl (cI, 14, .inl (upd Hd c (nI i)))), (ad 3, .inl (cI, 14, .inl (upd G c p2))), (ad 4, .inl (cI, 6, .inl O)), (ad 5, .inl (cI, 6, .inl N)), (ad 6, .inl (cZ, 6, .inl Wt)), (ad 7, .inl (cI, 8, .inl Qu))] := hD
              refine lv_aload_n hx hb dX1_link_97 rfl (lv_at hl 0 rfl) ?_
              refine lv_iconst (v := 0) hx hb dX1_link_98 (by decide) ?_
              refine va_put (D := (dC, dI)) (ci := 0) (v := .int 0) (ty := .boolean) (C := RX1) (T := TX1) (N := 12) hx hb hts in_X1 tyX1 tyX1_ok nmX1 hown hK hP hD hS 0 rfl rfl 11 (by decide) (hts _ q40) (fun _ h9 => h9) rfl (by decide +kernel) rfl rfl (Nat.le_of_ble_eq_true rfl) dX1_link_99 (fun H locs hP hD hS => ?_)
              have hP : va_P (dC, dI) vwCl [(ad 0, .inr (0, [.ref (ad 1), .ref (ad 2), .ref (ad 3), .ref (ad 4), .ref (ad 5), .ref (ad 6), .ref (ad 7), .int (nI n), .int (nI (c + 1)), .int (nI (e_tp n)), .int (-1), .int 0])), (ad 1, .inl (cI, 14, .inl (upd T c (nI j)))), (ad 2, .inl (cI, 14, .inl (upd Hd c (nI i)))), (ad 3, .inl (cI, 14, .inl (upd G c p2))), (ad 4, .inl (cI, 6, .inl O)), (ad 5, .inl (cI, 6, .inl N)), (ad 6, .inl (cZ, 6, .inl Wt)), (ad 7, .inl (cI, 8, .inl Qu))] H := hP
              have hD : va_D A [(ad 0, .inr (0, [.ref (ad 1), .ref (ad 2), .ref (ad 3), .ref (ad 4), .ref (ad 5), .ref (ad 6), .ref (ad 7), .int (nI n), .int (nI (c + 1)), .int (nI (e_tp n)), .int (-1), .int 0])), (ad 1, .inl (cI, 14, .inl (upd T c (nI j)))), (ad 2, .inl (cI, 14, .inl (upd Hd c (nI i)))), (ad 3, .inl (cI, 14, .inl (upd G c p2))), (ad 4, .inl (cI, 6, .inl O)), (ad 5, .inl (cI, 6, .inl N)), (ad 6, .inl (cZ, 6, .inl Wt)), (ad 7, .inl (cI, 8, .inl Qu))] := hD
              refine lv_aload_n hx hb dX1_link_102 rfl (lv_at hl 0 rfl) ?_
              refine va_get (D := (dC, dI)) (ci := 0) (v := .int (nI (c + 1))) (C := RX1) (T := TX1) (N := 12) hx hb hts in_X1 hown hK hP 0 rfl rfl 8 (by decide) (hts _ q37) (fun _ h9 => h9) rfl dX1_link_103 ?_
              refine lv_iconst (v := 1) hx hb dX1_link_106 (by decide) ?_
              refine lv_isub hx hb dX1_link_107 ?_
              refine e_top (nI c) (nI_pred c) ?_
              exact hret ((c + 1, upd T c (nI j), upd Hd c (nI i), upd G c p2, O), 0) dX1_link_108 ⟨by unfold s_link; rw [if_neg (fun z => z ⟨hv_2, hv_10⟩), if_neg (fun z => z ⟨c_21, Int32.not_lt.mpr c_27⟩), if_neg (by omega), if_neg (by omega)], Or.inl rfl⟩ hP hD hS
            · have d_51 : e_deg T (nI j) c = 3 := (nI_eq (by omega) (by omega)).mp c_51
              refine lv_bipush (v := -4) hx hb dX1_link_54 (by decide) ?_
              exact hret ((c, T, Hd, G, O), cu) dX1_link_56 ⟨by unfold s_link; rw [if_neg (fun z => z ⟨hv_2, hv_10⟩), if_neg (fun z => z ⟨c_21, Int32.not_lt.mpr c_27⟩), if_neg (by omega), if_pos (by omega)], hgd⟩ hP hD hS
          · have d_39 : c = 14 := (nI_eq (by omega) (by omega)).mp c_39
            refine lv_bipush (v := -3) hx hb dX1_link_42 (by decide) ?_
            exact hret ((c, T, Hd, G, O), cu) dX1_link_44 ⟨by unfold s_link; rw [if_neg (fun z => z ⟨hv_2, hv_10⟩), if_neg (fun z => z ⟨c_21, Int32.not_lt.mpr c_27⟩), if_pos (by omega)], hgd⟩ hP hD hS
        · refine lv_bipush (v := -2) hx hb dX1_link_30 (by decide) ?_
          exact hret ((c, T, Hd, G, O), cu) dX1_link_32 ⟨by unfold s_link; rw [if_neg (fun z => z ⟨hv_2, hv_10⟩), if_pos (fun z => z.2 (Int32.not_le.mp c_27))], hgd⟩ hP hD hS
    · refine lv_if_ne (tgt := 18) hx hb dX1_link_13 (by decide) (fun c_13 => absurd c_13 (by decide)) (fun c_13 => ?_)
      refine lv_iconst (v := -1) hx hb dX1_link_16 (by decide) ?_
      exact hret ((c, T, Hd, G, O), cu) dX1_link_17 ⟨by unfold s_link; rw [if_pos (fun z => hv_10 z.2)], hgd⟩ hP hD hS
  · refine lv_if_eq (tgt := 16) hx hb dX1_link_5 (by decide) (fun c_5 => ?_) (fun c_5 => absurd c_5 (by decide))
    refine lv_iconst (v := -1) hx hb dX1_link_16 (by decide) ?_
    exact hret ((c, T, Hd, G, O), cu) dX1_link_17 ⟨by unfold s_link; rw [if_pos (fun z => hv_2 z.1)], hgd⟩ hP hD hS
abbrev rX1_cut : Room := { frames := 1, cells := 0, slots := 0, locals := 21 }
set_option maxHeartbeats 4000000 in
set_option maxRecDepth 100000 in
theorem metX1_cut (l : Launch) (dC : Nat → ClassId) (dI : Nat → Nat → Nat) (ad : Nat → Nat) (cI cZ : ClassId) (n c : Nat) (T Hd G O N Wt Qu : eFn) (cu : Int32) (hok : e_ok n c T Hd G) (hgd : e_gdG n c T Hd G O N cu) (p0 : Int32) (sz : Nat) : Met l yX1_cut (ws_ yX1_cut cX1_cut 3 (some .int)) rX1_cut (va_Pc [.ref (ad 0), .int p0] (e_PW (dC, dI) vwCl [(cI, .int), (cZ, .boolean)] (wG ad cI cZ n c T Hd G O N Wt Qu (-1) cu) sz)) (va_Qi (fun r (u : eC × Int32) => (r, u.1) = s_cut n c T Hd G O p0 ∧ e_gdG n u.1.1 u.1.2.1 u.1.2.2.1 u.1.2.2.2.1 u.1.2.2.2.2 N u.2) (e_B (dC, dI) vwCl [(cI, .int), (cZ, .boolean)] (fun u => wG ad cI cZ n u.1.1 u.1.2.1 u.1.2.2.1 u.1.2.2.2.1 u.1.2.2.2.2 N Wt Qu (-1) u.2) (va_A (wG ad cI cZ n c T Hd G O N Wt Qu (-1) cu) sz)) (va_A (wG ad cI cZ n c T Hd G O N Wt Qu (-1) cu) sz)) 0 0 (va_A (wG ad cI cZ n c T Hd G O N Wt Qu (-1) cu) sz) := by
  refine e_startWi (by decide) (Nat.le_of_ble_eq_true rfl) ?_
  intro pg ev st mi ar bl mt cd H A QQ hx hb hml hown hts hA hK hP hD hS hret ls hl
  have hown : st.vm.findClass RX1 = some mi.cls := hown
  have hP : va_P (dC, dI) vwCl [(ad 0, .inr (0, [.ref (ad 1), .ref (ad 2), .ref (ad 3), .ref (ad 4), .ref (ad 5), .ref (ad 6), .ref (ad 7), .int (nI n), .int (nI c), .int (nI (e_tp n)), .int (-1), .int cu])), (ad 1, .inl (cI, 14, .inl T)), (ad 2, .inl (cI, 14, .inl Hd)), (ad 3, .inl (cI, 14, .inl G)), (ad 4, .inl (cI, 6, .inl O)), (ad 5, .inl (cI, 6, .inl N)), (ad 6, .inl (cZ, 6, .inl Wt)), (ad 7, .inl (cI, 8, .inl Qu))] H := hP
  have hD : va_D A [(ad 0, .inr (0, [.ref (ad 1), .ref (ad 2), .ref (ad 3), .ref (ad 4), .ref (ad 5), .ref (ad 6), .ref (ad 7), .int (nI n), .int (nI c), .int (nI (e_tp n)), .int (-1), .int cu])), (ad 1, .inl (cI, 14, .inl T)), (ad 2, .inl (cI, 14, .inl Hd)), (ad 3, .inl (cI, 14, .inl G)), (ad 4, .inl (cI, 6, .inl O)), (ad 5, .inl (cI, 6, .inl N)), (ad 6, .inl (cZ, 6, .inl Wt)), (ad 7, .inl (cI, 8, .inl Qu))] := hD
  generalize hlocs : ([] : List Loc) = locs at hS ⊢
  have hl : lv_has ls 3 [(0, .ref (ad 0)), (1, .int p0)] := hl
  have hn2 := hok.1
  have hn6 := hok.2.1
  have hc14 := hok.2.2.1
  refine lv_aload_n hx hb dX1_cut_0 rfl (lv_at hl 0 rfl) ?_
  refine lv_iload_n hx hb dX1_cut_1 rfl (lv_at hl 1 rfl) ?_
  refine e_callR (q0 := 0) (ci := 0) (rest := []) ⟨hx, hb, hml, hown, hts⟩ (metX1_isEdge l dC dI ad cI cZ n c T Hd G O N Wt Qu (-1) cu p0) (cwV 1 hts (lw_V q92 q94 qs2 q19 q95) rfl rfl rfl (by decide +kernel) ⟨Nat.le_of_ble_eq_true rfl, Nat.le_of_ble_eq_true rfl⟩) hK hP rfl rfl rfl rfl hl.1 rfl (Nat.le_of_ble_eq_true rfl) dX1_cut_2 ⟨Nat.zero_le _, Nat.zero_le _⟩ (fun r_2 hr_2 => ?_)
  rcases hr_2 with ⟨rfl, hv_2⟩ | ⟨rfl, hv_2⟩
  · obtain ⟨j, hj, rfl⟩ := e_v_of hv_2 (by omega)
    refine lv_if_ne (tgt := 10) hx hb dX1_cut_5 (by decide) (fun c_5 => ?_) (fun c_5 => absurd c_5 (by decide))
    refine lv_iload_n hx hb dX1_cut_10 rfl (lv_at hl 1 rfl) ?_
    refine lv_iconst (v := 1) hx hb dX1_cut_11 (by decide) ?_
    refine lv_iadd hx hb dX1_cut_12 ?_
    refine e_top (nI (j + 1)) (nI_1 j) ?_
    refine lv_istore_n (lv' := [(2, .int (nI (j + 1))), (0, .ref (ad 0)), (1, .int (nI j))]) hx hb dX1_cut_13 rfl hl (by decide) rfl (fun ls hl => ?_)
    have lp_14 : ∀ (k_14 : Nat) (e : Nat), (j + 1 ≤ e) → (e ≤ c) → (c < e + k_14) → ∀ (H : Heap) (locs : List Loc), va_P (dC, dI) vwCl [(ad 0, .inr (0, [.ref (ad 1), .ref (ad 2), .ref (ad 3), .ref (ad 4), .ref (ad 5), .ref (ad 6), .ref (ad 7), .int (nI n), .int (nI c), .int (nI (e_tp n)), .int (-1), .int cu])), (ad 1, .inl (cI, 14, .inl (e_shf T j e))), (ad 2, .inl (cI, 14, .inl (e_shf Hd j e))), (ad 3, .inl (cI, 14, .inl (e_shf G j e))), (ad 4, .inl (cI, 6, .inl O)), (ad 5, .inl (cI, 6, .inl N)), (ad 6, .inl (cZ, 6, .inl Wt)), (ad 7, .inl (cI, 8, .inl Qu))] H → va_D A [(ad 0, .inr (0, [.ref (ad 1), .ref (ad 2), .ref (ad 3), .ref (ad 4), .ref (ad 5), .ref (ad 6), .ref (ad 7), .int (nI n), .int (nI c), .int (nI (e_tp n)), .int (-1), .int cu])), (ad 1, .inl (cI, 14, .inl (e_shf T j e))), (ad 2, .inl (cI, 14, .inl (e_shf Hd j e))), (ad 3, .inl (cI, 14, .inl (e_shf G j e))), (ad 4, .inl (cI, 6, .inl O)), (ad 5, .inl (cI, 6, .inl N)), (ad 6, .inl (cZ, 6, .inl Wt)), (ad 7, .inl (cI, 8, .inl Qu))] → va_S A st.heap H locs → ∀ ls : Array Slot, lv_has ls 3 [(0, .ref (ad 0)), (1, .int (nI j)), (2, .int (nI e))] → W pg l ev rX1_cut st mi ar bl mt cd H locs 0 0 QQ (F0 mi 14 ls []) := by
      intro k_14
      induction k_14 with
      | zero =>
        intro e hje he hk
        exfalso; omega
      | succ k_14 ih_14 =>
        intro e hje he hk H locs hP hD hS ls hl
        refine lv_iload_n hx hb dX1_cut_14 rfl (lv_at hl 2 rfl) ?_
        refine lv_aload_n hx hb dX1_cut_15 rfl (lv_at hl 0 rfl) ?_
        refine va_get (D := (dC, dI)) (ci := 0) (v := .int (nI c)) (C := RX1) (T := TX1) (N := 12) hx hb hts in_X1 hown hK hP 0 rfl rfl 8 (by decide) (hts _ q37) (fun _ h9 => h9) rfl dX1_cut_16 ?_
        refine e_ge (tgt := 70) hx hb (by omega) (by omega) dX1_cut_19 (by decide) (fun c_19 => ?_) (fun c_19 => ?_)
        · have heq : c = e := by omega
          subst heq
          refine lv_aload_n hx hb dX1_cut_70 rfl (lv_at hl 0 rfl) ?_
          refine lv_dup hx hb dX1_cut_71 rfl ?_
          refine va_get (D := (dC, dI)) (ci := 0) (v := .int (nI c)) (C := RX1) (T := TX1) (N := 12) hx hb hts in_X1 hown hK hP 0 rfl rfl 8 (by decide) (hts _ q37) (fun _ h9 => h9) rfl dX1_cut_72 ?_
          refine lv_iconst (v := 1) hx hb dX1_cut_75 (by decide) ?_
          refine lv_isub hx hb dX1_cut_76 ?_
          refine e_top (nI (c - 1)) (e_pred (by omega)) ?_
          refine va_put (D := (dC, dI)) (ci := 0) (v := .int (nI (c - 1))) (ty := .int) (C := RX1) (T := TX1) (N := 12) hx hb hts in_X1 tyX1 tyX1_ok nmX1 hown hK hP hD hS 0 rfl rfl 8 (by decide) (hts _ q37) (fun _ h9 => h9) rfl (by decide +kernel) rfl rfl (Nat.le_of_ble_eq_true rfl) dX1_cut_77 (fun H locs hP hD hS => ?_)
          have hP : va_P (dC, dI) vwCl [(ad 0, .inr (0, [.ref (ad 1), .ref (ad 2), .ref (ad 3), .ref (ad 4), .ref (ad 5), .ref (ad 6), .ref (ad 7), .int (nI n), .int (nI (c - 1)), .int (nI (e_tp n)), .int (-1), .int cu])), (ad 1, .inl (cI, 14, .inl (e_shf T j c))), (ad 2, .inl (cI, 14, .inl (e_shf Hd j c))), (ad 3, .inl (cI, 14, .inl (e_shf G j c))), (ad 4, .inl (cI, 6, .inl O)), (ad 5, .inl (cI, 6, .inl N)), (ad 6, .inl (cZ, 6, .inl Wt)), (ad 7, .inl (cI, 8, .inl Qu))] H := hP
          have hD : va_D A [(ad 0, .inr (0, [.ref (ad 1), .ref (ad 2), .ref (ad 3), .ref (ad 4), .ref (ad 5), .ref (ad 6), .ref (ad 7), .int (nI n), .int (nI (c - 1)), .int (nI (e_tp n)), .int (-1), .int cu])), (ad 1, .inl (cI, 14, .inl (e_shf T j c))), (ad 2, .inl (cI, 14, .inl (e_shf Hd j c))), (ad 3, .inl (cI, 14, .inl (e_shf G j c))), (ad 4, .inl (cI, 6, .inl O)), (ad 5, .inl (cI, 6, .inl N)), (ad 6, .inl (cZ, 6, .inl Wt)), (ad 7, .inl (cI, 8, .inl Qu))] := hD
          refine lv_aload_n hx hb dX1_cut_80 rfl (lv_at hl 0 rfl) ?_
          refine lv_iconst (v := 0) hx hb dX1_cut_81 (by decide) ?_
          refine va_put (D := (dC, dI)) (ci := 0) (v := .int 0) (ty := .boolean) (C := RX1) (T := TX1) (N := 12) hx hb hts in_X1 tyX1 tyX1_ok nmX1 hown hK hP hD hS 0 rfl rfl 11 (by decide) (hts _ q40) (fun _ h9 => h9) rfl (by decide +kernel) rfl rfl (Nat.le_of_ble_eq_true rfl) dX1_cut_82 (fun H locs hP hD hS => ?_)
          have hP : va_P (dC, dI) vwCl [(ad 0, .inr (0, [.ref (ad 1), .ref (ad 2), .ref (ad 3), .ref (ad 4), .ref (ad 5), .ref (ad 6), .ref (ad 7), .int (nI n), .int (nI (c - 1)), .int (nI (e_tp n)), .int (-1), .int 0])), (ad 1, .inl (cI, 14, .inl (e_shf T j c))), (ad 2, .inl (cI, 14, .inl (e_shf Hd j c))), (ad 3, .inl (cI, 14, .inl (e_shf G j c))), (ad 4, .inl (cI, 6, .inl O)), (ad 5, .inl (cI, 6, .inl N)), (ad 6, .inl (cZ, 6, .inl Wt)), (ad 7, .inl (cI, 8, .inl Qu))] H := hP
          have hD : va_D A [(ad 0, .inr (0, [.ref (ad 1), .ref (ad 2), .ref (ad 3), .ref (ad 4), .ref (ad 5), .ref (ad 6), .ref (ad 7), .int (nI n), .int (nI (c - 1)), .int (nI (e_tp n)), .int (-1), .int 0])), (ad 1, .inl (cI, 14, .inl (e_shf T j c))), (ad 2, .inl (cI, 14, .inl (e_shf Hd j c))), (ad 3, .inl (cI, 14, .inl (e_shf G j c))), (ad 4, .inl (cI, 6, .inl O)), (ad 5, .inl (cI, 6, .inl N)), (ad 6, .inl (cZ, 6, .inl Wt)), (ad 7, .inl (cI, 8, .inl Qu))] := hD
          refine lv_aload_n hx hb dX1_cut_85 rfl (lv_at hl 0 rfl) ?_
          refine va_get (D := (dC, dI)) (ci := 0) (v := .int (nI (c - 1))) (C := RX1) (T := TX1) (N := 12) hx hb hts in_X1 hown hK hP 0 rfl rfl 8 (by decide) (hts _ q37) (fun _ h9 => h9) rfl dX1_cut_86 ?_
          exact hret ((c - 1, e_shf T j c, e_shf Hd j c, e_shf G j c, O), 0) dX1_cut_89 ⟨by unfold s_cut; rw [if_neg (fun z => z hv_2), nI_clamp (by omega)], Or.inl rfl⟩ hP hD hS
        · refine lv_aload_n hx hb dX1_cut_22 rfl (lv_at hl 0 rfl) ?_
          refine va_get (D := (dC, dI)) (ci := 0) (v := .ref (ad 1)) (C := RX1) (T := TX1) (N := 12) hx hb hts in_X1 hown hK hP 0 rfl rfl 0 (by decide) (hts _ q29) (fun _ h9 => h9) rfl dX1_cut_23 ?_
          refine lv_iload_n hx hb dX1_cut_26 rfl (lv_at hl 2 rfl) ?_
          refine lv_iconst (v := 1) hx hb dX1_cut_27 (by decide) ?_
          refine lv_isub hx hb dX1_cut_28 ?_
          refine e_top (nI (e - 1)) (e_pred (by omega)) ?_
          refine lv_aload_n hx hb dX1_cut_29 rfl (lv_at hl 0 rfl) ?_
          refine va_get (D := (dC, dI)) (ci := 0) (v := .ref (ad 1)) (C := RX1) (T := TX1) (N := 12) hx hb hts in_X1 hown hK hP 0 rfl rfl 0 (by decide) (hts _ q29) (fun _ h9 => h9) rfl dX1_cut_30 ?_
          refine lv_iload_n hx hb dX1_cut_33 rfl (lv_at hl 2 rfl) ?_
          refine e_ild (v := T e) hx hb hK hP 1 0 rfl rfl e rfl (by omega) (by decide) e_shf_at dX1_cut_34 ?_
          refine e_ist (f2 := e_shf T j (e + 1)) hx hb hK hP hD hS 1 0 rfl rfl (e - 1) rfl (by omega) (by decide) (e_shf_p (by omega)) dX1_cut_35 (fun H locs hP hD hS => ?_)
          have hP : va_P (dC, dI) vwCl [(ad 0, .inr (0, [.ref (ad 1), .ref (ad 2), .ref (ad 3), .ref (ad 4), .ref (ad 5), .ref (ad 6), .ref (ad 7), .int (nI n), .int (nI c), .int (nI (e_tp n)), .int (-1), .int cu])), (ad 1, .inl (cI, 14, .inl (e_shf T j (e + 1)))), (ad 2, .inl (cI, 14, .inl (e_shf Hd j e))), (ad 3, .inl (cI, 14, .inl (e_shf G j e))), (ad 4, .inl (cI, 6, .inl O)), (ad 5, .inl (cI, 6, .inl N)), (ad 6, .inl (cZ, 6, .inl Wt)), (ad 7, .inl (cI, 8, .inl Qu))] H := hP
          have hD : va_D A [(ad 0, .inr (0, [.ref (ad 1), .ref (ad 2), .ref (ad 3), .ref (ad 4), .ref (ad 5), .ref (ad 6), .ref (ad 7), .int (nI n), .int (nI c), .int (nI (e_tp n)), .int (-1), .int cu])), (ad 1, .inl (cI, 14, .inl (e_shf T j (e + 1)))), (ad 2, .inl (cI, 14, .inl (e_shf Hd j e))), (ad 3, .inl (cI, 14, .inl (e_shf G j e))), (ad 4, .inl (cI, 6, .inl O)), (ad 5, .inl (cI, 6, .inl N)), (ad 6, .inl (cZ, 6, .inl Wt)), (ad 7, .inl (cI, 8, .inl Qu))] := hD
          refine lv_aload_n hx hb dX1_cut_36 rfl (lv_at hl 0 rfl) ?_
          refine va_get (D := (dC, dI)) (ci := 0) (v := .ref (ad 2)) (C := RX1) (T := TX1) (N := 12) hx hb hts in_X1 hown hK hP 0 rfl rfl 1 (by decide) (hts _ q30) (fun _ h9 => h9) rfl dX1_cut_37 ?_
          refine lv_iload_n hx hb dX1_cut_40 rfl (lv_at hl 2 rfl) ?_
          refine lv_iconst (v := 1) hx hb dX1_cut_41 (by decide) ?_
          refine lv_isub hx hb dX1_cut_42 ?_
          refine e_top (nI (e - 1)) (e_pred (by omega)) ?_
          refine lv_aload_n hx hb dX1_cut_43 rfl (lv_at hl 0 rfl) ?_
          refine va_get (D := (dC, dI)) (ci := 0) (v := .ref (ad 2)) (C := RX1) (T := TX1) (N := 12) hx hb hts in_X1 hown hK hP 0 rfl rfl 1 (by decide) (hts _ q30) (fun _ h9 => h9) rfl dX1_cut_44 ?_
          refine lv_iload_n hx hb dX1_cut_47 rfl (lv_at hl 2 rfl) ?_
          refine e_ild (v := Hd e) hx hb hK hP 2 0 rfl rfl e rfl (by omega) (by decide) e_shf_at dX1_cut_48 ?_
          refine e_ist (f2 := e_shf Hd j (e + 1)) hx hb hK hP hD hS 2 0 rfl rfl (e - 1) rfl (by omega) (by decide) (e_shf_p (by omega)) dX1_cut_49 (fun H locs hP hD hS => ?_)
          have hP : va_P (dC, dI) vwCl [(ad 0, .inr (0, [.ref (ad 1), .ref (ad 2), .ref (ad 3), .ref (ad 4), .ref (ad 5), .ref (ad 6), .ref (ad 7), .int (nI n), .int (nI c), .int (nI (e_tp n)), .int (-1), .int cu])), (ad 1, .inl (cI, 14, .inl (e_shf T j (e + 1)))), (ad 2, .inl (cI, 14, .inl (e_shf Hd j (e + 1)))), (ad 3, .inl (cI, 14, .inl (e_shf G j e))), (ad 4, .inl (cI, 6, .inl O)), (ad 5, .inl (cI, 6, .inl N)), (ad 6, .inl (cZ, 6, .inl Wt)), (ad 7, .inl (cI, 8, .inl Qu))] H := hP
          have hD : va_D A [(ad 0, .inr (0, [.ref (ad 1), .ref (ad 2), .ref (ad 3), .ref (ad 4), .ref (ad 5), .ref (ad 6), .ref (ad 7), .int (nI n), .int (nI c), .int (nI (e_tp n)), .int (-1), .int cu])), (ad 1, .inl (cI, 14, .inl (e_shf T j (e + 1)))), (ad 2, .inl (cI, 14, .inl (e_shf Hd j (e + 1)))), (ad 3, .inl (cI, 14, .inl (e_shf G j e))), (ad 4, .inl (cI, 6, .inl O)), (ad 5, .inl (cI, 6, .inl N)), (ad 6, .inl (cZ, 6, .inl Wt)), (ad 7, .inl (cI, 8, .inl Qu))] := hD
          refine lv_aload_n hx hb dX1_cut_50 rfl (lv_at hl 0 rfl) ?_
          refine va_get (D := (dC, dI)) (ci := 0) (v := .ref (ad 3)) (C := RX1) (T := TX1) (N := 12) hx hb hts in_X1 hown hK hP 0 rfl rfl 2 (by decide) (hts _ q31) (fun _ h9 => h9) rfl dX1_cut_51 ?_
          refine lv_iload_n hx hb dX1_cut_54 rfl (lv_at hl 2 rfl) ?_
          refine lv_iconst (v := 1) hx hb dX1_cut_55 (by decide) ?_
          refine lv_isub hx hb dX1_cut_56 ?_
          refine e_top (nI (e - 1)) (e_pred (by omega)) ?_
          refine lv_aload_n hx hb dX1_cut_57 rfl (lv_at hl 0 rfl) ?_
          refine va_get (D := (dC, dI)) (ci := 0) (v := .ref (ad 3)) (C := RX1) (T := TX1) (N := 12) hx hb hts in_X1 hown hK hP 0 rfl rfl 2 (by decide) (hts _ q31) (fun _ h9 => h9) rfl dX1_cut_58 ?_
          refine lv_iload_n hx hb dX1_cut_61 rfl (lv_at hl 2 rfl) ?_
          refine e_ild (v := G e) hx hb hK hP 3 0 rfl rfl e rfl (by omega) (by decide) e_shf_at dX1_cut_62 ?_
          refine e_ist (f2 := e_shf G j (e + 1)) hx hb hK hP hD hS 3 0 rfl rfl (e - 1) rfl (by omega) (by decide) (e_shf_p (by omega)) dX1_cut_63 (fun H locs hP hD hS => ?_)
          have hP : va_P (dC, dI) vwCl [(ad 0, .inr (0, [.ref (ad 1), .ref (ad 2), .ref (ad 3), .ref (ad 4), .ref (ad 5), .ref (ad 6), .ref (ad 7), .int (nI n), .int (nI c), .int (nI (e_tp n)), .int (-1), .int cu])), (ad 1, .inl (cI, 14, .inl (e_shf T j (e + 1)))), (ad 2, .inl (cI, 14, .inl (e_shf Hd j (e + 1)))), (ad 3, .inl (cI, 14, .inl (e_shf G j (e + 1)))), (ad 4, .inl (cI, 6, .inl O)), (ad 5, .inl (cI, 6, .inl N)), (ad 6, .inl (cZ, 6, .inl Wt)), (ad 7, .inl (cI, 8, .inl Qu))] H := hP
          have hD : va_D A [(ad 0, .inr (0, [.ref (ad 1), .ref (ad 2), .ref (ad 3), .ref (ad 4), .ref (ad 5), .ref (ad 6), .ref (ad 7), .int (nI n), .int (nI c), .int (nI (e_tp n)), .int (-1), .int cu])), (ad 1, .inl (cI, 14, .inl (e_shf T j (e + 1)))), (ad 2, .inl (cI, 14, .inl (e_shf Hd j (e + 1)))), (ad 3, .inl (cI, 14, .inl (e_shf G j (e + 1)))), (ad 4, .inl (cI, 6, .inl O)), (ad 5, .inl (cI, 6, .inl N)), (ad 6, .inl (cZ, 6, .inl Wt)), (ad 7, .inl (cI, 8, .inl Qu))] := hD
          refine lv_iinc (v := nI (e + 1)) (lv' := [(2, .int (nI (e + 1))), (0, .ref (ad 0)), (1, .int (nI j))]) hx hb dX1_cut_64 hl (k := 2) rfl (e_inc _) (by decide) rfl (fun ls hl => ?_)
          refine lv_goto (tgt := 14) hx hb dX1_cut_67 (by decide) ?_
          exact ih_14 (e + 1) (by omega) (by omega) (by omega) _ _ hP hD hS ls (lv_sub hl [1, 2, 0] rfl)
    exact lp_14 (c + 1) (j + 1) (by omega) (by omega) (by omega) _ _ (by rw [e_shf_0, e_shf_0, e_shf_0]; exact hP) (by rw [e_shf_0, e_shf_0, e_shf_0]; exact hD) hS ls (lv_sub hl [1, 2, 0] rfl)
  · refine lv_if_ne (tgt := 10) hx hb dX1_cut_5 (by decide) (fun c_5 => absurd c_5 (by decide)) (fun c_5 => ?_)
    refine lv_iconst (v := -1) hx hb dX1_cut_8 (by decide) ?_
    exact hret ((c, T, Hd, G, O), cu) dX1_cut_9 ⟨by unfold s_cut; rw [if_pos hv_2], hgd⟩ hP hD hS
end
section
/-! THE PLAIN PART, 6: small steps of the reference's walks that write -/
set_option maxRecDepth 100000
theorem e_upd_s {f g : eFn} {v : Nat} (h : ∀ u, u < v → f u = g u) : ∀ u, u < v + 1 → upd f v (g v) u = g u := by
  intro u hu
  by_cases hq : u = v
  · subst hq
    rw [pk_us]
  · rw [pk_un hq]
    exact h u (by omega)
theorem e_ne_m1 {v n : Nat} (h : v < n) (hn : n ≤ 6) : ¬ nI v = -1 := by
  intro z
  have h1 : nI v < 0 := by rw [z]; decide
  exact nI_pos (by omega) h1
theorem e_of_P {O : eFn} {v j n : Nat} {p : Int32} (hv : v < n) (hj : j < n) (hn : n ≤ 6) : (if nI v = nI j then p else O v) = upd O j p v := by
  by_cases hq : v = j
  · subst hq
    rw [pk_us, if_pos rfl]
  · rw [pk_un hq, if_neg (fun z => hq ((nI_eq (by omega) (by omega)).mp z))]
theorem e_p01 {p : Int32} (h1 : ¬ p < 0) (h2 : p ≤ 1) : ¬ (¬ p = 0 ∧ ¬ p = 1) := by
  rintro ⟨h3, h4⟩
  obtain ⟨j, hj, rfl⟩ := nI_of h1
  rw [show (1 : Int32) = nI 1 by decide] at h2 h4
  rw [← nI_0] at h3
  have h5 := (nI_leI hj (by omega)).mp h2
  have h6 : j = 0 ∨ j = 1 := by omega
  rcases h6 with rfl | rfl
  · exact h3 rfl
  · exact h4 rfl
theorem e_p01a {p : Int32} (h1 : p < 0) : ¬ p = 0 ∧ ¬ p = 1 := by
  constructor
  · rintro rfl
    exact absurd h1 (by decide)
  · rintro rfl
    exact absurd h1 (by decide)
theorem e_p01b {p : Int32} (h1 : ¬ p ≤ 1) : ¬ p = 0 ∧ ¬ p = 1 := by
  constructor
  · rintro rfl
    exact absurd (by decide) h1
  · rintro rfl
    exact absurd (by decide) h1
theorem e_hop_n2 {n : Nat} {L : Nat → Nat} {v : Nat} (h : ¬ L v = e_tp n) : e_hop n L (v + 1) = e_hop n L v := by
  rw [← e_hop_n h]
  simp
theorem e_chs_n2 {T : eFn} {gd : Nat → Bool} {v : Int32} {e : Nat} (h : ¬ (T e = v ∧ gd e = true)) : e_chs T gd v (e + 1) = e_chs T gd v e := by
  rw [← e_chs_n h]
  simp
theorem e_deg_y2 {T : eFn} {u : Int32} {e : Nat} (h : T e = u) : e_deg T u e + 1 = e_deg T u (e + 1) := by
  simp only [e_deg, if_pos h]
theorem e_deg_n2 {T : eFn} {u : Int32} {e : Nat} (h : ¬ T e = u) : e_deg T u (e + 1) = e_deg T u e := by
  simp only [e_deg, if_neg h, Nat.add_zero]
end
section
/-! EnergyGameModel.work -/
set_option maxRecDepth 100000
abbrev rX2_work : Room := { frames := 2, cells := 0, slots := 0, locals := 49 }
set_option maxHeartbeats 4000000 in
set_option maxRecDepth 100000 in
theorem metX2_work (l : Launch) (dC : Nat → ClassId) (dI : Nat → Nat → Nat) (ad : Nat → Nat) (cI : ClassId) (n c : Nat) (T Hd G O Nw Lt : eFn) (hok : e_ok n c T Hd G) (P : eFn) (p0 p1 sk : Int32) (hPl : ∀ v, v < n → (if nI v = p0 then p1 else O v) = P v) (sz : Nat) : Met l yX2_work (ws_ yX2_work cX2_work 8 none) rX2_work (va_Pc [.ref (ad 0), .int p0, .int p1, .int sk] (e_PW (dC, dI) vwCl [(cI, .int)] (wM ad cI n c T Hd G O Nw Lt) sz)) (va_Qv (fun (u : eFn × eFn) => ∀ v, v < n → u.1 v = e_enc n (e_lf n c T Hd G P sk v)) (e_B (dC, dI) vwCl [(cI, .int)] (fun u => wM ad cI n c T Hd G O u.1 u.2) (va_A (wM ad cI n c T Hd G O Nw Lt) sz)) (va_A (wM ad cI n c T Hd G O Nw Lt) sz)) 0 0 (va_A (wM ad cI n c T Hd G O Nw Lt) sz) := by
  refine e_startWv (by decide) (Nat.le_of_ble_eq_true rfl) ?_
  intro pg ev st mi ar bl mt cd H A QQ hx hb hml hown hts hA hK hP hD hS hret ls hl
  have hown : st.vm.findClass RX2 = some mi.cls := hown
  have hP : va_P (dC, dI) vwCl [(ad 0, .inr (1, [.int (nI n), .int (nI c), .ref (ad 1), .ref (ad 2), .ref (ad 3), .ref (ad 4), .ref (ad 5), .ref (ad 6)])), (ad 1, .inl (cI, 8, .inl O)), (ad 2, .inl (cI, 14, .inl T)), (ad 3, .inl (cI, 14, .inl Hd)), (ad 4, .inl (cI, 14, .inl G)), (ad 5, .inl (cI, 8, .inl Nw)), (ad 6, .inl (cI, 8, .inl Lt))] H := hP
  have hD : va_D A [(ad 0, .inr (1, [.int (nI n), .int (nI c), .ref (ad 1), .ref (ad 2), .ref (ad 3), .ref (ad 4), .ref (ad 5), .ref (ad 6)])), (ad 1, .inl (cI, 8, .inl O)), (ad 2, .inl (cI, 14, .inl T)), (ad 3, .inl (cI, 14, .inl Hd)), (ad 4, .inl (cI, 14, .inl G)), (ad 5, .inl (cI, 8, .inl Nw)), (ad 6, .inl (cI, 8, .inl Lt))] := hD
  generalize hlocs : ([] : List Loc) = locs at hS ⊢
  have hl : lv_has ls 8 [(0, .ref (ad 0)), (1, .int p0), (2, .int p1), (3, .int sk)] := hl
  have hn2 := hok.1
  have hn6 := hok.2.1
  have hc14 := hok.2.2.1
  have ht31 := e_tp_le hn6
  refine lv_iconst (v := nI 0) hx hb dX2_work_0 (by decide) ?_
  refine lv_istore (lv' := [(4, .int (nI 0)), (0, .ref (ad 0)), (1, .int p0), (2, .int p1), (3, .int sk)]) hx hb dX2_work_1 hl (by decide) rfl (fun ls hl => ?_)
  have lp_3 : ∀ (k_3 : Nat) (v : Nat) (Nw : eFn), (v ≤ 8) → (8 < v + k_3) → (∀ u, u < v → Nw u = 0) → ∀ (H : Heap) (locs : List Loc), va_P (dC, dI) vwCl [(ad 0, .inr (1, [.int (nI n), .int (nI c), .ref (ad 1), .ref (ad 2), .ref (ad 3), .ref (ad 4), .ref (ad 5), .ref (ad 6)])), (ad 1, .inl (cI, 8, .inl O)), (ad 2, .inl (cI, 14, .inl T)), (ad 3, .inl (cI, 14, .inl Hd)), (ad 4, .inl (cI, 14, .inl G)), (ad 5, .inl (cI, 8, .inl Nw)), (ad 6, .inl (cI, 8, .inl Lt))] H → va_D A [(ad 0, .inr (1, [.int (nI n), .int (nI c), .ref (ad 1), .ref (ad 2), .ref (ad 3), .ref (ad 4), .ref (ad 5), .ref (ad 6)])), (ad 1, .inl (cI, 8, .inl O)), (ad 2, .inl (cI, 14, .inl T)), (ad 3, .inl (cI, 14, .inl Hd)), (ad 4, .inl (cI, 14, .inl G)), (ad 5, .inl (cI, 8, .inl Nw)), (ad 6, .inl (cI, 8, .inl Lt))] → va_S A st.heap H locs → ∀ ls : Array Slot, lv_has ls 8 [(0, .ref (ad 0)), (1, .int p0), (2, .int p1), (3, .int sk), (4, .int (nI v))] → W pg l ev rX2_work st mi ar bl mt cd H locs 0 0 QQ (F0 mi 3 ls []) := by
    intro k_3
    induction k_3 with
    | zero =>
      intro v Nw hv hk hi
      exfalso; omega
    | succ k_3 ih_3 =>
      intro v Nw hv hk hi H locs hP hD hS ls hl
      refine lv_iload hx hb dX2_work_3 (lv_at hl 4 rfl) ?_
      refine lv_bipush (v := nI 8) hx hb dX2_work_5 (by decide) ?_
      refine e_ge (tgt := 24) hx hb (by omega) (by omega) dX2_work_7 (by decide) (fun c_7 => ?_) (fun c_7 => ?_)
      · refine lv_iconst (v := 1) hx hb dX2_work_24 (by decide) ?_
        refine lv_istore (lv' := [(4, .int 1), (0, .ref (ad 0)), (1, .int p0), (2, .int p1), (3, .int sk)]) hx hb dX2_work_25 hl (by decide) rfl (fun ls hl => ?_)
        refine lv_iconst (v := nI 0) hx hb dX2_work_27 (by decide) ?_
        refine lv_istore (lv' := [(5, .int (nI 0)), (4, .int 1), (0, .ref (ad 0)), (1, .int p0), (2, .int p1), (3, .int sk)]) hx hb dX2_work_28 hl (by decide) rfl (fun ls hl => ?_)
        have lp_30 : ∀ (k_30 : Nat) (k : Nat) (mo : Int32) (Nw : eFn) (Lt : eFn), (k ≤ 700) → (700 < k + k_30) → (∀ v, v < n → Nw v = e_enc n (e_it n c T Hd G P sk k v)) → (mo = 0 → ∀ v, v < n → e_it n c T Hd G P sk k v = e_lf n c T Hd G P sk v) → ∀ (H : Heap) (locs : List Loc), va_P (dC, dI) vwCl [(ad 0, .inr (1, [.int (nI n), .int (nI c), .ref (ad 1), .ref (ad 2), .ref (ad 3), .ref (ad 4), .ref (ad 5), .ref (ad 6)])), (ad 1, .inl (cI, 8, .inl O)), (ad 2, .inl (cI, 14, .inl T)), (ad 3, .inl (cI, 14, .inl Hd)), (ad 4, .inl (cI, 14, .inl G)), (ad 5, .inl (cI, 8, .inl Nw)), (ad 6, .inl (cI, 8, .inl Lt))] H → va_D A [(ad 0, .inr (1, [.int (nI n), .int (nI c), .ref (ad 1), .ref (ad 2), .ref (ad 3), .ref (ad 4), .ref (ad 5), .ref (ad 6)])), (ad 1, .inl (cI, 8, .inl O)), (ad 2, .inl (cI, 14, .inl T)), (ad 3, .inl (cI, 14, .inl Hd)), (ad 4, .inl (cI, 14, .inl G)), (ad 5, .inl (cI, 8, .inl Nw)), (ad 6, .inl (cI, 8, .inl Lt))] → va_S A st.heap H locs → ∀ ls : Array Slot, lv_has ls 8 [(0, .ref (ad 0)), (1, .int p0), (2, .int p1), (3, .int sk), (4, .int mo), (5, .int (nI k))] → W pg l ev rX2_work st mi ar bl mt cd H locs 0 0 QQ (F0 mi 30 ls []) := by
          intro k_30
          induction k_30 with
          | zero =>
            intro k mo Nw Lt hk7 hkk hN hmo
            exfalso; omega
          | succ k_30 ih_30 =>
            intro k mo Nw Lt hk7 hkk hN hmo H locs hP hD hS ls hl
            refine lv_iload hx hb dX2_work_30 (lv_at hl 5 rfl) ?_
            refine lv_sipush (v := nI 700) hx hb dX2_work_32 (by decide) ?_
            refine e_ge (tgt := 162) hx hb (by omega) (by omega) dX2_work_35 (by decide) (fun c_35 => ?_) (fun c_35 => ?_)
            · have hk700 : k = 700 := by omega
              subst hk700
              exact hret (Nw, Lt) dX2_work_162 hN hP hD hS
            · refine lv_iload hx hb dX2_work_38 (lv_at hl 4 rfl) ?_
              refine lv_if_eq (tgt := 162) hx hb dX2_work_40 (by decide) (fun c_40 => ?_) (fun c_40 => ?_)
              · exact hret (Nw, Lt) dX2_work_162 (fun v hv => (hN v hv).trans (congrArg (e_enc n) (hmo c_40 v hv))) hP hD hS
              · refine lv_iconst (v := 0) hx hb dX2_work_43 (by decide) ?_
                refine lv_istore (lv' := [(4, .int 0), (0, .ref (ad 0)), (1, .int p0), (2, .int p1), (3, .int sk), (5, .int (nI k))]) hx hb dX2_work_44 hl (by decide) rfl (fun ls hl => ?_)
                refine lv_iconst (v := nI 0) hx hb dX2_work_46 (by decide) ?_
                refine lv_istore (lv' := [(6, .int (nI 0)), (4, .int 0), (0, .ref (ad 0)), (1, .int p0), (2, .int p1), (3, .int sk), (5, .int (nI k))]) hx hb dX2_work_47 hl (by decide) rfl (fun ls hl => ?_)
                have lp_49 : ∀ (k_49 : Nat) (v : Nat) (mo : Int32) (Lt : eFn), (v ≤ n) → (n < v + k_49) → (∀ u, u < v → Lt u = e_enc n (e_it n c T Hd G P sk (k + 1) u)) → (mo = 0 → ∀ u, u < v → e_it n c T Hd G P sk (k + 1) u = e_it n c T Hd G P sk k u) → ∀ (H : Heap) (locs : List Loc), va_P (dC, dI) vwCl [(ad 0, .inr (1, [.int (nI n), .int (nI c), .ref (ad 1), .ref (ad 2), .ref (ad 3), .ref (ad 4), .ref (ad 5), .ref (ad 6)])), (ad 1, .inl (cI, 8, .inl O)), (ad 2, .inl (cI, 14, .inl T)), (ad 3, .inl (cI, 14, .inl Hd)), (ad 4, .inl (cI, 14, .inl G)), (ad 5, .inl (cI, 8, .inl Nw)), (ad 6, .inl (cI, 8, .inl Lt))] H → va_D A [(ad 0, .inr (1, [.int (nI n), .int (nI c), .ref (ad 1), .ref (ad 2), .ref (ad 3), .ref (ad 4), .ref (ad 5), .ref (ad 6)])), (ad 1, .inl (cI, 8, .inl O)), (ad 2, .inl (cI, 14, .inl T)), (ad 3, .inl (cI, 14, .inl Hd)), (ad 4, .inl (cI, 14, .inl G)), (ad 5, .inl (cI, 8, .inl Nw)), (ad 6, .inl (cI, 8, .inl Lt))] → va_S A st.heap H locs → ∀ ls : Array Slot, lv_has ls 8 [(0, .ref (ad 0)), (1, .int p0), (2, .int p1), (3, .int sk), (4, .int mo), (5, .int (nI k)), (6, .int (nI v))] → W pg l ev rX2_work st mi ar bl mt cd H locs 0 0 QQ (F0 mi 49 ls []) := by
                  intro k_49
                  induction k_49 with
                  | zero =>
                    intro v mo Lt hv hkv hL hmo2
                    exfalso; omega
                  | succ k_49 ih_49 =>
                    intro v mo Lt hv hkv hL hmo2 H locs hP hD hS ls hl
                    refine lv_iload hx hb dX2_work_49 (lv_at hl 6 rfl) ?_
                    refine lv_aload_n hx hb dX2_work_51 rfl (lv_at hl 0 rfl) ?_
                    refine va_get (D := (dC, dI)) (ci := 1) (v := .int (nI n)) (C := RX2) (T := TX2) (N := 8) hx hb hts in_X2 hown hK hP 0 rfl rfl 0 (by decide) (hts _ q174) (fun _ h9 => h9) rfl dX2_work_52 ?_
                    refine e_ge (tgt := 126) hx hb (by omega) (by omega) dX2_work_55 (by decide) (fun c_55 => ?_) (fun c_55 => ?_)
                    · have heq : n = v := by omega
                      subst heq
                      refine lv_iconst (v := nI 0) hx hb dX2_work_126 (by decide) ?_
                      refine lv_istore (lv' := [(6, .int (nI 0)), (0, .ref (ad 0)), (1, .int p0), (2, .int p1), (3, .int sk), (4, .int mo), (5, .int (nI k))]) hx hb dX2_work_127 hl (by decide) rfl (fun ls hl => ?_)
                      have lp_129 : ∀ (k_129 : Nat) (w : Nat) (Nw : eFn), (w ≤ 8) → (8 < w + k_129) → (∀ u, u < w → Nw u = Lt u) → ∀ (H : Heap) (locs : List Loc), va_P (dC, dI) vwCl [(ad 0, .inr (1, [.int (nI n), .int (nI c), .ref (ad 1), .ref (ad 2), .ref (ad 3), .ref (ad 4), .ref (ad 5), .ref (ad 6)])), (ad 1, .inl (cI, 8, .inl O)), (ad 2, .inl (cI, 14, .inl T)), (ad 3, .inl (cI, 14, .inl Hd)), (ad 4, .inl (cI, 14, .inl G)), (ad 5, .inl (cI, 8, .inl Nw)), (ad 6, .inl (cI, 8, .inl Lt))] H → va_D A [(ad 0, .inr (1, [.int (nI n), .int (nI c), .ref (ad 1), .ref (ad 2), .ref (ad 3), .ref (ad 4), .ref (ad 5), .ref (ad 6)])), (ad 1, .inl (cI, 8, .inl O)), (ad 2, .inl (cI, 14, .inl T)), (ad 3, .inl (cI, 14, .inl Hd)), (ad 4, .inl (cI, 14, .inl G)), (ad 5, .inl (cI, 8, .inl Nw)), (ad 6, .inl (cI, 8, .inl Lt))] → va_S A st.heap H locs → ∀ ls : Array Slot, lv_has ls 8 [(0, .ref (ad 0)), (1, .int p0), (2, .int p1), (3, .int sk), (4, .int mo), (5, .int (nI k)), (6, .int (nI w))] → W pg l ev rX2_work st mi ar bl mt cd H locs 0 0 QQ (F0 mi 129 ls []) := by
                        intro k_129
                        induction k_129 with
                        | zero =>
                          intro w Nw hw hkw hN2
                          exfalso; omega
                        | succ k_129 ih_129 =>
                          intro w Nw hw hkw hN2 H locs hP hD hS ls hl
                          refine lv_iload hx hb dX2_work_129 (lv_at hl 6 rfl) ?_
                          refine lv_bipush (v := nI 8) hx hb dX2_work_131 (by decide) ?_
                          refine e_ge (tgt := 156) hx hb (by omega) (by omega) dX2_work_133 (by decide) (fun c_133 => ?_) (fun c_133 => ?_)
                          · refine lv_iinc (v := nI (k + 1)) (lv' := [(5, .int (nI (k + 1))), (0, .ref (ad 0)), (1, .int p0), (2, .int p1), (3, .int sk), (4, .int mo), (6, .int (nI w))]) hx hb dX2_work_156 hl (k := 5) rfl (e_inc _) (by decide) rfl (fun ls hl => ?_)
                            refine lv_goto (tgt := 30) hx hb dX2_work_159 (by decide) ?_
                            exact ih_30 (k + 1) mo Nw Lt (by omega) (by omega) (fun v hv => (hN2 v (by omega)).trans (hL v hv)) (fun z v hv => (hmo2 z v hv).trans (e_lf_stop hok.hd (by omega) (hmo2 z) v hv)) _ _ hP hD hS ls (lv_sub hl [1, 2, 3, 4, 5, 0] rfl)
                          · refine lv_aload_n hx hb dX2_work_136 rfl (lv_at hl 0 rfl) ?_
                            refine va_get (D := (dC, dI)) (ci := 1) (v := .ref (ad 5)) (C := RX2) (T := TX2) (N := 8) hx hb hts in_X2 hown hK hP 0 rfl rfl 6 (by decide) (hts _ q180) (fun _ h9 => h9) rfl dX2_work_137 ?_
                            refine lv_iload hx hb dX2_work_140 (lv_at hl 6 rfl) ?_
                            refine lv_aload_n hx hb dX2_work_142 rfl (lv_at hl 0 rfl) ?_
                            refine va_get (D := (dC, dI)) (ci := 1) (v := .ref (ad 6)) (C := RX2) (T := TX2) (N := 8) hx hb hts in_X2 hown hK hP 0 rfl rfl 7 (by decide) (hts _ q181) (fun _ h9 => h9) rfl dX2_work_143 ?_
                            refine lv_iload hx hb dX2_work_146 (lv_at hl 6 rfl) ?_
                            refine e_ild (v := Lt w) hx hb hK hP 6 0 rfl rfl w rfl (by omega) (by decide) rfl dX2_work_148 ?_
                            refine e_ist (f2 := upd Nw w (Lt w)) hx hb hK hP hD hS 5 0 rfl rfl w rfl (by omega) (by decide) rfl dX2_work_149 (fun H locs hP hD hS => ?_)
                            have hP : va_P (dC, dI) vwCl [(ad 0, .inr (1, [.int (nI n), .int (nI c), .ref (ad 1), .ref (ad 2), .ref (ad 3), .ref (ad 4), .ref (ad 5), .ref (ad 6)])), (ad 1, .inl (cI, 8, .inl O)), (ad 2, .inl (cI, 14, .inl T)), (ad 3, .inl (cI, 14, .inl Hd)), (ad 4, .inl (cI, 14, .inl G)), (ad 5, .inl (cI, 8, .inl (upd Nw w (Lt w)))), (ad 6, .inl (cI, 8, .inl Lt))] H := hP
                            have hD : va_D A [(ad 0, .inr (1, [.int (nI n), .int (nI c), .ref (ad 1), .ref (ad 2), .ref (ad 3), .ref (ad 4), .ref (ad 5), .ref (ad 6)])), (ad 1, .inl (cI, 8, .inl O)), (ad 2, .inl (cI, 14, .inl T)), (ad 3, .inl (cI, 14, .inl Hd)), (ad 4, .inl (cI, 14, .inl G)), (ad 5, .inl (cI, 8, .inl (upd Nw w (Lt w)))), (ad 6, .inl (cI, 8, .inl Lt))] := hD
                            refine lv_iinc (v := nI (w + 1)) (lv' := [(6, .int (nI (w + 1))), (0, .ref (ad 0)), (1, .int p0), (2, .int p1), (3, .int sk), (4, .int mo), (5, .int (nI k))]) hx hb dX2_work_150 hl (k := 6) rfl (e_inc _) (by decide) rfl (fun ls hl => ?_)
                            refine lv_goto (tgt := 129) hx hb dX2_work_153 (by decide) ?_
                            exact ih_129 (w + 1) (upd Nw w (Lt w)) (by omega) (by omega) (e_upd_s (g := Lt) hN2) _ _ hP hD hS ls (lv_sub hl [1, 2, 3, 4, 5, 6, 0] rfl)
                      exact lp_129 9 0 Nw (by omega) (by omega) (fun u hu => absurd hu (Nat.not_lt_zero _)) _ _ hP hD hS ls (lv_sub hl [1, 2, 3, 4, 5, 6, 0] rfl)
                    · refine lv_iload hx hb dX2_work_58 (lv_at hl 6 rfl) ?_
                      refine lv_bipush (v := nI 6) hx hb dX2_work_60 (by decide) ?_
                      refine e_ge (tgt := 126) hx hb (by omega) (by omega) dX2_work_62 (by decide) (fun c_62 => absurd c_62 (by omega)) (fun c_62 => ?_)
                      refine lv_iload hx hb dX2_work_65 (lv_at hl 6 rfl) ?_
                      refine lv_iload_n hx hb dX2_work_67 rfl (lv_at hl 1 rfl) ?_
                      refine lv_icmp_ne (tgt := 75) hx hb dX2_work_68 (by decide) (fun c_68 => ?_) (fun c_68 => ?_)
                      · refine lv_aload_n hx hb dX2_work_75 rfl (lv_at hl 0 rfl) ?_
                        refine va_get (D := (dC, dI)) (ci := 1) (v := .ref (ad 1)) (C := RX2) (T := TX2) (N := 8) hx hb hts in_X2 hown hK hP 0 rfl rfl 2 (by decide) (hts _ q176) (fun _ h9 => h9) rfl dX2_work_76 ?_
                        refine lv_iload hx hb dX2_work_79 (lv_at hl 6 rfl) ?_
                        refine e_ild (v := O v) hx hb hK hP 1 0 rfl rfl v rfl (by omega) (by decide) rfl dX2_work_81 ?_
                        refine e_top (P v) (by rw [← hPl v (by omega), if_neg c_68]) ?_
                        refine lv_istore (lv' := [(7, .int (P v)), (0, .ref (ad 0)), (1, .int p0), (2, .int p1), (3, .int sk), (4, .int mo), (5, .int (nI k)), (6, .int (nI v))]) hx hb dX2_work_82 hl (by decide) rfl (fun ls hl => ?_)
                        refine lv_aload_n hx hb dX2_work_84 rfl (lv_at hl 1 rfl) ?_
                        refine va_get (D := (dC, dI)) (ci := 1) (v := .ref (ad 6)) (C := RX2) (T := TX2) (N := 8) hx hb hts in_X2 hown hK hP 0 rfl rfl 7 (by decide) (hts _ q181) (fun _ h9 => h9) rfl dX2_work_85 ?_
                        refine lv_iload hx hb dX2_work_88 (lv_at hl 7 rfl) ?_
                        refine lv_aload_n hx hb dX2_work_90 rfl (lv_at hl 1 rfl) ?_
                        refine lv_iload hx hb dX2_work_91 (lv_at hl 7 rfl) ?_
                        refine lv_iload hx hb dX2_work_93 (lv_at hl 0 rfl) ?_
                        refine lv_iload_n hx hb dX2_work_95 rfl (lv_at hl 4 rfl) ?_
                        refine e_callR (q0 := 0) (ci := 1) (rest := [.int (nI v), .ref (ad 6)]) ⟨hx, hb, hml, hown, hts⟩ (metX2_next l dC dI ad cI n c T Hd G O Nw Lt hok (e_it n c T Hd G P sk k) hN (fun _ _ => e_it_le) v (by omega) (P v) sk) (cwV 3 hts (lw_V q243 q245 qs13 q20 q246) rfl rfl rfl (by decide +kernel) ⟨Nat.le_of_ble_eq_true rfl, Nat.le_of_ble_eq_true rfl⟩) hK hP rfl rfl rfl rfl hl.1 rfl (Nat.le_of_ble_eq_true rfl) dX2_work_96 ⟨Nat.zero_le _, Nat.zero_le _⟩ (fun r_96 hr_96 => ?_)
                        subst hr_96
                        refine e_top (e_enc n (e_it n c T Hd G P sk (k + 1) v)) rfl ?_
                        refine e_ist (f2 := upd Lt v (e_enc n (e_it n c T Hd G P sk (k + 1) v))) hx hb hK hP hD hS 6 0 rfl rfl v rfl (by omega) (by decide) rfl dX2_work_99 (fun H locs hP hD hS => ?_)
                        have hP : va_P (dC, dI) vwCl [(ad 0, .inr (1, [.int (nI n), .int (nI c), .ref (ad 1), .ref (ad 2), .ref (ad 3), .ref (ad 4), .ref (ad 5), .ref (ad 6)])), (ad 1, .inl (cI, 8, .inl O)), (ad 2, .inl (cI, 14, .inl T)), (ad 3, .inl (cI, 14, .inl Hd)), (ad 4, .inl (cI, 14, .inl G)), (ad 5, .inl (cI, 8, .inl Nw)), (ad 6, .inl (cI, 8, .inl (upd Lt v (e_enc n (e_it n c T Hd G P sk (k + 1) v)))))] H := hP
                        have hD : va_D A [(ad 0, .inr (1, [.int (nI n), .int (nI c), .ref (ad 1), .ref (ad 2), .ref (ad 3), .ref (ad 4), .ref (ad 5), .ref (ad 6)])), (ad 1, .inl (cI, 8, .inl O)), (ad 2, .inl (cI, 14, .inl T)), (ad 3, .inl (cI, 14, .inl Hd)), (ad 4, .inl (cI, 14, .inl G)), (ad 5, .inl (cI, 8, .inl Nw)), (ad 6, .inl (cI, 8, .inl (upd Lt v (e_enc n (e_it n c T Hd G P sk (k + 1) v)))))] := hD
                        refine lv_aload_n hx hb dX2_work_100 rfl (lv_at hl 1 rfl) ?_
                        refine va_get (D := (dC, dI)) (ci := 1) (v := .ref (ad 6)) (C := RX2) (T := TX2) (N := 8) hx hb hts in_X2 hown hK hP 0 rfl rfl 7 (by decide) (hts _ q181) (fun _ h9 => h9) rfl dX2_work_101 ?_
                        refine lv_iload hx hb dX2_work_104 (lv_at hl 7 rfl) ?_
                        refine e_ild (v := e_enc n (e_it n c T Hd G P sk (k + 1) v)) hx hb hK hP 6 0 rfl rfl v rfl (by omega) (by decide) pk_us dX2_work_106 ?_
                        refine lv_aload_n hx hb dX2_work_107 rfl (lv_at hl 1 rfl) ?_
                        refine va_get (D := (dC, dI)) (ci := 1) (v := .ref (ad 5)) (C := RX2) (T := TX2) (N := 8) hx hb hts in_X2 hown hK hP 0 rfl rfl 6 (by decide) (hts _ q180) (fun _ h9 => h9) rfl dX2_work_108 ?_
                        refine lv_iload hx hb dX2_work_111 (lv_at hl 7 rfl) ?_
                        refine e_ild (v := e_enc n (e_it n c T Hd G P sk k v)) hx hb hK hP 5 0 rfl rfl v rfl (by omega) (by decide) (hN v (by omega)) dX2_work_113 ?_
                        refine lv_icmp_eq (tgt := 120) hx hb dX2_work_114 (by decide) (fun c_114 => ?_) (fun c_114 => ?_)
                        · have d_114 : e_it n c T Hd G P sk (k + 1) v = e_it n c T Hd G P sk k v := (e_enc_eq hn6 e_it_le e_it_le).mp c_114
                          refine lv_iinc (v := nI (v + 1)) (lv' := [(6, .int (nI (v + 1))), (7, .int (P v)), (0, .ref (ad 0)), (1, .int p0), (2, .int p1), (3, .int sk), (4, .int mo), (5, .int (nI k))]) hx hb dX2_work_120 hl (k := 7) rfl (e_inc _) (by decide) rfl (fun ls hl => ?_)
                          refine lv_goto (tgt := 49) hx hb dX2_work_123 (by decide) ?_
                          exact ih_49 (v + 1) mo (upd Lt v (e_enc n (e_it n c T Hd G P sk (k + 1) v))) (by omega) (by omega) (e_upd_s (g := fun u => e_enc n (e_it n c T Hd G P sk (k + 1) u)) hL) (fun z => lt_s (hmo2 z) d_114) _ _ hP hD hS ls (lv_sub hl [2, 3, 4, 5, 6, 7, 0] rfl)
                        · refine lv_iconst (v := 1) hx hb dX2_work_117 (by decide) ?_
                          refine lv_istore (lv' := [(4, .int 1), (7, .int (P v)), (0, .ref (ad 0)), (1, .int p0), (2, .int p1), (3, .int sk), (5, .int (nI k)), (6, .int (nI v))]) hx hb dX2_work_118 hl (by decide) rfl (fun ls hl => ?_)
                          refine lv_iinc (v := nI (v + 1)) (lv' := [(6, .int (nI (v + 1))), (4, .int 1), (7, .int (P v)), (0, .ref (ad 0)), (1, .int p0), (2, .int p1), (3, .int sk), (5, .int (nI k))]) hx hb dX2_work_120 hl (k := 7) rfl (e_inc _) (by decide) rfl (fun ls hl => ?_)
                          refine lv_goto (tgt := 49) hx hb dX2_work_123 (by decide) ?_
                          exact ih_49 (v + 1) 1 (upd Lt v (e_enc n (e_it n c T Hd G P sk (k + 1) v))) (by omega) (by omega) (e_upd_s (g := fun u => e_enc n (e_it n c T Hd G P sk (k + 1) u)) hL) (fun z => absurd z (by decide)) _ _ hP hD hS ls (lv_sub hl [3, 4, 5, 6, 1, 7, 0] rfl)
                      · refine lv_iload_n hx hb dX2_work_71 rfl (lv_at hl 2 rfl) ?_
                        refine e_top (P v) (by rw [← hPl v (by omega), if_pos c_68]) ?_
                        refine lv_goto (tgt := 82) hx hb dX2_work_72 (by decide) ?_
                        refine lv_istore (lv' := [(7, .int (P v)), (0, .ref (ad 0)), (1, .int p0), (2, .int p1), (3, .int sk), (4, .int mo), (5, .int (nI k)), (6, .int (nI v))]) hx hb dX2_work_82 hl (by decide) rfl (fun ls hl => ?_)
                        refine lv_aload_n hx hb dX2_work_84 rfl (lv_at hl 1 rfl) ?_
                        refine va_get (D := (dC, dI)) (ci := 1) (v := .ref (ad 6)) (C := RX2) (T := TX2) (N := 8) hx hb hts in_X2 hown hK hP 0 rfl rfl 7 (by decide) (hts _ q181) (fun _ h9 => h9) rfl dX2_work_85 ?_
                        refine lv_iload hx hb dX2_work_88 (lv_at hl 7 rfl) ?_
                        refine lv_aload_n hx hb dX2_work_90 rfl (lv_at hl 1 rfl) ?_
                        refine lv_iload hx hb dX2_work_91 (lv_at hl 7 rfl) ?_
                        refine lv_iload hx hb dX2_work_93 (lv_at hl 0 rfl) ?_
                        refine lv_iload_n hx hb dX2_work_95 rfl (lv_at hl 4 rfl) ?_
                        refine e_callR (q0 := 0) (ci := 1) (rest := [.int (nI v), .ref (ad 6)]) ⟨hx, hb, hml, hown, hts⟩ (metX2_next l dC dI ad cI n c T Hd G O Nw Lt hok (e_it n c T Hd G P sk k) hN (fun _ _ => e_it_le) v (by omega) (P v) sk) (cwV 3 hts (lw_V q243 q245 qs13 q20 q246) rfl rfl rfl (by decide +kernel) ⟨Nat.le_of_ble_eq_true rfl, Nat.le_of_ble_eq_true rfl⟩) hK hP rfl rfl rfl rfl hl.1 rfl (Nat.le_of_ble_eq_true rfl) dX2_work_96 ⟨Nat.zero_le _, Nat.zero_le _⟩ (fun r_96 hr_96 => ?_)
                        subst hr_96
                        refine e_top (e_enc n (e_it n c T Hd G P sk (k + 1) v)) rfl ?_
                        refine e_ist (f2 := upd Lt v (e_enc n (e_it n c T Hd G P sk (k + 1) v))) hx hb hK hP hD hS 6 0 rfl rfl v rfl (by omega) (by decide) rfl dX2_work_99 (fun H locs hP hD hS => ?_)
                        have hP : va_P (dC, dI) vwCl [(ad 0, .inr (1, [.int (nI n), .int (nI c), .ref (ad 1), .ref (ad 2), .ref (ad 3), .ref (ad 4), .ref (ad 5), .ref (ad 6)])), (ad 1, .inl (cI, 8, .inl O)), (ad 2, .inl (cI, 14, .inl T)), (ad 3, .inl (cI, 14, .inl Hd)), (ad 4, .inl (cI, 14, .inl G)), (ad 5, .inl (cI, 8, .inl Nw)), (ad 6, .inl (cI, 8, .inl (upd Lt v (e_enc n (e_it n c T Hd G P sk (k + 1) v)))))] H := hP
                        have hD : va_D A [(ad 0, .inr (1, [.int (nI n), .int (nI c), .ref (ad 1), .ref (ad 2), .ref (ad 3), .ref (ad 4), .ref (ad 5), .ref (ad 6)])), (ad 1, .inl (cI, 8, .inl O)), (ad 2, .inl (cI, 14, .inl T)), (ad 3, .inl (cI, 14, .inl Hd)), (ad 4, .inl (cI, 14, .inl G)), (ad 5, .inl (cI, 8, .inl Nw)), (ad 6, .inl (cI, 8, .inl (upd Lt v (e_enc n (e_it n c T Hd G P sk (k + 1) v)))))] := hD
                        refine lv_aload_n hx hb dX2_work_100 rfl (lv_at hl 1 rfl) ?_
                        refine va_get (D := (dC, dI)) (ci := 1) (v := .ref (ad 6)) (C := RX2) (T := TX2) (N := 8) hx hb hts in_X2 hown hK hP 0 rfl rfl 7 (by decide) (hts _ q181) (fun _ h9 => h9) rfl dX2_work_101 ?_
                        refine lv_iload hx hb dX2_work_104 (lv_at hl 7 rfl) ?_
                        refine e_ild (v := e_enc n (e_it n c T Hd G P sk (k + 1) v)) hx hb hK hP 6 0 rfl rfl v rfl (by omega) (by decide) pk_us dX2_work_106 ?_
                        refine lv_aload_n hx hb dX2_work_107 rfl (lv_at hl 1 rfl) ?_
                        refine va_get (D := (dC, dI)) (ci := 1) (v := .ref (ad 5)) (C := RX2) (T := TX2) (N := 8) hx hb hts in_X2 hown hK hP 0 rfl rfl 6 (by decide) (hts _ q180) (fun _ h9 => h9) rfl dX2_work_108 ?_
                        refine lv_iload hx hb dX2_work_111 (lv_at hl 7 rfl) ?_
                        refine e_ild (v := e_enc n (e_it n c T Hd G P sk k v)) hx hb hK hP 5 0 rfl rfl v rfl (by omega) (by decide) (hN v (by omega)) dX2_work_113 ?_
                        refine lv_icmp_eq (tgt := 120) hx hb dX2_work_114 (by decide) (fun c_114 => ?_) (fun c_114 => ?_)
                        · have d_114 : e_it n c T Hd G P sk (k + 1) v = e_it n c T Hd G P sk k v := (e_enc_eq hn6 e_it_le e_it_le).mp c_114
                          refine lv_iinc (v := nI (v + 1)) (lv' := [(6, .int (nI (v + 1))), (7, .int (P v)), (0, .ref (ad 0)), (1, .int p0), (2, .int p1), (3, .int sk), (4, .int mo), (5, .int (nI k))]) hx hb dX2_work_120 hl (k := 7) rfl (e_inc _) (by decide) rfl (fun ls hl => ?_)
                          refine lv_goto (tgt := 49) hx hb dX2_work_123 (by decide) ?_
                          exact ih_49 (v + 1) mo (upd Lt v (e_enc n (e_it n c T Hd G P sk (k + 1) v))) (by omega) (by omega) (e_upd_s (g := fun u => e_enc n (e_it n c T Hd G P sk (k + 1) u)) hL) (fun z => lt_s (hmo2 z) d_114) _ _ hP hD hS ls (lv_sub hl [2, 3, 4, 5, 6, 7, 0] rfl)
                        · refine lv_iconst (v := 1) hx hb dX2_work_117 (by decide) ?_
                          refine lv_istore (lv' := [(4, .int 1), (7, .int (P v)), (0, .ref (ad 0)), (1, .int p0), (2, .int p1), (3, .int sk), (5, .int (nI k)), (6, .int (nI v))]) hx hb dX2_work_118 hl (by decide) rfl (fun ls hl => ?_)
                          refine lv_iinc (v := nI (v + 1)) (lv' := [(6, .int (nI (v + 1))), (4, .int 1), (7, .int (P v)), (0, .ref (ad 0)), (1, .int p0), (2, .int p1), (3, .int sk), (5, .int (nI k))]) hx hb dX2_work_120 hl (k := 7) rfl (e_inc _) (by decide) rfl (fun ls hl => ?_)
                          refine lv_goto (tgt := 49) hx hb dX2_work_123 (by decide) ?_
                          exact ih_49 (v + 1) 1 (upd Lt v (e_enc n (e_it n c T Hd G P sk (k + 1) v))) (by omega) (by omega) (e_upd_s (g := fun u => e_enc n (e_it n c T Hd G P sk (k + 1) u)) hL) (fun z => absurd z (by decide)) _ _ hP hD hS ls (lv_sub hl [3, 4, 5, 6, 1, 7, 0] rfl)
                exact lp_49 (n + 1) 0 0 Lt (by omega) (by omega) (fun u hu => absurd hu (Nat.not_lt_zero _)) (fun _ u hu => absurd hu (Nat.not_lt_zero _)) _ _ hP hD hS ls (lv_sub hl [2, 3, 4, 5, 1, 6, 0] rfl)
        exact lp_30 701 0 1 Nw Lt (by omega) (by omega) (fun v hv => (hi v (by omega)).trans e_enc_0.symm) (fun z => absurd z (by decide)) _ _ hP hD hS ls (lv_sub hl [2, 3, 4, 5, 1, 0] rfl)
      · refine lv_aload_n hx hb dX2_work_10 rfl (lv_at hl 0 rfl) ?_
        refine va_get (D := (dC, dI)) (ci := 1) (v := .ref (ad 5)) (C := RX2) (T := TX2) (N := 8) hx hb hts in_X2 hown hK hP 0 rfl rfl 6 (by decide) (hts _ q180) (fun _ h9 => h9) rfl dX2_work_11 ?_
        refine lv_iload hx hb dX2_work_14 (lv_at hl 4 rfl) ?_
        refine lv_iconst (v := 0) hx hb dX2_work_16 (by decide) ?_
        refine e_ist (f2 := upd Nw v 0) hx hb hK hP hD hS 5 0 rfl rfl v rfl (by omega) (by decide) rfl dX2_work_17 (fun H locs hP hD hS => ?_)
        have hP : va_P (dC, dI) vwCl [(ad 0, .inr (1, [.int (nI n), .int (nI c), .ref (ad 1), .ref (ad 2), .ref (ad 3), .ref (ad 4), .ref (ad 5), .ref (ad 6)])), (ad 1, .inl (cI, 8, .inl O)), (ad 2, .inl (cI, 14, .inl T)), (ad 3, .inl (cI, 14, .inl Hd)), (ad 4, .inl (cI, 14, .inl G)), (ad 5, .inl (cI, 8, .inl (upd Nw v 0))), (ad 6, .inl (cI, 8, .inl Lt))] H := hP
        have hD : va_D A [(ad 0, .inr (1, [.int (nI n), .int (nI c), .ref (ad 1), .ref (ad 2), .ref (ad 3), .ref (ad 4), .ref (ad 5), .ref (ad 6)])), (ad 1, .inl (cI, 8, .inl O)), (ad 2, .inl (cI, 14, .inl T)), (ad 3, .inl (cI, 14, .inl Hd)), (ad 4, .inl (cI, 14, .inl G)), (ad 5, .inl (cI, 8, .inl (upd Nw v 0))), (ad 6, .inl (cI, 8, .inl Lt))] := hD
        refine lv_iinc (v := nI (v + 1)) (lv' := [(4, .int (nI (v + 1))), (0, .ref (ad 0)), (1, .int p0), (2, .int p1), (3, .int sk)]) hx hb dX2_work_18 hl (k := 4) rfl (e_inc _) (by decide) rfl (fun ls hl => ?_)
        refine lv_goto (tgt := 3) hx hb dX2_work_21 (by decide) ?_
        exact ih_3 (v + 1) (upd Nw v 0) (by omega) (by omega) (e_upd_s (g := fun _ => 0) hi) _ _ hP hD hS ls (lv_sub hl [1, 2, 3, 4, 0] rfl)
  exact lp_3 9 0 Nw (by omega) (by omega) (fun u hu => absurd hu (Nat.not_lt_zero _)) _ _ hP hD hS ls (lv_sub hl [1, 2, 3, 4, 0] rfl)
end
section
/-! EnergyGameModel: its operations -/
set_option maxRecDepth 100000
abbrev rX2_need : Room := { frames := 3, cells := 0, slots := 0, locals := 76 }
set_option maxHeartbeats 4000000 in
set_option maxRecDepth 100000 in
theorem metX2_need (l : Launch) (dC : Nat → ClassId) (dI : Nat → Nat → Nat) (ad : Nat → Nat) (cI : ClassId) (n c : Nat) (T Hd G O Nw Lt : eFn) (hok : e_ok n c T Hd G) (p0 : Int32) (sz : Nat) : Met l yX2_need (ws_ yX2_need cX2_need 2 (some .int)) rX2_need (va_Pc [.ref (ad 0), .int p0] (e_PW (dC, dI) vwCl [(cI, .int)] (wM ad cI n c T Hd G O Nw Lt) sz)) (va_Qi (fun r (u : eFn × eFn) => r = s_need n c T Hd G O p0) (e_B (dC, dI) vwCl [(cI, .int)] (fun u => wM ad cI n c T Hd G O u.1 u.2) (va_A (wM ad cI n c T Hd G O Nw Lt) sz)) (va_A (wM ad cI n c T Hd G O Nw Lt) sz)) 0 0 (va_A (wM ad cI n c T Hd G O Nw Lt) sz) := by
  refine e_startWi (by decide) (Nat.le_of_ble_eq_true rfl) ?_
  intro pg ev st mi ar bl mt cd H A QQ hx hb hml hown hts hA hK hP hD hS hret ls hl
  have hown : st.vm.findClass RX2 = some mi.cls := hown
  have hP : va_P (dC, dI) vwCl [(ad 0, .inr (1, [.int (nI n), .int (nI c), .ref (ad 1), .ref (ad 2), .ref (ad 3), .ref (ad 4), .ref (ad 5), .ref (ad 6)])), (ad 1, .inl (cI, 8, .inl O)), (ad 2, .inl (cI, 14, .inl T)), (ad 3, .inl (cI, 14, .inl Hd)), (ad 4, .inl (cI, 14, .inl G)), (ad 5, .inl (cI, 8, .inl Nw)), (ad 6, .inl (cI, 8, .inl Lt))] H := hP
  have hD : va_D A [(ad 0, .inr (1, [.int (nI n), .int (nI c), .ref (ad 1), .ref (ad 2), .ref (ad 3), .ref (ad 4), .ref (ad 5), .ref (ad 6)])), (ad 1, .inl (cI, 8, .inl O)), (ad 2, .inl (cI, 14, .inl T)), (ad 3, .inl (cI, 14, .inl Hd)), (ad 4, .inl (cI, 14, .inl G)), (ad 5, .inl (cI, 8, .inl Nw)), (ad 6, .inl (cI, 8, .inl Lt))] := hD
  generalize hlocs : ([] : List Loc) = locs at hS ⊢
  have hl : lv_has ls 2 [(0, .ref (ad 0)), (1, .int p0)] := hl
  have hn2 := hok.1
  have hn6 := hok.2.1
  have hc14 := hok.2.2.1
  refine lv_aload_n hx hb dX2_need_0 rfl (lv_at hl 0 rfl) ?_
  refine lv_iload_n hx hb dX2_need_1 rfl (lv_at hl 1 rfl) ?_
  refine e_callR (q0 := 0) (ci := 1) (rest := []) ⟨hx, hb, hml, hown, hts⟩ (metX2_bad l dC dI ad cI n c T Hd G O Nw Lt hok p0) (cwV 1 hts (lw_V q207 q209 qs9 q20 q210) rfl rfl rfl (by decide +kernel) ⟨Nat.le_of_ble_eq_true rfl, Nat.le_of_ble_eq_true rfl⟩) hK hP rfl rfl rfl rfl hl.1 rfl (Nat.le_of_ble_eq_true rfl) dX2_need_2 ⟨Nat.zero_le _, Nat.zero_le _⟩ (fun r_2 hr_2 => ?_)
  rcases hr_2 with ⟨rfl, hv_2⟩ | ⟨rfl, hv_2⟩
  · refine lv_if_eq (tgt := 10) hx hb dX2_need_5 (by decide) (fun c_5 => absurd c_5 (by decide)) (fun c_5 => ?_)
    refine lv_iconst (v := -1) hx hb dX2_need_8 (by decide) ?_
    exact hret (Nw, Lt) dX2_need_9 (by unfold s_need; rw [if_pos hv_2]) hP hD hS
  · obtain ⟨j, hj, rfl⟩ := e_v_of hv_2 (by omega)
    refine lv_if_eq (tgt := 10) hx hb dX2_need_5 (by decide) (fun c_5 => ?_) (fun c_5 => absurd c_5 (by decide))
    refine lv_aload_n hx hb dX2_need_10 rfl (lv_at hl 0 rfl) ?_
    refine lv_iconst (v := -1) hx hb dX2_need_11 (by decide) ?_
    refine lv_iconst (v := 0) hx hb dX2_need_12 (by decide) ?_
    refine lv_iconst (v := -1) hx hb dX2_need_13 (by decide) ?_
    refine e_callV (q0 := 0) (ci := 1) (rest := []) (wr := []) ⟨hx, hb, hml, hown, hts⟩ (metX2_work l dC dI ad cI n c T Hd G O Nw Lt hok O (-1) 0 (-1) (fun v hv => if_neg (e_ne_m1 hv hn6)) H.size) (cwV 3 hts (lw_V q239 q241 qs12 q20 q242) rfl rfl rfl (by decide +kernel) ⟨Nat.le_of_ble_eq_true rfl, Nat.le_of_ble_eq_true rfl⟩) hK hP hD hS hA [0, 1, 2, 3, 4, 5, 6] [] rfl rfl (by decide) (by decide) (by decide) rfl rfl rfl rfl hl.1 rfl (Nat.le_of_ble_eq_true rfl) dX2_need_14 ⟨Nat.zero_le _, Nat.zero_le _⟩ (fun u_14 H locs hw_14 hP hD hS => ?_)
    obtain ⟨Nw2, Lt2⟩ := u_14
    have hw_14 : ∀ v, v < n → Nw2 v = e_enc n (e_lf n c T Hd G O (-1) v) := hw_14
    have hP : va_P (dC, dI) vwCl [(ad 0, .inr (1, [.int (nI n), .int (nI c), .ref (ad 1), .ref (ad 2), .ref (ad 3), .ref (ad 4), .ref (ad 5), .ref (ad 6)])), (ad 1, .inl (cI, 8, .inl O)), (ad 2, .inl (cI, 14, .inl T)), (ad 3, .inl (cI, 14, .inl Hd)), (ad 4, .inl (cI, 14, .inl G)), (ad 5, .inl (cI, 8, .inl Nw2)), (ad 6, .inl (cI, 8, .inl Lt2))] H := hP
    have hD : va_D A [(ad 0, .inr (1, [.int (nI n), .int (nI c), .ref (ad 1), .ref (ad 2), .ref (ad 3), .ref (ad 4), .ref (ad 5), .ref (ad 6)])), (ad 1, .inl (cI, 8, .inl O)), (ad 2, .inl (cI, 14, .inl T)), (ad 3, .inl (cI, 14, .inl Hd)), (ad 4, .inl (cI, 14, .inl G)), (ad 5, .inl (cI, 8, .inl Nw2)), (ad 6, .inl (cI, 8, .inl Lt2))] := hD
    refine lv_aload_n hx hb dX2_need_17 rfl (lv_at hl 0 rfl) ?_
    refine lv_iload_n hx hb dX2_need_18 rfl (lv_at hl 1 rfl) ?_
    refine e_callR (q0 := 0) (ci := 1) (rest := []) ⟨hx, hb, hml, hown, hts⟩ (metX2_told l dC dI ad cI n c T Hd G O Nw2 Lt2 hok (e_lf n c T Hd G O (-1)) hw_14 (fun _ _ => e_lf_le) j hj) (cwV 1 hts (lw_V q251 q253 qs15 q20 q254) rfl rfl rfl (by decide +kernel) ⟨Nat.le_of_ble_eq_true rfl, Nat.le_of_ble_eq_true rfl⟩) hK hP rfl rfl rfl rfl hl.1 rfl (Nat.le_of_ble_eq_true rfl) dX2_need_19 ⟨Nat.zero_le _, Nat.zero_le _⟩ (fun r_19 hr_19 => ?_)
    subst hr_19
    exact hret (Nw2, Lt2) dX2_need_22 (by unfold s_need; rw [if_neg (fun z => z hv_2), nI_clamp (by omega)]) hP hD hS
abbrev rX2_safe : Room := { frames := 3, cells := 0, slots := 0, locals := 76 }
set_option maxHeartbeats 4000000 in
set_option maxRecDepth 100000 in
theorem metX2_safe (l : Launch) (dC : Nat → ClassId) (dI : Nat → Nat → Nat) (ad : Nat → Nat) (cI : ClassId) (n c : Nat) (T Hd G O Nw Lt : eFn) (hok : e_ok n c T Hd G) (p0 : Int32) (sz : Nat) : Met l yX2_safe (ws_ yX2_safe cX2_safe 4 (some .int)) rX2_safe (va_Pc [.ref (ad 0), .int p0] (e_PW (dC, dI) vwCl [(cI, .int)] (wM ad cI n c T Hd G O Nw Lt) sz)) (va_Qi (fun r (u : eFn × eFn) => r = s_safe n c T Hd G O p0) (e_B (dC, dI) vwCl [(cI, .int)] (fun u => wM ad cI n c T Hd G O u.1 u.2) (va_A (wM ad cI n c T Hd G O Nw Lt) sz)) (va_A (wM ad cI n c T Hd G O Nw Lt) sz)) 0 0 (va_A (wM ad cI n c T Hd G O Nw Lt) sz) := by
  refine e_startWi (by decide) (Nat.le_of_ble_eq_true rfl) ?_
  intro pg ev st mi ar bl mt cd H A QQ hx hb hml hown hts hA hK hP hD hS hret ls hl
  have hown : st.vm.findClass RX2 = some mi.cls := hown
  have hP : va_P (dC, dI) vwCl [(ad 0, .inr (1, [.int (nI n), .int (nI c), .ref (ad 1), .ref (ad 2), .ref (ad 3), .ref (ad 4), .ref (ad 5), .ref (ad 6)])), (ad 1, .inl (cI, 8, .inl O)), (ad 2, .inl (cI, 14, .inl T)), (ad 3, .inl (cI, 14, .inl Hd)), (ad 4, .inl (cI, 14, .inl G)), (ad 5, .inl (cI, 8, .inl Nw)), (ad 6, .inl (cI, 8, .inl Lt))] H := hP
  have hD : va_D A [(ad 0, .inr (1, [.int (nI n), .int (nI c), .ref (ad 1), .ref (ad 2), .ref (ad 3), .ref (ad 4), .ref (ad 5), .ref (ad 6)])), (ad 1, .inl (cI, 8, .inl O)), (ad 2, .inl (cI, 14, .inl T)), (ad 3, .inl (cI, 14, .inl Hd)), (ad 4, .inl (cI, 14, .inl G)), (ad 5, .inl (cI, 8, .inl Nw)), (ad 6, .inl (cI, 8, .inl Lt))] := hD
  generalize hlocs : ([] : List Loc) = locs at hS ⊢
  have hl : lv_has ls 4 [(0, .ref (ad 0)), (1, .int p0)] := hl
  have hn2 := hok.1
  have hn6 := hok.2.1
  have hc14 := hok.2.2.1
  have ht31 := e_tp_le hn6
  refine lv_aload_n hx hb dX2_safe_0 rfl (lv_at hl 0 rfl) ?_
  refine lv_iconst (v := -1) hx hb dX2_safe_1 (by decide) ?_
  refine lv_iconst (v := 0) hx hb dX2_safe_2 (by decide) ?_
  refine lv_iconst (v := -1) hx hb dX2_safe_3 (by decide) ?_
  refine e_callV (q0 := 0) (ci := 1) (rest := []) (wr := []) ⟨hx, hb, hml, hown, hts⟩ (metX2_work l dC dI ad cI n c T Hd G O Nw Lt hok O (-1) 0 (-1) (fun v hv => if_neg (e_ne_m1 hv hn6)) H.size) (cwV 3 hts (lw_V q239 q241 qs12 q20 q242) rfl rfl rfl (by decide +kernel) ⟨Nat.le_of_ble_eq_true rfl, Nat.le_of_ble_eq_true rfl⟩) hK hP hD hS hA [0, 1, 2, 3, 4, 5, 6] [] rfl rfl (by decide) (by decide) (by decide) rfl rfl rfl rfl hl.1 rfl (Nat.le_of_ble_eq_true rfl) dX2_safe_4 ⟨Nat.zero_le _, Nat.zero_le _⟩ (fun u_4 H locs hw_4 hP hD hS => ?_)
  obtain ⟨Nw2, Lt2⟩ := u_4
  have hw_4 : ∀ v, v < n → Nw2 v = e_enc n (e_lf n c T Hd G O (-1) v) := hw_4
  have hP : va_P (dC, dI) vwCl [(ad 0, .inr (1, [.int (nI n), .int (nI c), .ref (ad 1), .ref (ad 2), .ref (ad 3), .ref (ad 4), .ref (ad 5), .ref (ad 6)])), (ad 1, .inl (cI, 8, .inl O)), (ad 2, .inl (cI, 14, .inl T)), (ad 3, .inl (cI, 14, .inl Hd)), (ad 4, .inl (cI, 14, .inl G)), (ad 5, .inl (cI, 8, .inl Nw2)), (ad 6, .inl (cI, 8, .inl Lt2))] H := hP
  have hD : va_D A [(ad 0, .inr (1, [.int (nI n), .int (nI c), .ref (ad 1), .ref (ad 2), .ref (ad 3), .ref (ad 4), .ref (ad 5), .ref (ad 6)])), (ad 1, .inl (cI, 8, .inl O)), (ad 2, .inl (cI, 14, .inl T)), (ad 3, .inl (cI, 14, .inl Hd)), (ad 4, .inl (cI, 14, .inl G)), (ad 5, .inl (cI, 8, .inl Nw2)), (ad 6, .inl (cI, 8, .inl Lt2))] := hD
  refine lv_iconst (v := 0) hx hb dX2_safe_7 (by decide) ?_
  refine lv_istore_n (lv' := [(2, .int 0), (0, .ref (ad 0)), (1, .int p0)]) hx hb dX2_safe_8 rfl hl (by decide) rfl (fun ls hl => ?_)
  refine lv_iconst (v := nI 0) hx hb dX2_safe_9 (by decide) ?_
  refine lv_istore_n (lv' := [(3, .int (nI 0)), (2, .int 0), (0, .ref (ad 0)), (1, .int p0)]) hx hb dX2_safe_10 rfl hl (by decide) rfl (fun ls hl => ?_)
  have lp_11 : ∀ (k_11 : Nat) (v : Nat), (v ≤ n) → (n < v + k_11) → ∀ (H : Heap) (locs : List Loc), va_P (dC, dI) vwCl [(ad 0, .inr (1, [.int (nI n), .int (nI c), .ref (ad 1), .ref (ad 2), .ref (ad 3), .ref (ad 4), .ref (ad 5), .ref (ad 6)])), (ad 1, .inl (cI, 8, .inl O)), (ad 2, .inl (cI, 14, .inl T)), (ad 3, .inl (cI, 14, .inl Hd)), (ad 4, .inl (cI, 14, .inl G)), (ad 5, .inl (cI, 8, .inl Nw2)), (ad 6, .inl (cI, 8, .inl Lt2))] H → va_D A [(ad 0, .inr (1, [.int (nI n), .int (nI c), .ref (ad 1), .ref (ad 2), .ref (ad 3), .ref (ad 4), .ref (ad 5), .ref (ad 6)])), (ad 1, .inl (cI, 8, .inl O)), (ad 2, .inl (cI, 14, .inl T)), (ad 3, .inl (cI, 14, .inl Hd)), (ad 4, .inl (cI, 14, .inl G)), (ad 5, .inl (cI, 8, .inl Nw2)), (ad 6, .inl (cI, 8, .inl Lt2))] → va_S A st.heap H locs → ∀ ls : Array Slot, lv_has ls 4 [(0, .ref (ad 0)), (1, .int p0), (2, .int (e_safe n (e_lf n c T Hd G O (-1)) p0 v)), (3, .int (nI v))] → W pg l ev rX2_safe st mi ar bl mt cd H locs 0 0 QQ (F0 mi 11 ls []) := by
    intro k_11
    induction k_11 with
    | zero =>
      intro v hvn hk
      exfalso; omega
    | succ k_11 ih_11 =>
      intro v hvn hk H locs hP hD hS ls hl
      have hLv := e_lf_le (n := n) (c := c) (T := T) (Hd := Hd) (G := G) (P := O) (sk := -1) (v := v)
      refine lv_iload_n hx hb dX2_safe_11 rfl (lv_at hl 3 rfl) ?_
      refine lv_aload_n hx hb dX2_safe_12 rfl (lv_at hl 0 rfl) ?_
      refine va_get (D := (dC, dI)) (ci := 1) (v := .int (nI n)) (C := RX2) (T := TX2) (N := 8) hx hb hts in_X2 hown hK hP 0 rfl rfl 0 (by decide) (hts _ q174) (fun _ h9 => h9) rfl dX2_safe_13 ?_
      refine e_ge (tgt := 52) hx hb (by omega) (by omega) dX2_safe_16 (by decide) (fun c_16 => ?_) (fun c_16 => ?_)
      · have heq : n = v := by omega
        subst heq
        refine lv_iload_n hx hb dX2_safe_52 rfl (lv_at hl 2 rfl) ?_
        exact hret (Nw2, Lt2) dX2_safe_53 rfl hP hD hS
      · refine lv_aload_n hx hb dX2_safe_19 rfl (lv_at hl 0 rfl) ?_
        refine va_get (D := (dC, dI)) (ci := 1) (v := .ref (ad 5)) (C := RX2) (T := TX2) (N := 8) hx hb hts in_X2 hown hK hP 0 rfl rfl 6 (by decide) (hts _ q180) (fun _ h9 => h9) rfl dX2_safe_20 ?_
        refine lv_iload_n hx hb dX2_safe_23 rfl (lv_at hl 3 rfl) ?_
        refine e_ild (v := e_enc n (e_lf n c T Hd G O (-1) v)) hx hb hK hP 5 0 rfl rfl v rfl (by omega) (by decide) (hw_4 v (by omega)) dX2_safe_24 ?_
        refine lv_bipush (v := 99) hx hb dX2_safe_25 (by decide) ?_
        refine lv_icmp_eq (tgt := 46) hx hb dX2_safe_27 (by decide) (fun c_27 => ?_) (fun c_27 => ?_)
        · have d_27 : e_lf n c T Hd G O (-1) v = e_tp n := (e_enc_99 hn6 hLv).mp c_27
          refine lv_iinc (v := nI (v + 1)) (lv' := [(3, .int (nI (v + 1))), (0, .ref (ad 0)), (1, .int p0), (2, .int (e_safe n (e_lf n c T Hd G O (-1)) p0 v))]) hx hb dX2_safe_46 hl (k := 3) rfl (e_inc _) (by decide) rfl (fun ls hl => ?_)
          refine lv_goto (tgt := 11) hx hb dX2_safe_49 (by decide) ?_
          rw [← e_safe_n (L := (e_lf n c T Hd G O (-1))) (cr := p0) (fun z => absurd z.1 (by omega))] at hl
          exact ih_11 (v + 1) (by omega) (by omega) _ _ hP hD hS ls (lv_sub hl [1, 2, 3, 0] rfl)
        · have d_27 : ¬ e_lf n c T Hd G O (-1) v = e_tp n := fun z => c_27 ((e_enc_99 hn6 hLv).mpr z)
          refine lv_aload_n hx hb dX2_safe_30 rfl (lv_at hl 0 rfl) ?_
          refine va_get (D := (dC, dI)) (ci := 1) (v := .ref (ad 5)) (C := RX2) (T := TX2) (N := 8) hx hb hts in_X2 hown hK hP 0 rfl rfl 6 (by decide) (hts _ q180) (fun _ h9 => h9) rfl dX2_safe_31 ?_
          refine lv_iload_n hx hb dX2_safe_34 rfl (lv_at hl 3 rfl) ?_
          refine e_ild (v := nI (e_lf n c T Hd G O (-1) v)) hx hb hK hP 5 0 rfl rfl v rfl (by omega) (by decide) ((hw_4 v (by omega)).trans (e_enc_lo d_27)) dX2_safe_35 ?_
          refine lv_iload_n hx hb dX2_safe_36 rfl (lv_at hl 1 rfl) ?_
          refine lv_icmp_gt (tgt := 46) hx hb dX2_safe_37 (by decide) (fun c_37 => ?_) (fun c_37 => ?_)
          · refine lv_iinc (v := nI (v + 1)) (lv' := [(3, .int (nI (v + 1))), (0, .ref (ad 0)), (1, .int p0), (2, .int (e_safe n (e_lf n c T Hd G O (-1)) p0 v))]) hx hb dX2_safe_46 hl (k := 3) rfl (e_inc _) (by decide) rfl (fun ls hl => ?_)
            refine lv_goto (tgt := 11) hx hb dX2_safe_49 (by decide) ?_
            rw [← e_safe_n (L := (e_lf n c T Hd G O (-1))) (fun z => absurd z.2 (Int32.not_le.mpr c_37))] at hl
            exact ih_11 (v + 1) (by omega) (by omega) _ _ hP hD hS ls (lv_sub hl [1, 2, 3, 0] rfl)
          · refine lv_iload_n hx hb dX2_safe_40 rfl (lv_at hl 2 rfl) ?_
            refine lv_iconst (v := 1) hx hb dX2_safe_41 (by decide) ?_
            refine lv_iload_n hx hb dX2_safe_42 rfl (lv_at hl 3 rfl) ?_
            refine lv_ishl hx hb dX2_safe_43 ?_
            refine lv_ior hx hb dX2_safe_44 ?_
            refine lv_istore_n (lv' := [(2, .int ((e_safe n (e_lf n c T Hd G O (-1)) p0 v) ||| (1 <<< ((nI v) &&& 31)))), (0, .ref (ad 0)), (1, .int p0), (3, .int (nI v))]) hx hb dX2_safe_45 rfl hl (by decide) rfl (fun ls hl => ?_)
            refine lv_iinc (v := nI (v + 1)) (lv' := [(3, .int (nI (v + 1))), (2, .int ((e_safe n (e_lf n c T Hd G O (-1)) p0 v) ||| (1 <<< ((nI v) &&& 31)))), (0, .ref (ad 0)), (1, .int p0)]) hx hb dX2_safe_46 hl (k := 3) rfl (e_inc _) (by decide) rfl (fun ls hl => ?_)
            refine lv_goto (tgt := 11) hx hb dX2_safe_49 (by decide) ?_
            rw [← e_safe_y (L := (e_lf n c T Hd G O (-1))) ⟨by omega, Int32.not_lt.mp c_37⟩] at hl
            exact ih_11 (v + 1) (by omega) (by omega) _ _ hP hD hS ls (lv_sub hl [2, 3, 1, 0] rfl)
  exact lp_11 (n + 1) 0 (by omega) (by omega) _ _ hP hD hS ls (lv_sub hl [2, 3, 1, 0] rfl)
abbrev rX2_hopeless : Room := { frames := 3, cells := 0, slots := 0, locals := 76 }
set_option maxHeartbeats 4000000 in
set_option maxRecDepth 100000 in
theorem metX2_hopeless (l : Launch) (dC : Nat → ClassId) (dI : Nat → Nat → Nat) (ad : Nat → Nat) (cI : ClassId) (n c : Nat) (T Hd G O Nw Lt : eFn) (hok : e_ok n c T Hd G) (sz : Nat) : Met l yX2_hopeless (ws_ yX2_hopeless cX2_hopeless 3 (some .int)) rX2_hopeless (va_Pc [.ref (ad 0)] (e_PW (dC, dI) vwCl [(cI, .int)] (wM ad cI n c T Hd G O Nw Lt) sz)) (va_Qi (fun r (u : eFn × eFn) => r = s_hop n c T Hd G O) (e_B (dC, dI) vwCl [(cI, .int)] (fun u => wM ad cI n c T Hd G O u.1 u.2) (va_A (wM ad cI n c T Hd G O Nw Lt) sz)) (va_A (wM ad cI n c T Hd G O Nw Lt) sz)) 0 0 (va_A (wM ad cI n c T Hd G O Nw Lt) sz) := by
  refine e_startWi (by decide) (Nat.le_of_ble_eq_true rfl) ?_
  intro pg ev st mi ar bl mt cd H A QQ hx hb hml hown hts hA hK hP hD hS hret ls hl
  have hown : st.vm.findClass RX2 = some mi.cls := hown
  have hP : va_P (dC, dI) vwCl [(ad 0, .inr (1, [.int (nI n), .int (nI c), .ref (ad 1), .ref (ad 2), .ref (ad 3), .ref (ad 4), .ref (ad 5), .ref (ad 6)])), (ad 1, .inl (cI, 8, .inl O)), (ad 2, .inl (cI, 14, .inl T)), (ad 3, .inl (cI, 14, .inl Hd)), (ad 4, .inl (cI, 14, .inl G)), (ad 5, .inl (cI, 8, .inl Nw)), (ad 6, .inl (cI, 8, .inl Lt))] H := hP
  have hD : va_D A [(ad 0, .inr (1, [.int (nI n), .int (nI c), .ref (ad 1), .ref (ad 2), .ref (ad 3), .ref (ad 4), .ref (ad 5), .ref (ad 6)])), (ad 1, .inl (cI, 8, .inl O)), (ad 2, .inl (cI, 14, .inl T)), (ad 3, .inl (cI, 14, .inl Hd)), (ad 4, .inl (cI, 14, .inl G)), (ad 5, .inl (cI, 8, .inl Nw)), (ad 6, .inl (cI, 8, .inl Lt))] := hD
  generalize hlocs : ([] : List Loc) = locs at hS ⊢
  have hl : lv_has ls 3 [(0, .ref (ad 0))] := hl
  have hn2 := hok.1
  have hn6 := hok.2.1
  have hc14 := hok.2.2.1
  have ht31 := e_tp_le hn6
  refine lv_aload_n hx hb dX2_hopeless_0 rfl (lv_at hl 0 rfl) ?_
  refine lv_iconst (v := -1) hx hb dX2_hopeless_1 (by decide) ?_
  refine lv_iconst (v := 0) hx hb dX2_hopeless_2 (by decide) ?_
  refine lv_iconst (v := -1) hx hb dX2_hopeless_3 (by decide) ?_
  refine e_callV (q0 := 0) (ci := 1) (rest := []) (wr := []) ⟨hx, hb, hml, hown, hts⟩ (metX2_work l dC dI ad cI n c T Hd G O Nw Lt hok O (-1) 0 (-1) (fun v hv => if_neg (e_ne_m1 hv hn6)) H.size) (cwV 3 hts (lw_V q239 q241 qs12 q20 q242) rfl rfl rfl (by decide +kernel) ⟨Nat.le_of_ble_eq_true rfl, Nat.le_of_ble_eq_true rfl⟩) hK hP hD hS hA [0, 1, 2, 3, 4, 5, 6] [] rfl rfl (by decide) (by decide) (by decide) rfl rfl rfl rfl hl.1 rfl (Nat.le_of_ble_eq_true rfl) dX2_hopeless_4 ⟨Nat.zero_le _, Nat.zero_le _⟩ (fun u_4 H locs hw_4 hP hD hS => ?_)
  obtain ⟨Nw2, Lt2⟩ := u_4
  have hw_4 : ∀ v, v < n → Nw2 v = e_enc n (e_lf n c T Hd G O (-1) v) := hw_4
  have hP : va_P (dC, dI) vwCl [(ad 0, .inr (1, [.int (nI n), .int (nI c), .ref (ad 1), .ref (ad 2), .ref (ad 3), .ref (ad 4), .ref (ad 5), .ref (ad 6)])), (ad 1, .inl (cI, 8, .inl O)), (ad 2, .inl (cI, 14, .inl T)), (ad 3, .inl (cI, 14, .inl Hd)), (ad 4, .inl (cI, 14, .inl G)), (ad 5, .inl (cI, 8, .inl Nw2)), (ad 6, .inl (cI, 8, .inl Lt2))] H := hP
  have hD : va_D A [(ad 0, .inr (1, [.int (nI n), .int (nI c), .ref (ad 1), .ref (ad 2), .ref (ad 3), .ref (ad 4), .ref (ad 5), .ref (ad 6)])), (ad 1, .inl (cI, 8, .inl O)), (ad 2, .inl (cI, 14, .inl T)), (ad 3, .inl (cI, 14, .inl Hd)), (ad 4, .inl (cI, 14, .inl G)), (ad 5, .inl (cI, 8, .inl Nw2)), (ad 6, .inl (cI, 8, .inl Lt2))] := hD
  refine lv_iconst (v := 0) hx hb dX2_hopeless_7 (by decide) ?_
  refine lv_istore_n (lv' := [(1, .int 0), (0, .ref (ad 0))]) hx hb dX2_hopeless_8 rfl hl (by decide) rfl (fun ls hl => ?_)
  refine lv_iconst (v := nI 0) hx hb dX2_hopeless_9 (by decide) ?_
  refine lv_istore_n (lv' := [(2, .int (nI 0)), (1, .int 0), (0, .ref (ad 0))]) hx hb dX2_hopeless_10 rfl hl (by decide) rfl (fun ls hl => ?_)
  have lp_11 : ∀ (k_11 : Nat) (v : Nat), (v ≤ n) → (n < v + k_11) → ∀ (H : Heap) (locs : List Loc), va_P (dC, dI) vwCl [(ad 0, .inr (1, [.int (nI n), .int (nI c), .ref (ad 1), .ref (ad 2), .ref (ad 3), .ref (ad 4), .ref (ad 5), .ref (ad 6)])), (ad 1, .inl (cI, 8, .inl O)), (ad 2, .inl (cI, 14, .inl T)), (ad 3, .inl (cI, 14, .inl Hd)), (ad 4, .inl (cI, 14, .inl G)), (ad 5, .inl (cI, 8, .inl Nw2)), (ad 6, .inl (cI, 8, .inl Lt2))] H → va_D A [(ad 0, .inr (1, [.int (nI n), .int (nI c), .ref (ad 1), .ref (ad 2), .ref (ad 3), .ref (ad 4), .ref (ad 5), .ref (ad 6)])), (ad 1, .inl (cI, 8, .inl O)), (ad 2, .inl (cI, 14, .inl T)), (ad 3, .inl (cI, 14, .inl Hd)), (ad 4, .inl (cI, 14, .inl G)), (ad 5, .inl (cI, 8, .inl Nw2)), (ad 6, .inl (cI, 8, .inl Lt2))] → va_S A st.heap H locs → ∀ ls : Array Slot, lv_has ls 3 [(0, .ref (ad 0)), (1, .int (e_hop n (e_lf n c T Hd G O (-1)) v)), (2, .int (nI v))] → W pg l ev rX2_hopeless st mi ar bl mt cd H locs 0 0 QQ (F0 mi 11 ls []) := by
    intro k_11
    induction k_11 with
    | zero =>
      intro v hvn hk
      exfalso; omega
    | succ k_11 ih_11 =>
      intro v hvn hk H locs hP hD hS ls hl
      have hLv := e_lf_le (n := n) (c := c) (T := T) (Hd := Hd) (G := G) (P := O) (sk := -1) (v := v)
      refine lv_iload_n hx hb dX2_hopeless_11 rfl (lv_at hl 2 rfl) ?_
      refine lv_aload_n hx hb dX2_hopeless_12 rfl (lv_at hl 0 rfl) ?_
      refine va_get (D := (dC, dI)) (ci := 1) (v := .int (nI n)) (C := RX2) (T := TX2) (N := 8) hx hb hts in_X2 hown hK hP 0 rfl rfl 0 (by decide) (hts _ q174) (fun _ h9 => h9) rfl dX2_hopeless_13 ?_
      refine e_ge (tgt := 39) hx hb (by omega) (by omega) dX2_hopeless_16 (by decide) (fun c_16 => ?_) (fun c_16 => ?_)
      · have heq : n = v := by omega
        subst heq
        refine lv_iload_n hx hb dX2_hopeless_39 rfl (lv_at hl 1 rfl) ?_
        exact hret (Nw2, Lt2) dX2_hopeless_40 rfl hP hD hS
      · refine lv_aload_n hx hb dX2_hopeless_19 rfl (lv_at hl 0 rfl) ?_
        refine va_get (D := (dC, dI)) (ci := 1) (v := .ref (ad 5)) (C := RX2) (T := TX2) (N := 8) hx hb hts in_X2 hown hK hP 0 rfl rfl 6 (by decide) (hts _ q180) (fun _ h9 => h9) rfl dX2_hopeless_20 ?_
        refine lv_iload_n hx hb dX2_hopeless_23 rfl (lv_at hl 2 rfl) ?_
        refine e_ild (v := e_enc n (e_lf n c T Hd G O (-1) v)) hx hb hK hP 5 0 rfl rfl v rfl (by omega) (by decide) (hw_4 v (by omega)) dX2_hopeless_24 ?_
        refine lv_bipush (v := 99) hx hb dX2_hopeless_25 (by decide) ?_
        refine lv_icmp_ne (tgt := 33) hx hb dX2_hopeless_27 (by decide) (fun c_27 => ?_) (fun c_27 => ?_)
        · have d_27 : ¬ e_lf n c T Hd G O (-1) v = e_tp n := fun z => c_27 ((e_enc_99 hn6 hLv).mpr z)
          refine lv_iinc (v := nI (v + 1)) (lv' := [(2, .int (nI (v + 1))), (0, .ref (ad 0)), (1, .int (e_hop n (e_lf n c T Hd G O (-1)) v))]) hx hb dX2_hopeless_33 hl (k := 2) rfl (e_inc _) (by decide) rfl (fun ls hl => ?_)
          refine lv_goto (tgt := 11) hx hb dX2_hopeless_36 (by decide) ?_
          rw [← e_hop_n2 (L := (e_lf n c T Hd G O (-1))) d_27] at hl
          exact ih_11 (v + 1) (by omega) (by omega) _ _ hP hD hS ls (lv_sub hl [1, 2, 0] rfl)
        · have d_27 : e_lf n c T Hd G O (-1) v = e_tp n := (e_enc_99 hn6 hLv).mp c_27
          refine lv_iinc (v := (e_hop n (e_lf n c T Hd G O (-1)) v) + 1) (lv' := [(1, .int ((e_hop n (e_lf n c T Hd G O (-1)) v) + 1)), (0, .ref (ad 0)), (2, .int (nI v))]) hx hb dX2_hopeless_30 hl (k := 1) rfl rfl (by decide) rfl (fun ls hl => ?_)
          refine lv_iinc (v := nI (v + 1)) (lv' := [(2, .int (nI (v + 1))), (1, .int ((e_hop n (e_lf n c T Hd G O (-1)) v) + 1)), (0, .ref (ad 0))]) hx hb dX2_hopeless_33 hl (k := 2) rfl (e_inc _) (by decide) rfl (fun ls hl => ?_)
          refine lv_goto (tgt := 11) hx hb dX2_hopeless_36 (by decide) ?_
          rw [e_hop_y (L := (e_lf n c T Hd G O (-1))) d_27] at hl
          exact ih_11 (v + 1) (by omega) (by omega) _ _ hP hD hS ls (lv_sub hl [2, 1, 0] rfl)
  exact lp_11 (n + 1) 0 (by omega) (by omega) _ _ hP hD hS ls (lv_sub hl [2, 1, 0] rfl)
abbrev rX2_greatest : Room := { frames := 3, cells := 0, slots := 0, locals := 76 }
set_option maxHeartbeats 4000000 in
set_option maxRecDepth 100000 in
theorem metX2_greatest (l : Launch) (dC : Nat → ClassId) (dI : Nat → Nat → Nat) (ad : Nat → Nat) (cI : ClassId) (n c : Nat) (T Hd G O Nw Lt : eFn) (hok : e_ok n c T Hd G) (sz : Nat) : Met l yX2_greatest (ws_ yX2_greatest cX2_greatest 3 (some .int)) rX2_greatest (va_Pc [.ref (ad 0)] (e_PW (dC, dI) vwCl [(cI, .int)] (wM ad cI n c T Hd G O Nw Lt) sz)) (va_Qi (fun r (u : eFn × eFn) => r = s_gst n c T Hd G O) (e_B (dC, dI) vwCl [(cI, .int)] (fun u => wM ad cI n c T Hd G O u.1 u.2) (va_A (wM ad cI n c T Hd G O Nw Lt) sz)) (va_A (wM ad cI n c T Hd G O Nw Lt) sz)) 0 0 (va_A (wM ad cI n c T Hd G O Nw Lt) sz) := by
  refine e_startWi (by decide) (Nat.le_of_ble_eq_true rfl) ?_
  intro pg ev st mi ar bl mt cd H A QQ hx hb hml hown hts hA hK hP hD hS hret ls hl
  have hown : st.vm.findClass RX2 = some mi.cls := hown
  have hP : va_P (dC, dI) vwCl [(ad 0, .inr (1, [.int (nI n), .int (nI c), .ref (ad 1), .ref (ad 2), .ref (ad 3), .ref (ad 4), .ref (ad 5), .ref (ad 6)])), (ad 1, .inl (cI, 8, .inl O)), (ad 2, .inl (cI, 14, .inl T)), (ad 3, .inl (cI, 14, .inl Hd)), (ad 4, .inl (cI, 14, .inl G)), (ad 5, .inl (cI, 8, .inl Nw)), (ad 6, .inl (cI, 8, .inl Lt))] H := hP
  have hD : va_D A [(ad 0, .inr (1, [.int (nI n), .int (nI c), .ref (ad 1), .ref (ad 2), .ref (ad 3), .ref (ad 4), .ref (ad 5), .ref (ad 6)])), (ad 1, .inl (cI, 8, .inl O)), (ad 2, .inl (cI, 14, .inl T)), (ad 3, .inl (cI, 14, .inl Hd)), (ad 4, .inl (cI, 14, .inl G)), (ad 5, .inl (cI, 8, .inl Nw)), (ad 6, .inl (cI, 8, .inl Lt))] := hD
  generalize hlocs : ([] : List Loc) = locs at hS ⊢
  have hl : lv_has ls 3 [(0, .ref (ad 0))] := hl
  have hn2 := hok.1
  have hn6 := hok.2.1
  have hc14 := hok.2.2.1
  have ht31 := e_tp_le hn6
  refine lv_aload_n hx hb dX2_greatest_0 rfl (lv_at hl 0 rfl) ?_
  refine lv_iconst (v := -1) hx hb dX2_greatest_1 (by decide) ?_
  refine lv_iconst (v := 0) hx hb dX2_greatest_2 (by decide) ?_
  refine lv_iconst (v := -1) hx hb dX2_greatest_3 (by decide) ?_
  refine e_callV (q0 := 0) (ci := 1) (rest := []) (wr := []) ⟨hx, hb, hml, hown, hts⟩ (metX2_work l dC dI ad cI n c T Hd G O Nw Lt hok O (-1) 0 (-1) (fun v hv => if_neg (e_ne_m1 hv hn6)) H.size) (cwV 3 hts (lw_V q239 q241 qs12 q20 q242) rfl rfl rfl (by decide +kernel) ⟨Nat.le_of_ble_eq_true rfl, Nat.le_of_ble_eq_true rfl⟩) hK hP hD hS hA [0, 1, 2, 3, 4, 5, 6] [] rfl rfl (by decide) (by decide) (by decide) rfl rfl rfl rfl hl.1 rfl (Nat.le_of_ble_eq_true rfl) dX2_greatest_4 ⟨Nat.zero_le _, Nat.zero_le _⟩ (fun u_4 H locs hw_4 hP hD hS => ?_)
  obtain ⟨Nw2, Lt2⟩ := u_4
  have hw_4 : ∀ v, v < n → Nw2 v = e_enc n (e_lf n c T Hd G O (-1) v) := hw_4
  have hP : va_P (dC, dI) vwCl [(ad 0, .inr (1, [.int (nI n), .int (nI c), .ref (ad 1), .ref (ad 2), .ref (ad 3), .ref (ad 4), .ref (ad 5), .ref (ad 6)])), (ad 1, .inl (cI, 8, .inl O)), (ad 2, .inl (cI, 14, .inl T)), (ad 3, .inl (cI, 14, .inl Hd)), (ad 4, .inl (cI, 14, .inl G)), (ad 5, .inl (cI, 8, .inl Nw2)), (ad 6, .inl (cI, 8, .inl Lt2))] H := hP
  have hD : va_D A [(ad 0, .inr (1, [.int (nI n), .int (nI c), .ref (ad 1), .ref (ad 2), .ref (ad 3), .ref (ad 4), .ref (ad 5), .ref (ad 6)])), (ad 1, .inl (cI, 8, .inl O)), (ad 2, .inl (cI, 14, .inl T)), (ad 3, .inl (cI, 14, .inl Hd)), (ad 4, .inl (cI, 14, .inl G)), (ad 5, .inl (cI, 8, .inl Nw2)), (ad 6, .inl (cI, 8, .inl Lt2))] := hD
  refine lv_iconst (v := 0) hx hb dX2_greatest_7 (by decide) ?_
  refine lv_istore_n (lv' := [(1, .int 0), (0, .ref (ad 0))]) hx hb dX2_greatest_8 rfl hl (by decide) rfl (fun ls hl => ?_)
  refine lv_iconst (v := nI 0) hx hb dX2_greatest_9 (by decide) ?_
  refine lv_istore_n (lv' := [(2, .int (nI 0)), (1, .int 0), (0, .ref (ad 0))]) hx hb dX2_greatest_10 rfl hl (by decide) rfl (fun ls hl => ?_)
  have lp_11 : ∀ (k_11 : Nat) (v : Nat), (v ≤ n) → (n < v + k_11) → ∀ (H : Heap) (locs : List Loc), va_P (dC, dI) vwCl [(ad 0, .inr (1, [.int (nI n), .int (nI c), .ref (ad 1), .ref (ad 2), .ref (ad 3), .ref (ad 4), .ref (ad 5), .ref (ad 6)])), (ad 1, .inl (cI, 8, .inl O)), (ad 2, .inl (cI, 14, .inl T)), (ad 3, .inl (cI, 14, .inl Hd)), (ad 4, .inl (cI, 14, .inl G)), (ad 5, .inl (cI, 8, .inl Nw2)), (ad 6, .inl (cI, 8, .inl Lt2))] H → va_D A [(ad 0, .inr (1, [.int (nI n), .int (nI c), .ref (ad 1), .ref (ad 2), .ref (ad 3), .ref (ad 4), .ref (ad 5), .ref (ad 6)])), (ad 1, .inl (cI, 8, .inl O)), (ad 2, .inl (cI, 14, .inl T)), (ad 3, .inl (cI, 14, .inl Hd)), (ad 4, .inl (cI, 14, .inl G)), (ad 5, .inl (cI, 8, .inl Nw2)), (ad 6, .inl (cI, 8, .inl Lt2))] → va_S A st.heap H locs → ∀ ls : Array Slot, lv_has ls 3 [(0, .ref (ad 0)), (1, .int (e_gst n (e_lf n c T Hd G O (-1)) v)), (2, .int (nI v))] → W pg l ev rX2_greatest st mi ar bl mt cd H locs 0 0 QQ (F0 mi 11 ls []) := by
    intro k_11
    induction k_11 with
    | zero =>
      intro v hvn hk
      exfalso; omega
    | succ k_11 ih_11 =>
      intro v hvn hk H locs hP hD hS ls hl
      have hLv := e_lf_le (n := n) (c := c) (T := T) (Hd := Hd) (G := G) (P := O) (sk := -1) (v := v)
      refine lv_iload_n hx hb dX2_greatest_11 rfl (lv_at hl 2 rfl) ?_
      refine lv_aload_n hx hb dX2_greatest_12 rfl (lv_at hl 0 rfl) ?_
      refine va_get (D := (dC, dI)) (ci := 1) (v := .int (nI n)) (C := RX2) (T := TX2) (N := 8) hx hb hts in_X2 hown hK hP 0 rfl rfl 0 (by decide) (hts _ q174) (fun _ h9 => h9) rfl dX2_greatest_13 ?_
      refine e_ge (tgt := 53) hx hb (by omega) (by omega) dX2_greatest_16 (by decide) (fun c_16 => ?_) (fun c_16 => ?_)
      · have heq : n = v := by omega
        subst heq
        refine lv_iload_n hx hb dX2_greatest_53 rfl (lv_at hl 1 rfl) ?_
        exact hret (Nw2, Lt2) dX2_greatest_54 rfl hP hD hS
      · refine lv_aload_n hx hb dX2_greatest_19 rfl (lv_at hl 0 rfl) ?_
        refine va_get (D := (dC, dI)) (ci := 1) (v := .ref (ad 5)) (C := RX2) (T := TX2) (N := 8) hx hb hts in_X2 hown hK hP 0 rfl rfl 6 (by decide) (hts _ q180) (fun _ h9 => h9) rfl dX2_greatest_20 ?_
        refine lv_iload_n hx hb dX2_greatest_23 rfl (lv_at hl 2 rfl) ?_
        refine e_ild (v := e_enc n (e_lf n c T Hd G O (-1) v)) hx hb hK hP 5 0 rfl rfl v rfl (by omega) (by decide) (hw_4 v (by omega)) dX2_greatest_24 ?_
        refine lv_bipush (v := 99) hx hb dX2_greatest_25 (by decide) ?_
        refine lv_icmp_eq (tgt := 47) hx hb dX2_greatest_27 (by decide) (fun c_27 => ?_) (fun c_27 => ?_)
        · have d_27 : e_lf n c T Hd G O (-1) v = e_tp n := (e_enc_99 hn6 hLv).mp c_27
          refine lv_iinc (v := nI (v + 1)) (lv' := [(2, .int (nI (v + 1))), (0, .ref (ad 0)), (1, .int (e_gst n (e_lf n c T Hd G O (-1)) v))]) hx hb dX2_greatest_47 hl (k := 2) rfl (e_inc _) (by decide) rfl (fun ls hl => ?_)
          refine lv_goto (tgt := 11) hx hb dX2_greatest_50 (by decide) ?_
          rw [← e_gst_n (L := (e_lf n c T Hd G O (-1))) (fun z => absurd z.1 (by omega))] at hl
          exact ih_11 (v + 1) (by omega) (by omega) _ _ hP hD hS ls (lv_sub hl [1, 2, 0] rfl)
        · have d_27 : ¬ e_lf n c T Hd G O (-1) v = e_tp n := fun z => c_27 ((e_enc_99 hn6 hLv).mpr z)
          refine lv_aload_n hx hb dX2_greatest_30 rfl (lv_at hl 0 rfl) ?_
          refine va_get (D := (dC, dI)) (ci := 1) (v := .ref (ad 5)) (C := RX2) (T := TX2) (N := 8) hx hb hts in_X2 hown hK hP 0 rfl rfl 6 (by decide) (hts _ q180) (fun _ h9 => h9) rfl dX2_greatest_31 ?_
          refine lv_iload_n hx hb dX2_greatest_34 rfl (lv_at hl 2 rfl) ?_
          refine e_ild (v := nI (e_lf n c T Hd G O (-1) v)) hx hb hK hP 5 0 rfl rfl v rfl (by omega) (by decide) ((hw_4 v (by omega)).trans (e_enc_lo d_27)) dX2_greatest_35 ?_
          refine lv_iload_n hx hb dX2_greatest_36 rfl (lv_at hl 1 rfl) ?_
          refine lv_icmp_le (tgt := 47) hx hb dX2_greatest_37 (by decide) (fun c_37 => ?_) (fun c_37 => ?_)
          · refine lv_iinc (v := nI (v + 1)) (lv' := [(2, .int (nI (v + 1))), (0, .ref (ad 0)), (1, .int (e_gst n (e_lf n c T Hd G O (-1)) v))]) hx hb dX2_greatest_47 hl (k := 2) rfl (e_inc _) (by decide) rfl (fun ls hl => ?_)
            refine lv_goto (tgt := 11) hx hb dX2_greatest_50 (by decide) ?_
            rw [← e_gst_n (L := (e_lf n c T Hd G O (-1))) (fun z => absurd z.2 (Int32.not_lt.mpr c_37))] at hl
            exact ih_11 (v + 1) (by omega) (by omega) _ _ hP hD hS ls (lv_sub hl [1, 2, 0] rfl)
          · refine lv_aload_n hx hb dX2_greatest_40 rfl (lv_at hl 0 rfl) ?_
            refine va_get (D := (dC, dI)) (ci := 1) (v := .ref (ad 5)) (C := RX2) (T := TX2) (N := 8) hx hb hts in_X2 hown hK hP 0 rfl rfl 6 (by decide) (hts _ q180) (fun _ h9 => h9) rfl dX2_greatest_41 ?_
            refine lv_iload_n hx hb dX2_greatest_44 rfl (lv_at hl 2 rfl) ?_
            refine e_ild (v := nI (e_lf n c T Hd G O (-1) v)) hx hb hK hP 5 0 rfl rfl v rfl (by omega) (by decide) ((hw_4 v (by omega)).trans (e_enc_lo d_27)) dX2_greatest_45 ?_
            refine lv_istore_n (lv' := [(1, .int (nI (e_lf n c T Hd G O (-1) v))), (0, .ref (ad 0)), (2, .int (nI v))]) hx hb dX2_greatest_46 rfl hl (by decide) rfl (fun ls hl => ?_)
            refine lv_iinc (v := nI (v + 1)) (lv' := [(2, .int (nI (v + 1))), (1, .int (nI (e_lf n c T Hd G O (-1) v))), (0, .ref (ad 0))]) hx hb dX2_greatest_47 hl (k := 2) rfl (e_inc _) (by decide) rfl (fun ls hl => ?_)
            refine lv_goto (tgt := 11) hx hb dX2_greatest_50 (by decide) ?_
            rw [← e_gst_y (L := (e_lf n c T Hd G O (-1))) ⟨by omega, Int32.not_le.mp c_37⟩] at hl
            exact ih_11 (v + 1) (by omega) (by omega) _ _ hP hD hS ls (lv_sub hl [2, 1, 0] rfl)
  exact lp_11 (n + 1) 0 (by omega) (by omega) _ _ hP hD hS ls (lv_sub hl [2, 1, 0] rfl)
abbrev rX2_choice : Room := { frames := 3, cells := 0, slots := 0, locals := 76 }
set_option maxHeartbeats 4000000 in
set_option maxRecDepth 100000 in
theorem metX2_choice (l : Launch) (dC : Nat → ClassId) (dI : Nat → Nat → Nat) (ad : Nat → Nat) (cI : ClassId) (n c : Nat) (T Hd G O Nw Lt : eFn) (hok : e_ok n c T Hd G) (p0 : Int32) (sz : Nat) : Met l yX2_choice (ws_ yX2_choice cX2_choice 2 (some .int)) rX2_choice (va_Pc [.ref (ad 0), .int p0] (e_PW (dC, dI) vwCl [(cI, .int)] (wM ad cI n c T Hd G O Nw Lt) sz)) (va_Qi (fun r (u : eFn × eFn) => r = s_choice n c T Hd G O p0) (e_B (dC, dI) vwCl [(cI, .int)] (fun u => wM ad cI n c T Hd G O u.1 u.2) (va_A (wM ad cI n c T Hd G O Nw Lt) sz)) (va_A (wM ad cI n c T Hd G O Nw Lt) sz)) 0 0 (va_A (wM ad cI n c T Hd G O Nw Lt) sz) := by
  refine e_startWi (by decide) (Nat.le_of_ble_eq_true rfl) ?_
  intro pg ev st mi ar bl mt cd H A QQ hx hb hml hown hts hA hK hP hD hS hret ls hl
  have hown : st.vm.findClass RX2 = some mi.cls := hown
  have hP : va_P (dC, dI) vwCl [(ad 0, .inr (1, [.int (nI n), .int (nI c), .ref (ad 1), .ref (ad 2), .ref (ad 3), .ref (ad 4), .ref (ad 5), .ref (ad 6)])), (ad 1, .inl (cI, 8, .inl O)), (ad 2, .inl (cI, 14, .inl T)), (ad 3, .inl (cI, 14, .inl Hd)), (ad 4, .inl (cI, 14, .inl G)), (ad 5, .inl (cI, 8, .inl Nw)), (ad 6, .inl (cI, 8, .inl Lt))] H := hP
  have hD : va_D A [(ad 0, .inr (1, [.int (nI n), .int (nI c), .ref (ad 1), .ref (ad 2), .ref (ad 3), .ref (ad 4), .ref (ad 5), .ref (ad 6)])), (ad 1, .inl (cI, 8, .inl O)), (ad 2, .inl (cI, 14, .inl T)), (ad 3, .inl (cI, 14, .inl Hd)), (ad 4, .inl (cI, 14, .inl G)), (ad 5, .inl (cI, 8, .inl Nw)), (ad 6, .inl (cI, 8, .inl Lt))] := hD
  generalize hlocs : ([] : List Loc) = locs at hS ⊢
  have hl : lv_has ls 2 [(0, .ref (ad 0)), (1, .int p0)] := hl
  have hn2 := hok.1
  have hn6 := hok.2.1
  have hc14 := hok.2.2.1
  refine lv_aload_n hx hb dX2_choice_0 rfl (lv_at hl 0 rfl) ?_
  refine lv_iload_n hx hb dX2_choice_1 rfl (lv_at hl 1 rfl) ?_
  refine e_callR (q0 := 0) (ci := 1) (rest := []) ⟨hx, hb, hml, hown, hts⟩ (metX2_bad l dC dI ad cI n c T Hd G O Nw Lt hok p0) (cwV 1 hts (lw_V q207 q209 qs9 q20 q210) rfl rfl rfl (by decide +kernel) ⟨Nat.le_of_ble_eq_true rfl, Nat.le_of_ble_eq_true rfl⟩) hK hP rfl rfl rfl rfl hl.1 rfl (Nat.le_of_ble_eq_true rfl) dX2_choice_2 ⟨Nat.zero_le _, Nat.zero_le _⟩ (fun r_2 hr_2 => ?_)
  rcases hr_2 with ⟨rfl, hv_2⟩ | ⟨rfl, hv_2⟩
  · refine lv_if_eq (tgt := 10) hx hb dX2_choice_5 (by decide) (fun c_5 => absurd c_5 (by decide)) (fun c_5 => ?_)
    refine lv_iconst (v := -1) hx hb dX2_choice_8 (by decide) ?_
    exact hret (Nw, Lt) dX2_choice_9 (by unfold s_choice; rw [if_pos hv_2]) hP hD hS
  · obtain ⟨j, hj, rfl⟩ := e_v_of hv_2 (by omega)
    refine lv_if_eq (tgt := 10) hx hb dX2_choice_5 (by decide) (fun c_5 => ?_) (fun c_5 => absurd c_5 (by decide))
    refine lv_aload_n hx hb dX2_choice_10 rfl (lv_at hl 0 rfl) ?_
    refine lv_iconst (v := -1) hx hb dX2_choice_11 (by decide) ?_
    refine lv_iconst (v := 0) hx hb dX2_choice_12 (by decide) ?_
    refine lv_iconst (v := -1) hx hb dX2_choice_13 (by decide) ?_
    refine e_callV (q0 := 0) (ci := 1) (rest := []) (wr := []) ⟨hx, hb, hml, hown, hts⟩ (metX2_work l dC dI ad cI n c T Hd G O Nw Lt hok O (-1) 0 (-1) (fun v hv => if_neg (e_ne_m1 hv hn6)) H.size) (cwV 3 hts (lw_V q239 q241 qs12 q20 q242) rfl rfl rfl (by decide +kernel) ⟨Nat.le_of_ble_eq_true rfl, Nat.le_of_ble_eq_true rfl⟩) hK hP hD hS hA [0, 1, 2, 3, 4, 5, 6] [] rfl rfl (by decide) (by decide) (by decide) rfl rfl rfl rfl hl.1 rfl (Nat.le_of_ble_eq_true rfl) dX2_choice_14 ⟨Nat.zero_le _, Nat.zero_le _⟩ (fun u_14 H locs hw_14 hP hD hS => ?_)
    obtain ⟨Nw2, Lt2⟩ := u_14
    have hw_14 : ∀ v, v < n → Nw2 v = e_enc n (e_lf n c T Hd G O (-1) v) := hw_14
    have hP : va_P (dC, dI) vwCl [(ad 0, .inr (1, [.int (nI n), .int (nI c), .ref (ad 1), .ref (ad 2), .ref (ad 3), .ref (ad 4), .ref (ad 5), .ref (ad 6)])), (ad 1, .inl (cI, 8, .inl O)), (ad 2, .inl (cI, 14, .inl T)), (ad 3, .inl (cI, 14, .inl Hd)), (ad 4, .inl (cI, 14, .inl G)), (ad 5, .inl (cI, 8, .inl Nw2)), (ad 6, .inl (cI, 8, .inl Lt2))] H := hP
    have hD : va_D A [(ad 0, .inr (1, [.int (nI n), .int (nI c), .ref (ad 1), .ref (ad 2), .ref (ad 3), .ref (ad 4), .ref (ad 5), .ref (ad 6)])), (ad 1, .inl (cI, 8, .inl O)), (ad 2, .inl (cI, 14, .inl T)), (ad 3, .inl (cI, 14, .inl Hd)), (ad 4, .inl (cI, 14, .inl G)), (ad 5, .inl (cI, 8, .inl Nw2)), (ad 6, .inl (cI, 8, .inl Lt2))] := hD
    refine lv_aload_n hx hb dX2_choice_17 rfl (lv_at hl 0 rfl) ?_
    refine lv_iload_n hx hb dX2_choice_18 rfl (lv_at hl 1 rfl) ?_
    refine e_callR (q0 := 0) (ci := 1) (rest := []) ⟨hx, hb, hml, hown, hts⟩ (metX2_chosen l dC dI ad cI n c T Hd G O Nw2 Lt2 hok (e_lf n c T Hd G O (-1)) hw_14 (fun _ _ => e_lf_le) (nI j)) (cwV 1 hts (lw_V q267 q269 qs16 q20 q270) rfl rfl rfl (by decide +kernel) ⟨Nat.le_of_ble_eq_true rfl, Nat.le_of_ble_eq_true rfl⟩) hK hP rfl rfl rfl rfl hl.1 rfl (Nat.le_of_ble_eq_true rfl) dX2_choice_19 ⟨Nat.zero_le _, Nat.zero_le _⟩ (fun r_19 hr_19 => ?_)
    subst hr_19
    exact hret (Nw2, Lt2) dX2_choice_22 (by unfold s_choice s_chn; rw [if_neg (fun z => z hv_2)]) hP hD hS
abbrev rX2_choices : Room := { frames := 3, cells := 0, slots := 0, locals := 76 }
set_option maxHeartbeats 4000000 in
set_option maxRecDepth 100000 in
theorem metX2_choices (l : Launch) (dC : Nat → ClassId) (dI : Nat → Nat → Nat) (ad : Nat → Nat) (cI : ClassId) (n c : Nat) (T Hd G O Nw Lt : eFn) (hok : e_ok n c T Hd G) (p0 : Int32) (sz : Nat) : Met l yX2_choices (ws_ yX2_choices cX2_choices 4 (some .int)) rX2_choices (va_Pc [.ref (ad 0), .int p0] (e_PW (dC, dI) vwCl [(cI, .int)] (wM ad cI n c T Hd G O Nw Lt) sz)) (va_Qi (fun r (u : eFn × eFn) => r = s_choices n c T Hd G O p0) (e_B (dC, dI) vwCl [(cI, .int)] (fun u => wM ad cI n c T Hd G O u.1 u.2) (va_A (wM ad cI n c T Hd G O Nw Lt) sz)) (va_A (wM ad cI n c T Hd G O Nw Lt) sz)) 0 0 (va_A (wM ad cI n c T Hd G O Nw Lt) sz) := by
  refine e_startWi (by decide) (Nat.le_of_ble_eq_true rfl) ?_
  intro pg ev st mi ar bl mt cd H A QQ hx hb hml hown hts hA hK hP hD hS hret ls hl
  have hown : st.vm.findClass RX2 = some mi.cls := hown
  have hP : va_P (dC, dI) vwCl [(ad 0, .inr (1, [.int (nI n), .int (nI c), .ref (ad 1), .ref (ad 2), .ref (ad 3), .ref (ad 4), .ref (ad 5), .ref (ad 6)])), (ad 1, .inl (cI, 8, .inl O)), (ad 2, .inl (cI, 14, .inl T)), (ad 3, .inl (cI, 14, .inl Hd)), (ad 4, .inl (cI, 14, .inl G)), (ad 5, .inl (cI, 8, .inl Nw)), (ad 6, .inl (cI, 8, .inl Lt))] H := hP
  have hD : va_D A [(ad 0, .inr (1, [.int (nI n), .int (nI c), .ref (ad 1), .ref (ad 2), .ref (ad 3), .ref (ad 4), .ref (ad 5), .ref (ad 6)])), (ad 1, .inl (cI, 8, .inl O)), (ad 2, .inl (cI, 14, .inl T)), (ad 3, .inl (cI, 14, .inl Hd)), (ad 4, .inl (cI, 14, .inl G)), (ad 5, .inl (cI, 8, .inl Nw)), (ad 6, .inl (cI, 8, .inl Lt))] := hD
  generalize hlocs : ([] : List Loc) = locs at hS ⊢
  have hl : lv_has ls 4 [(0, .ref (ad 0)), (1, .int p0)] := hl
  have hn2 := hok.1
  have hn6 := hok.2.1
  have hc14 := hok.2.2.1
  refine lv_aload_n hx hb dX2_choices_0 rfl (lv_at hl 0 rfl) ?_
  refine lv_iload_n hx hb dX2_choices_1 rfl (lv_at hl 1 rfl) ?_
  refine e_callR (q0 := 0) (ci := 1) (rest := []) ⟨hx, hb, hml, hown, hts⟩ (metX2_bad l dC dI ad cI n c T Hd G O Nw Lt hok p0) (cwV 1 hts (lw_V q207 q209 qs9 q20 q210) rfl rfl rfl (by decide +kernel) ⟨Nat.le_of_ble_eq_true rfl, Nat.le_of_ble_eq_true rfl⟩) hK hP rfl rfl rfl rfl hl.1 rfl (Nat.le_of_ble_eq_true rfl) dX2_choices_2 ⟨Nat.zero_le _, Nat.zero_le _⟩ (fun r_2 hr_2 => ?_)
  rcases hr_2 with ⟨rfl, hv_2⟩ | ⟨rfl, hv_2⟩
  · refine lv_if_eq (tgt := 10) hx hb dX2_choices_5 (by decide) (fun c_5 => absurd c_5 (by decide)) (fun c_5 => ?_)
    refine lv_iconst (v := -1) hx hb dX2_choices_8 (by decide) ?_
    exact hret (Nw, Lt) dX2_choices_9 (by unfold s_choices; rw [if_pos hv_2]) hP hD hS
  · obtain ⟨j, hj, rfl⟩ := e_v_of hv_2 (by omega)
    refine lv_if_eq (tgt := 10) hx hb dX2_choices_5 (by decide) (fun c_5 => ?_) (fun c_5 => absurd c_5 (by decide))
    refine lv_aload_n hx hb dX2_choices_10 rfl (lv_at hl 0 rfl) ?_
    refine lv_iconst (v := -1) hx hb dX2_choices_11 (by decide) ?_
    refine lv_iconst (v := 0) hx hb dX2_choices_12 (by decide) ?_
    refine lv_iconst (v := -1) hx hb dX2_choices_13 (by decide) ?_
    refine e_callV (q0 := 0) (ci := 1) (rest := []) (wr := []) ⟨hx, hb, hml, hown, hts⟩ (metX2_work l dC dI ad cI n c T Hd G O Nw Lt hok O (-1) 0 (-1) (fun v hv => if_neg (e_ne_m1 hv hn6)) H.size) (cwV 3 hts (lw_V q239 q241 qs12 q20 q242) rfl rfl rfl (by decide +kernel) ⟨Nat.le_of_ble_eq_true rfl, Nat.le_of_ble_eq_true rfl⟩) hK hP hD hS hA [0, 1, 2, 3, 4, 5, 6] [] rfl rfl (by decide) (by decide) (by decide) rfl rfl rfl rfl hl.1 rfl (Nat.le_of_ble_eq_true rfl) dX2_choices_14 ⟨Nat.zero_le _, Nat.zero_le _⟩ (fun u_14 H locs hw_14 hP hD hS => ?_)
    obtain ⟨Nw2, Lt2⟩ := u_14
    have hw_14 : ∀ v, v < n → Nw2 v = e_enc n (e_lf n c T Hd G O (-1) v) := hw_14
    have hP : va_P (dC, dI) vwCl [(ad 0, .inr (1, [.int (nI n), .int (nI c), .ref (ad 1), .ref (ad 2), .ref (ad 3), .ref (ad 4), .ref (ad 5), .ref (ad 6)])), (ad 1, .inl (cI, 8, .inl O)), (ad 2, .inl (cI, 14, .inl T)), (ad 3, .inl (cI, 14, .inl Hd)), (ad 4, .inl (cI, 14, .inl G)), (ad 5, .inl (cI, 8, .inl Nw2)), (ad 6, .inl (cI, 8, .inl Lt2))] H := hP
    have hD : va_D A [(ad 0, .inr (1, [.int (nI n), .int (nI c), .ref (ad 1), .ref (ad 2), .ref (ad 3), .ref (ad 4), .ref (ad 5), .ref (ad 6)])), (ad 1, .inl (cI, 8, .inl O)), (ad 2, .inl (cI, 14, .inl T)), (ad 3, .inl (cI, 14, .inl Hd)), (ad 4, .inl (cI, 14, .inl G)), (ad 5, .inl (cI, 8, .inl Nw2)), (ad 6, .inl (cI, 8, .inl Lt2))] := hD
    refine lv_iconst (v := 0) hx hb dX2_choices_17 (by decide) ?_
    refine lv_istore_n (lv' := [(2, .int 0), (0, .ref (ad 0)), (1, .int (nI j))]) hx hb dX2_choices_18 rfl hl (by decide) rfl (fun ls hl => ?_)
    refine lv_iconst (v := nI 0) hx hb dX2_choices_19 (by decide) ?_
    refine lv_istore_n (lv' := [(3, .int (nI 0)), (2, .int 0), (0, .ref (ad 0)), (1, .int (nI j))]) hx hb dX2_choices_20 rfl hl (by decide) rfl (fun ls hl => ?_)
    have lp_21 : ∀ (k_21 : Nat) (e : Nat), (e ≤ c) → (c < e + k_21) → ∀ (H : Heap) (locs : List Loc), va_P (dC, dI) vwCl [(ad 0, .inr (1, [.int (nI n), .int (nI c), .ref (ad 1), .ref (ad 2), .ref (ad 3), .ref (ad 4), .ref (ad 5), .ref (ad 6)])), (ad 1, .inl (cI, 8, .inl O)), (ad 2, .inl (cI, 14, .inl T)), (ad 3, .inl (cI, 14, .inl Hd)), (ad 4, .inl (cI, 14, .inl G)), (ad 5, .inl (cI, 8, .inl Nw2)), (ad 6, .inl (cI, 8, .inl Lt2))] H → va_D A [(ad 0, .inr (1, [.int (nI n), .int (nI c), .ref (ad 1), .ref (ad 2), .ref (ad 3), .ref (ad 4), .ref (ad 5), .ref (ad 6)])), (ad 1, .inl (cI, 8, .inl O)), (ad 2, .inl (cI, 14, .inl T)), (ad 3, .inl (cI, 14, .inl Hd)), (ad 4, .inl (cI, 14, .inl G)), (ad 5, .inl (cI, 8, .inl Nw2)), (ad 6, .inl (cI, 8, .inl Lt2))] → va_S A st.heap H locs → ∀ ls : Array Slot, lv_has ls 4 [(0, .ref (ad 0)), (1, .int (nI j)), (2, .int (e_chs T (e_gd n T Hd G O (e_lf n c T Hd G O (-1))) (nI j) e)), (3, .int (nI e))] → W pg l ev rX2_choices st mi ar bl mt cd H locs 0 0 QQ (F0 mi 21 ls []) := by
      intro k_21
      induction k_21 with
      | zero =>
        intro e he hk
        exfalso; omega
      | succ k_21 ih_21 =>
        intro e he hk H locs hP hD hS ls hl
        refine lv_iload_n hx hb dX2_choices_21 rfl (lv_at hl 3 rfl) ?_
        refine lv_aload_n hx hb dX2_choices_22 rfl (lv_at hl 0 rfl) ?_
        refine va_get (D := (dC, dI)) (ci := 1) (v := .int (nI c)) (C := RX2) (T := TX2) (N := 8) hx hb hts in_X2 hown hK hP 0 rfl rfl 1 (by decide) (hts _ q175) (fun _ h9 => h9) rfl dX2_choices_23 ?_
        refine e_ge (tgt := 62) hx hb (by omega) (by omega) dX2_choices_26 (by decide) (fun c_26 => ?_) (fun c_26 => ?_)
        · have heq : c = e := by omega
          subst heq
          refine lv_iload_n hx hb dX2_choices_62 rfl (lv_at hl 2 rfl) ?_
          exact hret (Nw2, Lt2) dX2_choices_63 (by unfold s_choices; rw [if_neg (fun z => z hv_2)]) hP hD hS
        · refine lv_iload_n hx hb dX2_choices_29 rfl (lv_at hl 3 rfl) ?_
          refine lv_bipush (v := nI 14) hx hb dX2_choices_30 (by decide) ?_
          refine e_ge (tgt := 62) hx hb (by omega) (by omega) dX2_choices_32 (by decide) (fun c_32 => absurd c_32 (by omega)) (fun c_32 => ?_)
          refine lv_aload_n hx hb dX2_choices_35 rfl (lv_at hl 0 rfl) ?_
          refine va_get (D := (dC, dI)) (ci := 1) (v := .ref (ad 2)) (C := RX2) (T := TX2) (N := 8) hx hb hts in_X2 hown hK hP 0 rfl rfl 3 (by decide) (hts _ q177) (fun _ h9 => h9) rfl dX2_choices_36 ?_
          refine lv_iload_n hx hb dX2_choices_39 rfl (lv_at hl 3 rfl) ?_
          refine e_ild (v := T e) hx hb hK hP 2 0 rfl rfl e rfl (by omega) (by decide) rfl dX2_choices_40 ?_
          refine lv_iload_n hx hb dX2_choices_41 rfl (lv_at hl 1 rfl) ?_
          refine lv_icmp_ne (tgt := 56) hx hb dX2_choices_42 (by decide) (fun c_42 => ?_) (fun c_42 => ?_)
          · refine lv_iinc (v := nI (e + 1)) (lv' := [(3, .int (nI (e + 1))), (0, .ref (ad 0)), (1, .int (nI j)), (2, .int (e_chs T (e_gd n T Hd G O (e_lf n c T Hd G O (-1))) (nI j) e))]) hx hb dX2_choices_56 hl (k := 3) rfl (e_inc _) (by decide) rfl (fun ls hl => ?_)
            refine lv_goto (tgt := 21) hx hb dX2_choices_59 (by decide) ?_
            rw [← e_chs_n2 (gd := (e_gd n T Hd G O (e_lf n c T Hd G O (-1)))) (fun z => c_42 z.1)] at hl
            exact ih_21 (e + 1) (by omega) (by omega) _ _ hP hD hS ls (lv_sub hl [1, 2, 3, 0] rfl)
          · refine lv_aload_n hx hb dX2_choices_45 rfl (lv_at hl 0 rfl) ?_
            refine lv_iload_n hx hb dX2_choices_46 rfl (lv_at hl 3 rfl) ?_
            refine e_callR (q0 := 0) (ci := 1) (rest := []) ⟨hx, hb, hml, hown, hts⟩ (metX2_good l dC dI ad cI n c T Hd G O Nw2 Lt2 hok (e_lf n c T Hd G O (-1)) hw_14 (fun _ _ => e_lf_le) e (by omega)) (cwV 1 hts (lw_V q271 q273 qs17 q20 q274) rfl rfl rfl (by decide +kernel) ⟨Nat.le_of_ble_eq_true rfl, Nat.le_of_ble_eq_true rfl⟩) hK hP rfl rfl rfl rfl hl.1 rfl (Nat.le_of_ble_eq_true rfl) dX2_choices_47 ⟨Nat.zero_le _, Nat.zero_le _⟩ (fun r_47 hr_47 => ?_)
            rcases hr_47 with ⟨rfl, hv_47⟩ | ⟨rfl, hv_47⟩
            · refine lv_if_eq (tgt := 56) hx hb dX2_choices_50 (by decide) (fun c_50 => absurd c_50 (by decide)) (fun c_50 => ?_)
              refine lv_iinc (v := (e_chs T (e_gd n T Hd G O (e_lf n c T Hd G O (-1))) (nI j) e) + 1) (lv' := [(2, .int ((e_chs T (e_gd n T Hd G O (e_lf n c T Hd G O (-1))) (nI j) e) + 1)), (0, .ref (ad 0)), (1, .int (nI j)), (3, .int (nI e))]) hx hb dX2_choices_53 hl (k := 2) rfl rfl (by decide) rfl (fun ls hl => ?_)
              refine lv_iinc (v := nI (e + 1)) (lv' := [(3, .int (nI (e + 1))), (2, .int ((e_chs T (e_gd n T Hd G O (e_lf n c T Hd G O (-1))) (nI j) e) + 1)), (0, .ref (ad 0)), (1, .int (nI j))]) hx hb dX2_choices_56 hl (k := 3) rfl (e_inc _) (by decide) rfl (fun ls hl => ?_)
              refine lv_goto (tgt := 21) hx hb dX2_choices_59 (by decide) ?_
              rw [e_chs_y (gd := (e_gd n T Hd G O (e_lf n c T Hd G O (-1)))) ⟨c_42, hv_47⟩] at hl
              exact ih_21 (e + 1) (by omega) (by omega) _ _ hP hD hS ls (lv_sub hl [2, 3, 1, 0] rfl)
            · refine lv_if_eq (tgt := 56) hx hb dX2_choices_50 (by decide) (fun c_50 => ?_) (fun c_50 => absurd c_50 (by decide))
              refine lv_iinc (v := nI (e + 1)) (lv' := [(3, .int (nI (e + 1))), (0, .ref (ad 0)), (1, .int (nI j)), (2, .int (e_chs T (e_gd n T Hd G O (e_lf n c T Hd G O (-1))) (nI j) e))]) hx hb dX2_choices_56 hl (k := 3) rfl (e_inc _) (by decide) rfl (fun ls hl => ?_)
              refine lv_goto (tgt := 21) hx hb dX2_choices_59 (by decide) ?_
              rw [← e_chs_n2 (gd := (e_gd n T Hd G O (e_lf n c T Hd G O (-1)))) (v := nI j) (e := e) (fun z => hv_47 z.2)] at hl
              exact ih_21 (e + 1) (by omega) (by omega) _ _ hP hD hS ls (lv_sub hl [1, 2, 3, 0] rfl)
    exact lp_21 (c + 1) 0 (by omega) (by omega) _ _ hP hD hS ls (lv_sub hl [2, 3, 1, 0] rfl)
abbrev rX2_needWithout : Room := { frames := 3, cells := 0, slots := 0, locals := 76 }
set_option maxHeartbeats 4000000 in
set_option maxRecDepth 100000 in
theorem metX2_needWithout (l : Launch) (dC : Nat → ClassId) (dI : Nat → Nat → Nat) (ad : Nat → Nat) (cI : ClassId) (n c : Nat) (T Hd G O Nw Lt : eFn) (hok : e_ok n c T Hd G) (p0 p1 : Int32) (sz : Nat) : Met l yX2_needWithout (ws_ yX2_needWithout cX2_needWithout 3 (some .int)) rX2_needWithout (va_Pc [.ref (ad 0), .int p0, .int p1] (e_PW (dC, dI) vwCl [(cI, .int)] (wM ad cI n c T Hd G O Nw Lt) sz)) (va_Qi (fun r (u : eFn × eFn) => r = s_without n c T Hd G O p0 p1) (e_B (dC, dI) vwCl [(cI, .int)] (fun u => wM ad cI n c T Hd G O u.1 u.2) (va_A (wM ad cI n c T Hd G O Nw Lt) sz)) (va_A (wM ad cI n c T Hd G O Nw Lt) sz)) 0 0 (va_A (wM ad cI n c T Hd G O Nw Lt) sz) := by
  refine e_startWi (by decide) (Nat.le_of_ble_eq_true rfl) ?_
  intro pg ev st mi ar bl mt cd H A QQ hx hb hml hown hts hA hK hP hD hS hret ls hl
  have hown : st.vm.findClass RX2 = some mi.cls := hown
  have hP : va_P (dC, dI) vwCl [(ad 0, .inr (1, [.int (nI n), .int (nI c), .ref (ad 1), .ref (ad 2), .ref (ad 3), .ref (ad 4), .ref (ad 5), .ref (ad 6)])), (ad 1, .inl (cI, 8, .inl O)), (ad 2, .inl (cI, 14, .inl T)), (ad 3, .inl (cI, 14, .inl Hd)), (ad 4, .inl (cI, 14, .inl G)), (ad 5, .inl (cI, 8, .inl Nw)), (ad 6, .inl (cI, 8, .inl Lt))] H := hP
  have hD : va_D A [(ad 0, .inr (1, [.int (nI n), .int (nI c), .ref (ad 1), .ref (ad 2), .ref (ad 3), .ref (ad 4), .ref (ad 5), .ref (ad 6)])), (ad 1, .inl (cI, 8, .inl O)), (ad 2, .inl (cI, 14, .inl T)), (ad 3, .inl (cI, 14, .inl Hd)), (ad 4, .inl (cI, 14, .inl G)), (ad 5, .inl (cI, 8, .inl Nw)), (ad 6, .inl (cI, 8, .inl Lt))] := hD
  generalize hlocs : ([] : List Loc) = locs at hS ⊢
  have hl : lv_has ls 3 [(0, .ref (ad 0)), (1, .int p0), (2, .int p1)] := hl
  have hn2 := hok.1
  have hn6 := hok.2.1
  have hc14 := hok.2.2.1
  refine lv_aload_n hx hb dX2_needWithout_0 rfl (lv_at hl 0 rfl) ?_
  refine lv_iload_n hx hb dX2_needWithout_1 rfl (lv_at hl 1 rfl) ?_
  refine e_callR (q0 := 0) (ci := 1) (rest := []) ⟨hx, hb, hml, hown, hts⟩ (metX2_bad l dC dI ad cI n c T Hd G O Nw Lt hok p0) (cwV 1 hts (lw_V q207 q209 qs9 q20 q210) rfl rfl rfl (by decide +kernel) ⟨Nat.le_of_ble_eq_true rfl, Nat.le_of_ble_eq_true rfl⟩) hK hP rfl rfl rfl rfl hl.1 rfl (Nat.le_of_ble_eq_true rfl) dX2_needWithout_2 ⟨Nat.zero_le _, Nat.zero_le _⟩ (fun r_2 hr_2 => ?_)
  rcases hr_2 with ⟨rfl, hv_2⟩ | ⟨rfl, hv_2⟩
  · refine lv_if_eq (tgt := 10) hx hb dX2_needWithout_5 (by decide) (fun c_5 => absurd c_5 (by decide)) (fun c_5 => ?_)
    refine lv_iconst (v := -1) hx hb dX2_needWithout_8 (by decide) ?_
    exact hret (Nw, Lt) dX2_needWithout_9 (by unfold s_without; rw [if_pos hv_2]) hP hD hS
  · obtain ⟨j, hj, rfl⟩ := e_v_of hv_2 (by omega)
    refine lv_if_eq (tgt := 10) hx hb dX2_needWithout_5 (by decide) (fun c_5 => ?_) (fun c_5 => absurd c_5 (by decide))
    refine lv_aload_n hx hb dX2_needWithout_10 rfl (lv_at hl 0 rfl) ?_
    refine lv_iload_n hx hb dX2_needWithout_11 rfl (lv_at hl 2 rfl) ?_
    refine e_callR (q0 := 0) (ci := 1) (rest := []) ⟨hx, hb, hml, hown, hts⟩ (metX2_badEdge l dC dI ad cI n c T Hd G O Nw Lt hok p1) (cwV 1 hts (lw_V q223 q225 qs11 q20 q226) rfl rfl rfl (by decide +kernel) ⟨Nat.le_of_ble_eq_true rfl, Nat.le_of_ble_eq_true rfl⟩) hK hP rfl rfl rfl rfl hl.1 rfl (Nat.le_of_ble_eq_true rfl) dX2_needWithout_12 ⟨Nat.zero_le _, Nat.zero_le _⟩ (fun r_12 hr_12 => ?_)
    rcases hr_12 with ⟨rfl, hv_12⟩ | ⟨rfl, hv_12⟩
    · refine lv_if_eq (tgt := 21) hx hb dX2_needWithout_15 (by decide) (fun c_15 => absurd c_15 (by decide)) (fun c_15 => ?_)
      refine lv_bipush (v := -3) hx hb dX2_needWithout_18 (by decide) ?_
      exact hret (Nw, Lt) dX2_needWithout_20 (by unfold s_without; rw [if_neg (fun z => z hv_2), if_pos hv_12]) hP hD hS
    · refine lv_if_eq (tgt := 21) hx hb dX2_needWithout_15 (by decide) (fun c_15 => ?_) (fun c_15 => absurd c_15 (by decide))
      refine lv_aload_n hx hb dX2_needWithout_21 rfl (lv_at hl 0 rfl) ?_
      refine lv_iconst (v := -1) hx hb dX2_needWithout_22 (by decide) ?_
      refine lv_iconst (v := 0) hx hb dX2_needWithout_23 (by decide) ?_
      refine lv_iload_n hx hb dX2_needWithout_24 rfl (lv_at hl 2 rfl) ?_
      refine e_callV (q0 := 0) (ci := 1) (rest := []) (wr := []) ⟨hx, hb, hml, hown, hts⟩ (metX2_work l dC dI ad cI n c T Hd G O Nw Lt hok O (-1) 0 p1 (fun v hv => if_neg (e_ne_m1 hv hn6)) H.size) (cwV 3 hts (lw_V q239 q241 qs12 q20 q242) rfl rfl rfl (by decide +kernel) ⟨Nat.le_of_ble_eq_true rfl, Nat.le_of_ble_eq_true rfl⟩) hK hP hD hS hA [0, 1, 2, 3, 4, 5, 6] [] rfl rfl (by decide) (by decide) (by decide) rfl rfl rfl rfl hl.1 rfl (Nat.le_of_ble_eq_true rfl) dX2_needWithout_25 ⟨Nat.zero_le _, Nat.zero_le _⟩ (fun u_25 H locs hw_25 hP hD hS => ?_)
      obtain ⟨Nw2, Lt2⟩ := u_25
      have hw_25 : ∀ v, v < n → Nw2 v = e_enc n (e_lf n c T Hd G O p1 v) := hw_25
      have hP : va_P (dC, dI) vwCl [(ad 0, .inr (1, [.int (nI n), .int (nI c), .ref (ad 1), .ref (ad 2), .ref (ad 3), .ref (ad 4), .ref (ad 5), .ref (ad 6)])), (ad 1, .inl (cI, 8, .inl O)), (ad 2, .inl (cI, 14, .inl T)), (ad 3, .inl (cI, 14, .inl Hd)), (ad 4, .inl (cI, 14, .inl G)), (ad 5, .inl (cI, 8, .inl Nw2)), (ad 6, .inl (cI, 8, .inl Lt2))] H := hP
      have hD : va_D A [(ad 0, .inr (1, [.int (nI n), .int (nI c), .ref (ad 1), .ref (ad 2), .ref (ad 3), .ref (ad 4), .ref (ad 5), .ref (ad 6)])), (ad 1, .inl (cI, 8, .inl O)), (ad 2, .inl (cI, 14, .inl T)), (ad 3, .inl (cI, 14, .inl Hd)), (ad 4, .inl (cI, 14, .inl G)), (ad 5, .inl (cI, 8, .inl Nw2)), (ad 6, .inl (cI, 8, .inl Lt2))] := hD
      refine lv_aload_n hx hb dX2_needWithout_28 rfl (lv_at hl 0 rfl) ?_
      refine lv_iload_n hx hb dX2_needWithout_29 rfl (lv_at hl 1 rfl) ?_
      refine e_callR (q0 := 0) (ci := 1) (rest := []) ⟨hx, hb, hml, hown, hts⟩ (metX2_told l dC dI ad cI n c T Hd G O Nw2 Lt2 hok (e_lf n c T Hd G O p1) hw_25 (fun _ _ => e_lf_le) j hj) (cwV 1 hts (lw_V q251 q253 qs15 q20 q254) rfl rfl rfl (by decide +kernel) ⟨Nat.le_of_ble_eq_true rfl, Nat.le_of_ble_eq_true rfl⟩) hK hP rfl rfl rfl rfl hl.1 rfl (Nat.le_of_ble_eq_true rfl) dX2_needWithout_30 ⟨Nat.zero_le _, Nat.zero_le _⟩ (fun r_30 hr_30 => ?_)
      subst hr_30
      exact hret (Nw2, Lt2) dX2_needWithout_33 (by unfold s_without; rw [if_neg (fun z => z hv_2), if_neg (fun z => z hv_12), nI_clamp (by omega)]) hP hD hS
abbrev rX2_needOf : Room := { frames := 3, cells := 0, slots := 0, locals := 76 }
set_option maxHeartbeats 4000000 in
set_option maxRecDepth 100000 in
theorem metX2_needOf (l : Launch) (dC : Nat → ClassId) (dI : Nat → Nat → Nat) (ad : Nat → Nat) (cI : ClassId) (n c : Nat) (T Hd G O Nw Lt : eFn) (hok : e_ok n c T Hd G) (p0 p1 : Int32) (sz : Nat) : Met l yX2_needOf (ws_ yX2_needOf cX2_needOf 3 (some .int)) rX2_needOf (va_Pc [.ref (ad 0), .int p0, .int p1] (e_PW (dC, dI) vwCl [(cI, .int)] (wM ad cI n c T Hd G O Nw Lt) sz)) (va_Qi (fun r (u : eFn × eFn) => r = s_of n c T Hd G O p0 p1) (e_B (dC, dI) vwCl [(cI, .int)] (fun u => wM ad cI n c T Hd G O u.1 u.2) (va_A (wM ad cI n c T Hd G O Nw Lt) sz)) (va_A (wM ad cI n c T Hd G O Nw Lt) sz)) 0 0 (va_A (wM ad cI n c T Hd G O Nw Lt) sz) := by
  refine e_startWi (by decide) (Nat.le_of_ble_eq_true rfl) ?_
  intro pg ev st mi ar bl mt cd H A QQ hx hb hml hown hts hA hK hP hD hS hret ls hl
  have hown : st.vm.findClass RX2 = some mi.cls := hown
  have hP : va_P (dC, dI) vwCl [(ad 0, .inr (1, [.int (nI n), .int (nI c), .ref (ad 1), .ref (ad 2), .ref (ad 3), .ref (ad 4), .ref (ad 5), .ref (ad 6)])), (ad 1, .inl (cI, 8, .inl O)), (ad 2, .inl (cI, 14, .inl T)), (ad 3, .inl (cI, 14, .inl Hd)), (ad 4, .inl (cI, 14, .inl G)), (ad 5, .inl (cI, 8, .inl Nw)), (ad 6, .inl (cI, 8, .inl Lt))] H := hP
  have hD : va_D A [(ad 0, .inr (1, [.int (nI n), .int (nI c), .ref (ad 1), .ref (ad 2), .ref (ad 3), .ref (ad 4), .ref (ad 5), .ref (ad 6)])), (ad 1, .inl (cI, 8, .inl O)), (ad 2, .inl (cI, 14, .inl T)), (ad 3, .inl (cI, 14, .inl Hd)), (ad 4, .inl (cI, 14, .inl G)), (ad 5, .inl (cI, 8, .inl Nw)), (ad 6, .inl (cI, 8, .inl Lt))] := hD
  generalize hlocs : ([] : List Loc) = locs at hS ⊢
  have hl : lv_has ls 3 [(0, .ref (ad 0)), (1, .int p0), (2, .int p1)] := hl
  have hn2 := hok.1
  have hn6 := hok.2.1
  have hc14 := hok.2.2.1
  refine lv_aload_n hx hb dX2_needOf_0 rfl (lv_at hl 0 rfl) ?_
  refine lv_iload_n hx hb dX2_needOf_1 rfl (lv_at hl 1 rfl) ?_
  refine e_callR (q0 := 0) (ci := 1) (rest := []) ⟨hx, hb, hml, hown, hts⟩ (metX2_bad l dC dI ad cI n c T Hd G O Nw Lt hok p0) (cwV 1 hts (lw_V q207 q209 qs9 q20 q210) rfl rfl rfl (by decide +kernel) ⟨Nat.le_of_ble_eq_true rfl, Nat.le_of_ble_eq_true rfl⟩) hK hP rfl rfl rfl rfl hl.1 rfl (Nat.le_of_ble_eq_true rfl) dX2_needOf_2 ⟨Nat.zero_le _, Nat.zero_le _⟩ (fun r_2 hr_2 => ?_)
  rcases hr_2 with ⟨rfl, hv_2⟩ | ⟨rfl, hv_2⟩
  · refine lv_if_eq (tgt := 10) hx hb dX2_needOf_5 (by decide) (fun c_5 => absurd c_5 (by decide)) (fun c_5 => ?_)
    refine lv_iconst (v := -1) hx hb dX2_needOf_8 (by decide) ?_
    exact hret (Nw, Lt) dX2_needOf_9 (by unfold s_of; rw [if_pos hv_2]) hP hD hS
  · obtain ⟨j, hj, rfl⟩ := e_v_of hv_2 (by omega)
    refine lv_if_eq (tgt := 10) hx hb dX2_needOf_5 (by decide) (fun c_5 => ?_) (fun c_5 => absurd c_5 (by decide))
    refine lv_iload_n hx hb dX2_needOf_10 rfl (lv_at hl 2 rfl) ?_
    refine lv_if_lt (tgt := 19) hx hb dX2_needOf_11 (by decide) (fun c_11 => ?_) (fun c_11 => ?_)
    · refine lv_bipush (v := -3) hx hb dX2_needOf_19 (by decide) ?_
      exact hret (Nw, Lt) dX2_needOf_21 (by unfold s_of; rw [if_neg (fun z => z hv_2), if_pos (e_p01a c_11)]) hP hD hS
    · refine lv_iload_n hx hb dX2_needOf_14 rfl (lv_at hl 2 rfl) ?_
      refine lv_iconst (v := 1) hx hb dX2_needOf_15 (by decide) ?_
      refine lv_icmp_le (tgt := 22) hx hb dX2_needOf_16 (by decide) (fun c_16 => ?_) (fun c_16 => ?_)
      · refine lv_aload_n hx hb dX2_needOf_22 rfl (lv_at hl 0 rfl) ?_
        refine lv_iload_n hx hb dX2_needOf_23 rfl (lv_at hl 1 rfl) ?_
        refine lv_iload_n hx hb dX2_needOf_24 rfl (lv_at hl 2 rfl) ?_
        refine lv_iconst (v := -1) hx hb dX2_needOf_25 (by decide) ?_
        refine e_callV (q0 := 0) (ci := 1) (rest := []) (wr := []) ⟨hx, hb, hml, hown, hts⟩ (metX2_work l dC dI ad cI n c T Hd G O Nw Lt hok (upd O j p1) (nI j) p1 (-1) (fun v hv => e_of_P hv hj hn6) H.size) (cwV 3 hts (lw_V q239 q241 qs12 q20 q242) rfl rfl rfl (by decide +kernel) ⟨Nat.le_of_ble_eq_true rfl, Nat.le_of_ble_eq_true rfl⟩) hK hP hD hS hA [0, 1, 2, 3, 4, 5, 6] [] rfl rfl (by decide) (by decide) (by decide) rfl rfl rfl rfl hl.1 rfl (Nat.le_of_ble_eq_true rfl) dX2_needOf_26 ⟨Nat.zero_le _, Nat.zero_le _⟩ (fun u_26 H locs hw_26 hP hD hS => ?_)
        obtain ⟨Nw2, Lt2⟩ := u_26
        have hw_26 : ∀ v, v < n → Nw2 v = e_enc n (e_lf n c T Hd G (upd O j p1) (-1) v) := hw_26
        have hP : va_P (dC, dI) vwCl [(ad 0, .inr (1, [.int (nI n), .int (nI c), .ref (ad 1), .ref (ad 2), .ref (ad 3), .ref (ad 4), .ref (ad 5), .ref (ad 6)])), (ad 1, .inl (cI, 8, .inl O)), (ad 2, .inl (cI, 14, .inl T)), (ad 3, .inl (cI, 14, .inl Hd)), (ad 4, .inl (cI, 14, .inl G)), (ad 5, .inl (cI, 8, .inl Nw2)), (ad 6, .inl (cI, 8, .inl Lt2))] H := hP
        have hD : va_D A [(ad 0, .inr (1, [.int (nI n), .int (nI c), .ref (ad 1), .ref (ad 2), .ref (ad 3), .ref (ad 4), .ref (ad 5), .ref (ad 6)])), (ad 1, .inl (cI, 8, .inl O)), (ad 2, .inl (cI, 14, .inl T)), (ad 3, .inl (cI, 14, .inl Hd)), (ad 4, .inl (cI, 14, .inl G)), (ad 5, .inl (cI, 8, .inl Nw2)), (ad 6, .inl (cI, 8, .inl Lt2))] := hD
        refine lv_aload_n hx hb dX2_needOf_29 rfl (lv_at hl 0 rfl) ?_
        refine lv_iload_n hx hb dX2_needOf_30 rfl (lv_at hl 1 rfl) ?_
        refine e_callR (q0 := 0) (ci := 1) (rest := []) ⟨hx, hb, hml, hown, hts⟩ (metX2_told l dC dI ad cI n c T Hd G O Nw2 Lt2 hok (e_lf n c T Hd G (upd O j p1) (-1)) hw_26 (fun _ _ => e_lf_le) j hj) (cwV 1 hts (lw_V q251 q253 qs15 q20 q254) rfl rfl rfl (by decide +kernel) ⟨Nat.le_of_ble_eq_true rfl, Nat.le_of_ble_eq_true rfl⟩) hK hP rfl rfl rfl rfl hl.1 rfl (Nat.le_of_ble_eq_true rfl) dX2_needOf_31 ⟨Nat.zero_le _, Nat.zero_le _⟩ (fun r_31 hr_31 => ?_)
        subst hr_31
        exact hret (Nw2, Lt2) dX2_needOf_34 (by unfold s_of; rw [if_neg (fun z => z hv_2), if_neg (e_p01 c_11 c_16), nI_clamp (by omega)]) hP hD hS
      · refine lv_bipush (v := -3) hx hb dX2_needOf_19 (by decide) ?_
        exact hret (Nw, Lt) dX2_needOf_21 (by unfold s_of; rw [if_neg (fun z => z hv_2), if_pos (e_p01b c_16)]) hP hD hS
abbrev rX2_store : Room := { frames := 3, cells := 0, slots := 0, locals := 76 }
set_option maxHeartbeats 4000000 in
set_option maxRecDepth 100000 in
theorem metX2_store (l : Launch) (dC : Nat → ClassId) (dI : Nat → Nat → Nat) (ad : Nat → Nat) (cI : ClassId) (n c : Nat) (T Hd G O Nw Lt : eFn) (hok : e_ok n c T Hd G) (p0 p1 : Int32) (sz : Nat) : Met l yX2_store (ws_ yX2_store cX2_store 7 (some .int)) rX2_store (va_Pc [.ref (ad 0), .int p0, .int p1] (e_PW (dC, dI) vwCl [(cI, .int)] (wM ad cI n c T Hd G O Nw Lt) sz)) (va_Qi (fun r (u : eFn × eFn) => r = s_store n c T Hd G O p0 p1) (e_B (dC, dI) vwCl [(cI, .int)] (fun u => wM ad cI n c T Hd G O u.1 u.2) (va_A (wM ad cI n c T Hd G O Nw Lt) sz)) (va_A (wM ad cI n c T Hd G O Nw Lt) sz)) 0 0 (va_A (wM ad cI n c T Hd G O Nw Lt) sz) := by
  refine e_startWi (by decide) (Nat.le_of_ble_eq_true rfl) ?_
  intro pg ev st mi ar bl mt cd H A QQ hx hb hml hown hts hA hK hP hD hS hret ls hl
  have hown : st.vm.findClass RX2 = some mi.cls := hown
  have hP : va_P (dC, dI) vwCl [(ad 0, .inr (1, [.int (nI n), .int (nI c), .ref (ad 1), .ref (ad 2), .ref (ad 3), .ref (ad 4), .ref (ad 5), .ref (ad 6)])), (ad 1, .inl (cI, 8, .inl O)), (ad 2, .inl (cI, 14, .inl T)), (ad 3, .inl (cI, 14, .inl Hd)), (ad 4, .inl (cI, 14, .inl G)), (ad 5, .inl (cI, 8, .inl Nw)), (ad 6, .inl (cI, 8, .inl Lt))] H := hP
  have hD : va_D A [(ad 0, .inr (1, [.int (nI n), .int (nI c), .ref (ad 1), .ref (ad 2), .ref (ad 3), .ref (ad 4), .ref (ad 5), .ref (ad 6)])), (ad 1, .inl (cI, 8, .inl O)), (ad 2, .inl (cI, 14, .inl T)), (ad 3, .inl (cI, 14, .inl Hd)), (ad 4, .inl (cI, 14, .inl G)), (ad 5, .inl (cI, 8, .inl Nw)), (ad 6, .inl (cI, 8, .inl Lt))] := hD
  generalize hlocs : ([] : List Loc) = locs at hS ⊢
  have hl : lv_has ls 7 [(0, .ref (ad 0)), (1, .int p0), (2, .int p1)] := hl
  have hn2 := hok.1
  have hn6 := hok.2.1
  have hc14 := hok.2.2.1
  refine lv_aload_n hx hb dX2_store_0 rfl (lv_at hl 0 rfl) ?_
  refine lv_iload_n hx hb dX2_store_1 rfl (lv_at hl 1 rfl) ?_
  refine e_callR (q0 := 0) (ci := 1) (rest := []) ⟨hx, hb, hml, hown, hts⟩ (metX2_bad l dC dI ad cI n c T Hd G O Nw Lt hok p0) (cwV 1 hts (lw_V q207 q209 qs9 q20 q210) rfl rfl rfl (by decide +kernel) ⟨Nat.le_of_ble_eq_true rfl, Nat.le_of_ble_eq_true rfl⟩) hK hP rfl rfl rfl rfl hl.1 rfl (Nat.le_of_ble_eq_true rfl) dX2_store_2 ⟨Nat.zero_le _, Nat.zero_le _⟩ (fun r_2 hr_2 => ?_)
  rcases hr_2 with ⟨rfl, hv_2⟩ | ⟨rfl, hv_2⟩
  · refine lv_if_eq (tgt := 12) hx hb dX2_store_5 (by decide) (fun c_5 => absurd c_5 (by decide)) (fun c_5 => ?_)
    refine lv_sipush (v := -1000) hx hb dX2_store_8 (by decide) ?_
    exact hret (Nw, Lt) dX2_store_11 (by unfold s_store; rw [if_pos hv_2]) hP hD hS
  · obtain ⟨j, hj, rfl⟩ := e_v_of hv_2 (by omega)
    refine lv_if_eq (tgt := 12) hx hb dX2_store_5 (by decide) (fun c_5 => ?_) (fun c_5 => absurd c_5 (by decide))
    refine lv_iload_n hx hb dX2_store_12 rfl (lv_at hl 2 rfl) ?_
    refine lv_if_lt (tgt := 36) hx hb dX2_store_13 (by decide) (fun c_13 => ?_) (fun c_13 => ?_)
    · refine lv_sipush (v := -2000) hx hb dX2_store_36 (by decide) ?_
      exact hret (Nw, Lt) dX2_store_39 (by unfold s_store; rw [if_neg (fun z => z hv_2), if_pos (Or.inl c_13)]) hP hD hS
    · obtain ⟨m, hm, rfl⟩ := nI_of c_13
      refine lv_iload_n hx hb dX2_store_16 rfl (lv_at hl 2 rfl) ?_
      refine lv_sipush (v := nI 128) hx hb dX2_store_17 (by decide) ?_
      refine lv_idiv hx hb dX2_store_20 (by decide) ?_
      refine e_top (nI (m / 128)) (pk_div hm (by omega) (by omega)) ?_
      refine lv_bipush (v := nI 30) hx hb dX2_store_21 (by decide) ?_
      refine lv_icmp_gt (tgt := 36) hx hb dX2_store_23 (by decide) (fun c_23 => ?_) (fun c_23 => ?_)
      · refine lv_sipush (v := -2000) hx hb dX2_store_36 (by decide) ?_
        exact hret (Nw, Lt) dX2_store_39 (by unfold s_store; rw [if_neg (fun z => z hv_2), nI_clamp hm, if_pos (Or.inr (Or.inr ((nI_ltI (by omega) (by omega)).mp c_23)))]) hP hD hS
      · refine lv_iload_n hx hb dX2_store_26 rfl (lv_at hl 2 rfl) ?_
        refine lv_sipush (v := nI 128) hx hb dX2_store_27 (by decide) ?_
        refine lv_irem hx hb dX2_store_30 (by decide) ?_
        refine e_top (nI (m % 128)) (pk_rem hm (by omega) (by omega)) ?_
        refine lv_bipush (v := nI 100) hx hb dX2_store_31 (by decide) ?_
        refine lv_icmp_le (tgt := 40) hx hb dX2_store_33 (by decide) (fun c_33 => ?_) (fun c_33 => ?_)
        · refine lv_aload_n hx hb dX2_store_40 rfl (lv_at hl 0 rfl) ?_
          refine lv_iconst (v := -1) hx hb dX2_store_41 (by decide) ?_
          refine lv_iconst (v := 0) hx hb dX2_store_42 (by decide) ?_
          refine lv_iconst (v := -1) hx hb dX2_store_43 (by decide) ?_
          refine e_callV (q0 := 0) (ci := 1) (rest := []) (wr := []) ⟨hx, hb, hml, hown, hts⟩ (metX2_work l dC dI ad cI n c T Hd G O Nw Lt hok O (-1) 0 (-1) (fun v hv => if_neg (e_ne_m1 hv hn6)) H.size) (cwV 3 hts (lw_V q239 q241 qs12 q20 q242) rfl rfl rfl (by decide +kernel) ⟨Nat.le_of_ble_eq_true rfl, Nat.le_of_ble_eq_true rfl⟩) hK hP hD hS hA [0, 1, 2, 3, 4, 5, 6] [] rfl rfl (by decide) (by decide) (by decide) rfl rfl rfl rfl hl.1 rfl (Nat.le_of_ble_eq_true rfl) dX2_store_44 ⟨Nat.zero_le _, Nat.zero_le _⟩ (fun u_44 H locs hw_44 hP hD hS => ?_)
          obtain ⟨Nw2, Lt2⟩ := u_44
          have hw_44 : ∀ v, v < n → Nw2 v = e_enc n (e_lf n c T Hd G O (-1) v) := hw_44
          have hP : va_P (dC, dI) vwCl [(ad 0, .inr (1, [.int (nI n), .int (nI c), .ref (ad 1), .ref (ad 2), .ref (ad 3), .ref (ad 4), .ref (ad 5), .ref (ad 6)])), (ad 1, .inl (cI, 8, .inl O)), (ad 2, .inl (cI, 14, .inl T)), (ad 3, .inl (cI, 14, .inl Hd)), (ad 4, .inl (cI, 14, .inl G)), (ad 5, .inl (cI, 8, .inl Nw2)), (ad 6, .inl (cI, 8, .inl Lt2))] H := hP
          have hD : va_D A [(ad 0, .inr (1, [.int (nI n), .int (nI c), .ref (ad 1), .ref (ad 2), .ref (ad 3), .ref (ad 4), .ref (ad 5), .ref (ad 6)])), (ad 1, .inl (cI, 8, .inl O)), (ad 2, .inl (cI, 14, .inl T)), (ad 3, .inl (cI, 14, .inl Hd)), (ad 4, .inl (cI, 14, .inl G)), (ad 5, .inl (cI, 8, .inl Nw2)), (ad 6, .inl (cI, 8, .inl Lt2))] := hD
          refine lv_iload_n hx hb dX2_store_47 rfl (lv_at hl 2 rfl) ?_
          refine lv_sipush (v := nI 128) hx hb dX2_store_48 (by decide) ?_
          refine lv_irem hx hb dX2_store_51 (by decide) ?_
          refine e_top (nI (m % 128)) (pk_rem hm (by omega) (by omega)) ?_
          refine lv_istore_n (lv' := [(3, .int (nI (m % 128))), (0, .ref (ad 0)), (1, .int (nI j)), (2, .int (nI m))]) hx hb dX2_store_52 rfl hl (by decide) rfl (fun ls hl => ?_)
          refine lv_iload_n hx hb dX2_store_53 rfl (lv_at hl 2 rfl) ?_
          refine lv_istore (lv' := [(4, .int (nI j)), (3, .int (nI (m % 128))), (0, .ref (ad 0)), (1, .int (nI j)), (2, .int (nI m))]) hx hb dX2_store_54 hl (by decide) rfl (fun ls hl => ?_)
          refine lv_iconst (v := nI 0) hx hb dX2_store_56 (by decide) ?_
          refine lv_istore (lv' := [(5, .int (nI 0)), (4, .int (nI j)), (3, .int (nI (m % 128))), (0, .ref (ad 0)), (1, .int (nI j)), (2, .int (nI m))]) hx hb dX2_store_57 hl (by decide) rfl (fun ls hl => ?_)
          have lp_59 : ∀ (k_59 : Nat) (k : Nat) (q : Nat) (sm : Int32), (k ≤ m / 128) → (m / 128 < k + k_59) → (q < n) → (s_store n c T Hd G O (nI j) (nI m) = e_sto n c T Hd G O (m / 128 - k) (nI q) sm) → ∀ (H : Heap) (locs : List Loc), va_P (dC, dI) vwCl [(ad 0, .inr (1, [.int (nI n), .int (nI c), .ref (ad 1), .ref (ad 2), .ref (ad 3), .ref (ad 4), .ref (ad 5), .ref (ad 6)])), (ad 1, .inl (cI, 8, .inl O)), (ad 2, .inl (cI, 14, .inl T)), (ad 3, .inl (cI, 14, .inl Hd)), (ad 4, .inl (cI, 14, .inl G)), (ad 5, .inl (cI, 8, .inl Nw2)), (ad 6, .inl (cI, 8, .inl Lt2))] H → va_D A [(ad 0, .inr (1, [.int (nI n), .int (nI c), .ref (ad 1), .ref (ad 2), .ref (ad 3), .ref (ad 4), .ref (ad 5), .ref (ad 6)])), (ad 1, .inl (cI, 8, .inl O)), (ad 2, .inl (cI, 14, .inl T)), (ad 3, .inl (cI, 14, .inl Hd)), (ad 4, .inl (cI, 14, .inl G)), (ad 5, .inl (cI, 8, .inl Nw2)), (ad 6, .inl (cI, 8, .inl Lt2))] → va_S A st.heap H locs → ∀ ls : Array Slot, lv_has ls 7 [(0, .ref (ad 0)), (2, .int (nI m)), (3, .int sm), (4, .int (nI q)), (5, .int (nI k))] → W pg l ev rX2_store st mi ar bl mt cd H locs 0 0 QQ (F0 mi 59 ls []) := by
            intro k_59
            induction k_59 with
            | zero =>
              intro k q sm hkm hk hq hz
              exfalso; omega
            | succ k_59 ih_59 =>
              intro k q sm hkm hk hq hz H locs hP hD hS ls hl
              refine lv_iload hx hb dX2_store_59 (lv_at hl 4 rfl) ?_
              refine lv_iload_n hx hb dX2_store_61 rfl (lv_at hl 1 rfl) ?_
              refine lv_sipush (v := nI 128) hx hb dX2_store_62 (by decide) ?_
              refine lv_idiv hx hb dX2_store_65 (by decide) ?_
              refine e_top (nI (m / 128)) (pk_div hm (by omega) (by omega)) ?_
              refine e_ge (tgt := 109) hx hb (by omega) (by omega) dX2_store_66 (by decide) (fun c_66 => ?_) (fun c_66 => ?_)
              · have heq : k = m / 128 := by omega
                subst heq
                refine lv_iload_n hx hb dX2_store_109 rfl (lv_at hl 2 rfl) ?_
                exact hret (Nw2, Lt2) dX2_store_110 (by rw [hz]; exact e_sto_0.symm) hP hD hS
              · refine lv_aload_n hx hb dX2_store_69 rfl (lv_at hl 0 rfl) ?_
                refine lv_iload hx hb dX2_store_70 (lv_at hl 3 rfl) ?_
                refine e_callR (q0 := 0) (ci := 1) (rest := []) ⟨hx, hb, hml, hown, hts⟩ (metX2_chosen l dC dI ad cI n c T Hd G O Nw2 Lt2 hok (e_lf n c T Hd G O (-1)) hw_44 (fun _ _ => e_lf_le) (nI q)) (cwV 1 hts (lw_V q267 q269 qs16 q20 q270) rfl rfl rfl (by decide +kernel) ⟨Nat.le_of_ble_eq_true rfl, Nat.le_of_ble_eq_true rfl⟩) hK hP rfl rfl rfl rfl hl.1 rfl (Nat.le_of_ble_eq_true rfl) dX2_store_72 ⟨Nat.zero_le _, Nat.zero_le _⟩ (fun r_72 hr_72 => ?_)
                subst hr_72
                refine e_top (s_chn n c T Hd G O (nI q)) rfl ?_
                refine lv_istore (lv' := [(6, .int (s_chn n c T Hd G O (nI q))), (0, .ref (ad 0)), (2, .int (nI m)), (3, .int sm), (4, .int (nI q)), (5, .int (nI k))]) hx hb dX2_store_75 hl (by decide) rfl (fun ls hl => ?_)
                refine lv_iload hx hb dX2_store_77 (lv_at hl 0 rfl) ?_
                refine lv_if_ge (tgt := 84) hx hb dX2_store_79 (by decide) (fun c_79 => ?_) (fun c_79 => ?_)
                · obtain ⟨i, hi, ei⟩ := e_chn_pos hc14 (Int32.not_lt.mpr c_79)
                  rw [ei] at hl
                  obtain ⟨w, hw, ew⟩ := hok.2.2.2.2.1 i hi
                  refine lv_iload_n hx hb dX2_store_84 rfl (lv_at hl 3 rfl) ?_
                  refine lv_aload_n hx hb dX2_store_85 rfl (lv_at hl 1 rfl) ?_
                  refine va_get (D := (dC, dI)) (ci := 1) (v := .ref (ad 4)) (C := RX2) (T := TX2) (N := 8) hx hb hts in_X2 hown hK hP 0 rfl rfl 5 (by decide) (hts _ q179) (fun _ h9 => h9) rfl dX2_store_86 ?_
                  refine lv_iload hx hb dX2_store_89 (lv_at hl 0 rfl) ?_
                  refine e_ild (v := G i) hx hb hK hP 4 0 rfl rfl i rfl (by omega) (by decide) rfl dX2_store_91 ?_
                  refine lv_iadd hx hb dX2_store_92 ?_
                  refine lv_istore_n (lv' := [(3, .int (sm + (G i))), (6, .int (nI i)), (0, .ref (ad 0)), (2, .int (nI m)), (4, .int (nI q)), (5, .int (nI k))]) hx hb dX2_store_93 rfl hl (by decide) rfl (fun ls hl => ?_)
                  refine lv_aload_n hx hb dX2_store_94 rfl (lv_at hl 2 rfl) ?_
                  refine va_get (D := (dC, dI)) (ci := 1) (v := .ref (ad 3)) (C := RX2) (T := TX2) (N := 8) hx hb hts in_X2 hown hK hP 0 rfl rfl 4 (by decide) (hts _ q178) (fun _ h9 => h9) rfl dX2_store_95 ?_
                  refine lv_iload hx hb dX2_store_98 (lv_at hl 1 rfl) ?_
                  refine e_ild (v := nI w) hx hb hK hP 3 0 rfl rfl i rfl (by omega) (by decide) ew dX2_store_100 ?_
                  refine lv_istore (lv' := [(4, .int (nI w)), (3, .int (sm + (G i))), (6, .int (nI i)), (0, .ref (ad 0)), (2, .int (nI m)), (5, .int (nI k))]) hx hb dX2_store_101 hl (by decide) rfl (fun ls hl => ?_)
                  refine lv_iinc (v := nI (k + 1)) (lv' := [(5, .int (nI (k + 1))), (4, .int (nI w)), (3, .int (sm + (G i))), (6, .int (nI i)), (0, .ref (ad 0)), (2, .int (nI m))]) hx hb dX2_store_103 hl (k := 5) rfl (e_inc _) (by decide) rfl (fun ls hl => ?_)
                  refine lv_goto (tgt := 59) hx hb dX2_store_106 (by decide) ?_
                  exact ih_59 (k + 1) w (sm + G i) (by omega) (by omega) hw (by rw [hz, e_sto_y c_66 ei (by omega), ew]) _ _ hP hD hS ls (lv_sub hl [4, 5, 2, 1, 0] rfl)
                · refine lv_iload_n hx hb dX2_store_82 rfl (lv_at hl 3 rfl) ?_
                  exact hret (Nw2, Lt2) dX2_store_83 (by rw [hz]; exact (e_sto_n c_66 (Int32.not_le.mp c_79)).symm) hP hD hS
          exact lp_59 (m / 128 + 1) 0 j (nI (m % 128)) (by omega) (by omega) hj (by unfold s_store; rw [if_neg (fun z => z hv_2), nI_clamp hm, if_neg (fun z => z.elim c_13 (fun z => z.elim (fun z => absurd c_33 (Int32.not_le.mpr (nI_lt z (by omega)))) (fun z => c_23 (nI_lt z (by omega)))))]; rfl) _ _ hP hD hS ls (lv_sub hl [3, 5, 2, 1, 0] rfl)
        · refine lv_sipush (v := -2000) hx hb dX2_store_36 (by decide) ?_
          exact hret (Nw, Lt) dX2_store_39 (by unfold s_store; rw [if_neg (fun z => z hv_2), nI_clamp hm, if_pos (Or.inr (Or.inl (Nat.not_le.mp fun z => c_33 (nI_le z (by omega)))))]) hP hD hS
abbrev rX2_give : Room := { frames := 1, cells := 0, slots := 0, locals := 21 }
set_option maxHeartbeats 4000000 in
set_option maxRecDepth 100000 in
theorem metX2_give (l : Launch) (dC : Nat → ClassId) (dI : Nat → Nat → Nat) (ad : Nat → Nat) (cI : ClassId) (n c : Nat) (T Hd G O Nw Lt : eFn) (hok : e_ok n c T Hd G) (p0 p1 : Int32) (sz : Nat) : Met l yX2_give (ws_ yX2_give cX2_give 4 (some .int)) rX2_give (va_Pc [.ref (ad 0), .int p0, .int p1] (e_PW (dC, dI) vwCl [(cI, .int)] (wM ad cI n c T Hd G O Nw Lt) sz)) (va_Qi (fun r (u : eC) => (r, u) = s_give n c T Hd G O p0 p1) (e_B (dC, dI) vwCl [(cI, .int)] (fun u => wM ad cI n u.1 u.2.1 u.2.2.1 u.2.2.2.1 u.2.2.2.2 Nw Lt) (va_A (wM ad cI n c T Hd G O Nw Lt) sz)) (va_A (wM ad cI n c T Hd G O Nw Lt) sz)) 0 0 (va_A (wM ad cI n c T Hd G O Nw Lt) sz) := by
  refine e_startWi (by decide) (Nat.le_of_ble_eq_true rfl) ?_
  intro pg ev st mi ar bl mt cd H A QQ hx hb hml hown hts hA hK hP hD hS hret ls hl
  have hown : st.vm.findClass RX2 = some mi.cls := hown
  have hP : va_P (dC, dI) vwCl [(ad 0, .inr (1, [.int (nI n), .int (nI c), .ref (ad 1), .ref (ad 2), .ref (ad 3), .ref (ad 4), .ref (ad 5), .ref (ad 6)])), (ad 1, .inl (cI, 8, .inl O)), (ad 2, .inl (cI, 14, .inl T)), (ad 3, .inl (cI, 14, .inl Hd)), (ad 4, .inl (cI, 14, .inl G)), (ad 5, .inl (cI, 8, .inl Nw)), (ad 6, .inl (cI, 8, .inl Lt))] H := hP
  have hD : va_D A [(ad 0, .inr (1, [.int (nI n), .int (nI c), .ref (ad 1), .ref (ad 2), .ref (ad 3), .ref (ad 4), .ref (ad 5), .ref (ad 6)])), (ad 1, .inl (cI, 8, .inl O)), (ad 2, .inl (cI, 14, .inl T)), (ad 3, .inl (cI, 14, .inl Hd)), (ad 4, .inl (cI, 14, .inl G)), (ad 5, .inl (cI, 8, .inl Nw)), (ad 6, .inl (cI, 8, .inl Lt))] := hD
  generalize hlocs : ([] : List Loc) = locs at hS ⊢
  have hl : lv_has ls 4 [(0, .ref (ad 0)), (1, .int p0), (2, .int p1)] := hl
  have hn2 := hok.1
  have hn6 := hok.2.1
  have hc14 := hok.2.2.1
  refine lv_aload_n hx hb dX2_give_0 rfl (lv_at hl 0 rfl) ?_
  refine lv_iload_n hx hb dX2_give_1 rfl (lv_at hl 1 rfl) ?_
  refine e_callR (q0 := 0) (ci := 1) (rest := []) ⟨hx, hb, hml, hown, hts⟩ (metX2_bad l dC dI ad cI n c T Hd G O Nw Lt hok p0) (cwV 1 hts (lw_V q207 q209 qs9 q20 q210) rfl rfl rfl (by decide +kernel) ⟨Nat.le_of_ble_eq_true rfl, Nat.le_of_ble_eq_true rfl⟩) hK hP rfl rfl rfl rfl hl.1 rfl (Nat.le_of_ble_eq_true rfl) dX2_give_2 ⟨Nat.zero_le _, Nat.zero_le _⟩ (fun r_2 hr_2 => ?_)
  rcases hr_2 with ⟨rfl, hv_2⟩ | ⟨rfl, hv_2⟩
  · refine lv_if_eq (tgt := 10) hx hb dX2_give_5 (by decide) (fun c_5 => absurd c_5 (by decide)) (fun c_5 => ?_)
    refine lv_iconst (v := -1) hx hb dX2_give_8 (by decide) ?_
    exact hret (c, T, Hd, G, O) dX2_give_9 (by unfold s_give; rw [if_pos hv_2]) hP hD hS
  · obtain ⟨j, hj, rfl⟩ := e_v_of hv_2 (by omega)
    refine lv_if_eq (tgt := 10) hx hb dX2_give_5 (by decide) (fun c_5 => ?_) (fun c_5 => absurd c_5 (by decide))
    refine lv_iload_n hx hb dX2_give_10 rfl (lv_at hl 2 rfl) ?_
    refine lv_if_lt (tgt := 19) hx hb dX2_give_11 (by decide) (fun c_11 => ?_) (fun c_11 => ?_)
    · refine lv_bipush (v := -2) hx hb dX2_give_19 (by decide) ?_
      exact hret (c, T, Hd, G, O) dX2_give_21 (by unfold s_give; rw [if_neg (fun z => z hv_2), if_pos (e_p01a c_11)]) hP hD hS
    · refine lv_iload_n hx hb dX2_give_14 rfl (lv_at hl 2 rfl) ?_
      refine lv_iconst (v := 1) hx hb dX2_give_15 (by decide) ?_
      refine lv_icmp_le (tgt := 22) hx hb dX2_give_16 (by decide) (fun c_16 => ?_) (fun c_16 => ?_)
      · refine lv_aload_n hx hb dX2_give_22 rfl (lv_at hl 0 rfl) ?_
        refine va_get (D := (dC, dI)) (ci := 1) (v := .ref (ad 1)) (C := RX2) (T := TX2) (N := 8) hx hb hts in_X2 hown hK hP 0 rfl rfl 2 (by decide) (hts _ q176) (fun _ h9 => h9) rfl dX2_give_23 ?_
        refine lv_iload_n hx hb dX2_give_26 rfl (lv_at hl 1 rfl) ?_
        refine e_ild (v := O j) hx hb hK hP 1 0 rfl rfl j rfl (by omega) (by decide) rfl dX2_give_27 ?_
        refine lv_istore_n (lv' := [(3, .int (O j)), (0, .ref (ad 0)), (1, .int (nI j)), (2, .int p1)]) hx hb dX2_give_28 rfl hl (by decide) rfl (fun ls hl => ?_)
        refine lv_aload_n hx hb dX2_give_29 rfl (lv_at hl 1 rfl) ?_
        refine va_get (D := (dC, dI)) (ci := 1) (v := .ref (ad 1)) (C := RX2) (T := TX2) (N := 8) hx hb hts in_X2 hown hK hP 0 rfl rfl 2 (by decide) (hts _ q176) (fun _ h9 => h9) rfl dX2_give_30 ?_
        refine lv_iload_n hx hb dX2_give_33 rfl (lv_at hl 2 rfl) ?_
        refine lv_iload_n hx hb dX2_give_34 rfl (lv_at hl 3 rfl) ?_
        refine e_ist (f2 := upd O j p1) hx hb hK hP hD hS 1 0 rfl rfl j rfl (by omega) (by decide) rfl dX2_give_35 (fun H locs hP hD hS => ?_)
        have hP : va_P (dC, dI) vwCl [(ad 0, .inr (1, [.int (nI n), .int (nI c), .ref (ad 1), .ref (ad 2), .ref (ad 3), .ref (ad 4), .ref (ad 5), .ref (ad 6)])), (ad 1, .inl (cI, 8, .inl (upd O j p1))), (ad 2, .inl (cI, 14, .inl T)), (ad 3, .inl (cI, 14, .inl Hd)), (ad 4, .inl (cI, 14, .inl G)), (ad 5, .inl (cI, 8, .inl Nw)), (ad 6, .inl (cI, 8, .inl Lt))] H := hP
        have hD : va_D A [(ad 0, .inr (1, [.int (nI n), .int (nI c), .ref (ad 1), .ref (ad 2), .ref (ad 3), .ref (ad 4), .ref (ad 5), .ref (ad 6)])), (ad 1, .inl (cI, 8, .inl (upd O j p1))), (ad 2, .inl (cI, 14, .inl T)), (ad 3, .inl (cI, 14, .inl Hd)), (ad 4, .inl (cI, 14, .inl G)), (ad 5, .inl (cI, 8, .inl Nw)), (ad 6, .inl (cI, 8, .inl Lt))] := hD
        refine lv_iload_n hx hb dX2_give_36 rfl (lv_at hl 0 rfl) ?_
        exact hret (c, T, Hd, G, upd O j p1) dX2_give_37 (by unfold s_give; rw [if_neg (fun z => z hv_2), if_neg (e_p01 c_11 c_16), nI_clamp (by omega)]) hP hD hS
      · refine lv_bipush (v := -2) hx hb dX2_give_19 (by decide) ?_
        exact hret (c, T, Hd, G, O) dX2_give_21 (by unfold s_give; rw [if_neg (fun z => z hv_2), if_pos (e_p01b c_16)]) hP hD hS
abbrev rX2_set : Room := { frames := 1, cells := 0, slots := 0, locals := 21 }
set_option maxHeartbeats 4000000 in
set_option maxRecDepth 100000 in
theorem metX2_set (l : Launch) (dC : Nat → ClassId) (dI : Nat → Nat → Nat) (ad : Nat → Nat) (cI : ClassId) (n c : Nat) (T Hd G O Nw Lt : eFn) (hok : e_ok n c T Hd G) (p0 p1 : Int32) (sz : Nat) : Met l yX2_set (ws_ yX2_set cX2_set 4 (some .int)) rX2_set (va_Pc [.ref (ad 0), .int p0, .int p1] (e_PW (dC, dI) vwCl [(cI, .int)] (wM ad cI n c T Hd G O Nw Lt) sz)) (va_Qi (fun r (u : eC) => (r, u) = s_set n c T Hd G O p0 p1) (e_B (dC, dI) vwCl [(cI, .int)] (fun u => wM ad cI n u.1 u.2.1 u.2.2.1 u.2.2.2.1 u.2.2.2.2 Nw Lt) (va_A (wM ad cI n c T Hd G O Nw Lt) sz)) (va_A (wM ad cI n c T Hd G O Nw Lt) sz)) 0 0 (va_A (wM ad cI n c T Hd G O Nw Lt) sz) := by
  refine e_startWi (by decide) (Nat.le_of_ble_eq_true rfl) ?_
  intro pg ev st mi ar bl mt cd H A QQ hx hb hml hown hts hA hK hP hD hS hret ls hl
  have hown : st.vm.findClass RX2 = some mi.cls := hown
  have hP : va_P (dC, dI) vwCl [(ad 0, .inr (1, [.int (nI n), .int (nI c), .ref (ad 1), .ref (ad 2), .ref (ad 3), .ref (ad 4), .ref (ad 5), .ref (ad 6)])), (ad 1, .inl (cI, 8, .inl O)), (ad 2, .inl (cI, 14, .inl T)), (ad 3, .inl (cI, 14, .inl Hd)), (ad 4, .inl (cI, 14, .inl G)), (ad 5, .inl (cI, 8, .inl Nw)), (ad 6, .inl (cI, 8, .inl Lt))] H := hP
  have hD : va_D A [(ad 0, .inr (1, [.int (nI n), .int (nI c), .ref (ad 1), .ref (ad 2), .ref (ad 3), .ref (ad 4), .ref (ad 5), .ref (ad 6)])), (ad 1, .inl (cI, 8, .inl O)), (ad 2, .inl (cI, 14, .inl T)), (ad 3, .inl (cI, 14, .inl Hd)), (ad 4, .inl (cI, 14, .inl G)), (ad 5, .inl (cI, 8, .inl Nw)), (ad 6, .inl (cI, 8, .inl Lt))] := hD
  generalize hlocs : ([] : List Loc) = locs at hS ⊢
  have hl : lv_has ls 4 [(0, .ref (ad 0)), (1, .int p0), (2, .int p1)] := hl
  have hn2 := hok.1
  have hn6 := hok.2.1
  have hc14 := hok.2.2.1
  refine lv_aload_n hx hb dX2_set_0 rfl (lv_at hl 0 rfl) ?_
  refine lv_iload_n hx hb dX2_set_1 rfl (lv_at hl 1 rfl) ?_
  refine e_callR (q0 := 0) (ci := 1) (rest := []) ⟨hx, hb, hml, hown, hts⟩ (metX2_badEdge l dC dI ad cI n c T Hd G O Nw Lt hok p0) (cwV 1 hts (lw_V q223 q225 qs11 q20 q226) rfl rfl rfl (by decide +kernel) ⟨Nat.le_of_ble_eq_true rfl, Nat.le_of_ble_eq_true rfl⟩) hK hP rfl rfl rfl rfl hl.1 rfl (Nat.le_of_ble_eq_true rfl) dX2_set_2 ⟨Nat.zero_le _, Nat.zero_le _⟩ (fun r_2 hr_2 => ?_)
  rcases hr_2 with ⟨rfl, hv_2⟩ | ⟨rfl, hv_2⟩
  · refine lv_if_eq (tgt := 10) hx hb dX2_set_5 (by decide) (fun c_5 => absurd c_5 (by decide)) (fun c_5 => ?_)
    refine lv_iconst (v := -1) hx hb dX2_set_8 (by decide) ?_
    exact hret (c, T, Hd, G, O) dX2_set_9 (by unfold s_set; rw [if_pos hv_2]) hP hD hS
  · obtain ⟨j, hj, rfl⟩ := e_v_of hv_2 (by omega)
    refine lv_if_eq (tgt := 10) hx hb dX2_set_5 (by decide) (fun c_5 => ?_) (fun c_5 => absurd c_5 (by decide))
    refine lv_aload_n hx hb dX2_set_10 rfl (lv_at hl 0 rfl) ?_
    refine lv_iload_n hx hb dX2_set_11 rfl (lv_at hl 2 rfl) ?_
    refine e_callR (q0 := 0) (ci := 1) (rest := []) ⟨hx, hb, hml, hown, hts⟩ (metX2_badGain l dC dI ad cI n c T Hd G O Nw Lt p1) (cwV 1 hts (lw_V q215 q217 qs10 q20 q218) rfl rfl rfl (by decide +kernel) ⟨Nat.le_of_ble_eq_true rfl, Nat.le_of_ble_eq_true rfl⟩) hK hP rfl rfl rfl rfl hl.1 rfl (Nat.le_of_ble_eq_true rfl) dX2_set_12 ⟨Nat.zero_le _, Nat.zero_le _⟩ (fun r_12 hr_12 => ?_)
    rcases hr_12 with ⟨rfl, hv_12⟩ | ⟨rfl, hv_12⟩
    · refine lv_if_eq (tgt := 21) hx hb dX2_set_15 (by decide) (fun c_15 => absurd c_15 (by decide)) (fun c_15 => ?_)
      refine lv_bipush (v := -2) hx hb dX2_set_18 (by decide) ?_
      exact hret (c, T, Hd, G, O) dX2_set_20 (by unfold s_set; rw [if_neg (fun z => z hv_2), if_pos hv_12]) hP hD hS
    · refine lv_if_eq (tgt := 21) hx hb dX2_set_15 (by decide) (fun c_15 => ?_) (fun c_15 => absurd c_15 (by decide))
      refine lv_aload_n hx hb dX2_set_21 rfl (lv_at hl 0 rfl) ?_
      refine va_get (D := (dC, dI)) (ci := 1) (v := .ref (ad 4)) (C := RX2) (T := TX2) (N := 8) hx hb hts in_X2 hown hK hP 0 rfl rfl 5 (by decide) (hts _ q179) (fun _ h9 => h9) rfl dX2_set_22 ?_
      refine lv_iload_n hx hb dX2_set_25 rfl (lv_at hl 1 rfl) ?_
      refine e_ild (v := G j) hx hb hK hP 4 0 rfl rfl j rfl (by omega) (by decide) rfl dX2_set_26 ?_
      refine lv_istore_n (lv' := [(3, .int (G j)), (0, .ref (ad 0)), (1, .int (nI j)), (2, .int p1)]) hx hb dX2_set_27 rfl hl (by decide) rfl (fun ls hl => ?_)
      refine lv_aload_n hx hb dX2_set_28 rfl (lv_at hl 1 rfl) ?_
      refine va_get (D := (dC, dI)) (ci := 1) (v := .ref (ad 4)) (C := RX2) (T := TX2) (N := 8) hx hb hts in_X2 hown hK hP 0 rfl rfl 5 (by decide) (hts _ q179) (fun _ h9 => h9) rfl dX2_set_29 ?_
      refine lv_iload_n hx hb dX2_set_32 rfl (lv_at hl 2 rfl) ?_
      refine lv_iload_n hx hb dX2_set_33 rfl (lv_at hl 3 rfl) ?_
      refine e_ist (f2 := upd G j p1) hx hb hK hP hD hS 4 0 rfl rfl j rfl (by omega) (by decide) rfl dX2_set_34 (fun H locs hP hD hS => ?_)
      have hP : va_P (dC, dI) vwCl [(ad 0, .inr (1, [.int (nI n), .int (nI c), .ref (ad 1), .ref (ad 2), .ref (ad 3), .ref (ad 4), .ref (ad 5), .ref (ad 6)])), (ad 1, .inl (cI, 8, .inl O)), (ad 2, .inl (cI, 14, .inl T)), (ad 3, .inl (cI, 14, .inl Hd)), (ad 4, .inl (cI, 14, .inl (upd G j p1))), (ad 5, .inl (cI, 8, .inl Nw)), (ad 6, .inl (cI, 8, .inl Lt))] H := hP
      have hD : va_D A [(ad 0, .inr (1, [.int (nI n), .int (nI c), .ref (ad 1), .ref (ad 2), .ref (ad 3), .ref (ad 4), .ref (ad 5), .ref (ad 6)])), (ad 1, .inl (cI, 8, .inl O)), (ad 2, .inl (cI, 14, .inl T)), (ad 3, .inl (cI, 14, .inl Hd)), (ad 4, .inl (cI, 14, .inl (upd G j p1))), (ad 5, .inl (cI, 8, .inl Nw)), (ad 6, .inl (cI, 8, .inl Lt))] := hD
      refine lv_iload_n hx hb dX2_set_35 rfl (lv_at hl 0 rfl) ?_
      exact hret (c, T, Hd, upd G j p1, O) dX2_set_36 (by unfold s_set; rw [if_neg (fun z => z hv_2), if_neg (fun z => z hv_12), nI_clamp (by omega)]) hP hD hS
abbrev rX2_link : Room := { frames := 1, cells := 0, slots := 0, locals := 21 }
set_option maxHeartbeats 4000000 in
set_option maxRecDepth 100000 in
theorem metX2_link (l : Launch) (dC : Nat → ClassId) (dI : Nat → Nat → Nat) (ad : Nat → Nat) (cI : ClassId) (n c : Nat) (T Hd G O Nw Lt : eFn) (hok : e_ok n c T Hd G) (p0 p1 p2 : Int32) (sz : Nat) : Met l yX2_link (ws_ yX2_link cX2_link 7 (some .int)) rX2_link (va_Pc [.ref (ad 0), .int p0, .int p1, .int p2] (e_PW (dC, dI) vwCl [(cI, .int)] (wM ad cI n c T Hd G O Nw Lt) sz)) (va_Qi (fun r (u : eC) => (r, u) = s_link n c T Hd G O p0 p1 p2) (e_B (dC, dI) vwCl [(cI, .int)] (fun u => wM ad cI n u.1 u.2.1 u.2.2.1 u.2.2.2.1 u.2.2.2.2 Nw Lt) (va_A (wM ad cI n c T Hd G O Nw Lt) sz)) (va_A (wM ad cI n c T Hd G O Nw Lt) sz)) 0 0 (va_A (wM ad cI n c T Hd G O Nw Lt) sz) := by
  refine e_startWi (by decide) (Nat.le_of_ble_eq_true rfl) ?_
  intro pg ev st mi ar bl mt cd H A QQ hx hb hml hown hts hA hK hP hD hS hret ls hl
  have hown : st.vm.findClass RX2 = some mi.cls := hown
  have hP : va_P (dC, dI) vwCl [(ad 0, .inr (1, [.int (nI n), .int (nI c), .ref (ad 1), .ref (ad 2), .ref (ad 3), .ref (ad 4), .ref (ad 5), .ref (ad 6)])), (ad 1, .inl (cI, 8, .inl O)), (ad 2, .inl (cI, 14, .inl T)), (ad 3, .inl (cI, 14, .inl Hd)), (ad 4, .inl (cI, 14, .inl G)), (ad 5, .inl (cI, 8, .inl Nw)), (ad 6, .inl (cI, 8, .inl Lt))] H := hP
  have hD : va_D A [(ad 0, .inr (1, [.int (nI n), .int (nI c), .ref (ad 1), .ref (ad 2), .ref (ad 3), .ref (ad 4), .ref (ad 5), .ref (ad 6)])), (ad 1, .inl (cI, 8, .inl O)), (ad 2, .inl (cI, 14, .inl T)), (ad 3, .inl (cI, 14, .inl Hd)), (ad 4, .inl (cI, 14, .inl G)), (ad 5, .inl (cI, 8, .inl Nw)), (ad 6, .inl (cI, 8, .inl Lt))] := hD
  generalize hlocs : ([] : List Loc) = locs at hS ⊢
  have hl : lv_has ls 7 [(0, .ref (ad 0)), (1, .int p0), (2, .int p1), (3, .int p2)] := hl
  have hn2 := hok.1
  have hn6 := hok.2.1
  have hc14 := hok.2.2.1
  refine lv_aload_n hx hb dX2_link_0 rfl (lv_at hl 0 rfl) ?_
  refine lv_iload_n hx hb dX2_link_1 rfl (lv_at hl 1 rfl) ?_
  refine e_callR (q0 := 0) (ci := 1) (rest := []) ⟨hx, hb, hml, hown, hts⟩ (metX2_bad l dC dI ad cI n c T Hd G O Nw Lt hok p0) (cwV 1 hts (lw_V q207 q209 qs9 q20 q210) rfl rfl rfl (by decide +kernel) ⟨Nat.le_of_ble_eq_true rfl, Nat.le_of_ble_eq_true rfl⟩) hK hP rfl rfl rfl rfl hl.1 rfl (Nat.le_of_ble_eq_true rfl) dX2_link_2 ⟨Nat.zero_le _, Nat.zero_le _⟩ (fun r_2 hr_2 => ?_)
  rcases hr_2 with ⟨rfl, hv_2⟩ | ⟨rfl, hv_2⟩
  · refine lv_if_ne (tgt := 16) hx hb dX2_link_5 (by decide) (fun c_5 => ?_) (fun c_5 => absurd c_5 (by decide))
    refine lv_iconst (v := -1) hx hb dX2_link_16 (by decide) ?_
    exact hret (c, T, Hd, G, O) dX2_link_17 (by unfold s_link; rw [if_pos (fun z => hv_2 z.1)]) hP hD hS
  · obtain ⟨j, hj, rfl⟩ := e_v_of hv_2 (by omega)
    refine lv_if_ne (tgt := 16) hx hb dX2_link_5 (by decide) (fun c_5 => absurd c_5 (by decide)) (fun c_5 => ?_)
    refine lv_aload_n hx hb dX2_link_8 rfl (lv_at hl 0 rfl) ?_
    refine lv_iload_n hx hb dX2_link_9 rfl (lv_at hl 2 rfl) ?_
    refine e_callR (q0 := 0) (ci := 1) (rest := []) ⟨hx, hb, hml, hown, hts⟩ (metX2_bad l dC dI ad cI n c T Hd G O Nw Lt hok p1) (cwV 1 hts (lw_V q207 q209 qs9 q20 q210) rfl rfl rfl (by decide +kernel) ⟨Nat.le_of_ble_eq_true rfl, Nat.le_of_ble_eq_true rfl⟩) hK hP rfl rfl rfl rfl hl.1 rfl (Nat.le_of_ble_eq_true rfl) dX2_link_10 ⟨Nat.zero_le _, Nat.zero_le _⟩ (fun r_10 hr_10 => ?_)
    rcases hr_10 with ⟨rfl, hv_10⟩ | ⟨rfl, hv_10⟩
    · refine lv_if_eq (tgt := 18) hx hb dX2_link_13 (by decide) (fun c_13 => absurd c_13 (by decide)) (fun c_13 => ?_)
      refine lv_iconst (v := -1) hx hb dX2_link_16 (by decide) ?_
      exact hret (c, T, Hd, G, O) dX2_link_17 (by unfold s_link; rw [if_pos (fun z => hv_10 z.2)]) hP hD hS
    · obtain ⟨i, hi, rfl⟩ := e_v_of hv_10 (by omega)
      refine lv_if_eq (tgt := 18) hx hb dX2_link_13 (by decide) (fun c_13 => ?_) (fun c_13 => absurd c_13 (by decide))
      refine lv_aload_n hx hb dX2_link_18 rfl (lv_at hl 0 rfl) ?_
      refine lv_iload_n hx hb dX2_link_19 rfl (lv_at hl 3 rfl) ?_
      refine e_callR (q0 := 0) (ci := 1) (rest := []) ⟨hx, hb, hml, hown, hts⟩ (metX2_badGain l dC dI ad cI n c T Hd G O Nw Lt p2) (cwV 1 hts (lw_V q215 q217 qs10 q20 q218) rfl rfl rfl (by decide +kernel) ⟨Nat.le_of_ble_eq_true rfl, Nat.le_of_ble_eq_true rfl⟩) hK hP rfl rfl rfl rfl hl.1 rfl (Nat.le_of_ble_eq_true rfl) dX2_link_20 ⟨Nat.zero_le _, Nat.zero_le _⟩ (fun r_20 hr_20 => ?_)
      rcases hr_20 with ⟨rfl, hv_20⟩ | ⟨rfl, hv_20⟩
      · refine lv_if_eq (tgt := 29) hx hb dX2_link_23 (by decide) (fun c_23 => absurd c_23 (by decide)) (fun c_23 => ?_)
        refine lv_bipush (v := -2) hx hb dX2_link_26 (by decide) ?_
        exact hret (c, T, Hd, G, O) dX2_link_28 (by unfold s_link; rw [if_neg (fun z => z ⟨hv_2, hv_10⟩), if_pos hv_20]) hP hD hS
      · refine lv_if_eq (tgt := 29) hx hb dX2_link_23 (by decide) (fun c_23 => ?_) (fun c_23 => absurd c_23 (by decide))
        refine lv_aload_n hx hb dX2_link_29 rfl (lv_at hl 0 rfl) ?_
        refine va_get (D := (dC, dI)) (ci := 1) (v := .int (nI c)) (C := RX2) (T := TX2) (N := 8) hx hb hts in_X2 hown hK hP 0 rfl rfl 1 (by decide) (hts _ q175) (fun _ h9 => h9) rfl dX2_link_30 ?_
        refine lv_istore (lv' := [(4, .int (nI c)), (0, .ref (ad 0)), (1, .int (nI j)), (2, .int (nI i)), (3, .int p2)]) hx hb dX2_link_33 hl (by decide) rfl (fun ls hl => ?_)
        refine lv_iload hx hb dX2_link_35 (lv_at hl 0 rfl) ?_
        refine lv_bipush (v := nI 14) hx hb dX2_link_37 (by decide) ?_
        refine lv_icmp_lt (tgt := 45) hx hb dX2_link_39 (by decide) (fun c_39 => ?_) (fun c_39 => ?_)
        · have d_39 : c < 14 := (nI_ltI (by omega) (by omega)).mp c_39
          refine lv_iconst (v := nI 0) hx hb dX2_link_45 (by decide) ?_
          refine lv_istore (lv' := [(5, .int (nI 0)), (4, .int (nI c)), (0, .ref (ad 0)), (1, .int (nI j)), (2, .int (nI i)), (3, .int p2)]) hx hb dX2_link_46 hl (by decide) rfl (fun ls hl => ?_)
          refine lv_iconst (v := nI 0) hx hb dX2_link_48 (by decide) ?_
          refine lv_istore (lv' := [(6, .int (nI 0)), (5, .int (nI 0)), (4, .int (nI c)), (0, .ref (ad 0)), (1, .int (nI j)), (2, .int (nI i)), (3, .int p2)]) hx hb dX2_link_49 hl (by decide) rfl (fun ls hl => ?_)
          have lp_51 : ∀ (k_51 : Nat) (e : Nat), (e ≤ c) → (c < e + k_51) → ∀ (H : Heap) (locs : List Loc), va_P (dC, dI) vwCl [(ad 0, .inr (1, [.int (nI n), .int (nI c), .ref (ad 1), .ref (ad 2), .ref (ad 3), .ref (ad 4), .ref (ad 5), .ref (ad 6)])), (ad 1, .inl (cI, 8, .inl O)), (ad 2, .inl (cI, 14, .inl T)), (ad 3, .inl (cI, 14, .inl Hd)), (ad 4, .inl (cI, 14, .inl G)), (ad 5, .inl (cI, 8, .inl Nw)), (ad 6, .inl (cI, 8, .inl Lt))] H → va_D A [(ad 0, .inr (1, [.int (nI n), .int (nI c), .ref (ad 1), .ref (ad 2), .ref (ad 3), .ref (ad 4), .ref (ad 5), .ref (ad 6)])), (ad 1, .inl (cI, 8, .inl O)), (ad 2, .inl (cI, 14, .inl T)), (ad 3, .inl (cI, 14, .inl Hd)), (ad 4, .inl (cI, 14, .inl G)), (ad 5, .inl (cI, 8, .inl Nw)), (ad 6, .inl (cI, 8, .inl Lt))] → va_S A st.heap H locs → ∀ ls : Array Slot, lv_has ls 7 [(0, .ref (ad 0)), (1, .int (nI j)), (2, .int (nI i)), (3, .int p2), (4, .int (nI c)), (5, .int (nI (e_deg T (nI j) e))), (6, .int (nI e))] → W pg l ev rX2_link st mi ar bl mt cd H locs 0 0 QQ (F0 mi 51 ls []) := by
            intro k_51
            induction k_51 with
            | zero =>
              intro e he hk
              exfalso; omega
            | succ k_51 ih_51 =>
              intro e he hk H locs hP hD hS ls hl
              refine lv_iload hx hb dX2_link_51 (lv_at hl 6 rfl) ?_
              refine lv_iload hx hb dX2_link_53 (lv_at hl 4 rfl) ?_
              refine e_ge (tgt := 78) hx hb (by omega) (by omega) dX2_link_55 (by decide) (fun c_55 => ?_) (fun c_55 => ?_)
              · have heq : c = e := by omega
                subst heq
                have hdc := e_deg_le (T := T) (u := nI j) c
                refine lv_iload hx hb dX2_link_78 (lv_at hl 5 rfl) ?_
                refine lv_iconst (v := nI 3) hx hb dX2_link_80 (by decide) ?_
                refine lv_icmp_lt (tgt := 87) hx hb dX2_link_81 (by decide) (fun c_81 => ?_) (fun c_81 => ?_)
                · have d_81 : e_deg T (nI j) c < 3 := (nI_ltI (by omega) (by omega)).mp c_81
                  refine lv_aload_n hx hb dX2_link_87 rfl (lv_at hl 0 rfl) ?_
                  refine va_get (D := (dC, dI)) (ci := 1) (v := .ref (ad 2)) (C := RX2) (T := TX2) (N := 8) hx hb hts in_X2 hown hK hP 0 rfl rfl 3 (by decide) (hts _ q177) (fun _ h9 => h9) rfl dX2_link_88 ?_
                  refine lv_iload hx hb dX2_link_91 (lv_at hl 4 rfl) ?_
                  refine lv_iload_n hx hb dX2_link_93 rfl (lv_at hl 1 rfl) ?_
                  refine e_ist (f2 := upd T c (nI j)) hx hb hK hP hD hS 2 0 rfl rfl c rfl (by omega) (by decide) rfl dX2_link_94 (fun H locs hP hD hS => ?_)
                  have hP : va_P (dC, dI) vwCl [(ad 0, .inr (1, [.int (nI n), .int (nI c), .ref (ad 1), .ref (ad 2), .ref (ad 3), .ref (ad 4), .ref (ad 5), .ref (ad 6)])), (ad 1, .inl (cI, 8, .inl O)), (ad 2, .inl (cI, 14, .inl (upd T c (nI j)))), (ad 3, .inl (cI, 14, .inl Hd)), (ad 4, .inl (cI, 14, .inl G)), (ad 5, .inl (cI, 8, .inl Nw)), (ad 6, .inl (cI, 8, .inl Lt))] H := hP
                  have hD : va_D A [(ad 0, .inr (1, [.int (nI n), .int (nI c), .ref (ad 1), .ref (ad 2), .ref (ad 3), .ref (ad 4), .ref (ad 5), .ref (ad 6)])), (ad 1, .inl (cI, 8, .inl O)), (ad 2, .inl (cI, 14, .inl (upd T c (nI j)))), (ad 3, .inl (cI, 14, .inl Hd)), (ad 4, .inl (cI, 14, .inl G)), (ad 5, .inl (cI, 8, .inl Nw)), (ad 6, .inl (cI, 8, .inl Lt))] := hD
                  refine lv_aload_n hx hb dX2_link_95 rfl (lv_at hl 0 rfl) ?_
                  refine va_get (D := (dC, dI)) (ci := 1) (v := .ref (ad 3)) (C := RX2) (T := TX2) (N := 8) hx hb hts in_X2 hown hK hP 0 rfl rfl 4 (by decide) (hts _ q178) (fun _ h9 => h9) rfl dX2_link_96 ?_
                  refine lv_iload hx hb dX2_link_99 (lv_at hl 4 rfl) ?_
                  refine lv_iload_n hx hb dX2_link_101 rfl (lv_at hl 2 rfl) ?_
                  refine e_ist (f2 := upd Hd c (nI i)) hx hb hK hP hD hS 3 0 rfl rfl c rfl (by omega) (by decide) rfl dX2_link_102 (fun H locs hP hD hS => ?_)
                  have hP : va_P (dC, dI) vwCl [(ad 0, .inr (1, [.int (nI n), .int (nI c), .ref (ad 1), .ref (ad 2), .ref (ad 3), .ref (ad 4), .ref (ad 5), .ref (ad 6)])), (ad 1, .inl (cI, 8, .inl O)), (ad 2, .inl (cI, 14, .inl (upd T c (nI j)))), (ad 3, .inl (cI, 14, .inl (upd Hd c (nI i)))), (ad 4, .inl (cI, 14, .inl G)), (ad 5, .inl (cI, 8, .inl Nw)), (ad 6, .inl (cI, 8, .inl Lt))] H := hP
                  have hD : va_D A [(ad 0, .inr (1, [.int (nI n), .int (nI c), .ref (ad 1), .ref (ad 2), .ref (ad 3), .ref (ad 4), .ref (ad 5), .ref (ad 6)])), (ad 1, .inl (cI, 8, .inl O)), (ad 2, .inl (cI, 14, .inl (upd T c (nI j)))), (ad 3, .inl (cI, 14, .inl (upd Hd c (nI i)))), (ad 4, .inl (cI, 14, .inl G)), (ad 5, .inl (cI, 8, .inl Nw)), (ad 6, .inl (cI, 8, .inl Lt))] := hD
                  refine lv_aload_n hx hb dX2_link_103 rfl (lv_at hl 0 rfl) ?_
                  refine va_get (D := (dC, dI)) (ci := 1) (v := .ref (ad 4)) (C := RX2) (T := TX2) (N := 8) hx hb hts in_X2 hown hK hP 0 rfl rfl 5 (by decide) (hts _ q179) (fun _ h9 => h9) rfl dX2_link_104 ?_
                  refine lv_iload hx hb dX2_link_107 (lv_at hl 4 rfl) ?_
                  refine lv_iload_n hx hb dX2_link_109 rfl (lv_at hl 3 rfl) ?_
                  refine e_ist (f2 := upd G c p2) hx hb hK hP hD hS 4 0 rfl rfl c rfl (by omega) (by decide) rfl dX2_link_110 (fun H locs hP hD hS => ?_)
                  have hP : va_P (dC, dI) vwCl [(ad 0, .inr (1, [.int (nI n), .int (nI c), .ref (ad 1), .ref (ad 2), .ref (ad 3), .ref (ad 4), .ref (ad 5), .ref (ad 6)])), (ad 1, .inl (cI, 8, .inl O)), (ad 2, .inl (cI, 14, .inl (upd T c (nI j)))), (ad 3, .inl (cI, 14, .inl (upd Hd c (nI i)))), (ad 4, .inl (cI, 14, .inl (upd G c p2))), (ad 5, .inl (cI, 8, .inl Nw)), (ad 6, .inl (cI, 8, .inl Lt))] H := hP
                  have hD : va_D A [(ad 0, .inr (1, [.int (nI n), .int (nI c), .ref (ad 1), .ref (ad 2), .ref (ad 3), .ref (ad 4), .ref (ad 5), .ref (ad 6)])), (ad 1, .inl (cI, 8, .inl O)), (ad 2, .inl (cI, 14, .inl (upd T c (nI j)))), (ad 3, .inl (cI, 14, .inl (upd Hd c (nI i)))), (ad 4, .inl (cI, 14, .inl (upd G c p2))), (ad 5, .inl (cI, 8, .inl Nw)), (ad 6, .inl (cI, 8, .inl Lt))] := hD
                  refine lv_aload_n hx hb dX2_link_111 rfl (lv_at hl 0 rfl) ?_
                  refine lv_iload hx hb dX2_link_112 (lv_at hl 4 rfl) ?_
                  refine lv_iconst (v := 1) hx hb dX2_link_114 (by decide) ?_
                  refine lv_iadd hx hb dX2_link_115 ?_
                  refine e_top (nI (c + 1)) (nI_1 c) ?_
                  refine va_put (D := (dC, dI)) (ci := 1) (v := .int (nI (c + 1))) (ty := .int) (C := RX2) (T := TX2) (N := 8) hx hb hts in_X2 tyX2 tyX2_ok nmX2 hown hK hP hD hS 0 rfl rfl 1 (by decide) (hts _ q175) (fun _ h9 => h9) rfl (by decide +kernel) rfl rfl (Nat.le_of_ble_eq_true rfl) dX2_link_116 (fun H locs hP hD hS => ?_)
                  have hP : va_P (dC, dI) vwCl [(ad 0, .inr (1, [.int (nI n), .int (nI (c + 1)), .ref (ad 1), .ref (ad 2), .ref (ad 3), .ref (ad 4), .ref (ad 5), .ref (ad 6)])), (ad 1, .inl (cI, 8, .inl O)), (ad 2, .inl (cI, 14, .inl (upd T c (nI j)))), (ad 3, .inl (cI, 14, .inl (upd Hd c (nI i)))), (ad 4, .inl (cI, 14, .inl (upd G c p2))), (ad 5, .inl (cI, 8, .inl Nw)), (ad 6, .inl (cI, 8, .inl Lt))] H := hP
                  have hD : va_D A [(ad 0, .inr (1, [.int (nI n), .int (nI (c + 1)), .ref (ad 1), .ref (ad 2), .ref (ad 3), .ref (ad 4), .ref (ad 5), .ref (ad 6)])), (ad 1, .inl (cI, 8, .inl O)), (ad 2, .inl (cI, 14, .inl (upd T c (nI j)))), (ad 3, .inl (cI, 14, .inl (upd Hd c (nI i)))), (ad 4, .inl (cI, 14, .inl (upd G c p2))), (ad 5, .inl (cI, 8, .inl Nw)), (ad 6, .inl (cI, 8, .inl Lt))] := hD
                  refine lv_iload hx hb dX2_link_119 (lv_at hl 4 rfl) ?_
                  exact hret (c + 1, upd T c (nI j), upd Hd c (nI i), upd G c p2, O) dX2_link_121 (by unfold s_link; rw [if_neg (fun z => z ⟨hv_2, hv_10⟩), if_neg (fun z => z hv_20), if_neg (by omega), if_neg (by omega)]) hP hD hS
                · have d_81 : 3 ≤ e_deg T (nI j) c := Nat.not_lt.mp fun z => c_81 (nI_lt z (by omega))
                  refine lv_bipush (v := -4) hx hb dX2_link_84 (by decide) ?_
                  exact hret (c, T, Hd, G, O) dX2_link_86 (by unfold s_link; rw [if_neg (fun z => z ⟨hv_2, hv_10⟩), if_neg (fun z => z hv_20), if_neg (by omega), if_pos d_81]) hP hD hS
              · refine lv_aload_n hx hb dX2_link_58 rfl (lv_at hl 0 rfl) ?_
                refine va_get (D := (dC, dI)) (ci := 1) (v := .ref (ad 2)) (C := RX2) (T := TX2) (N := 8) hx hb hts in_X2 hown hK hP 0 rfl rfl 3 (by decide) (hts _ q177) (fun _ h9 => h9) rfl dX2_link_59 ?_
                refine lv_iload hx hb dX2_link_62 (lv_at hl 6 rfl) ?_
                refine e_ild (v := T e) hx hb hK hP 2 0 rfl rfl e rfl (by omega) (by decide) rfl dX2_link_64 ?_
                refine lv_iload_n hx hb dX2_link_65 rfl (lv_at hl 1 rfl) ?_
                refine lv_icmp_ne (tgt := 72) hx hb dX2_link_66 (by decide) (fun c_66 => ?_) (fun c_66 => ?_)
                · refine lv_iinc (v := nI (e + 1)) (lv' := [(6, .int (nI (e + 1))), (0, .ref (ad 0)), (1, .int (nI j)), (2, .int (nI i)), (3, .int p2), (4, .int (nI c)), (5, .int (nI (e_deg T (nI j) e)))]) hx hb dX2_link_72 hl (k := 6) rfl (e_inc _) (by decide) rfl (fun ls hl => ?_)
                  refine lv_goto (tgt := 51) hx hb dX2_link_75 (by decide) ?_
                  rw [← e_deg_n2 c_66] at hl
                  exact ih_51 (e + 1) (by omega) (by omega) _ _ hP hD hS ls (lv_sub hl [1, 2, 3, 4, 5, 6, 0] rfl)
                · refine lv_iinc (v := nI ((e_deg T (nI j) e) + 1)) (lv' := [(5, .int (nI ((e_deg T (nI j) e) + 1))), (0, .ref (ad 0)), (1, .int (nI j)), (2, .int (nI i)), (3, .int p2), (4, .int (nI c)), (6, .int (nI e))]) hx hb dX2_link_69 hl (k := 5) rfl (e_inc _) (by decide) rfl (fun ls hl => ?_)
                  refine lv_iinc (v := nI (e + 1)) (lv' := [(6, .int (nI (e + 1))), (5, .int (nI ((e_deg T (nI j) e) + 1))), (0, .ref (ad 0)), (1, .int (nI j)), (2, .int (nI i)), (3, .int p2), (4, .int (nI c))]) hx hb dX2_link_72 hl (k := 6) rfl (e_inc _) (by decide) rfl (fun ls hl => ?_)
                  refine lv_goto (tgt := 51) hx hb dX2_link_75 (by decide) ?_
                  rw [e_deg_y2 c_66] at hl
                  exact ih_51 (e + 1) (by omega) (by omega) _ _ hP hD hS ls (lv_sub hl [2, 3, 4, 5, 6, 1, 0] rfl)
          exact lp_51 (c + 1) 0 (by omega) (by omega) _ _ hP hD hS ls (lv_sub hl [3, 4, 5, 6, 2, 1, 0] rfl)
        · have d_39 : 14 ≤ c := Nat.not_lt.mp fun z => c_39 (nI_lt z (by omega))
          refine lv_bipush (v := -3) hx hb dX2_link_42 (by decide) ?_
          exact hret (c, T, Hd, G, O) dX2_link_44 (by unfold s_link; rw [if_neg (fun z => z ⟨hv_2, hv_10⟩), if_neg (fun z => z hv_20), if_pos d_39]) hP hD hS
abbrev rX2_cut : Room := { frames := 1, cells := 0, slots := 0, locals := 21 }
set_option maxHeartbeats 4000000 in
set_option maxRecDepth 100000 in
theorem metX2_cut (l : Launch) (dC : Nat → ClassId) (dI : Nat → Nat → Nat) (ad : Nat → Nat) (cI : ClassId) (n c : Nat) (T Hd G O Nw Lt : eFn) (hok : e_ok n c T Hd G) (p0 : Int32) (sz : Nat) : Met l yX2_cut (ws_ yX2_cut cX2_cut 3 (some .int)) rX2_cut (va_Pc [.ref (ad 0), .int p0] (e_PW (dC, dI) vwCl [(cI, .int)] (wM ad cI n c T Hd G O Nw Lt) sz)) (va_Qi (fun r (u : eC) => (r, u) = s_cut n c T Hd G O p0) (e_B (dC, dI) vwCl [(cI, .int)] (fun u => wM ad cI n u.1 u.2.1 u.2.2.1 u.2.2.2.1 u.2.2.2.2 Nw Lt) (va_A (wM ad cI n c T Hd G O Nw Lt) sz)) (va_A (wM ad cI n c T Hd G O Nw Lt) sz)) 0 0 (va_A (wM ad cI n c T Hd G O Nw Lt) sz) := by
  refine e_startWi (by decide) (Nat.le_of_ble_eq_true rfl) ?_
  intro pg ev st mi ar bl mt cd H A QQ hx hb hml hown hts hA hK hP hD hS hret ls hl
  have hown : st.vm.findClass RX2 = some mi.cls := hown
  have hP : va_P (dC, dI) vwCl [(ad 0, .inr (1, [.int (nI n), .int (nI c), .ref (ad 1), .ref (ad 2), .ref (ad 3), .ref (ad 4), .ref (ad 5), .ref (ad 6)])), (ad 1, .inl (cI, 8, .inl O)), (ad 2, .inl (cI, 14, .inl T)), (ad 3, .inl (cI, 14, .inl Hd)), (ad 4, .inl (cI, 14, .inl G)), (ad 5, .inl (cI, 8, .inl Nw)), (ad 6, .inl (cI, 8, .inl Lt))] H := hP
  have hD : va_D A [(ad 0, .inr (1, [.int (nI n), .int (nI c), .ref (ad 1), .ref (ad 2), .ref (ad 3), .ref (ad 4), .ref (ad 5), .ref (ad 6)])), (ad 1, .inl (cI, 8, .inl O)), (ad 2, .inl (cI, 14, .inl T)), (ad 3, .inl (cI, 14, .inl Hd)), (ad 4, .inl (cI, 14, .inl G)), (ad 5, .inl (cI, 8, .inl Nw)), (ad 6, .inl (cI, 8, .inl Lt))] := hD
  generalize hlocs : ([] : List Loc) = locs at hS ⊢
  have hl : lv_has ls 3 [(0, .ref (ad 0)), (1, .int p0)] := hl
  have hn2 := hok.1
  have hn6 := hok.2.1
  have hc14 := hok.2.2.1
  refine lv_aload_n hx hb dX2_cut_0 rfl (lv_at hl 0 rfl) ?_
  refine lv_iload_n hx hb dX2_cut_1 rfl (lv_at hl 1 rfl) ?_
  refine e_callR (q0 := 0) (ci := 1) (rest := []) ⟨hx, hb, hml, hown, hts⟩ (metX2_badEdge l dC dI ad cI n c T Hd G O Nw Lt hok p0) (cwV 1 hts (lw_V q223 q225 qs11 q20 q226) rfl rfl rfl (by decide +kernel) ⟨Nat.le_of_ble_eq_true rfl, Nat.le_of_ble_eq_true rfl⟩) hK hP rfl rfl rfl rfl hl.1 rfl (Nat.le_of_ble_eq_true rfl) dX2_cut_2 ⟨Nat.zero_le _, Nat.zero_le _⟩ (fun r_2 hr_2 => ?_)
  rcases hr_2 with ⟨rfl, hv_2⟩ | ⟨rfl, hv_2⟩
  · refine lv_if_eq (tgt := 10) hx hb dX2_cut_5 (by decide) (fun c_5 => absurd c_5 (by decide)) (fun c_5 => ?_)
    refine lv_iconst (v := -1) hx hb dX2_cut_8 (by decide) ?_
    exact hret (c, T, Hd, G, O) dX2_cut_9 (by unfold s_cut; rw [if_pos hv_2]) hP hD hS
  · obtain ⟨j, hj, rfl⟩ := e_v_of hv_2 (by omega)
    refine lv_if_eq (tgt := 10) hx hb dX2_cut_5 (by decide) (fun c_5 => ?_) (fun c_5 => absurd c_5 (by decide))
    refine lv_iload_n hx hb dX2_cut_10 rfl (lv_at hl 1 rfl) ?_
    refine lv_istore_n (lv' := [(2, .int (nI j)), (0, .ref (ad 0)), (1, .int (nI j))]) hx hb dX2_cut_11 rfl hl (by decide) rfl (fun ls hl => ?_)
    have lp_12 : ∀ (k_12 : Nat) (e : Nat), (j ≤ e) → (e + 1 ≤ c) → (c < e + k_12) → ∀ (H : Heap) (locs : List Loc), va_P (dC, dI) vwCl [(ad 0, .inr (1, [.int (nI n), .int (nI c), .ref (ad 1), .ref (ad 2), .ref (ad 3), .ref (ad 4), .ref (ad 5), .ref (ad 6)])), (ad 1, .inl (cI, 8, .inl O)), (ad 2, .inl (cI, 14, .inl (e_shf T j (e + 1)))), (ad 3, .inl (cI, 14, .inl (e_shf Hd j (e + 1)))), (ad 4, .inl (cI, 14, .inl (e_shf G j (e + 1)))), (ad 5, .inl (cI, 8, .inl Nw)), (ad 6, .inl (cI, 8, .inl Lt))] H → va_D A [(ad 0, .inr (1, [.int (nI n), .int (nI c), .ref (ad 1), .ref (ad 2), .ref (ad 3), .ref (ad 4), .ref (ad 5), .ref (ad 6)])), (ad 1, .inl (cI, 8, .inl O)), (ad 2, .inl (cI, 14, .inl (e_shf T j (e + 1)))), (ad 3, .inl (cI, 14, .inl (e_shf Hd j (e + 1)))), (ad 4, .inl (cI, 14, .inl (e_shf G j (e + 1)))), (ad 5, .inl (cI, 8, .inl Nw)), (ad 6, .inl (cI, 8, .inl Lt))] → va_S A st.heap H locs → ∀ ls : Array Slot, lv_has ls 3 [(0, .ref (ad 0)), (1, .int (nI j)), (2, .int (nI e))] → W pg l ev rX2_cut st mi ar bl mt cd H locs 0 0 QQ (F0 mi 12 ls []) := by
      intro k_12
      induction k_12 with
      | zero =>
        intro e hje he hk
        exfalso; omega
      | succ k_12 ih_12 =>
        intro e hje he hk H locs hP hD hS ls hl
        refine lv_iload_n hx hb dX2_cut_12 rfl (lv_at hl 2 rfl) ?_
        refine lv_aload_n hx hb dX2_cut_13 rfl (lv_at hl 0 rfl) ?_
        refine va_get (D := (dC, dI)) (ci := 1) (v := .int (nI c)) (C := RX2) (T := TX2) (N := 8) hx hb hts in_X2 hown hK hP 0 rfl rfl 1 (by decide) (hts _ q175) (fun _ h9 => h9) rfl dX2_cut_14 ?_
        refine lv_iconst (v := 1) hx hb dX2_cut_17 (by decide) ?_
        refine lv_isub hx hb dX2_cut_18 ?_
        refine e_top (nI (c - 1)) (e_pred (by omega)) ?_
        refine e_ge (tgt := 76) hx hb (by omega) (by omega) dX2_cut_19 (by decide) (fun c_19 => ?_) (fun c_19 => ?_)
        · have heq : e + 1 = c := by omega
          rw [heq] at hP hD
          refine lv_aload_n hx hb dX2_cut_76 rfl (lv_at hl 0 rfl) ?_
          refine lv_dup hx hb dX2_cut_77 rfl ?_
          refine va_get (D := (dC, dI)) (ci := 1) (v := .int (nI c)) (C := RX2) (T := TX2) (N := 8) hx hb hts in_X2 hown hK hP 0 rfl rfl 1 (by decide) (hts _ q175) (fun _ h9 => h9) rfl dX2_cut_78 ?_
          refine lv_iconst (v := 1) hx hb dX2_cut_81 (by decide) ?_
          refine lv_isub hx hb dX2_cut_82 ?_
          refine e_top (nI (c - 1)) (e_pred (by omega)) ?_
          refine va_put (D := (dC, dI)) (ci := 1) (v := .int (nI (c - 1))) (ty := .int) (C := RX2) (T := TX2) (N := 8) hx hb hts in_X2 tyX2 tyX2_ok nmX2 hown hK hP hD hS 0 rfl rfl 1 (by decide) (hts _ q175) (fun _ h9 => h9) rfl (by decide +kernel) rfl rfl (Nat.le_of_ble_eq_true rfl) dX2_cut_83 (fun H locs hP hD hS => ?_)
          have hP : va_P (dC, dI) vwCl [(ad 0, .inr (1, [.int (nI n), .int (nI (c - 1)), .ref (ad 1), .ref (ad 2), .ref (ad 3), .ref (ad 4), .ref (ad 5), .ref (ad 6)])), (ad 1, .inl (cI, 8, .inl O)), (ad 2, .inl (cI, 14, .inl (e_shf T j c))), (ad 3, .inl (cI, 14, .inl (e_shf Hd j c))), (ad 4, .inl (cI, 14, .inl (e_shf G j c))), (ad 5, .inl (cI, 8, .inl Nw)), (ad 6, .inl (cI, 8, .inl Lt))] H := hP
          have hD : va_D A [(ad 0, .inr (1, [.int (nI n), .int (nI (c - 1)), .ref (ad 1), .ref (ad 2), .ref (ad 3), .ref (ad 4), .ref (ad 5), .ref (ad 6)])), (ad 1, .inl (cI, 8, .inl O)), (ad 2, .inl (cI, 14, .inl (e_shf T j c))), (ad 3, .inl (cI, 14, .inl (e_shf Hd j c))), (ad 4, .inl (cI, 14, .inl (e_shf G j c))), (ad 5, .inl (cI, 8, .inl Nw)), (ad 6, .inl (cI, 8, .inl Lt))] := hD
          refine lv_aload_n hx hb dX2_cut_86 rfl (lv_at hl 0 rfl) ?_
          refine va_get (D := (dC, dI)) (ci := 1) (v := .int (nI (c - 1))) (C := RX2) (T := TX2) (N := 8) hx hb hts in_X2 hown hK hP 0 rfl rfl 1 (by decide) (hts _ q175) (fun _ h9 => h9) rfl dX2_cut_87 ?_
          exact hret (c - 1, e_shf T j c, e_shf Hd j c, e_shf G j c, O) dX2_cut_90 (by unfold s_cut; rw [if_neg (fun z => z hv_2), nI_clamp (by omega)]) hP hD hS
        · refine lv_iload_n hx hb dX2_cut_22 rfl (lv_at hl 2 rfl) ?_
          refine lv_bipush (v := nI 13) hx hb dX2_cut_23 (by decide) ?_
          refine e_ge (tgt := 76) hx hb (by omega) (by omega) dX2_cut_25 (by decide) (fun c_25 => absurd c_25 (by omega)) (fun c_25 => ?_)
          refine lv_aload_n hx hb dX2_cut_28 rfl (lv_at hl 0 rfl) ?_
          refine va_get (D := (dC, dI)) (ci := 1) (v := .ref (ad 2)) (C := RX2) (T := TX2) (N := 8) hx hb hts in_X2 hown hK hP 0 rfl rfl 3 (by decide) (hts _ q177) (fun _ h9 => h9) rfl dX2_cut_29 ?_
          refine lv_iload_n hx hb dX2_cut_32 rfl (lv_at hl 2 rfl) ?_
          refine lv_aload_n hx hb dX2_cut_33 rfl (lv_at hl 0 rfl) ?_
          refine va_get (D := (dC, dI)) (ci := 1) (v := .ref (ad 2)) (C := RX2) (T := TX2) (N := 8) hx hb hts in_X2 hown hK hP 0 rfl rfl 3 (by decide) (hts _ q177) (fun _ h9 => h9) rfl dX2_cut_34 ?_
          refine lv_iload_n hx hb dX2_cut_37 rfl (lv_at hl 2 rfl) ?_
          refine lv_iconst (v := 1) hx hb dX2_cut_38 (by decide) ?_
          refine lv_iadd hx hb dX2_cut_39 ?_
          refine e_top (nI (e + 1)) (nI_1 e) ?_
          refine e_ild (v := T (e + 1)) hx hb hK hP 2 0 rfl rfl (e + 1) rfl (by omega) (by decide) e_shf_at dX2_cut_40 ?_
          refine e_ist (f2 := e_shf T j (e + 1 + 1)) hx hb hK hP hD hS 2 0 rfl rfl e rfl (by omega) (by decide) (e_shf_s (by omega)) dX2_cut_41 (fun H locs hP hD hS => ?_)
          have hP : va_P (dC, dI) vwCl [(ad 0, .inr (1, [.int (nI n), .int (nI c), .ref (ad 1), .ref (ad 2), .ref (ad 3), .ref (ad 4), .ref (ad 5), .ref (ad 6)])), (ad 1, .inl (cI, 8, .inl O)), (ad 2, .inl (cI, 14, .inl (e_shf T j (e + 1 + 1)))), (ad 3, .inl (cI, 14, .inl (e_shf Hd j (e + 1)))), (ad 4, .inl (cI, 14, .inl (e_shf G j (e + 1)))), (ad 5, .inl (cI, 8, .inl Nw)), (ad 6, .inl (cI, 8, .inl Lt))] H := hP
          have hD : va_D A [(ad 0, .inr (1, [.int (nI n), .int (nI c), .ref (ad 1), .ref (ad 2), .ref (ad 3), .ref (ad 4), .ref (ad 5), .ref (ad 6)])), (ad 1, .inl (cI, 8, .inl O)), (ad 2, .inl (cI, 14, .inl (e_shf T j (e + 1 + 1)))), (ad 3, .inl (cI, 14, .inl (e_shf Hd j (e + 1)))), (ad 4, .inl (cI, 14, .inl (e_shf G j (e + 1)))), (ad 5, .inl (cI, 8, .inl Nw)), (ad 6, .inl (cI, 8, .inl Lt))] := hD
          refine lv_aload_n hx hb dX2_cut_42 rfl (lv_at hl 0 rfl) ?_
          refine va_get (D := (dC, dI)) (ci := 1) (v := .ref (ad 3)) (C := RX2) (T := TX2) (N := 8) hx hb hts in_X2 hown hK hP 0 rfl rfl 4 (by decide) (hts _ q178) (fun _ h9 => h9) rfl dX2_cut_43 ?_
          refine lv_iload_n hx hb dX2_cut_46 rfl (lv_at hl 2 rfl) ?_
          refine lv_aload_n hx hb dX2_cut_47 rfl (lv_at hl 0 rfl) ?_
          refine va_get (D := (dC, dI)) (ci := 1) (v := .ref (ad 3)) (C := RX2) (T := TX2) (N := 8) hx hb hts in_X2 hown hK hP 0 rfl rfl 4 (by decide) (hts _ q178) (fun _ h9 => h9) rfl dX2_cut_48 ?_
          refine lv_iload_n hx hb dX2_cut_51 rfl (lv_at hl 2 rfl) ?_
          refine lv_iconst (v := 1) hx hb dX2_cut_52 (by decide) ?_
          refine lv_iadd hx hb dX2_cut_53 ?_
          refine e_top (nI (e + 1)) (nI_1 e) ?_
          refine e_ild (v := Hd (e + 1)) hx hb hK hP 3 0 rfl rfl (e + 1) rfl (by omega) (by decide) e_shf_at dX2_cut_54 ?_
          refine e_ist (f2 := e_shf Hd j (e + 1 + 1)) hx hb hK hP hD hS 3 0 rfl rfl e rfl (by omega) (by decide) (e_shf_s (by omega)) dX2_cut_55 (fun H locs hP hD hS => ?_)
          have hP : va_P (dC, dI) vwCl [(ad 0, .inr (1, [.int (nI n), .int (nI c), .ref (ad 1), .ref (ad 2), .ref (ad 3), .ref (ad 4), .ref (ad 5), .ref (ad 6)])), (ad 1, .inl (cI, 8, .inl O)), (ad 2, .inl (cI, 14, .inl (e_shf T j (e + 1 + 1)))), (ad 3, .inl (cI, 14, .inl (e_shf Hd j (e + 1 + 1)))), (ad 4, .inl (cI, 14, .inl (e_shf G j (e + 1)))), (ad 5, .inl (cI, 8, .inl Nw)), (ad 6, .inl (cI, 8, .inl Lt))] H := hP
          have hD : va_D A [(ad 0, .inr (1, [.int (nI n), .int (nI c), .ref (ad 1), .ref (ad 2), .ref (ad 3), .ref (ad 4), .ref (ad 5), .ref (ad 6)])), (ad 1, .inl (cI, 8, .inl O)), (ad 2, .inl (cI, 14, .inl (e_shf T j (e + 1 + 1)))), (ad 3, .inl (cI, 14, .inl (e_shf Hd j (e + 1 + 1)))), (ad 4, .inl (cI, 14, .inl (e_shf G j (e + 1)))), (ad 5, .inl (cI, 8, .inl Nw)), (ad 6, .inl (cI, 8, .inl Lt))] := hD
          refine lv_aload_n hx hb dX2_cut_56 rfl (lv_at hl 0 rfl) ?_
          refine va_get (D := (dC, dI)) (ci := 1) (v := .ref (ad 4)) (C := RX2) (T := TX2) (N := 8) hx hb hts in_X2 hown hK hP 0 rfl rfl 5 (by decide) (hts _ q179) (fun _ h9 => h9) rfl dX2_cut_57 ?_
          refine lv_iload_n hx hb dX2_cut_60 rfl (lv_at hl 2 rfl) ?_
          refine lv_aload_n hx hb dX2_cut_61 rfl (lv_at hl 0 rfl) ?_
          refine va_get (D := (dC, dI)) (ci := 1) (v := .ref (ad 4)) (C := RX2) (T := TX2) (N := 8) hx hb hts in_X2 hown hK hP 0 rfl rfl 5 (by decide) (hts _ q179) (fun _ h9 => h9) rfl dX2_cut_62 ?_
          refine lv_iload_n hx hb dX2_cut_65 rfl (lv_at hl 2 rfl) ?_
          refine lv_iconst (v := 1) hx hb dX2_cut_66 (by decide) ?_
          refine lv_iadd hx hb dX2_cut_67 ?_
          refine e_top (nI (e + 1)) (nI_1 e) ?_
          refine e_ild (v := G (e + 1)) hx hb hK hP 4 0 rfl rfl (e + 1) rfl (by omega) (by decide) e_shf_at dX2_cut_68 ?_
          refine e_ist (f2 := e_shf G j (e + 1 + 1)) hx hb hK hP hD hS 4 0 rfl rfl e rfl (by omega) (by decide) (e_shf_s (by omega)) dX2_cut_69 (fun H locs hP hD hS => ?_)
          have hP : va_P (dC, dI) vwCl [(ad 0, .inr (1, [.int (nI n), .int (nI c), .ref (ad 1), .ref (ad 2), .ref (ad 3), .ref (ad 4), .ref (ad 5), .ref (ad 6)])), (ad 1, .inl (cI, 8, .inl O)), (ad 2, .inl (cI, 14, .inl (e_shf T j (e + 1 + 1)))), (ad 3, .inl (cI, 14, .inl (e_shf Hd j (e + 1 + 1)))), (ad 4, .inl (cI, 14, .inl (e_shf G j (e + 1 + 1)))), (ad 5, .inl (cI, 8, .inl Nw)), (ad 6, .inl (cI, 8, .inl Lt))] H := hP
          have hD : va_D A [(ad 0, .inr (1, [.int (nI n), .int (nI c), .ref (ad 1), .ref (ad 2), .ref (ad 3), .ref (ad 4), .ref (ad 5), .ref (ad 6)])), (ad 1, .inl (cI, 8, .inl O)), (ad 2, .inl (cI, 14, .inl (e_shf T j (e + 1 + 1)))), (ad 3, .inl (cI, 14, .inl (e_shf Hd j (e + 1 + 1)))), (ad 4, .inl (cI, 14, .inl (e_shf G j (e + 1 + 1)))), (ad 5, .inl (cI, 8, .inl Nw)), (ad 6, .inl (cI, 8, .inl Lt))] := hD
          refine lv_iinc (v := nI (e + 1)) (lv' := [(2, .int (nI (e + 1))), (0, .ref (ad 0)), (1, .int (nI j))]) hx hb dX2_cut_70 hl (k := 2) rfl (e_inc _) (by decide) rfl (fun ls hl => ?_)
          refine lv_goto (tgt := 12) hx hb dX2_cut_73 (by decide) ?_
          exact ih_12 (e + 1) (by omega) (by omega) (by omega) _ _ hP hD hS ls (lv_sub hl [1, 2, 0] rfl)
    exact lp_12 (c + 1) j (by omega) (by omega) (by omega) _ _ (by rw [e_shf_0, e_shf_0, e_shf_0]; exact hP) (by rw [e_shf_0, e_shf_0, e_shf_0]; exact hD) hS ls (lv_sub hl [1, 2, 0] rfl)
end
section
/-! ROWS for the constructors, and the law's cell -/
set_option maxRecDepth 100000
def e_BI {S : Type} (D : va_G) (cl : List vw_C) (ty1 : S → List (ClassId × FieldType)) (w1 : S → va_W) (A : Nat → Prop) (u : S) (t : State) : Prop := va_P D cl (w1 u) t.heap ∧ va_K D cl (ty1 u) t ∧ va_D A (w1 u)
abbrev e_adL (l : List Nat) (k : Nat) : Nat := l.getD k 0
theorem e_same {D : va_G} {cl : List vw_C} {tys : List (ClassId × FieldType)} {U : State} {c1 c2 : ClassId} (hK : va_K D cl tys U) (i j : Nat) (h1 : tys[i]? = some (c1, .int)) (h2 : tys[j]? = some (c2, .int)) : c1 = c2 := by
  have g1 : U.vm.findClass ("[" ++ FieldType.int.toString) = some c1 := (hK.2 i _ h1).2
  have g2 : U.vm.findClass ("[" ++ FieldType.int.toString) = some c2 := (hK.2 j _ h2).2
  exact Option.some.inj (g1.symm.trans g2)
theorem e_startI {l : Launch} {y : MethodName} {cc : ByteArray} {maxL mc ms : Nat} {rm : Room} {av : List Value} {D : va_G} {cl : List vw_C} {tys : List (ClassId × FieldType)} {ws : va_W} {sz : Nat} {S0 : Type} {post : S0 → Prop} {ty1 : S0 → List (ClassId × FieldType)} {w1 : S0 → va_W} (hy : plainName y.cls = true) (hlen : (lg_sl av).length ≤ maxL)
    (body : ∀ (p : Program) (e : Env) (s : State) (m : MethodId) (args : Array Value) (below : List Frame) (meth : Method) (c : Code) (H : Heap) (A : Nat → Prop) (Q : State → Prop), p.tables.exec = Jvm.exec → c.code = cc → c.maxLocals = maxL → s.vm.findClass y.cls = some m.cls → meth.name = y.name → (∀ w ∈ lw_all, w.before args s = true) → (∀ q, s.heap.size ≤ q → A q) → va_K D cl tys s → va_P D cl ws H → va_D A ws → va_S A s.heap H [] →
      (∀ {pc : Nat} {ls : Array Slot} {H1 : Heap} {locs : List Loc} (u : S0), decode cc pc = .ok (.return_, 1) → post u → va_K D cl (ty1 u) s → va_P D cl (w1 u) H1 → va_D A (w1 u) → va_S A s.heap H1 locs → W p l e rm s m args below meth c H1 locs mc ms Q (F0 m pc ls [])) →
      ∀ ls : Array Slot, lv_has ls maxL (lv_args 0 av) → W p l e rm s m args below meth c H [] 0 0 Q (F0 m 0 ls [])) :
    Met l y (ws_ y cc maxL none) rm (va_Pc av (e_PW D cl tys ws sz)) (va_Qv post (e_BI D cl ty1 w1 (va_A ws sz)) (va_A ws sz)) mc ms (va_A ws sz) := by
  refine Met.ofW (cc := cc) (maxL := maxL) (ret := none) hy rfl ?_
  intro p e s m args below meth c s₁ B hml hv
  obtain ⟨rfl, hsz, hP, hK, hD0⟩ := hv
  have hts := atoms_spec (ws := ws_ y cc maxL none) B.pre
  have hlocks := B.notSynchronized
  have hin : meth.name = y.name := (name_of_methodNamed B.named B.method).1
  subst hsz
  have hD := hD0.self (sz := s.heap.size)
  have hA : ∀ q : Nat, s.heap.size ≤ q → va_A ws s.heap.size q := fun q h => Or.inr h
  have hS : va_S (va_A ws s.heap.size) s.heap s.heap [] := va_S.rf
  rw [lg_entry_eq]
  exact body p e s m av.toArray below meth c s.heap _ _ B.exec B.bytes hml (findClass_of_methodNamed B.named) hin (fun w h => hts w (List.mem_cons_of_mem _ h)) hA hK hP hD hS (fun u hd hq hK1 hP1 hD1 hS1 => W.vret B.exec B.bytes B.returns (fun t ht hW => ⟨⟨u, rfl, hq, by rw [ht]; exact hP1, va_K.moved hW.alike hK1, hD1⟩, hS1.F ht⟩) hS1.2.2 hd hlocks) _ (lv_entry av hlen)
/-- how many vertices are made -/
def e_nv (x : Int32) : Nat := if x < 2 then 2 else if x ≤ 6 then x.toNatClampNeg else 6
theorem e_nv_lo {x : Int32} (h : x < 2) : 2 = e_nv x := by
  unfold e_nv
  rw [if_pos h]
theorem e_nv_hi {x : Int32} (h : ¬ x < 2) (h2 : ¬ x ≤ 6) : 6 = e_nv x := by
  unfold e_nv
  rw [if_neg h, if_neg h2]
theorem e_nv_of {x : Int32} (h : ¬ x < 2) (h2 : x ≤ 6) : ∃ j, j = e_nv x ∧ x = nI j ∧ 2 ≤ j ∧ j ≤ 6 := by
  have h3 : ¬ x < 0 := fun z => h (by
    rw [Int32.lt_iff_toInt_lt] at z ⊢
    have g1 : (0 : Int32).toInt = 0 := by decide
    have g2 : (2 : Int32).toInt = 2 := by decide
    omega)
  obtain ⟨j, hj, rfl⟩ := nI_of h3
  refine ⟨j, ?_, rfl, ?_, ?_⟩
  · unfold e_nv
    rw [if_neg h, if_pos h2, nI_clamp hj]
  · rw [show (2 : Int32) = nI 2 by decide] at h
    exact Nat.not_lt.mp fun z => h (nI_lt z (by omega))
  · rw [show (6 : Int32) = nI 6 by decide] at h2
    exact (nI_leI hj (by omega)).mp h2
theorem e_nv_in (x : Int32) : 2 ≤ e_nv x ∧ e_nv x ≤ 6 := by
  by_cases h : x < 2
  · rw [← e_nv_lo h]; omega
  · by_cases h2 : x ≤ 6
    · obtain ⟨j, h3, -, h4, h5⟩ := e_nv_of h h2
      rw [← h3]
      exact ⟨h4, h5⟩
    · rw [← e_nv_hi h h2]; omega
theorem e_top6 {n : Nat} (h : 1 ≤ n) : 6 * (nI n - 1) + 1 = nI (e_tp n) := by
  rw [show (1 : Int32) = nI 1 by decide, show (6 : Int32) = nI 6 by decide, pk_sub h, pk_mul, nI_add]
  rfl
theorem e_ok_0 {n : Nat} (h : 2 ≤ n ∧ n ≤ 6) : e_ok n 0 (fun _ => 0) (fun _ => 0) (fun _ => 0) := ⟨h.1, h.2, by omega, fun e he => absurd he (Nat.not_lt_zero _), fun e he => absurd he (Nat.not_lt_zero _), fun e he => absurd he (Nat.not_lt_zero _), fun u => Nat.zero_le _⟩
end
section
/-! the constructors -/
set_option maxRecDepth 100000
abbrev rX1_init : Room := { frames := 1, cells := 7, slots := 68, locals := 20 }
abbrev w1X1_init (u : (Nat → Nat) × ClassId × ClassId × Nat) : va_W := wG u.1 u.2.1 u.2.2.1 u.2.2.2 0 (fun _ => 0) (fun _ => 0) (fun _ => 0) (fun _ => 0) (fun _ => 0) (fun _ => 0) (fun _ => 0) (-1) 0
set_option maxHeartbeats 4000000 in
set_option maxRecDepth 100000 in
/-- EnergyGame(p0): no edge yet -/
theorem metX1_init (l : Launch) (dC : Nat → ClassId) (dI : Nat → Nat → Nat) (h : Nat) (p0 : Int32) (sz : Nat) : Met l yX1_init (ws_ yX1_init cX1_init 2 none) rX1_init (va_Pc [.ref h, .int p0] (e_PW (dC, dI) vwCl [] [(h, .inr (0, [.null, .null, .null, .null, .null, .null, .null, .int 0, .int 0, .int 0, .int 0, .int 0]))] sz)) (va_Qv (fun (u : (Nat → Nat) × ClassId × ClassId × Nat) => u.2.2.2 = e_nv p0 ∧ u.1 0 = h) (e_BI (dC, dI) vwCl (fun u => [(u.2.1, .int), (u.2.2.1, .boolean)]) w1X1_init (va_A [(h, .inr (0, [.null, .null, .null, .null, .null, .null, .null, .int 0, .int 0, .int 0, .int 0, .int 0]))] sz)) (va_A [(h, .inr (0, [.null, .null, .null, .null, .null, .null, .null, .int 0, .int 0, .int 0, .int 0, .int 0]))] sz)) 7 68 (va_A [(h, .inr (0, [.null, .null, .null, .null, .null, .null, .null, .int 0, .int 0, .int 0, .int 0, .int 0]))] sz) := by
  refine e_startI (by decide) (Nat.le_of_ble_eq_true rfl) ?_
  intro pg ev st mi ar bl mt cd H A QQ hx hb hml hown hin hts hA hK hP hD hS hret ls hl
  have hown : st.vm.findClass RX1 = some mi.cls := hown
  have hin : mt.name = "<init>" := hin
  have hP : va_P (dC, dI) vwCl [(h, .inr (0, [.null, .null, .null, .null, .null, .null, .null, .int 0, .int 0, .int 0, .int 0, .int 0]))] H := hP
  have hD : va_D A [(h, .inr (0, [.null, .null, .null, .null, .null, .null, .null, .int 0, .int 0, .int 0, .int 0, .int 0]))] := hD
  generalize hlocs : ([] : List Loc) = locs at hS ⊢
  have hl : lv_has ls 2 [(0, .ref h), (1, .int p0)] := hl
  refine lv_aload_n hx hb dX1_init_0 rfl (lv_at hl 0 rfl) ?_
  refine W.objInit hx hb hown (hts _ q26) (hts _ q27) (hts _ q28) rfl (by rw [hml]; exact hl.1) rfl dX1_init_1 (Nat.le_of_ble_eq_true rfl) (Nat.le_of_ble_eq_true rfl) ?_
  refine W.eq (g2 := F0 mi 4 ls []) rfl ?_
  refine lv_aload_n hx hb dX1_init_4 rfl (lv_at hl 0 rfl) ?_
  refine lv_bipush (v := 14) hx hb dX1_init_5 (by decide) ?_
  refine va_newa (atype := .int) (ty := .int) (a0 := (14, .inl (fun _ => 0))) (N' := 14) hx hb (hts _ q66) rfl hK hP hD hS hA (fun _ => rfl) (by decide) (by decide) (by decide) (Nat.le_of_ble_eq_true rfl) (Nat.le_of_ble_eq_true rfl) dX1_init_7 (fun a1 cI H hK hP hD hS => ?_)
  refine W.widen (k := 1) (n := 14) (by decide) (by decide) ?_
  have hK : va_K (dC, dI) vwCl [(cI, .int)] st := hK
  have hP : va_P (dC, dI) vwCl [(h, .inr (0, [.null, .null, .null, .null, .null, .null, .null, .int 0, .int 0, .int 0, .int 0, .int 0])), (a1, .inl (cI, 14, .inl (fun _ => 0)))] H := hP
  have hD : va_D A [(h, .inr (0, [.null, .null, .null, .null, .null, .null, .null, .int 0, .int 0, .int 0, .int 0, .int 0])), (a1, .inl (cI, 14, .inl (fun _ => 0)))] := hD
  refine va_putF (D := (dC, dI)) (ci := 0) (v := .ref a1) (ty := (.array .int)) (C := RX1) (T := TX1) (N := 12) hx hb hts in_X1 tyX1 tyX1_ok nmX1 hown hK hP hD hS 0 rfl rfl 0 (by decide) (hts _ q29) (fun _ h9 => h9) rfl hin rfl (by decide +kernel) rfl rfl (Nat.le_of_ble_eq_true rfl) dX1_init_9 (fun H locs hP hD hS => ?_)
  have hP : va_P (dC, dI) vwCl [(h, .inr (0, [.ref a1, .null, .null, .null, .null, .null, .null, .int 0, .int 0, .int 0, .int 0, .int 0])), (a1, .inl (cI, 14, .inl (fun _ => 0)))] H := hP
  have hD : va_D A [(h, .inr (0, [.ref a1, .null, .null, .null, .null, .null, .null, .int 0, .int 0, .int 0, .int 0, .int 0])), (a1, .inl (cI, 14, .inl (fun _ => 0)))] := hD
  refine lv_aload_n hx hb dX1_init_12 rfl (lv_at hl 0 rfl) ?_
  refine lv_bipush (v := 14) hx hb dX1_init_13 (by decide) ?_
  refine va_newa (atype := .int) (ty := .int) (a0 := (14, .inl (fun _ => 0))) (N' := 14) hx hb (hts _ q66) rfl hK hP hD hS hA (fun _ => rfl) (by decide) (by decide) (by decide) (Nat.le_of_ble_eq_true rfl) (Nat.le_of_ble_eq_true rfl) dX1_init_15 (fun a2 cA2 H hK hP hD hS => ?_)
  refine W.widen (k := 2) (n := 28) (by decide) (by decide) ?_
  obtain rfl := e_same hK 0 1 rfl rfl
  have hK := hK.sub (tys' := [(cI, .int)]) [0] rfl
  have hK : va_K (dC, dI) vwCl [(cI, .int)] st := hK
  have hP : va_P (dC, dI) vwCl [(h, .inr (0, [.ref a1, .null, .null, .null, .null, .null, .null, .int 0, .int 0, .int 0, .int 0, .int 0])), (a1, .inl (cI, 14, .inl (fun _ => 0))), (a2, .inl (cI, 14, .inl (fun _ => 0)))] H := hP
  have hD : va_D A [(h, .inr (0, [.ref a1, .null, .null, .null, .null, .null, .null, .int 0, .int 0, .int 0, .int 0, .int 0])), (a1, .inl (cI, 14, .inl (fun _ => 0))), (a2, .inl (cI, 14, .inl (fun _ => 0)))] := hD
  refine va_putF (D := (dC, dI)) (ci := 0) (v := .ref a2) (ty := (.array .int)) (C := RX1) (T := TX1) (N := 12) hx hb hts in_X1 tyX1 tyX1_ok nmX1 hown hK hP hD hS 0 rfl rfl 1 (by decide) (hts _ q30) (fun _ h9 => h9) rfl hin rfl (by decide +kernel) rfl rfl (Nat.le_of_ble_eq_true rfl) dX1_init_17 (fun H locs hP hD hS => ?_)
  have hP : va_P (dC, dI) vwCl [(h, .inr (0, [.ref a1, .ref a2, .null, .null, .null, .null, .null, .int 0, .int 0, .int 0, .int 0, .int 0])), (a1, .inl (cI, 14, .inl (fun _ => 0))), (a2, .inl (cI, 14, .inl (fun _ => 0)))] H := hP
  have hD : va_D A [(h, .inr (0, [.ref a1, .ref a2, .null, .null, .null, .null, .null, .int 0, .int 0, .int 0, .int 0, .int 0])), (a1, .inl (cI, 14, .inl (fun _ => 0))), (a2, .inl (cI, 14, .inl (fun _ => 0)))] := hD
  refine lv_aload_n hx hb dX1_init_20 rfl (lv_at hl 0 rfl) ?_
  refine lv_bipush (v := 14) hx hb dX1_init_21 (by decide) ?_
  refine va_newa (atype := .int) (ty := .int) (a0 := (14, .inl (fun _ => 0))) (N' := 14) hx hb (hts _ q66) rfl hK hP hD hS hA (fun _ => rfl) (by decide) (by decide) (by decide) (Nat.le_of_ble_eq_true rfl) (Nat.le_of_ble_eq_true rfl) dX1_init_23 (fun a3 cA3 H hK hP hD hS => ?_)
  refine W.widen (k := 3) (n := 42) (by decide) (by decide) ?_
  obtain rfl := e_same hK 0 1 rfl rfl
  have hK := hK.sub (tys' := [(cI, .int)]) [0] rfl
  have hK : va_K (dC, dI) vwCl [(cI, .int)] st := hK
  have hP : va_P (dC, dI) vwCl [(h, .inr (0, [.ref a1, .ref a2, .null, .null, .null, .null, .null, .int 0, .int 0, .int 0, .int 0, .int 0])), (a1, .inl (cI, 14, .inl (fun _ => 0))), (a2, .inl (cI, 14, .inl (fun _ => 0))), (a3, .inl (cI, 14, .inl (fun _ => 0)))] H := hP
  have hD : va_D A [(h, .inr (0, [.ref a1, .ref a2, .null, .null, .null, .null, .null, .int 0, .int 0, .int 0, .int 0, .int 0])), (a1, .inl (cI, 14, .inl (fun _ => 0))), (a2, .inl (cI, 14, .inl (fun _ => 0))), (a3, .inl (cI, 14, .inl (fun _ => 0)))] := hD
  refine va_putF (D := (dC, dI)) (ci := 0) (v := .ref a3) (ty := (.array .int)) (C := RX1) (T := TX1) (N := 12) hx hb hts in_X1 tyX1 tyX1_ok nmX1 hown hK hP hD hS 0 rfl rfl 2 (by decide) (hts _ q31) (fun _ h9 => h9) rfl hin rfl (by decide +kernel) rfl rfl (Nat.le_of_ble_eq_true rfl) dX1_init_25 (fun H locs hP hD hS => ?_)
  have hP : va_P (dC, dI) vwCl [(h, .inr (0, [.ref a1, .ref a2, .ref a3, .null, .null, .null, .null, .int 0, .int 0, .int 0, .int 0, .int 0])), (a1, .inl (cI, 14, .inl (fun _ => 0))), (a2, .inl (cI, 14, .inl (fun _ => 0))), (a3, .inl (cI, 14, .inl (fun _ => 0)))] H := hP
  have hD : va_D A [(h, .inr (0, [.ref a1, .ref a2, .ref a3, .null, .null, .null, .null, .int 0, .int 0, .int 0, .int 0, .int 0])), (a1, .inl (cI, 14, .inl (fun _ => 0))), (a2, .inl (cI, 14, .inl (fun _ => 0))), (a3, .inl (cI, 14, .inl (fun _ => 0)))] := hD
  refine lv_aload_n hx hb dX1_init_28 rfl (lv_at hl 0 rfl) ?_
  refine lv_bipush (v := 6) hx hb dX1_init_29 (by decide) ?_
  refine va_newa (atype := .int) (ty := .int) (a0 := (6, .inl (fun _ => 0))) (N' := 6) hx hb (hts _ q66) rfl hK hP hD hS hA (fun _ => rfl) (by decide) (by decide) (by decide) (Nat.le_of_ble_eq_true rfl) (Nat.le_of_ble_eq_true rfl) dX1_init_31 (fun a4 cA4 H hK hP hD hS => ?_)
  refine W.widen (k := 4) (n := 48) (by decide) (by decide) ?_
  obtain rfl := e_same hK 0 1 rfl rfl
  have hK := hK.sub (tys' := [(cI, .int)]) [0] rfl
  have hK : va_K (dC, dI) vwCl [(cI, .int)] st := hK
  have hP : va_P (dC, dI) vwCl [(h, .inr (0, [.ref a1, .ref a2, .ref a3, .null, .null, .null, .null, .int 0, .int 0, .int 0, .int 0, .int 0])), (a1, .inl (cI, 14, .inl (fun _ => 0))), (a2, .inl (cI, 14, .inl (fun _ => 0))), (a3, .inl (cI, 14, .inl (fun _ => 0))), (a4, .inl (cI, 6, .inl (fun _ => 0)))] H := hP
  have hD : va_D A [(h, .inr (0, [.ref a1, .ref a2, .ref a3, .null, .null, .null, .null, .int 0, .int 0, .int 0, .int 0, .int 0])), (a1, .inl (cI, 14, .inl (fun _ => 0))), (a2, .inl (cI, 14, .inl (fun _ => 0))), (a3, .inl (cI, 14, .inl (fun _ => 0))), (a4, .inl (cI, 6, .inl (fun _ => 0)))] := hD
  refine va_putF (D := (dC, dI)) (ci := 0) (v := .ref a4) (ty := (.array .int)) (C := RX1) (T := TX1) (N := 12) hx hb hts in_X1 tyX1 tyX1_ok nmX1 hown hK hP hD hS 0 rfl rfl 3 (by decide) (hts _ q32) (fun _ h9 => h9) rfl hin rfl (by decide +kernel) rfl rfl (Nat.le_of_ble_eq_true rfl) dX1_init_33 (fun H locs hP hD hS => ?_)
  have hP : va_P (dC, dI) vwCl [(h, .inr (0, [.ref a1, .ref a2, .ref a3, .ref a4, .null, .null, .null, .int 0, .int 0, .int 0, .int 0, .int 0])), (a1, .inl (cI, 14, .inl (fun _ => 0))), (a2, .inl (cI, 14, .inl (fun _ => 0))), (a3, .inl (cI, 14, .inl (fun _ => 0))), (a4, .inl (cI, 6, .inl (fun _ => 0)))] H := hP
  have hD : va_D A [(h, .inr (0, [.ref a1, .ref a2, .ref a3, .ref a4, .null, .null, .null, .int 0, .int 0, .int 0, .int 0, .int 0])), (a1, .inl (cI, 14, .inl (fun _ => 0))), (a2, .inl (cI, 14, .inl (fun _ => 0))), (a3, .inl (cI, 14, .inl (fun _ => 0))), (a4, .inl (cI, 6, .inl (fun _ => 0)))] := hD
  refine lv_aload_n hx hb dX1_init_36 rfl (lv_at hl 0 rfl) ?_
  refine lv_bipush (v := 6) hx hb dX1_init_37 (by decide) ?_
  refine va_newa (atype := .int) (ty := .int) (a0 := (6, .inl (fun _ => 0))) (N' := 6) hx hb (hts _ q66) rfl hK hP hD hS hA (fun _ => rfl) (by decide) (by decide) (by decide) (Nat.le_of_ble_eq_true rfl) (Nat.le_of_ble_eq_true rfl) dX1_init_39 (fun a5 cA5 H hK hP hD hS => ?_)
  refine W.widen (k := 5) (n := 54) (by decide) (by decide) ?_
  obtain rfl := e_same hK 0 1 rfl rfl
  have hK := hK.sub (tys' := [(cI, .int)]) [0] rfl
  have hK : va_K (dC, dI) vwCl [(cI, .int)] st := hK
  have hP : va_P (dC, dI) vwCl [(h, .inr (0, [.ref a1, .ref a2, .ref a3, .ref a4, .null, .null, .null, .int 0, .int 0, .int 0, .int 0, .int 0])), (a1, .inl (cI, 14, .inl (fun _ => 0))), (a2, .inl (cI, 14, .inl (fun _ => 0))), (a3, .inl (cI, 14, .inl (fun _ => 0))), (a4, .inl (cI, 6, .inl (fun _ => 0))), (a5, .inl (cI, 6, .inl (fun _ => 0)))] H := hP
  have hD : va_D A [(h, .inr (0, [.ref a1, .ref a2, .ref a3, .ref a4, .null, .null, .null, .int 0, .int 0, .int 0, .int 0, .int 0])), (a1, .inl (cI, 14, .inl (fun _ => 0))), (a2, .inl (cI, 14, .inl (fun _ => 0))), (a3, .inl (cI, 14, .inl (fun _ => 0))), (a4, .inl (cI, 6, .inl (fun _ => 0))), (a5, .inl (cI, 6, .inl (fun _ => 0)))] := hD
  refine va_putF (D := (dC, dI)) (ci := 0) (v := .ref a5) (ty := (.array .int)) (C := RX1) (T := TX1) (N := 12) hx hb hts in_X1 tyX1 tyX1_ok nmX1 hown hK hP hD hS 0 rfl rfl 4 (by decide) (hts _ q33) (fun _ h9 => h9) rfl hin rfl (by decide +kernel) rfl rfl (Nat.le_of_ble_eq_true rfl) dX1_init_41 (fun H locs hP hD hS => ?_)
  have hP : va_P (dC, dI) vwCl [(h, .inr (0, [.ref a1, .ref a2, .ref a3, .ref a4, .ref a5, .null, .null, .int 0, .int 0, .int 0, .int 0, .int 0])), (a1, .inl (cI, 14, .inl (fun _ => 0))), (a2, .inl (cI, 14, .inl (fun _ => 0))), (a3, .inl (cI, 14, .inl (fun _ => 0))), (a4, .inl (cI, 6, .inl (fun _ => 0))), (a5, .inl (cI, 6, .inl (fun _ => 0)))] H := hP
  have hD : va_D A [(h, .inr (0, [.ref a1, .ref a2, .ref a3, .ref a4, .ref a5, .null, .null, .int 0, .int 0, .int 0, .int 0, .int 0])), (a1, .inl (cI, 14, .inl (fun _ => 0))), (a2, .inl (cI, 14, .inl (fun _ => 0))), (a3, .inl (cI, 14, .inl (fun _ => 0))), (a4, .inl (cI, 6, .inl (fun _ => 0))), (a5, .inl (cI, 6, .inl (fun _ => 0)))] := hD
  refine lv_aload_n hx hb dX1_init_44 rfl (lv_at hl 0 rfl) ?_
  refine lv_bipush (v := 6) hx hb dX1_init_45 (by decide) ?_
  refine va_newa (atype := .boolean) (ty := .boolean) (a0 := (6, .inl (fun _ => 0))) (N' := 6) hx hb (hts _ q67) rfl hK hP hD hS hA (fun _ => rfl) (by decide) (by decide) (by decide) (Nat.le_of_ble_eq_true rfl) (Nat.le_of_ble_eq_true rfl) dX1_init_47 (fun a6 cZ H hK hP hD hS => ?_)
  refine W.widen (k := 6) (n := 60) (by decide) (by decide) ?_
  have hK : va_K (dC, dI) vwCl [(cI, .int), (cZ, .boolean)] st := hK
  have hP : va_P (dC, dI) vwCl [(h, .inr (0, [.ref a1, .ref a2, .ref a3, .ref a4, .ref a5, .null, .null, .int 0, .int 0, .int 0, .int 0, .int 0])), (a1, .inl (cI, 14, .inl (fun _ => 0))), (a2, .inl (cI, 14, .inl (fun _ => 0))), (a3, .inl (cI, 14, .inl (fun _ => 0))), (a4, .inl (cI, 6, .inl (fun _ => 0))), (a5, .inl (cI, 6, .inl (fun _ => 0))), (a6, .inl (cZ, 6, .inl (fun _ => 0)))] H := hP
  have hD : va_D A [(h, .inr (0, [.ref a1, .ref a2, .ref a3, .ref a4, .ref a5, .null, .null, .int 0, .int 0, .int 0, .int 0, .int 0])), (a1, .inl (cI, 14, .inl (fun _ => 0))), (a2, .inl (cI, 14, .inl (fun _ => 0))), (a3, .inl (cI, 14, .inl (fun _ => 0))), (a4, .inl (cI, 6, .inl (fun _ => 0))), (a5, .inl (cI, 6, .inl (fun _ => 0))), (a6, .inl (cZ, 6, .inl (fun _ => 0)))] := hD
  refine va_putF (D := (dC, dI)) (ci := 0) (v := .ref a6) (ty := (.array .boolean)) (C := RX1) (T := TX1) (N := 12) hx hb hts in_X1 tyX1 tyX1_ok nmX1 hown hK hP hD hS 0 rfl rfl 5 (by decide) (hts _ q34) (fun _ h9 => h9) rfl hin rfl (by decide +kernel) rfl rfl (Nat.le_of_ble_eq_true rfl) dX1_init_49 (fun H locs hP hD hS => ?_)
  have hP : va_P (dC, dI) vwCl [(h, .inr (0, [.ref a1, .ref a2, .ref a3, .ref a4, .ref a5, .ref a6, .null, .int 0, .int 0, .int 0, .int 0, .int 0])), (a1, .inl (cI, 14, .inl (fun _ => 0))), (a2, .inl (cI, 14, .inl (fun _ => 0))), (a3, .inl (cI, 14, .inl (fun _ => 0))), (a4, .inl (cI, 6, .inl (fun _ => 0))), (a5, .inl (cI, 6, .inl (fun _ => 0))), (a6, .inl (cZ, 6, .inl (fun _ => 0)))] H := hP
  have hD : va_D A [(h, .inr (0, [.ref a1, .ref a2, .ref a3, .ref a4, .ref a5, .ref a6, .null, .int 0, .int 0, .int 0, .int 0, .int 0])), (a1, .inl (cI, 14, .inl (fun _ => 0))), (a2, .inl (cI, 14, .inl (fun _ => 0))), (a3, .inl (cI, 14, .inl (fun _ => 0))), (a4, .inl (cI, 6, .inl (fun _ => 0))), (a5, .inl (cI, 6, .inl (fun _ => 0))), (a6, .inl (cZ, 6, .inl (fun _ => 0)))] := hD
  refine lv_aload_n hx hb dX1_init_52 rfl (lv_at hl 0 rfl) ?_
  refine lv_bipush (v := 8) hx hb dX1_init_53 (by decide) ?_
  refine va_newa (atype := .int) (ty := .int) (a0 := (8, .inl (fun _ => 0))) (N' := 8) hx hb (hts _ q66) rfl hK hP hD hS hA (fun _ => rfl) (by decide) (by decide) (by decide) (Nat.le_of_ble_eq_true rfl) (Nat.le_of_ble_eq_true rfl) dX1_init_55 (fun a7 cA7 H hK hP hD hS => ?_)
  refine W.widen (k := 7) (n := 68) (by decide) (by decide) ?_
  obtain rfl := e_same hK 0 2 rfl rfl
  have hK := hK.sub (tys' := [(cI, .int), (cZ, .boolean)]) [0, 1] rfl
  have hK : va_K (dC, dI) vwCl [(cI, .int), (cZ, .boolean)] st := hK
  have hP : va_P (dC, dI) vwCl [(h, .inr (0, [.ref a1, .ref a2, .ref a3, .ref a4, .ref a5, .ref a6, .null, .int 0, .int 0, .int 0, .int 0, .int 0])), (a1, .inl (cI, 14, .inl (fun _ => 0))), (a2, .inl (cI, 14, .inl (fun _ => 0))), (a3, .inl (cI, 14, .inl (fun _ => 0))), (a4, .inl (cI, 6, .inl (fun _ => 0))), (a5, .inl (cI, 6, .inl (fun _ => 0))), (a6, .inl (cZ, 6, .inl (fun _ => 0))), (a7, .inl (cI, 8, .inl (fun _ => 0)))] H := hP
  have hD : va_D A [(h, .inr (0, [.ref a1, .ref a2, .ref a3, .ref a4, .ref a5, .ref a6, .null, .int 0, .int 0, .int 0, .int 0, .int 0])), (a1, .inl (cI, 14, .inl (fun _ => 0))), (a2, .inl (cI, 14, .inl (fun _ => 0))), (a3, .inl (cI, 14, .inl (fun _ => 0))), (a4, .inl (cI, 6, .inl (fun _ => 0))), (a5, .inl (cI, 6, .inl (fun _ => 0))), (a6, .inl (cZ, 6, .inl (fun _ => 0))), (a7, .inl (cI, 8, .inl (fun _ => 0)))] := hD
  refine va_putF (D := (dC, dI)) (ci := 0) (v := .ref a7) (ty := (.array .int)) (C := RX1) (T := TX1) (N := 12) hx hb hts in_X1 tyX1 tyX1_ok nmX1 hown hK hP hD hS 0 rfl rfl 6 (by decide) (hts _ q35) (fun _ h9 => h9) rfl hin rfl (by decide +kernel) rfl rfl (Nat.le_of_ble_eq_true rfl) dX1_init_57 (fun H locs hP hD hS => ?_)
  have hP : va_P (dC, dI) vwCl [(h, .inr (0, [.ref a1, .ref a2, .ref a3, .ref a4, .ref a5, .ref a6, .ref a7, .int 0, .int 0, .int 0, .int 0, .int 0])), (a1, .inl (cI, 14, .inl (fun _ => 0))), (a2, .inl (cI, 14, .inl (fun _ => 0))), (a3, .inl (cI, 14, .inl (fun _ => 0))), (a4, .inl (cI, 6, .inl (fun _ => 0))), (a5, .inl (cI, 6, .inl (fun _ => 0))), (a6, .inl (cZ, 6, .inl (fun _ => 0))), (a7, .inl (cI, 8, .inl (fun _ => 0)))] H := hP
  have hD : va_D A [(h, .inr (0, [.ref a1, .ref a2, .ref a3, .ref a4, .ref a5, .ref a6, .ref a7, .int 0, .int 0, .int 0, .int 0, .int 0])), (a1, .inl (cI, 14, .inl (fun _ => 0))), (a2, .inl (cI, 14, .inl (fun _ => 0))), (a3, .inl (cI, 14, .inl (fun _ => 0))), (a4, .inl (cI, 6, .inl (fun _ => 0))), (a5, .inl (cI, 6, .inl (fun _ => 0))), (a6, .inl (cZ, 6, .inl (fun _ => 0))), (a7, .inl (cI, 8, .inl (fun _ => 0)))] := hD
  refine lv_aload_n hx hb dX1_init_60 rfl (lv_at hl 0 rfl) ?_
  refine lv_iload_n hx hb dX1_init_61 rfl (lv_at hl 1 rfl) ?_
  refine lv_iconst (v := 2) hx hb dX1_init_62 (by decide) ?_
  refine lv_icmp_ge (tgt := 70) hx hb dX1_init_63 (by decide) (fun c_63 => ?_) (fun c_63 => ?_)
  · refine lv_iload_n hx hb dX1_init_70 rfl (lv_at hl 1 rfl) ?_
    refine va_put (D := (dC, dI)) (ci := 0) (v := .int p0) (ty := .int) (C := RX1) (T := TX1) (N := 12) hx hb hts in_X1 tyX1 tyX1_ok nmX1 hown hK hP hD hS 0 rfl rfl 7 (by decide) (hts _ q36) (fun _ h9 => h9) rfl (by decide +kernel) rfl rfl (Nat.le_of_ble_eq_true rfl) dX1_init_71 (fun H locs hP hD hS => ?_)
    have hP : va_P (dC, dI) vwCl [(h, .inr (0, [.ref a1, .ref a2, .ref a3, .ref a4, .ref a5, .ref a6, .ref a7, .int p0, .int 0, .int 0, .int 0, .int 0])), (a1, .inl (cI, 14, .inl (fun _ => 0))), (a2, .inl (cI, 14, .inl (fun _ => 0))), (a3, .inl (cI, 14, .inl (fun _ => 0))), (a4, .inl (cI, 6, .inl (fun _ => 0))), (a5, .inl (cI, 6, .inl (fun _ => 0))), (a6, .inl (cZ, 6, .inl (fun _ => 0))), (a7, .inl (cI, 8, .inl (fun _ => 0)))] H := hP
    have hD : va_D A [(h, .inr (0, [.ref a1, .ref a2, .ref a3, .ref a4, .ref a5, .ref a6, .ref a7, .int p0, .int 0, .int 0, .int 0, .int 0])), (a1, .inl (cI, 14, .inl (fun _ => 0))), (a2, .inl (cI, 14, .inl (fun _ => 0))), (a3, .inl (cI, 14, .inl (fun _ => 0))), (a4, .inl (cI, 6, .inl (fun _ => 0))), (a5, .inl (cI, 6, .inl (fun _ => 0))), (a6, .inl (cZ, 6, .inl (fun _ => 0))), (a7, .inl (cI, 8, .inl (fun _ => 0)))] := hD
    refine lv_aload_n hx hb dX1_init_74 rfl (lv_at hl 0 rfl) ?_
    refine va_get (D := (dC, dI)) (ci := 0) (v := .int p0) (C := RX1) (T := TX1) (N := 12) hx hb hts in_X1 hown hK hP 0 rfl rfl 7 (by decide) (hts _ q36) (fun _ h9 => h9) rfl dX1_init_75 ?_
    refine lv_bipush (v := 6) hx hb dX1_init_78 (by decide) ?_
    refine lv_icmp_le (tgt := 89) hx hb dX1_init_80 (by decide) (fun c_80 => ?_) (fun c_80 => ?_)
    · obtain ⟨j, ej, rfl, hj2, hj6⟩ := e_nv_of (Int32.not_lt.mpr c_63) c_80
      refine lv_aload_n hx hb dX1_init_89 rfl (lv_at hl 0 rfl) ?_
      refine lv_bipush (v := 6) hx hb dX1_init_90 (by decide) ?_
      refine lv_aload_n hx hb dX1_init_92 rfl (lv_at hl 0 rfl) ?_
      refine va_get (D := (dC, dI)) (ci := 0) (v := .int (nI j)) (C := RX1) (T := TX1) (N := 12) hx hb hts in_X1 hown hK hP 0 rfl rfl 7 (by decide) (hts _ q36) (fun _ h9 => h9) rfl dX1_init_93 ?_
      refine lv_iconst (v := 1) hx hb dX1_init_96 (by decide) ?_
      refine lv_isub hx hb dX1_init_97 ?_
      refine lv_imul hx hb dX1_init_98 ?_
      refine lv_iconst (v := 1) hx hb dX1_init_99 (by decide) ?_
      refine lv_iadd hx hb dX1_init_100 ?_
      refine e_top (nI (e_tp j)) (e_top6 (by omega)) ?_
      refine va_put (D := (dC, dI)) (ci := 0) (v := .int (nI (e_tp j))) (ty := .int) (C := RX1) (T := TX1) (N := 12) hx hb hts in_X1 tyX1 tyX1_ok nmX1 hown hK hP hD hS 0 rfl rfl 9 (by decide) (hts _ q38) (fun _ h9 => h9) rfl (by decide +kernel) rfl rfl (Nat.le_of_ble_eq_true rfl) dX1_init_101 (fun H locs hP hD hS => ?_)
      have hP : va_P (dC, dI) vwCl [(h, .inr (0, [.ref a1, .ref a2, .ref a3, .ref a4, .ref a5, .ref a6, .ref a7, .int (nI j), .int 0, .int (nI (e_tp j)), .int 0, .int 0])), (a1, .inl (cI, 14, .inl (fun _ => 0))), (a2, .inl (cI, 14, .inl (fun _ => 0))), (a3, .inl (cI, 14, .inl (fun _ => 0))), (a4, .inl (cI, 6, .inl (fun _ => 0))), (a5, .inl (cI, 6, .inl (fun _ => 0))), (a6, .inl (cZ, 6, .inl (fun _ => 0))), (a7, .inl (cI, 8, .inl (fun _ => 0)))] H := hP
      have hD : va_D A [(h, .inr (0, [.ref a1, .ref a2, .ref a3, .ref a4, .ref a5, .ref a6, .ref a7, .int (nI j), .int 0, .int (nI (e_tp j)), .int 0, .int 0])), (a1, .inl (cI, 14, .inl (fun _ => 0))), (a2, .inl (cI, 14, .inl (fun _ => 0))), (a3, .inl (cI, 14, .inl (fun _ => 0))), (a4, .inl (cI, 6, .inl (fun _ => 0))), (a5, .inl (cI, 6, .inl (fun _ => 0))), (a6, .inl (cZ, 6, .inl (fun _ => 0))), (a7, .inl (cI, 8, .inl (fun _ => 0)))] := hD
      refine lv_aload_n hx hb dX1_init_104 rfl (lv_at hl 0 rfl) ?_
      refine lv_iconst (v := (-1)) hx hb dX1_init_105 (by decide) ?_
      refine va_put (D := (dC, dI)) (ci := 0) (v := .int (-1)) (ty := .int) (C := RX1) (T := TX1) (N := 12) hx hb hts in_X1 tyX1 tyX1_ok nmX1 hown hK hP hD hS 0 rfl rfl 10 (by decide) (hts _ q39) (fun _ h9 => h9) rfl (by decide +kernel) rfl rfl (Nat.le_of_ble_eq_true rfl) dX1_init_106 (fun H locs hP hD hS => ?_)
      have hP : va_P (dC, dI) vwCl [(h, .inr (0, [.ref a1, .ref a2, .ref a3, .ref a4, .ref a5, .ref a6, .ref a7, .int (nI j), .int 0, .int (nI (e_tp j)), .int (-1), .int 0])), (a1, .inl (cI, 14, .inl (fun _ => 0))), (a2, .inl (cI, 14, .inl (fun _ => 0))), (a3, .inl (cI, 14, .inl (fun _ => 0))), (a4, .inl (cI, 6, .inl (fun _ => 0))), (a5, .inl (cI, 6, .inl (fun _ => 0))), (a6, .inl (cZ, 6, .inl (fun _ => 0))), (a7, .inl (cI, 8, .inl (fun _ => 0)))] H := hP
      have hD : va_D A [(h, .inr (0, [.ref a1, .ref a2, .ref a3, .ref a4, .ref a5, .ref a6, .ref a7, .int (nI j), .int 0, .int (nI (e_tp j)), .int (-1), .int 0])), (a1, .inl (cI, 14, .inl (fun _ => 0))), (a2, .inl (cI, 14, .inl (fun _ => 0))), (a3, .inl (cI, 14, .inl (fun _ => 0))), (a4, .inl (cI, 6, .inl (fun _ => 0))), (a5, .inl (cI, 6, .inl (fun _ => 0))), (a6, .inl (cZ, 6, .inl (fun _ => 0))), (a7, .inl (cI, 8, .inl (fun _ => 0)))] := hD
      exact hret (e_adL [h, a1, a2, a3, a4, a5, a6, a7], cI, cZ, j) dX1_init_109 ⟨ej, rfl⟩ hK hP hD hS
    · refine lv_aload_n hx hb dX1_init_83 rfl (lv_at hl 0 rfl) ?_
      refine lv_bipush (v := nI 6) hx hb dX1_init_84 (by decide) ?_
      refine va_put (D := (dC, dI)) (ci := 0) (v := .int (nI 6)) (ty := .int) (C := RX1) (T := TX1) (N := 12) hx hb hts in_X1 tyX1 tyX1_ok nmX1 hown hK hP hD hS 0 rfl rfl 7 (by decide) (hts _ q36) (fun _ h9 => h9) rfl (by decide +kernel) rfl rfl (Nat.le_of_ble_eq_true rfl) dX1_init_86 (fun H locs hP hD hS => ?_)
      have hP : va_P (dC, dI) vwCl [(h, .inr (0, [.ref a1, .ref a2, .ref a3, .ref a4, .ref a5, .ref a6, .ref a7, .int (nI 6), .int 0, .int 0, .int 0, .int 0])), (a1, .inl (cI, 14, .inl (fun _ => 0))), (a2, .inl (cI, 14, .inl (fun _ => 0))), (a3, .inl (cI, 14, .inl (fun _ => 0))), (a4, .inl (cI, 6, .inl (fun _ => 0))), (a5, .inl (cI, 6, .inl (fun _ => 0))), (a6, .inl (cZ, 6, .inl (fun _ => 0))), (a7, .inl (cI, 8, .inl (fun _ => 0)))] H := hP
      have hD : va_D A [(h, .inr (0, [.ref a1, .ref a2, .ref a3, .ref a4, .ref a5, .ref a6, .ref a7, .int (nI 6), .int 0, .int 0, .int 0, .int 0])), (a1, .inl (cI, 14, .inl (fun _ => 0))), (a2, .inl (cI, 14, .inl (fun _ => 0))), (a3, .inl (cI, 14, .inl (fun _ => 0))), (a4, .inl (cI, 6, .inl (fun _ => 0))), (a5, .inl (cI, 6, .inl (fun _ => 0))), (a6, .inl (cZ, 6, .inl (fun _ => 0))), (a7, .inl (cI, 8, .inl (fun _ => 0)))] := hD
      refine lv_aload_n hx hb dX1_init_89 rfl (lv_at hl 0 rfl) ?_
      refine lv_bipush (v := 6) hx hb dX1_init_90 (by decide) ?_
      refine lv_aload_n hx hb dX1_init_92 rfl (lv_at hl 0 rfl) ?_
      refine va_get (D := (dC, dI)) (ci := 0) (v := .int (nI 6)) (C := RX1) (T := TX1) (N := 12) hx hb hts in_X1 hown hK hP 0 rfl rfl 7 (by decide) (hts _ q36) (fun _ h9 => h9) rfl dX1_init_93 ?_
      refine lv_iconst (v := 1) hx hb dX1_init_96 (by decide) ?_
      refine lv_isub hx hb dX1_init_97 ?_
      refine lv_imul hx hb dX1_init_98 ?_
      refine lv_iconst (v := 1) hx hb dX1_init_99 (by decide) ?_
      refine lv_iadd hx hb dX1_init_100 ?_
      refine e_top (nI (e_tp 6)) (e_top6 (by omega)) ?_
      refine va_put (D := (dC, dI)) (ci := 0) (v := .int (nI (e_tp 6))) (ty := .int) (C := RX1) (T := TX1) (N := 12) hx hb hts in_X1 tyX1 tyX1_ok nmX1 hown hK hP hD hS 0 rfl rfl 9 (by decide) (hts _ q38) (fun _ h9 => h9) rfl (by decide +kernel) rfl rfl (Nat.le_of_ble_eq_true rfl) dX1_init_101 (fun H locs hP hD hS => ?_)
      have hP : va_P (dC, dI) vwCl [(h, .inr (0, [.ref a1, .ref a2, .ref a3, .ref a4, .ref a5, .ref a6, .ref a7, .int (nI 6), .int 0, .int (nI (e_tp 6)), .int 0, .int 0])), (a1, .inl (cI, 14, .inl (fun _ => 0))), (a2, .inl (cI, 14, .inl (fun _ => 0))), (a3, .inl (cI, 14, .inl (fun _ => 0))), (a4, .inl (cI, 6, .inl (fun _ => 0))), (a5, .inl (cI, 6, .inl (fun _ => 0))), (a6, .inl (cZ, 6, .inl (fun _ => 0))), (a7, .inl (cI, 8, .inl (fun _ => 0)))] H := hP
      have hD : va_D A [(h, .inr (0, [.ref a1, .ref a2, .ref a3, .ref a4, .ref a5, .ref a6, .ref a7, .int (nI 6), .int 0, .int (nI (e_tp 6)), .int 0, .int 0])), (a1, .inl (cI, 14, .inl (fun _ => 0))), (a2, .inl (cI, 14, .inl (fun _ => 0))), (a3, .inl (cI, 14, .inl (fun _ => 0))), (a4, .inl (cI, 6, .inl (fun _ => 0))), (a5, .inl (cI, 6, .inl (fun _ => 0))), (a6, .inl (cZ, 6, .inl (fun _ => 0))), (a7, .inl (cI, 8, .inl (fun _ => 0)))] := hD
      refine lv_aload_n hx hb dX1_init_104 rfl (lv_at hl 0 rfl) ?_
      refine lv_iconst (v := (-1)) hx hb dX1_init_105 (by decide) ?_
      refine va_put (D := (dC, dI)) (ci := 0) (v := .int (-1)) (ty := .int) (C := RX1) (T := TX1) (N := 12) hx hb hts in_X1 tyX1 tyX1_ok nmX1 hown hK hP hD hS 0 rfl rfl 10 (by decide) (hts _ q39) (fun _ h9 => h9) rfl (by decide +kernel) rfl rfl (Nat.le_of_ble_eq_true rfl) dX1_init_106 (fun H locs hP hD hS => ?_)
      have hP : va_P (dC, dI) vwCl [(h, .inr (0, [.ref a1, .ref a2, .ref a3, .ref a4, .ref a5, .ref a6, .ref a7, .int (nI 6), .int 0, .int (nI (e_tp 6)), .int (-1), .int 0])), (a1, .inl (cI, 14, .inl (fun _ => 0))), (a2, .inl (cI, 14, .inl (fun _ => 0))), (a3, .inl (cI, 14, .inl (fun _ => 0))), (a4, .inl (cI, 6, .inl (fun _ => 0))), (a5, .inl (cI, 6, .inl (fun _ => 0))), (a6, .inl (cZ, 6, .inl (fun _ => 0))), (a7, .inl (cI, 8, .inl (fun _ => 0)))] H := hP
      have hD : va_D A [(h, .inr (0, [.ref a1, .ref a2, .ref a3, .ref a4, .ref a5, .ref a6, .ref a7, .int (nI 6), .int 0, .int (nI (e_tp 6)), .int (-1), .int 0])), (a1, .inl (cI, 14, .inl (fun _ => 0))), (a2, .inl (cI, 14, .inl (fun _ => 0))), (a3, .inl (cI, 14, .inl (fun _ => 0))), (a4, .inl (cI, 6, .inl (fun _ => 0))), (a5, .inl (cI, 6, .inl (fun _ => 0))), (a6, .inl (cZ, 6, .inl (fun _ => 0))), (a7, .inl (cI, 8, .inl (fun _ => 0)))] := hD
      exact hret (e_adL [h, a1, a2, a3, a4, a5, a6, a7], cI, cZ, 6) dX1_init_109 ⟨e_nv_hi (Int32.not_lt.mpr c_63) c_80, rfl⟩ hK hP hD hS
  · refine lv_iconst (v := nI 2) hx hb dX1_init_66 (by decide) ?_
    refine lv_goto (tgt := 71) hx hb dX1_init_67 (by decide) ?_
    refine va_put (D := (dC, dI)) (ci := 0) (v := .int (nI 2)) (ty := .int) (C := RX1) (T := TX1) (N := 12) hx hb hts in_X1 tyX1 tyX1_ok nmX1 hown hK hP hD hS 0 rfl rfl 7 (by decide) (hts _ q36) (fun _ h9 => h9) rfl (by decide +kernel) rfl rfl (Nat.le_of_ble_eq_true rfl) dX1_init_71 (fun H locs hP hD hS => ?_)
    have hP : va_P (dC, dI) vwCl [(h, .inr (0, [.ref a1, .ref a2, .ref a3, .ref a4, .ref a5, .ref a6, .ref a7, .int (nI 2), .int 0, .int 0, .int 0, .int 0])), (a1, .inl (cI, 14, .inl (fun _ => 0))), (a2, .inl (cI, 14, .inl (fun _ => 0))), (a3, .inl (cI, 14, .inl (fun _ => 0))), (a4, .inl (cI, 6, .inl (fun _ => 0))), (a5, .inl (cI, 6, .inl (fun _ => 0))), (a6, .inl (cZ, 6, .inl (fun _ => 0))), (a7, .inl (cI, 8, .inl (fun _ => 0)))] H := hP
    have hD : va_D A [(h, .inr (0, [.ref a1, .ref a2, .ref a3, .ref a4, .ref a5, .ref a6, .ref a7, .int (nI 2), .int 0, .int 0, .int 0, .int 0])), (a1, .inl (cI, 14, .inl (fun _ => 0))), (a2, .inl (cI, 14, .inl (fun _ => 0))), (a3, .inl (cI, 14, .inl (fun _ => 0))), (a4, .inl (cI, 6, .inl (fun _ => 0))), (a5, .inl (cI, 6, .inl (fun _ => 0))), (a6, .inl (cZ, 6, .inl (fun _ => 0))), (a7, .inl (cI, 8, .inl (fun _ => 0)))] := hD
    refine lv_aload_n hx hb dX1_init_74 rfl (lv_at hl 0 rfl) ?_
    refine va_get (D := (dC, dI)) (ci := 0) (v := .int (nI 2)) (C := RX1) (T := TX1) (N := 12) hx hb hts in_X1 hown hK hP 0 rfl rfl 7 (by decide) (hts _ q36) (fun _ h9 => h9) rfl dX1_init_75 ?_
    refine lv_bipush (v := 6) hx hb dX1_init_78 (by decide) ?_
    refine lv_icmp_le (tgt := 89) hx hb dX1_init_80 (by decide) (fun c_80 => ?_) (fun c_80 => absurd (by decide) c_80)
    refine lv_aload_n hx hb dX1_init_89 rfl (lv_at hl 0 rfl) ?_
    refine lv_bipush (v := 6) hx hb dX1_init_90 (by decide) ?_
    refine lv_aload_n hx hb dX1_init_92 rfl (lv_at hl 0 rfl) ?_
    refine va_get (D := (dC, dI)) (ci := 0) (v := .int (nI 2)) (C := RX1) (T := TX1) (N := 12) hx hb hts in_X1 hown hK hP 0 rfl rfl 7 (by decide) (hts _ q36) (fun _ h9 => h9) rfl dX1_init_93 ?_
    refine lv_iconst (v := 1) hx hb dX1_init_96 (by decide) ?_
    refine lv_isub hx hb dX1_init_97 ?_
    refine lv_imul hx hb dX1_init_98 ?_
    refine lv_iconst (v := 1) hx hb dX1_init_99 (by decide) ?_
    refine lv_iadd hx hb dX1_init_100 ?_
    refine e_top (nI (e_tp 2)) (e_top6 (by omega)) ?_
    refine va_put (D := (dC, dI)) (ci := 0) (v := .int (nI (e_tp 2))) (ty := .int) (C := RX1) (T := TX1) (N := 12) hx hb hts in_X1 tyX1 tyX1_ok nmX1 hown hK hP hD hS 0 rfl rfl 9 (by decide) (hts _ q38) (fun _ h9 => h9) rfl (by decide +kernel) rfl rfl (Nat.le_of_ble_eq_true rfl) dX1_init_101 (fun H locs hP hD hS => ?_)
    have hP : va_P (dC, dI) vwCl [(h, .inr (0, [.ref a1, .ref a2, .ref a3, .ref a4, .ref a5, .ref a6, .ref a7, .int (nI 2), .int 0, .int (nI (e_tp 2)), .int 0, .int 0])), (a1, .inl (cI, 14, .inl (fun _ => 0))), (a2, .inl (cI, 14, .inl (fun _ => 0))), (a3, .inl (cI, 14, .inl (fun _ => 0))), (a4, .inl (cI, 6, .inl (fun _ => 0))), (a5, .inl (cI, 6, .inl (fun _ => 0))), (a6, .inl (cZ, 6, .inl (fun _ => 0))), (a7, .inl (cI, 8, .inl (fun _ => 0)))] H := hP
    have hD : va_D A [(h, .inr (0, [.ref a1, .ref a2, .ref a3, .ref a4, .ref a5, .ref a6, .ref a7, .int (nI 2), .int 0, .int (nI (e_tp 2)), .int 0, .int 0])), (a1, .inl (cI, 14, .inl (fun _ => 0))), (a2, .inl (cI, 14, .inl (fun _ => 0))), (a3, .inl (cI, 14, .inl (fun _ => 0))), (a4, .inl (cI, 6, .inl (fun _ => 0))), (a5, .inl (cI, 6, .inl (fun _ => 0))), (a6, .inl (cZ, 6, .inl (fun _ => 0))), (a7, .inl (cI, 8, .inl (fun _ => 0)))] := hD
    refine lv_aload_n hx hb dX1_init_104 rfl (lv_at hl 0 rfl) ?_
    refine lv_iconst (v := (-1)) hx hb dX1_init_105 (by decide) ?_
    refine va_put (D := (dC, dI)) (ci := 0) (v := .int (-1)) (ty := .int) (C := RX1) (T := TX1) (N := 12) hx hb hts in_X1 tyX1 tyX1_ok nmX1 hown hK hP hD hS 0 rfl rfl 10 (by decide) (hts _ q39) (fun _ h9 => h9) rfl (by decide +kernel) rfl rfl (Nat.le_of_ble_eq_true rfl) dX1_init_106 (fun H locs hP hD hS => ?_)
    have hP : va_P (dC, dI) vwCl [(h, .inr (0, [.ref a1, .ref a2, .ref a3, .ref a4, .ref a5, .ref a6, .ref a7, .int (nI 2), .int 0, .int (nI (e_tp 2)), .int (-1), .int 0])), (a1, .inl (cI, 14, .inl (fun _ => 0))), (a2, .inl (cI, 14, .inl (fun _ => 0))), (a3, .inl (cI, 14, .inl (fun _ => 0))), (a4, .inl (cI, 6, .inl (fun _ => 0))), (a5, .inl (cI, 6, .inl (fun _ => 0))), (a6, .inl (cZ, 6, .inl (fun _ => 0))), (a7, .inl (cI, 8, .inl (fun _ => 0)))] H := hP
    have hD : va_D A [(h, .inr (0, [.ref a1, .ref a2, .ref a3, .ref a4, .ref a5, .ref a6, .ref a7, .int (nI 2), .int 0, .int (nI (e_tp 2)), .int (-1), .int 0])), (a1, .inl (cI, 14, .inl (fun _ => 0))), (a2, .inl (cI, 14, .inl (fun _ => 0))), (a3, .inl (cI, 14, .inl (fun _ => 0))), (a4, .inl (cI, 6, .inl (fun _ => 0))), (a5, .inl (cI, 6, .inl (fun _ => 0))), (a6, .inl (cZ, 6, .inl (fun _ => 0))), (a7, .inl (cI, 8, .inl (fun _ => 0)))] := hD
    exact hret (e_adL [h, a1, a2, a3, a4, a5, a6, a7], cI, cZ, 2) dX1_init_109 ⟨e_nv_lo (Int32.not_le.mp c_63), rfl⟩ hK hP hD hS
abbrev rX2_init : Room := { frames := 1, cells := 6, slots := 66, locals := 20 }
abbrev w1X2_init (u : (Nat → Nat) × ClassId × Nat) : va_W := wM u.1 u.2.1 u.2.2 0 (fun _ => 0) (fun _ => 0) (fun _ => 0) (fun _ => 0) (fun _ => 0) (fun _ => 0)
set_option maxHeartbeats 4000000 in
set_option maxRecDepth 100000 in
/-- EnergyGameModel(p0): no edge yet -/
theorem metX2_init (l : Launch) (dC : Nat → ClassId) (dI : Nat → Nat → Nat) (h : Nat) (p0 : Int32) (sz : Nat) : Met l yX2_init (ws_ yX2_init cX2_init 2 none) rX2_init (va_Pc [.ref h, .int p0] (e_PW (dC, dI) vwCl [] [(h, .inr (1, [.int 0, .int 0, .null, .null, .null, .null, .null, .null]))] sz)) (va_Qv (fun (u : (Nat → Nat) × ClassId × Nat) => u.2.2 = e_nv p0 ∧ u.1 0 = h) (e_BI (dC, dI) vwCl (fun u => [(u.2.1, .int)]) w1X2_init (va_A [(h, .inr (1, [.int 0, .int 0, .null, .null, .null, .null, .null, .null]))] sz)) (va_A [(h, .inr (1, [.int 0, .int 0, .null, .null, .null, .null, .null, .null]))] sz)) 6 66 (va_A [(h, .inr (1, [.int 0, .int 0, .null, .null, .null, .null, .null, .null]))] sz) := by
  refine e_startI (by decide) (Nat.le_of_ble_eq_true rfl) ?_
  intro pg ev st mi ar bl mt cd H A QQ hx hb hml hown hin hts hA hK hP hD hS hret ls hl
  have hown : st.vm.findClass RX2 = some mi.cls := hown
  have hin : mt.name = "<init>" := hin
  have hP : va_P (dC, dI) vwCl [(h, .inr (1, [.int 0, .int 0, .null, .null, .null, .null, .null, .null]))] H := hP
  have hD : va_D A [(h, .inr (1, [.int 0, .int 0, .null, .null, .null, .null, .null, .null]))] := hD
  generalize hlocs : ([] : List Loc) = locs at hS ⊢
  have hl : lv_has ls 2 [(0, .ref h), (1, .int p0)] := hl
  refine lv_aload_n hx hb dX2_init_0 rfl (lv_at hl 0 rfl) ?_
  refine W.objInit hx hb hown (hts _ q173) (hts _ q27) (hts _ q28) rfl (by rw [hml]; exact hl.1) rfl dX2_init_1 (Nat.le_of_ble_eq_true rfl) (Nat.le_of_ble_eq_true rfl) ?_
  refine W.eq (g2 := F0 mi 4 ls []) rfl ?_
  refine lv_aload_n hx hb dX2_init_4 rfl (lv_at hl 0 rfl) ?_
  refine lv_bipush (v := 8) hx hb dX2_init_5 (by decide) ?_
  refine va_newa (atype := .int) (ty := .int) (a0 := (8, .inl (fun _ => 0))) (N' := 8) hx hb (hts _ q66) rfl hK hP hD hS hA (fun _ => rfl) (by decide) (by decide) (by decide) (Nat.le_of_ble_eq_true rfl) (Nat.le_of_ble_eq_true rfl) dX2_init_7 (fun a1 cI H hK hP hD hS => ?_)
  refine W.widen (k := 1) (n := 8) (by decide) (by decide) ?_
  have hK : va_K (dC, dI) vwCl [(cI, .int)] st := hK
  have hP : va_P (dC, dI) vwCl [(h, .inr (1, [.int 0, .int 0, .null, .null, .null, .null, .null, .null])), (a1, .inl (cI, 8, .inl (fun _ => 0)))] H := hP
  have hD : va_D A [(h, .inr (1, [.int 0, .int 0, .null, .null, .null, .null, .null, .null])), (a1, .inl (cI, 8, .inl (fun _ => 0)))] := hD
  refine va_put (D := (dC, dI)) (ci := 1) (v := .ref a1) (ty := (.array .int)) (C := RX2) (T := TX2) (N := 8) hx hb hts in_X2 tyX2 tyX2_ok nmX2 hown hK hP hD hS 0 rfl rfl 2 (by decide) (hts _ q176) (fun _ h9 => h9) rfl (by decide +kernel) rfl rfl (Nat.le_of_ble_eq_true rfl) dX2_init_9 (fun H locs hP hD hS => ?_)
  have hP : va_P (dC, dI) vwCl [(h, .inr (1, [.int 0, .int 0, .ref a1, .null, .null, .null, .null, .null])), (a1, .inl (cI, 8, .inl (fun _ => 0)))] H := hP
  have hD : va_D A [(h, .inr (1, [.int 0, .int 0, .ref a1, .null, .null, .null, .null, .null])), (a1, .inl (cI, 8, .inl (fun _ => 0)))] := hD
  refine lv_aload_n hx hb dX2_init_12 rfl (lv_at hl 0 rfl) ?_
  refine lv_bipush (v := 14) hx hb dX2_init_13 (by decide) ?_
  refine va_newa (atype := .int) (ty := .int) (a0 := (14, .inl (fun _ => 0))) (N' := 14) hx hb (hts _ q66) rfl hK hP hD hS hA (fun _ => rfl) (by decide) (by decide) (by decide) (Nat.le_of_ble_eq_true rfl) (Nat.le_of_ble_eq_true rfl) dX2_init_15 (fun a2 cA2 H hK hP hD hS => ?_)
  refine W.widen (k := 2) (n := 22) (by decide) (by decide) ?_
  obtain rfl := e_same hK 0 1 rfl rfl
  have hK := hK.sub (tys' := [(cI, .int)]) [0] rfl
  have hK : va_K (dC, dI) vwCl [(cI, .int)] st := hK
  have hP : va_P (dC, dI) vwCl [(h, .inr (1, [.int 0, .int 0, .ref a1, .null, .null, .null, .null, .null])), (a1, .inl (cI, 8, .inl (fun _ => 0))), (a2, .inl (cI, 14, .inl (fun _ => 0)))] H := hP
  have hD : va_D A [(h, .inr (1, [.int 0, .int 0, .ref a1, .null, .null, .null, .null, .null])), (a1, .inl (cI, 8, .inl (fun _ => 0))), (a2, .inl (cI, 14, .inl (fun _ => 0)))] := hD
  refine va_put (D := (dC, dI)) (ci := 1) (v := .ref a2) (ty := (.array .int)) (C := RX2) (T := TX2) (N := 8) hx hb hts in_X2 tyX2 tyX2_ok nmX2 hown hK hP hD hS 0 rfl rfl 3 (by decide) (hts _ q177) (fun _ h9 => h9) rfl (by decide +kernel) rfl rfl (Nat.le_of_ble_eq_true rfl) dX2_init_17 (fun H locs hP hD hS => ?_)
  have hP : va_P (dC, dI) vwCl [(h, .inr (1, [.int 0, .int 0, .ref a1, .ref a2, .null, .null, .null, .null])), (a1, .inl (cI, 8, .inl (fun _ => 0))), (a2, .inl (cI, 14, .inl (fun _ => 0)))] H := hP
  have hD : va_D A [(h, .inr (1, [.int 0, .int 0, .ref a1, .ref a2, .null, .null, .null, .null])), (a1, .inl (cI, 8, .inl (fun _ => 0))), (a2, .inl (cI, 14, .inl (fun _ => 0)))] := hD
  refine lv_aload_n hx hb dX2_init_20 rfl (lv_at hl 0 rfl) ?_
  refine lv_bipush (v := 14) hx hb dX2_init_21 (by decide) ?_
  refine va_newa (atype := .int) (ty := .int) (a0 := (14, .inl (fun _ => 0))) (N' := 14) hx hb (hts _ q66) rfl hK hP hD hS hA (fun _ => rfl) (by decide) (by decide) (by decide) (Nat.le_of_ble_eq_true rfl) (Nat.le_of_ble_eq_true rfl) dX2_init_23 (fun a3 cA3 H hK hP hD hS => ?_)
  refine W.widen (k := 3) (n := 36) (by decide) (by decide) ?_
  obtain rfl := e_same hK 0 1 rfl rfl
  have hK := hK.sub (tys' := [(cI, .int)]) [0] rfl
  have hK : va_K (dC, dI) vwCl [(cI, .int)] st := hK
  have hP : va_P (dC, dI) vwCl [(h, .inr (1, [.int 0, .int 0, .ref a1, .ref a2, .null, .null, .null, .null])), (a1, .inl (cI, 8, .inl (fun _ => 0))), (a2, .inl (cI, 14, .inl (fun _ => 0))), (a3, .inl (cI, 14, .inl (fun _ => 0)))] H := hP
  have hD : va_D A [(h, .inr (1, [.int 0, .int 0, .ref a1, .ref a2, .null, .null, .null, .null])), (a1, .inl (cI, 8, .inl (fun _ => 0))), (a2, .inl (cI, 14, .inl (fun _ => 0))), (a3, .inl (cI, 14, .inl (fun _ => 0)))] := hD
  refine va_put (D := (dC, dI)) (ci := 1) (v := .ref a3) (ty := (.array .int)) (C := RX2) (T := TX2) (N := 8) hx hb hts in_X2 tyX2 tyX2_ok nmX2 hown hK hP hD hS 0 rfl rfl 4 (by decide) (hts _ q178) (fun _ h9 => h9) rfl (by decide +kernel) rfl rfl (Nat.le_of_ble_eq_true rfl) dX2_init_25 (fun H locs hP hD hS => ?_)
  have hP : va_P (dC, dI) vwCl [(h, .inr (1, [.int 0, .int 0, .ref a1, .ref a2, .ref a3, .null, .null, .null])), (a1, .inl (cI, 8, .inl (fun _ => 0))), (a2, .inl (cI, 14, .inl (fun _ => 0))), (a3, .inl (cI, 14, .inl (fun _ => 0)))] H := hP
  have hD : va_D A [(h, .inr (1, [.int 0, .int 0, .ref a1, .ref a2, .ref a3, .null, .null, .null])), (a1, .inl (cI, 8, .inl (fun _ => 0))), (a2, .inl (cI, 14, .inl (fun _ => 0))), (a3, .inl (cI, 14, .inl (fun _ => 0)))] := hD
  refine lv_aload_n hx hb dX2_init_28 rfl (lv_at hl 0 rfl) ?_
  refine lv_bipush (v := 14) hx hb dX2_init_29 (by decide) ?_
  refine va_newa (atype := .int) (ty := .int) (a0 := (14, .inl (fun _ => 0))) (N' := 14) hx hb (hts _ q66) rfl hK hP hD hS hA (fun _ => rfl) (by decide) (by decide) (by decide) (Nat.le_of_ble_eq_true rfl) (Nat.le_of_ble_eq_true rfl) dX2_init_31 (fun a4 cA4 H hK hP hD hS => ?_)
  refine W.widen (k := 4) (n := 50) (by decide) (by decide) ?_
  obtain rfl := e_same hK 0 1 rfl rfl
  have hK := hK.sub (tys' := [(cI, .int)]) [0] rfl
  have hK : va_K (dC, dI) vwCl [(cI, .int)] st := hK
  have hP : va_P (dC, dI) vwCl [(h, .inr (1, [.int 0, .int 0, .ref a1, .ref a2, .ref a3, .null, .null, .null])), (a1, .inl (cI, 8, .inl (fun _ => 0))), (a2, .inl (cI, 14, .inl (fun _ => 0))), (a3, .inl (cI, 14, .inl (fun _ => 0))), (a4, .inl (cI, 14, .inl (fun _ => 0)))] H := hP
  have hD : va_D A [(h, .inr (1, [.int 0, .int 0, .ref a1, .ref a2, .ref a3, .null, .null, .null])), (a1, .inl (cI, 8, .inl (fun _ => 0))), (a2, .inl (cI, 14, .inl (fun _ => 0))), (a3, .inl (cI, 14, .inl (fun _ => 0))), (a4, .inl (cI, 14, .inl (fun _ => 0)))] := hD
  refine va_put (D := (dC, dI)) (ci := 1) (v := .ref a4) (ty := (.array .int)) (C := RX2) (T := TX2) (N := 8) hx hb hts in_X2 tyX2 tyX2_ok nmX2 hown hK hP hD hS 0 rfl rfl 5 (by decide) (hts _ q179) (fun _ h9 => h9) rfl (by decide +kernel) rfl rfl (Nat.le_of_ble_eq_true rfl) dX2_init_33 (fun H locs hP hD hS => ?_)
  have hP : va_P (dC, dI) vwCl [(h, .inr (1, [.int 0, .int 0, .ref a1, .ref a2, .ref a3, .ref a4, .null, .null])), (a1, .inl (cI, 8, .inl (fun _ => 0))), (a2, .inl (cI, 14, .inl (fun _ => 0))), (a3, .inl (cI, 14, .inl (fun _ => 0))), (a4, .inl (cI, 14, .inl (fun _ => 0)))] H := hP
  have hD : va_D A [(h, .inr (1, [.int 0, .int 0, .ref a1, .ref a2, .ref a3, .ref a4, .null, .null])), (a1, .inl (cI, 8, .inl (fun _ => 0))), (a2, .inl (cI, 14, .inl (fun _ => 0))), (a3, .inl (cI, 14, .inl (fun _ => 0))), (a4, .inl (cI, 14, .inl (fun _ => 0)))] := hD
  refine lv_aload_n hx hb dX2_init_36 rfl (lv_at hl 0 rfl) ?_
  refine lv_bipush (v := 8) hx hb dX2_init_37 (by decide) ?_
  refine va_newa (atype := .int) (ty := .int) (a0 := (8, .inl (fun _ => 0))) (N' := 8) hx hb (hts _ q66) rfl hK hP hD hS hA (fun _ => rfl) (by decide) (by decide) (by decide) (Nat.le_of_ble_eq_true rfl) (Nat.le_of_ble_eq_true rfl) dX2_init_39 (fun a5 cA5 H hK hP hD hS => ?_)
  refine W.widen (k := 5) (n := 58) (by decide) (by decide) ?_
  obtain rfl := e_same hK 0 1 rfl rfl
  have hK := hK.sub (tys' := [(cI, .int)]) [0] rfl
  have hK : va_K (dC, dI) vwCl [(cI, .int)] st := hK
  have hP : va_P (dC, dI) vwCl [(h, .inr (1, [.int 0, .int 0, .ref a1, .ref a2, .ref a3, .ref a4, .null, .null])), (a1, .inl (cI, 8, .inl (fun _ => 0))), (a2, .inl (cI, 14, .inl (fun _ => 0))), (a3, .inl (cI, 14, .inl (fun _ => 0))), (a4, .inl (cI, 14, .inl (fun _ => 0))), (a5, .inl (cI, 8, .inl (fun _ => 0)))] H := hP
  have hD : va_D A [(h, .inr (1, [.int 0, .int 0, .ref a1, .ref a2, .ref a3, .ref a4, .null, .null])), (a1, .inl (cI, 8, .inl (fun _ => 0))), (a2, .inl (cI, 14, .inl (fun _ => 0))), (a3, .inl (cI, 14, .inl (fun _ => 0))), (a4, .inl (cI, 14, .inl (fun _ => 0))), (a5, .inl (cI, 8, .inl (fun _ => 0)))] := hD
  refine va_put (D := (dC, dI)) (ci := 1) (v := .ref a5) (ty := (.array .int)) (C := RX2) (T := TX2) (N := 8) hx hb hts in_X2 tyX2 tyX2_ok nmX2 hown hK hP hD hS 0 rfl rfl 6 (by decide) (hts _ q180) (fun _ h9 => h9) rfl (by decide +kernel) rfl rfl (Nat.le_of_ble_eq_true rfl) dX2_init_41 (fun H locs hP hD hS => ?_)
  have hP : va_P (dC, dI) vwCl [(h, .inr (1, [.int 0, .int 0, .ref a1, .ref a2, .ref a3, .ref a4, .ref a5, .null])), (a1, .inl (cI, 8, .inl (fun _ => 0))), (a2, .inl (cI, 14, .inl (fun _ => 0))), (a3, .inl (cI, 14, .inl (fun _ => 0))), (a4, .inl (cI, 14, .inl (fun _ => 0))), (a5, .inl (cI, 8, .inl (fun _ => 0)))] H := hP
  have hD : va_D A [(h, .inr (1, [.int 0, .int 0, .ref a1, .ref a2, .ref a3, .ref a4, .ref a5, .null])), (a1, .inl (cI, 8, .inl (fun _ => 0))), (a2, .inl (cI, 14, .inl (fun _ => 0))), (a3, .inl (cI, 14, .inl (fun _ => 0))), (a4, .inl (cI, 14, .inl (fun _ => 0))), (a5, .inl (cI, 8, .inl (fun _ => 0)))] := hD
  refine lv_aload_n hx hb dX2_init_44 rfl (lv_at hl 0 rfl) ?_
  refine lv_bipush (v := 8) hx hb dX2_init_45 (by decide) ?_
  refine va_newa (atype := .int) (ty := .int) (a0 := (8, .inl (fun _ => 0))) (N' := 8) hx hb (hts _ q66) rfl hK hP hD hS hA (fun _ => rfl) (by decide) (by decide) (by decide) (Nat.le_of_ble_eq_true rfl) (Nat.le_of_ble_eq_true rfl) dX2_init_47 (fun a6 cA6 H hK hP hD hS => ?_)
  refine W.widen (k := 6) (n := 66) (by decide) (by decide) ?_
  obtain rfl := e_same hK 0 1 rfl rfl
  have hK := hK.sub (tys' := [(cI, .int)]) [0] rfl
  have hK : va_K (dC, dI) vwCl [(cI, .int)] st := hK
  have hP : va_P (dC, dI) vwCl [(h, .inr (1, [.int 0, .int 0, .ref a1, .ref a2, .ref a3, .ref a4, .ref a5, .null])), (a1, .inl (cI, 8, .inl (fun _ => 0))), (a2, .inl (cI, 14, .inl (fun _ => 0))), (a3, .inl (cI, 14, .inl (fun _ => 0))), (a4, .inl (cI, 14, .inl (fun _ => 0))), (a5, .inl (cI, 8, .inl (fun _ => 0))), (a6, .inl (cI, 8, .inl (fun _ => 0)))] H := hP
  have hD : va_D A [(h, .inr (1, [.int 0, .int 0, .ref a1, .ref a2, .ref a3, .ref a4, .ref a5, .null])), (a1, .inl (cI, 8, .inl (fun _ => 0))), (a2, .inl (cI, 14, .inl (fun _ => 0))), (a3, .inl (cI, 14, .inl (fun _ => 0))), (a4, .inl (cI, 14, .inl (fun _ => 0))), (a5, .inl (cI, 8, .inl (fun _ => 0))), (a6, .inl (cI, 8, .inl (fun _ => 0)))] := hD
  refine va_put (D := (dC, dI)) (ci := 1) (v := .ref a6) (ty := (.array .int)) (C := RX2) (T := TX2) (N := 8) hx hb hts in_X2 tyX2 tyX2_ok nmX2 hown hK hP hD hS 0 rfl rfl 7 (by decide) (hts _ q181) (fun _ h9 => h9) rfl (by decide +kernel) rfl rfl (Nat.le_of_ble_eq_true rfl) dX2_init_49 (fun H locs hP hD hS => ?_)
  have hP : va_P (dC, dI) vwCl [(h, .inr (1, [.int 0, .int 0, .ref a1, .ref a2, .ref a3, .ref a4, .ref a5, .ref a6])), (a1, .inl (cI, 8, .inl (fun _ => 0))), (a2, .inl (cI, 14, .inl (fun _ => 0))), (a3, .inl (cI, 14, .inl (fun _ => 0))), (a4, .inl (cI, 14, .inl (fun _ => 0))), (a5, .inl (cI, 8, .inl (fun _ => 0))), (a6, .inl (cI, 8, .inl (fun _ => 0)))] H := hP
  have hD : va_D A [(h, .inr (1, [.int 0, .int 0, .ref a1, .ref a2, .ref a3, .ref a4, .ref a5, .ref a6])), (a1, .inl (cI, 8, .inl (fun _ => 0))), (a2, .inl (cI, 14, .inl (fun _ => 0))), (a3, .inl (cI, 14, .inl (fun _ => 0))), (a4, .inl (cI, 14, .inl (fun _ => 0))), (a5, .inl (cI, 8, .inl (fun _ => 0))), (a6, .inl (cI, 8, .inl (fun _ => 0)))] := hD
  refine lv_aload_n hx hb dX2_init_52 rfl (lv_at hl 0 rfl) ?_
  refine lv_iload_n hx hb dX2_init_53 rfl (lv_at hl 1 rfl) ?_
  refine lv_iconst (v := 2) hx hb dX2_init_54 (by decide) ?_
  refine lv_icmp_ge (tgt := 62) hx hb dX2_init_55 (by decide) (fun c_55 => ?_) (fun c_55 => ?_)
  · refine lv_iload_n hx hb dX2_init_62 rfl (lv_at hl 1 rfl) ?_
    refine lv_bipush (v := 6) hx hb dX2_init_63 (by decide) ?_
    refine lv_icmp_le (tgt := 73) hx hb dX2_init_65 (by decide) (fun c_65 => ?_) (fun c_65 => ?_)
    · obtain ⟨j, ej, rfl, hj2, hj6⟩ := e_nv_of (Int32.not_lt.mpr c_55) c_65
      refine lv_iload_n hx hb dX2_init_73 rfl (lv_at hl 1 rfl) ?_
      refine va_put (D := (dC, dI)) (ci := 1) (v := .int (nI j)) (ty := .int) (C := RX2) (T := TX2) (N := 8) hx hb hts in_X2 tyX2 tyX2_ok nmX2 hown hK hP hD hS 0 rfl rfl 0 (by decide) (hts _ q174) (fun _ h9 => h9) rfl (by decide +kernel) rfl rfl (Nat.le_of_ble_eq_true rfl) dX2_init_74 (fun H locs hP hD hS => ?_)
      have hP : va_P (dC, dI) vwCl [(h, .inr (1, [.int (nI j), .int 0, .ref a1, .ref a2, .ref a3, .ref a4, .ref a5, .ref a6])), (a1, .inl (cI, 8, .inl (fun _ => 0))), (a2, .inl (cI, 14, .inl (fun _ => 0))), (a3, .inl (cI, 14, .inl (fun _ => 0))), (a4, .inl (cI, 14, .inl (fun _ => 0))), (a5, .inl (cI, 8, .inl (fun _ => 0))), (a6, .inl (cI, 8, .inl (fun _ => 0)))] H := hP
      have hD : va_D A [(h, .inr (1, [.int (nI j), .int 0, .ref a1, .ref a2, .ref a3, .ref a4, .ref a5, .ref a6])), (a1, .inl (cI, 8, .inl (fun _ => 0))), (a2, .inl (cI, 14, .inl (fun _ => 0))), (a3, .inl (cI, 14, .inl (fun _ => 0))), (a4, .inl (cI, 14, .inl (fun _ => 0))), (a5, .inl (cI, 8, .inl (fun _ => 0))), (a6, .inl (cI, 8, .inl (fun _ => 0)))] := hD
      exact hret (e_adL [h, a1, a2, a3, a4, a5, a6], cI, j) dX2_init_77 ⟨ej, rfl⟩ hK hP hD hS
    · refine lv_bipush (v := nI 6) hx hb dX2_init_68 (by decide) ?_
      refine lv_goto (tgt := 74) hx hb dX2_init_70 (by decide) ?_
      refine va_put (D := (dC, dI)) (ci := 1) (v := .int (nI 6)) (ty := .int) (C := RX2) (T := TX2) (N := 8) hx hb hts in_X2 tyX2 tyX2_ok nmX2 hown hK hP hD hS 0 rfl rfl 0 (by decide) (hts _ q174) (fun _ h9 => h9) rfl (by decide +kernel) rfl rfl (Nat.le_of_ble_eq_true rfl) dX2_init_74 (fun H locs hP hD hS => ?_)
      have hP : va_P (dC, dI) vwCl [(h, .inr (1, [.int (nI 6), .int 0, .ref a1, .ref a2, .ref a3, .ref a4, .ref a5, .ref a6])), (a1, .inl (cI, 8, .inl (fun _ => 0))), (a2, .inl (cI, 14, .inl (fun _ => 0))), (a3, .inl (cI, 14, .inl (fun _ => 0))), (a4, .inl (cI, 14, .inl (fun _ => 0))), (a5, .inl (cI, 8, .inl (fun _ => 0))), (a6, .inl (cI, 8, .inl (fun _ => 0)))] H := hP
      have hD : va_D A [(h, .inr (1, [.int (nI 6), .int 0, .ref a1, .ref a2, .ref a3, .ref a4, .ref a5, .ref a6])), (a1, .inl (cI, 8, .inl (fun _ => 0))), (a2, .inl (cI, 14, .inl (fun _ => 0))), (a3, .inl (cI, 14, .inl (fun _ => 0))), (a4, .inl (cI, 14, .inl (fun _ => 0))), (a5, .inl (cI, 8, .inl (fun _ => 0))), (a6, .inl (cI, 8, .inl (fun _ => 0)))] := hD
      exact hret (e_adL [h, a1, a2, a3, a4, a5, a6], cI, 6) dX2_init_77 ⟨e_nv_hi (Int32.not_lt.mpr c_55) c_65, rfl⟩ hK hP hD hS
  · refine lv_iconst (v := nI 2) hx hb dX2_init_58 (by decide) ?_
    refine lv_goto (tgt := 74) hx hb dX2_init_59 (by decide) ?_
    refine va_put (D := (dC, dI)) (ci := 1) (v := .int (nI 2)) (ty := .int) (C := RX2) (T := TX2) (N := 8) hx hb hts in_X2 tyX2 tyX2_ok nmX2 hown hK hP hD hS 0 rfl rfl 0 (by decide) (hts _ q174) (fun _ h9 => h9) rfl (by decide +kernel) rfl rfl (Nat.le_of_ble_eq_true rfl) dX2_init_74 (fun H locs hP hD hS => ?_)
    have hP : va_P (dC, dI) vwCl [(h, .inr (1, [.int (nI 2), .int 0, .ref a1, .ref a2, .ref a3, .ref a4, .ref a5, .ref a6])), (a1, .inl (cI, 8, .inl (fun _ => 0))), (a2, .inl (cI, 14, .inl (fun _ => 0))), (a3, .inl (cI, 14, .inl (fun _ => 0))), (a4, .inl (cI, 14, .inl (fun _ => 0))), (a5, .inl (cI, 8, .inl (fun _ => 0))), (a6, .inl (cI, 8, .inl (fun _ => 0)))] H := hP
    have hD : va_D A [(h, .inr (1, [.int (nI 2), .int 0, .ref a1, .ref a2, .ref a3, .ref a4, .ref a5, .ref a6])), (a1, .inl (cI, 8, .inl (fun _ => 0))), (a2, .inl (cI, 14, .inl (fun _ => 0))), (a3, .inl (cI, 14, .inl (fun _ => 0))), (a4, .inl (cI, 14, .inl (fun _ => 0))), (a5, .inl (cI, 8, .inl (fun _ => 0))), (a6, .inl (cI, 8, .inl (fun _ => 0)))] := hD
    exact hret (e_adL [h, a1, a2, a3, a4, a5, a6], cI, 2) dX2_init_77 ⟨e_nv_lo (Int32.not_le.mp c_55), rfl⟩ hK hP hD hS
end
section
/-! the law: its end (of the skeleton), its cell -/
set_option maxRecDepth 100000
/-! THE CLAIM OUT OF ONE WALK OF THE LAW'S BODY. Your part is whole_start (and what it stands on); all else here is the same for every law, but numbers. -/
def R_law : String := "EnergyGameLaw"
def lw_P (b : Addr) (xs : List Int32) (args : Array Value) (s : State) : Prop := args = #[.ref b] ∧ s.IntsAt b xs ∧ xs.length ≤ 257 ∧ (Jvm.Cond.and given_1 narrow_1).before args s = true
def lw_Q (_ : Array Value) (s : State) (o : Outcome) (t : State) : Prop := o = .returned (some (.int 1)) ∧ Framed s o t [] 600000 7290000
def lw_Z (below : List Frame) (a : Array Value) (s : State) : State → Prop := fun t => ∃ o, t.status = .running ∧ Ended t below o ∧ lw_Q a s o t
/-- the law's own end, with 1 on the stack, nothing written that was there before, its room as the claim has it -/
theorem lw_ret {p : Program} {l : Launch} {e : Env} {s : State} {m : MethodId} {below : List Frame} {meth : Method} {c : Code} {b : Nat} (hx : p.tables.exec = Jvm.exec) (hb : c.code = code) (hr : meth.sig.returnType = ret) (hlocks : meth.locks = false) {pc : Nat} {H : Heap} {ls : Array Slot} (hdg : decode code pc = .ok (.ireturn, 1)) : W p l e room_1 s m #[Value.ref b] below meth c H [] 600000 7290000 (lw_Z below #[Value.ref b] s) (F0 m pc ls [.int 1]) := by
  intro T hT X
  obtain ⟨fs, hret, hrun, hended, hW, hframe⟩ := X.leave (v := some (.int 1)) (hlocks := hlocks) (fun h => by rw [hr] at h; cases h)
  have hmeth' : T.vm.method? m = some meth := X.method'
  refine ⟨T.setFrames fs, ?_, .returned (some (.int 1)), hrun, hended, rfl, ⟨_, rfl⟩, hW, hframe⟩
  jvm_step X.here [X.here.top, hx, hb, hdg, hmeth', hr, ret, narrow_b1]
  (try refine ⟨rfl, ?_⟩); (try refine ⟨rfl, ?_⟩)
  first | (intro acts; rw [hret _ acts rfl rfl rfl]) | rw [hret _ _ rfl rfl rfl]
  exact Steps.refl _
/-- what holds at the law's entry: the machine, the code, the tables' words (any of lw_tbl by 'hts w (by decide +kernel)'), the script of L ints xs at the cell b, what the Statement gives of the start (any of its parts by flat_of_before) -/
def lw_At (p : Program) (s : State) (m : MethodId) (meth : Method) (c : Code) (b L : Nat) (xs : Nat → Int32) : Prop :=
  p.tables.exec = Jvm.exec ∧ c.code = code ∧ meth.sig.returnType = ret ∧ c.maxLocals = 4 ∧ s.vm.findClass R_law = some m.cls ∧ (∀ w ∈ lw_tbl, w.before #[Value.ref b] s = true) ∧ va_X b L xs s s.heap ∧ b < s.heap.size ∧ meth.locks = false ∧ (Jvm.Cond.and given_1 narrow_1).before #[Value.ref b] s = true
set_option maxHeartbeats 4000000 in
set_option maxRecDepth 100000 in
/-- cell(script, 0): the script's first int, 0 if there is none -/
theorem metX0_cell (l : Launch) (b L : Nat) (xs : Nat → Int32) (hL : L ≤ 257) : Met l yX0_cell (ws_ yX0_cell cX0_cell 2 (some .int)) ({ frames := 0, cells := 0, slots := 0, locals := 0 }) (va_Pc [.ref b, .int (nI 0)] (fun U => va_X b L xs U U.heap)) (e_R (fun r => r = if 0 < L then xs 0 else 0)) 0 0 (fun _ => False) := by
  refine Met.ofW (cc := cX0_cell) (maxL := 2) (ret := (some .int)) (by decide) rfl ?_
  intro p e s m args below meth c s₁ B hml hv
  obtain ⟨rfl, hX⟩ := hv
  have hx := B.exec
  have hb := B.bytes
  have hr := B.returns
  have hlocks := B.notSynchronized
  have hbl : b < s.heap.size := by
    obtain ⟨scr, h1, -⟩ := hX
    exact (Array.getElem?_eq_some_iff.mp h1).1
  have hS : va_S (fun _ => False) s.heap s.heap [] := va_S.rf
  have hl := lv_entry ([.ref b, .int (nI 0)]) (n := 2) (Nat.le_of_ble_eq_true rfl)
  rw [lg_entry_eq]
  generalize (lg_sl ([.ref b, .int (nI 0)]) ++ List.replicate (2 - (lg_sl ([.ref b, .int (nI 0)])).length) Slot.unset).toArray = ls at hl ⊢
  have hl : lv_has ls 2 [(0, .ref b), (1, .int (nI 0))] := hl
  refine lv_iload_n hx hb dX0_cell_0 rfl (lv_at hl 1 rfl) ?_
  refine lv_aload_n hx hb dX0_cell_1 rfl (lv_at hl 0 rfl) ?_
  refine va_slen hx hb hX hbl (fun h => h) hS dX0_cell_2 ?_
  refine e_top (nI L) rfl ?_
  refine e_ge (tgt := 12) hx hb (by omega) (by omega) dX0_cell_3 (by decide) (fun c_3 => ?_) (fun c_3 => ?_)
  · refine lv_iconst (v := 0) hx hb dX0_cell_12 (by decide) ?_
    exact W.iret (v := 0) hx hb hr (fun t ht hW => ⟨0, rfl, by rw [if_neg (by omega)], ht⟩) (fun q h => by cases h) dX0_cell_13
  · refine lv_aload_n hx hb dX0_cell_6 rfl (lv_at hl 0 rfl) ?_
    refine lv_iload_n hx hb dX0_cell_7 rfl (lv_at hl 1 rfl) ?_
    refine va_sld hx hb hX hbl (fun h => h) hS (vp_in_nI c_3 (by omega)) dX0_cell_8 ?_
    refine e_top (xs 0) (by rw [nI_clamp (by omega)]) ?_
    refine lv_goto (tgt := 13) hx hb dX0_cell_9 (by decide) ?_
    exact W.iret (v := xs 0) hx hb hr (fun t ht hW => ⟨xs 0, rfl, by rw [if_pos c_3], ht⟩) (fun q h => by cases h) dX0_cell_13
theorem e_sub4 {L i : Nat} (hL : L ≤ 257) (hi : i < 2 ^ 30) : nI L - 4 < nI i ↔ L < i + 4 := by
  rw [show (4 : Int32) = nI 4 by decide, Int32.lt_iff_toInt_lt, pk_sub_toInt (by omega) (by omega), nI_toInt (by omega)]
  omega
theorem e_addk (i : Nat) (k : Nat) (x : Int32) (h : x = nI k) : nI i + x = nI (i + k) := by
  rw [h, nI_add]
/-- both sides came to the same state -/
theorem e_both {r1 r2 : Int32} {u1 u2 : eC} {s : Int32 × eC} (h1 : (r1, u1) = s) (h2 : (r2, u2) = s) : r1 = r2 ∧ u1 = u2 := by
  have h := h1.trans h2.symm
  exact ⟨congrArg Prod.fst h, congrArg Prod.snd h⟩
end
section
/-! the law's loop -/
set_option maxRecDepth 100000
set_option maxHeartbeats 40000000 in
set_option maxRecDepth 100000 in
/-- the law's loop: the class and the reference stand at one state -/
theorem law_loop {pg : Program} {ev : Env} {st : State} {mi : MethodId} {bl : List Frame} {mt : Method} {cd : Code} (l : Launch) {b L : Nat} {xs : Nat → Int32} (hL : L ≤ 257) (C0 : lw_At pg st mi mt cd b L xs) {dC : Nat → ClassId} {dI : Nat → Nat → Nat} {adG adM : Nat → Nat} {cI cZ cM : ClassId} {n : Nat} (hK : va_K (dC, dI) vwCl [(cI, .int), (cZ, .boolean), (cM, .int)] st) : ∀ (k : Nat) (i c : Nat) (T Hd G O N Wt Qu : eFn) (cu : Int32) (Nw Lt : eFn), i ≤ L + 4 → L + 4 < i + k → e_ok n c T Hd G → e_gdG n c T Hd G O N cu → ∀ (H : Heap) (locs : List Loc), va_P (dC, dI) vwCl (wG adG cI cZ n c T Hd G O N Wt Qu (-1) cu ++ wM adM cM n c T Hd G O Nw Lt) H → va_D (fun q : Nat => st.heap.size ≤ q) (wG adG cI cZ n c T Hd G O N Wt Qu (-1) cu ++ wM adM cM n c T Hd G O Nw Lt) → va_S (fun q : Nat => st.heap.size ≤ q) st.heap H locs → ∀ ls : Array Slot, lv_has ls 4 [(0, .ref b), (1, .ref (adG 0)), (2, .ref (adM 0)), (3, .int (nI i))] → W pg l ev room_1 st mi #[Value.ref b] bl mt cd H locs 15 154 (lw_Z bl #[Value.ref b] st) (F0 mi 28 ls []) := by
  obtain ⟨hx, hb, hr, hml, hown, hts0, hX, hbl, hlocks, hgv⟩ := id C0
  have hts : ∀ w ∈ lw_all, w.before #[Value.ref b] st = true := fun w h => hts0 w (lw_all_tbl h)
  have hA : ∀ q : Nat, st.heap.size ≤ q → (fun q : Nat => st.heap.size ≤ q) q := fun _ h => h
  have hbA : ¬ (fun q : Nat => st.heap.size ≤ q) b := Nat.not_le.mpr hbl
  have hKG := hK.sub (tys' := [(cI, .int), (cZ, .boolean)]) [0, 1] rfl
  have hKM := hK.sub (tys' := [(cM, .int)]) [2] rfl
  intro k
  induction k with
  | zero =>
    intro i c T Hd G O N Wt Qu cu Nw Lt h1 h2
    exfalso; omega
  | succ k ih =>
    intro i c T Hd G O N Wt Qu cu Nw Lt hi hk hok hgd H locs hP hD hS ls hl
    refine lv_iload_n hx hb dL_law_28 rfl (lv_at hl 3 rfl) ?_
    refine lv_aload_n hx hb dL_law_29 rfl (lv_at hl 0 rfl) ?_
    refine va_slen (A := (fun q : Nat => st.heap.size ≤ q)) hx hb hX hbl hbA hS dL_law_30 ?_
    refine e_top (nI L) rfl ?_
    refine lv_iconst (v := 4) hx hb dL_law_31 (by decide) ?_
    refine lv_isub hx hb dL_law_32 ?_
    refine lv_icmp_gt (tgt := 497) hx hb dL_law_33 (by decide) (fun c_33 => ?_) (fun c_33 => ?_)
    · refine lv_iconst (v := 1) hx hb dL_law_497 (by decide) ?_
      refine va_forget (fun q hq => hS.2.2 q hq) ?_
      refine W.widen (k := 600000) (n := 7290000) (by decide) (by decide) ?_
      exact lw_ret hx hb hr hlocks dL_law_498
    · have hiL : i + 4 ≤ L := Nat.not_lt.mp fun z => c_33 ((e_sub4 hL (by omega)).mpr z)
      have nxt : ∀ (c : Nat) (T Hd G O N Wt Qu : eFn) (cu : Int32) (Nw Lt : eFn), e_ok n c T Hd G → e_gdG n c T Hd G O N cu → ∀ (H : Heap) (locs : List Loc), va_P (dC, dI) vwCl (wG adG cI cZ n c T Hd G O N Wt Qu (-1) cu ++ wM adM cM n c T Hd G O Nw Lt) H → va_D (fun q : Nat => st.heap.size ≤ q) (wG adG cI cZ n c T Hd G O N Wt Qu (-1) cu ++ wM adM cM n c T Hd G O Nw Lt) → va_S (fun q : Nat => st.heap.size ≤ q) st.heap H locs → W pg l ev room_1 st mi #[Value.ref b] bl mt cd H locs 15 154 (lw_Z bl #[Value.ref b] st) (F0 mi 491 ls []) := by
        intro c T Hd G O N Wt Qu cu Nw Lt hok hgd H locs hP hD hS
        refine lv_iinc (v := nI (i + 4)) (lv' := [(3, .int (nI (i + 4))), (0, .ref b), (1, .ref (adG 0)), (2, .ref (adM 0))]) hx hb dL_law_491 hl (k := 3) rfl (e_incs _ 4) (by decide) rfl (fun ls hl => ?_)
        refine lv_goto (tgt := 28) hx hb dL_law_494 (by decide) ?_
        exact ih (i + 4) c T Hd G O N Wt Qu cu Nw Lt (by omega) (by omega) hok hgd H locs hP hD hS ls (lv_sub hl [1, 2, 3, 0] rfl)
      refine lv_aload_n hx hb dL_law_36 rfl (lv_at hl 0 rfl) ?_
      refine lv_iload_n hx hb dL_law_37 rfl (lv_at hl 3 rfl) ?_
      refine va_sld (A := (fun q : Nat => st.heap.size ≤ q)) hx hb hX hbl hbA hS (vp_in_nI (show i < L by omega) (by omega)) dL_law_38 ?_
      refine lv_bipush (v := 15) hx hb dL_law_39 (by decide) ?_
      refine lv_iand hx hb dL_law_41 ?_
      obtain ⟨j, hj, ej⟩ := pk_andE (xs (nI i).toNatClampNeg) (m := 15) 4 (by decide)
      refine e_top (nI j) ej ?_
      clear ej
      have hj : j < 16 := hj
      rcases (show j = 0 ∨ j = 1 ∨ j = 2 ∨ j = 3 ∨ j = 4 ∨ j = 5 ∨ j = 6 ∨ j = 7 ∨ j = 8 ∨ j = 9 ∨ j = 10 ∨ j = 11 ∨ j = 12 ∨ j = 13 ∨ j = 14 ∨ j = 15 by omega) with rfl | rfl | rfl | rfl | rfl | rfl | rfl | rfl | rfl | rfl | rfl | rfl | rfl | rfl | rfl | rfl
      · refine lv_tableIn (off := 74) (tgt := 116) hx hb dL_law_42 (by decide) (by decide) (by decide) (by decide) ?_
        refine lv_aload_n hx hb dL_law_116 rfl (lv_at hl 1 rfl) ?_
        refine e_callR (q0 := 0) (ci := 0) (rest := []) ⟨hx, hb, hml, hown, hts⟩ (metX1_vertices l dC dI adG cI cZ n c T Hd G O N Wt Qu (-1) cu) (cwV 0 hts (lw_V q68 q69 q70 q19 q71) rfl rfl rfl (by decide +kernel) ⟨Nat.le_of_ble_eq_true rfl, Nat.le_of_ble_eq_true rfl⟩) hKG (hP.sub (ws' := wG adG cI cZ n c T Hd G O N Wt Qu (-1) cu) [0, 1, 2, 3, 4, 5, 6, 7] rfl) rfl rfl rfl rfl hl.1 rfl (Nat.le_of_ble_eq_true rfl) dL_law_117 ⟨Nat.le_of_ble_eq_true rfl, Nat.le_of_ble_eq_true rfl⟩ (fun r1 hw1 => ?_)
        refine lv_aload_n hx hb dL_law_120 rfl (lv_at hl 2 rfl) ?_
        refine e_callR (q0 := 0) (ci := 1) (rest := [.int r1]) ⟨hx, hb, hml, hown, hts⟩ (metX2_vertices l dC dI adM cM n c T Hd G O Nw Lt) (cwV 0 hts (lw_V q199 q200 q201 q20 q202) rfl rfl rfl (by decide +kernel) ⟨Nat.le_of_ble_eq_true rfl, Nat.le_of_ble_eq_true rfl⟩) hKM (hP.sub (ws' := wM adM cM n c T Hd G O Nw Lt) [8, 9, 10, 11, 12, 13, 14] rfl) rfl rfl rfl rfl hl.1 rfl (Nat.le_of_ble_eq_true rfl) dL_law_121 ⟨Nat.le_of_ble_eq_true rfl, Nat.le_of_ble_eq_true rfl⟩ (fun r2 hw2 => ?_)
        refine lv_icmp_eq (tgt := 491) hx hb dL_law_124 (by decide) (fun _ => ?_) (fun c_9 => absurd (hw1.trans hw2.symm) c_9)
        exact nxt c T Hd G O N Wt Qu cu Nw Lt hok hgd H locs hP hD hS
      · refine lv_tableIn (off := 87) (tgt := 129) hx hb dL_law_42 (by decide) (by decide) (by decide) (by decide) ?_
        refine lv_aload_n hx hb dL_law_129 rfl (lv_at hl 1 rfl) ?_
        refine lv_aload_n hx hb dL_law_130 rfl (lv_at hl 0 rfl) ?_
        refine lv_iload_n hx hb dL_law_131 rfl (lv_at hl 3 rfl) ?_
        refine lv_iconst (v := 1) hx hb dL_law_132 (by decide) ?_
        refine lv_iadd hx hb dL_law_133 ?_
        refine e_top (nI (i + 1)) (e_addk i 1 1 (by decide)) ?_
        refine va_sld (A := (fun q : Nat => st.heap.size ≤ q)) hx hb hX hbl hbA hS (vp_in_nI (show i + 1 < L by omega) (by omega)) dL_law_134 ?_
        refine e_top (xs (i + 1)) (by rw [nI_clamp (by omega)]) ?_
        refine lv_aload_n hx hb dL_law_135 rfl (lv_at hl 0 rfl) ?_
        refine lv_iload_n hx hb dL_law_136 rfl (lv_at hl 3 rfl) ?_
        refine lv_iconst (v := 2) hx hb dL_law_137 (by decide) ?_
        refine lv_iadd hx hb dL_law_138 ?_
        refine e_top (nI (i + 2)) (e_addk i 2 2 (by decide)) ?_
        refine va_sld (A := (fun q : Nat => st.heap.size ≤ q)) hx hb hX hbl hbA hS (vp_in_nI (show i + 2 < L by omega) (by omega)) dL_law_139 ?_
        refine e_top (xs (i + 2)) (by rw [nI_clamp (by omega)]) ?_
        refine e_callI (q0 := 0) (ci := 0) (rest := []) (wr := wM adM cM n c T Hd G O Nw Lt) ⟨hx, hb, hml, hown, hts⟩ (metX1_give l dC dI adG cI cZ n c T Hd G O N Wt Qu cu hok hgd (xs (i + 1)) (xs (i + 2)) H.size) (cwV 2 hts (lw_V q72 q73 q74 q19 q75) rfl rfl rfl (by decide +kernel) ⟨Nat.le_of_ble_eq_true rfl, Nat.le_of_ble_eq_true rfl⟩) hKG hP hD hS hA [0, 1, 2, 3, 4, 5, 6, 7] [8, 9, 10, 11, 12, 13, 14] rfl rfl (by decide) (by decide) (by decide) rfl rfl rfl rfl hl.1 rfl (Nat.le_of_ble_eq_true rfl) dL_law_140 ⟨Nat.le_of_ble_eq_true rfl, Nat.le_of_ble_eq_true rfl⟩ (fun r1 u1 H locs hw1 hP hD hS => ?_)
        obtain ⟨⟨c1, T1, Hd1, G1, O1⟩, cu1⟩ := u1
        obtain ⟨hw1, hgd1⟩ := hw1
        have hP : va_P (dC, dI) vwCl (wM adM cM n c T Hd G O Nw Lt ++ wG adG cI cZ n c1 T1 Hd1 G1 O1 N Wt Qu (-1) cu1) H := hP
        have hD : va_D (fun q : Nat => st.heap.size ≤ q) (wM adM cM n c T Hd G O Nw Lt ++ wG adG cI cZ n c1 T1 Hd1 G1 O1 N Wt Qu (-1) cu1) := hD
        refine lv_aload_n hx hb dL_law_143 rfl (lv_at hl 2 rfl) ?_
        refine lv_aload_n hx hb dL_law_144 rfl (lv_at hl 0 rfl) ?_
        refine lv_iload_n hx hb dL_law_145 rfl (lv_at hl 3 rfl) ?_
        refine lv_iconst (v := 1) hx hb dL_law_146 (by decide) ?_
        refine lv_iadd hx hb dL_law_147 ?_
        refine e_top (nI (i + 1)) (e_addk i 1 1 (by decide)) ?_
        refine va_sld (A := (fun q : Nat => st.heap.size ≤ q)) hx hb hX hbl hbA hS (vp_in_nI (show i + 1 < L by omega) (by omega)) dL_law_148 ?_
        refine e_top (xs (i + 1)) (by rw [nI_clamp (by omega)]) ?_
        refine lv_aload_n hx hb dL_law_149 rfl (lv_at hl 0 rfl) ?_
        refine lv_iload_n hx hb dL_law_150 rfl (lv_at hl 3 rfl) ?_
        refine lv_iconst (v := 2) hx hb dL_law_151 (by decide) ?_
        refine lv_iadd hx hb dL_law_152 ?_
        refine e_top (nI (i + 2)) (e_addk i 2 2 (by decide)) ?_
        refine va_sld (A := (fun q : Nat => st.heap.size ≤ q)) hx hb hX hbl hbA hS (vp_in_nI (show i + 2 < L by omega) (by omega)) dL_law_153 ?_
        refine e_top (xs (i + 2)) (by rw [nI_clamp (by omega)]) ?_
        refine e_callI (q0 := 0) (ci := 1) (rest := [.int r1]) (wr := wG adG cI cZ n c1 T1 Hd1 G1 O1 N Wt Qu (-1) cu1) ⟨hx, hb, hml, hown, hts⟩ (metX2_give l dC dI adM cM n c T Hd G O Nw Lt hok (xs (i + 1)) (xs (i + 2)) H.size) (cwV 2 hts (lw_V q203 q204 q205 q20 q206) rfl rfl rfl (by decide +kernel) ⟨Nat.le_of_ble_eq_true rfl, Nat.le_of_ble_eq_true rfl⟩) hKM hP hD hS hA [0, 1, 2, 3, 4, 5, 6] [7, 8, 9, 10, 11, 12, 13, 14] rfl rfl (by decide) (by decide) (by decide) rfl rfl rfl rfl hl.1 rfl (Nat.le_of_ble_eq_true rfl) dL_law_154 ⟨Nat.le_of_ble_eq_true rfl, Nat.le_of_ble_eq_true rfl⟩ (fun r2 u2 H locs hw2 hP hD hS => ?_)
        obtain ⟨er, ec⟩ := e_both hw1 hw2
        subst ec
        have hok1 : e_ok n c1 T1 Hd1 G1 := by
          have z := s_give_ok (n := n) (c := c) (T := T) (Hd := Hd) (G := G) (O := O) (v := xs (i + 1)) (p := xs (i + 2)) hok
          rw [← hw1] at z
          exact z
        refine lv_icmp_eq (tgt := 491) hx hb dL_law_157 (by decide) (fun _ => ?_) (fun c_9 => absurd er c_9)
        exact nxt c1 T1 Hd1 G1 O1 N Wt Qu cu1 Nw Lt hok1 hgd1 H locs hP hD hS
      · refine lv_tableIn (off := 120) (tgt := 162) hx hb dL_law_42 (by decide) (by decide) (by decide) (by decide) ?_
        refine lv_aload_n hx hb dL_law_162 rfl (lv_at hl 1 rfl) ?_
        refine lv_aload_n hx hb dL_law_163 rfl (lv_at hl 0 rfl) ?_
        refine lv_iload_n hx hb dL_law_164 rfl (lv_at hl 3 rfl) ?_
        refine lv_iconst (v := 1) hx hb dL_law_165 (by decide) ?_
        refine lv_iadd hx hb dL_law_166 ?_
        refine e_top (nI (i + 1)) (e_addk i 1 1 (by decide)) ?_
        refine va_sld (A := (fun q : Nat => st.heap.size ≤ q)) hx hb hX hbl hbA hS (vp_in_nI (show i + 1 < L by omega) (by omega)) dL_law_167 ?_
        refine e_top (xs (i + 1)) (by rw [nI_clamp (by omega)]) ?_
        refine lv_aload_n hx hb dL_law_168 rfl (lv_at hl 0 rfl) ?_
        refine lv_iload_n hx hb dL_law_169 rfl (lv_at hl 3 rfl) ?_
        refine lv_iconst (v := 2) hx hb dL_law_170 (by decide) ?_
        refine lv_iadd hx hb dL_law_171 ?_
        refine e_top (nI (i + 2)) (e_addk i 2 2 (by decide)) ?_
        refine va_sld (A := (fun q : Nat => st.heap.size ≤ q)) hx hb hX hbl hbA hS (vp_in_nI (show i + 2 < L by omega) (by omega)) dL_law_172 ?_
        refine e_top (xs (i + 2)) (by rw [nI_clamp (by omega)]) ?_
        refine lv_aload_n hx hb dL_law_173 rfl (lv_at hl 0 rfl) ?_
        refine lv_iload_n hx hb dL_law_174 rfl (lv_at hl 3 rfl) ?_
        refine lv_iconst (v := 3) hx hb dL_law_175 (by decide) ?_
        refine lv_iadd hx hb dL_law_176 ?_
        refine e_top (nI (i + 3)) (e_addk i 3 3 (by decide)) ?_
        refine va_sld (A := (fun q : Nat => st.heap.size ≤ q)) hx hb hX hbl hbA hS (vp_in_nI (show i + 3 < L by omega) (by omega)) dL_law_177 ?_
        refine e_top (xs (i + 3)) (by rw [nI_clamp (by omega)]) ?_
        refine e_callI (q0 := 0) (ci := 0) (rest := []) (wr := wM adM cM n c T Hd G O Nw Lt) ⟨hx, hb, hml, hown, hts⟩ (metX1_link l dC dI adG cI cZ n c T Hd G O N Wt Qu cu hok hgd (xs (i + 1)) (xs (i + 2)) (xs (i + 3)) H.size) (cwV 3 hts (lw_V q80 q81 q82 q19 q83) rfl rfl rfl (by decide +kernel) ⟨Nat.le_of_ble_eq_true rfl, Nat.le_of_ble_eq_true rfl⟩) hKG hP hD hS hA [0, 1, 2, 3, 4, 5, 6, 7] [8, 9, 10, 11, 12, 13, 14] rfl rfl (by decide) (by decide) (by decide) rfl rfl rfl rfl hl.1 rfl (Nat.le_of_ble_eq_true rfl) dL_law_178 ⟨Nat.le_of_ble_eq_true rfl, Nat.le_of_ble_eq_true rfl⟩ (fun r1 u1 H locs hw1 hP hD hS => ?_)
        obtain ⟨⟨c1, T1, Hd1, G1, O1⟩, cu1⟩ := u1
        obtain ⟨hw1, hgd1⟩ := hw1
        have hP : va_P (dC, dI) vwCl (wM adM cM n c T Hd G O Nw Lt ++ wG adG cI cZ n c1 T1 Hd1 G1 O1 N Wt Qu (-1) cu1) H := hP
        have hD : va_D (fun q : Nat => st.heap.size ≤ q) (wM adM cM n c T Hd G O Nw Lt ++ wG adG cI cZ n c1 T1 Hd1 G1 O1 N Wt Qu (-1) cu1) := hD
        refine lv_aload_n hx hb dL_law_181 rfl (lv_at hl 2 rfl) ?_
        refine lv_aload_n hx hb dL_law_182 rfl (lv_at hl 0 rfl) ?_
        refine lv_iload_n hx hb dL_law_183 rfl (lv_at hl 3 rfl) ?_
        refine lv_iconst (v := 1) hx hb dL_law_184 (by decide) ?_
        refine lv_iadd hx hb dL_law_185 ?_
        refine e_top (nI (i + 1)) (e_addk i 1 1 (by decide)) ?_
        refine va_sld (A := (fun q : Nat => st.heap.size ≤ q)) hx hb hX hbl hbA hS (vp_in_nI (show i + 1 < L by omega) (by omega)) dL_law_186 ?_
        refine e_top (xs (i + 1)) (by rw [nI_clamp (by omega)]) ?_
        refine lv_aload_n hx hb dL_law_187 rfl (lv_at hl 0 rfl) ?_
        refine lv_iload_n hx hb dL_law_188 rfl (lv_at hl 3 rfl) ?_
        refine lv_iconst (v := 2) hx hb dL_law_189 (by decide) ?_
        refine lv_iadd hx hb dL_law_190 ?_
        refine e_top (nI (i + 2)) (e_addk i 2 2 (by decide)) ?_
        refine va_sld (A := (fun q : Nat => st.heap.size ≤ q)) hx hb hX hbl hbA hS (vp_in_nI (show i + 2 < L by omega) (by omega)) dL_law_191 ?_
        refine e_top (xs (i + 2)) (by rw [nI_clamp (by omega)]) ?_
        refine lv_aload_n hx hb dL_law_192 rfl (lv_at hl 0 rfl) ?_
        refine lv_iload_n hx hb dL_law_193 rfl (lv_at hl 3 rfl) ?_
        refine lv_iconst (v := 3) hx hb dL_law_194 (by decide) ?_
        refine lv_iadd hx hb dL_law_195 ?_
        refine e_top (nI (i + 3)) (e_addk i 3 3 (by decide)) ?_
        refine va_sld (A := (fun q : Nat => st.heap.size ≤ q)) hx hb hX hbl hbA hS (vp_in_nI (show i + 3 < L by omega) (by omega)) dL_law_196 ?_
        refine e_top (xs (i + 3)) (by rw [nI_clamp (by omega)]) ?_
        refine e_callI (q0 := 0) (ci := 1) (rest := [.int r1]) (wr := wG adG cI cZ n c1 T1 Hd1 G1 O1 N Wt Qu (-1) cu1) ⟨hx, hb, hml, hown, hts⟩ (metX2_link l dC dI adM cM n c T Hd G O Nw Lt hok (xs (i + 1)) (xs (i + 2)) (xs (i + 3)) H.size) (cwV 3 hts (lw_V q211 q212 q213 q20 q214) rfl rfl rfl (by decide +kernel) ⟨Nat.le_of_ble_eq_true rfl, Nat.le_of_ble_eq_true rfl⟩) hKM hP hD hS hA [0, 1, 2, 3, 4, 5, 6] [7, 8, 9, 10, 11, 12, 13, 14] rfl rfl (by decide) (by decide) (by decide) rfl rfl rfl rfl hl.1 rfl (Nat.le_of_ble_eq_true rfl) dL_law_197 ⟨Nat.le_of_ble_eq_true rfl, Nat.le_of_ble_eq_true rfl⟩ (fun r2 u2 H locs hw2 hP hD hS => ?_)
        obtain ⟨er, ec⟩ := e_both hw1 hw2
        subst ec
        have hok1 : e_ok n c1 T1 Hd1 G1 := by
          have z := s_link_ok (n := n) (c := c) (T := T) (Hd := Hd) (G := G) (O := O) (x := xs (i + 1)) (y := xs (i + 2)) (g := xs (i + 3)) hok
          rw [← hw1] at z
          exact z
        refine lv_icmp_eq (tgt := 491) hx hb dL_law_200 (by decide) (fun _ => ?_) (fun c_9 => absurd er c_9)
        exact nxt c1 T1 Hd1 G1 O1 N Wt Qu cu1 Nw Lt hok1 hgd1 H locs hP hD hS
      · refine lv_tableIn (off := 163) (tgt := 205) hx hb dL_law_42 (by decide) (by decide) (by decide) (by decide) ?_
        refine lv_aload_n hx hb dL_law_205 rfl (lv_at hl 1 rfl) ?_
        refine lv_aload_n hx hb dL_law_206 rfl (lv_at hl 0 rfl) ?_
        refine lv_iload_n hx hb dL_law_207 rfl (lv_at hl 3 rfl) ?_
        refine lv_iconst (v := 1) hx hb dL_law_208 (by decide) ?_
        refine lv_iadd hx hb dL_law_209 ?_
        refine e_top (nI (i + 1)) (e_addk i 1 1 (by decide)) ?_
        refine va_sld (A := (fun q : Nat => st.heap.size ≤ q)) hx hb hX hbl hbA hS (vp_in_nI (show i + 1 < L by omega) (by omega)) dL_law_210 ?_
        refine e_top (xs (i + 1)) (by rw [nI_clamp (by omega)]) ?_
        refine e_callI (q0 := 0) (ci := 0) (rest := []) (wr := wM adM cM n c T Hd G O Nw Lt) ⟨hx, hb, hml, hown, hts⟩ (metX1_cut l dC dI adG cI cZ n c T Hd G O N Wt Qu cu hok hgd (xs (i + 1)) H.size) (cwV 1 hts (lw_V q88 q89 q90 q19 q91) rfl rfl rfl (by decide +kernel) ⟨Nat.le_of_ble_eq_true rfl, Nat.le_of_ble_eq_true rfl⟩) hKG hP hD hS hA [0, 1, 2, 3, 4, 5, 6, 7] [8, 9, 10, 11, 12, 13, 14] rfl rfl (by decide) (by decide) (by decide) rfl rfl rfl rfl hl.1 rfl (Nat.le_of_ble_eq_true rfl) dL_law_211 ⟨Nat.le_of_ble_eq_true rfl, Nat.le_of_ble_eq_true rfl⟩ (fun r1 u1 H locs hw1 hP hD hS => ?_)
        obtain ⟨⟨c1, T1, Hd1, G1, O1⟩, cu1⟩ := u1
        obtain ⟨hw1, hgd1⟩ := hw1
        have hP : va_P (dC, dI) vwCl (wM adM cM n c T Hd G O Nw Lt ++ wG adG cI cZ n c1 T1 Hd1 G1 O1 N Wt Qu (-1) cu1) H := hP
        have hD : va_D (fun q : Nat => st.heap.size ≤ q) (wM adM cM n c T Hd G O Nw Lt ++ wG adG cI cZ n c1 T1 Hd1 G1 O1 N Wt Qu (-1) cu1) := hD
        refine lv_aload_n hx hb dL_law_214 rfl (lv_at hl 2 rfl) ?_
        refine lv_aload_n hx hb dL_law_215 rfl (lv_at hl 0 rfl) ?_
        refine lv_iload_n hx hb dL_law_216 rfl (lv_at hl 3 rfl) ?_
        refine lv_iconst (v := 1) hx hb dL_law_217 (by decide) ?_
        refine lv_iadd hx hb dL_law_218 ?_
        refine e_top (nI (i + 1)) (e_addk i 1 1 (by decide)) ?_
        refine va_sld (A := (fun q : Nat => st.heap.size ≤ q)) hx hb hX hbl hbA hS (vp_in_nI (show i + 1 < L by omega) (by omega)) dL_law_219 ?_
        refine e_top (xs (i + 1)) (by rw [nI_clamp (by omega)]) ?_
        refine e_callI (q0 := 0) (ci := 1) (rest := [.int r1]) (wr := wG adG cI cZ n c1 T1 Hd1 G1 O1 N Wt Qu (-1) cu1) ⟨hx, hb, hml, hown, hts⟩ (metX2_cut l dC dI adM cM n c T Hd G O Nw Lt hok (xs (i + 1)) H.size) (cwV 1 hts (lw_V q219 q220 q221 q20 q222) rfl rfl rfl (by decide +kernel) ⟨Nat.le_of_ble_eq_true rfl, Nat.le_of_ble_eq_true rfl⟩) hKM hP hD hS hA [0, 1, 2, 3, 4, 5, 6] [7, 8, 9, 10, 11, 12, 13, 14] rfl rfl (by decide) (by decide) (by decide) rfl rfl rfl rfl hl.1 rfl (Nat.le_of_ble_eq_true rfl) dL_law_220 ⟨Nat.le_of_ble_eq_true rfl, Nat.le_of_ble_eq_true rfl⟩ (fun r2 u2 H locs hw2 hP hD hS => ?_)
        obtain ⟨er, ec⟩ := e_both hw1 hw2
        subst ec
        have hok1 : e_ok n c1 T1 Hd1 G1 := by
          have z := s_cut_ok (n := n) (c := c) (T := T) (Hd := Hd) (G := G) (O := O) (x := xs (i + 1)) hok
          rw [← hw1] at z
          exact z
        refine lv_icmp_eq (tgt := 491) hx hb dL_law_223 (by decide) (fun _ => ?_) (fun c_9 => absurd er c_9)
        exact nxt c1 T1 Hd1 G1 O1 N Wt Qu cu1 Nw Lt hok1 hgd1 H locs hP hD hS
      · refine lv_tableIn (off := 186) (tgt := 228) hx hb dL_law_42 (by decide) (by decide) (by decide) (by decide) ?_
        refine lv_aload_n hx hb dL_law_228 rfl (lv_at hl 1 rfl) ?_
        refine lv_aload_n hx hb dL_law_229 rfl (lv_at hl 0 rfl) ?_
        refine lv_iload_n hx hb dL_law_230 rfl (lv_at hl 3 rfl) ?_
        refine lv_iconst (v := 1) hx hb dL_law_231 (by decide) ?_
        refine lv_iadd hx hb dL_law_232 ?_
        refine e_top (nI (i + 1)) (e_addk i 1 1 (by decide)) ?_
        refine va_sld (A := (fun q : Nat => st.heap.size ≤ q)) hx hb hX hbl hbA hS (vp_in_nI (show i + 1 < L by omega) (by omega)) dL_law_233 ?_
        refine e_top (xs (i + 1)) (by rw [nI_clamp (by omega)]) ?_
        refine lv_aload_n hx hb dL_law_234 rfl (lv_at hl 0 rfl) ?_
        refine lv_iload_n hx hb dL_law_235 rfl (lv_at hl 3 rfl) ?_
        refine lv_iconst (v := 2) hx hb dL_law_236 (by decide) ?_
        refine lv_iadd hx hb dL_law_237 ?_
        refine e_top (nI (i + 2)) (e_addk i 2 2 (by decide)) ?_
        refine va_sld (A := (fun q : Nat => st.heap.size ≤ q)) hx hb hX hbl hbA hS (vp_in_nI (show i + 2 < L by omega) (by omega)) dL_law_238 ?_
        refine e_top (xs (i + 2)) (by rw [nI_clamp (by omega)]) ?_
        refine e_callI (q0 := 0) (ci := 0) (rest := []) (wr := wM adM cM n c T Hd G O Nw Lt) ⟨hx, hb, hml, hown, hts⟩ (metX1_set l dC dI adG cI cZ n c T Hd G O N Wt Qu cu hok hgd (xs (i + 1)) (xs (i + 2)) H.size) (cwV 2 hts (lw_V q96 q97 q98 q19 q99) rfl rfl rfl (by decide +kernel) ⟨Nat.le_of_ble_eq_true rfl, Nat.le_of_ble_eq_true rfl⟩) hKG hP hD hS hA [0, 1, 2, 3, 4, 5, 6, 7] [8, 9, 10, 11, 12, 13, 14] rfl rfl (by decide) (by decide) (by decide) rfl rfl rfl rfl hl.1 rfl (Nat.le_of_ble_eq_true rfl) dL_law_239 ⟨Nat.le_of_ble_eq_true rfl, Nat.le_of_ble_eq_true rfl⟩ (fun r1 u1 H locs hw1 hP hD hS => ?_)
        obtain ⟨⟨c1, T1, Hd1, G1, O1⟩, cu1⟩ := u1
        obtain ⟨hw1, hgd1⟩ := hw1
        have hP : va_P (dC, dI) vwCl (wM adM cM n c T Hd G O Nw Lt ++ wG adG cI cZ n c1 T1 Hd1 G1 O1 N Wt Qu (-1) cu1) H := hP
        have hD : va_D (fun q : Nat => st.heap.size ≤ q) (wM adM cM n c T Hd G O Nw Lt ++ wG adG cI cZ n c1 T1 Hd1 G1 O1 N Wt Qu (-1) cu1) := hD
        refine lv_aload_n hx hb dL_law_242 rfl (lv_at hl 2 rfl) ?_
        refine lv_aload_n hx hb dL_law_243 rfl (lv_at hl 0 rfl) ?_
        refine lv_iload_n hx hb dL_law_244 rfl (lv_at hl 3 rfl) ?_
        refine lv_iconst (v := 1) hx hb dL_law_245 (by decide) ?_
        refine lv_iadd hx hb dL_law_246 ?_
        refine e_top (nI (i + 1)) (e_addk i 1 1 (by decide)) ?_
        refine va_sld (A := (fun q : Nat => st.heap.size ≤ q)) hx hb hX hbl hbA hS (vp_in_nI (show i + 1 < L by omega) (by omega)) dL_law_247 ?_
        refine e_top (xs (i + 1)) (by rw [nI_clamp (by omega)]) ?_
        refine lv_aload_n hx hb dL_law_248 rfl (lv_at hl 0 rfl) ?_
        refine lv_iload_n hx hb dL_law_249 rfl (lv_at hl 3 rfl) ?_
        refine lv_iconst (v := 2) hx hb dL_law_250 (by decide) ?_
        refine lv_iadd hx hb dL_law_251 ?_
        refine e_top (nI (i + 2)) (e_addk i 2 2 (by decide)) ?_
        refine va_sld (A := (fun q : Nat => st.heap.size ≤ q)) hx hb hX hbl hbA hS (vp_in_nI (show i + 2 < L by omega) (by omega)) dL_law_252 ?_
        refine e_top (xs (i + 2)) (by rw [nI_clamp (by omega)]) ?_
        refine e_callI (q0 := 0) (ci := 1) (rest := [.int r1]) (wr := wG adG cI cZ n c1 T1 Hd1 G1 O1 N Wt Qu (-1) cu1) ⟨hx, hb, hml, hown, hts⟩ (metX2_set l dC dI adM cM n c T Hd G O Nw Lt hok (xs (i + 1)) (xs (i + 2)) H.size) (cwV 2 hts (lw_V q227 q228 q229 q20 q230) rfl rfl rfl (by decide +kernel) ⟨Nat.le_of_ble_eq_true rfl, Nat.le_of_ble_eq_true rfl⟩) hKM hP hD hS hA [0, 1, 2, 3, 4, 5, 6] [7, 8, 9, 10, 11, 12, 13, 14] rfl rfl (by decide) (by decide) (by decide) rfl rfl rfl rfl hl.1 rfl (Nat.le_of_ble_eq_true rfl) dL_law_253 ⟨Nat.le_of_ble_eq_true rfl, Nat.le_of_ble_eq_true rfl⟩ (fun r2 u2 H locs hw2 hP hD hS => ?_)
        obtain ⟨er, ec⟩ := e_both hw1 hw2
        subst ec
        have hok1 : e_ok n c1 T1 Hd1 G1 := by
          have z := s_set_ok (n := n) (c := c) (T := T) (Hd := Hd) (G := G) (O := O) (x := xs (i + 1)) (g := xs (i + 2)) hok
          rw [← hw1] at z
          exact z
        refine lv_icmp_eq (tgt := 491) hx hb dL_law_256 (by decide) (fun _ => ?_) (fun c_9 => absurd er c_9)
        exact nxt c1 T1 Hd1 G1 O1 N Wt Qu cu1 Nw Lt hok1 hgd1 H locs hP hD hS
      · refine lv_tableIn (off := 219) (tgt := 261) hx hb dL_law_42 (by decide) (by decide) (by decide) (by decide) ?_
        refine lv_aload_n hx hb dL_law_261 rfl (lv_at hl 1 rfl) ?_
        refine e_callR (q0 := 0) (ci := 0) (rest := []) ⟨hx, hb, hml, hown, hts⟩ (metX1_edges l dC dI adG cI cZ n c T Hd G O N Wt Qu (-1) cu) (cwV 0 hts (lw_V q100 q101 q102 q19 q103) rfl rfl rfl (by decide +kernel) ⟨Nat.le_of_ble_eq_true rfl, Nat.le_of_ble_eq_true rfl⟩) hKG (hP.sub (ws' := wG adG cI cZ n c T Hd G O N Wt Qu (-1) cu) [0, 1, 2, 3, 4, 5, 6, 7] rfl) rfl rfl rfl rfl hl.1 rfl (Nat.le_of_ble_eq_true rfl) dL_law_262 ⟨Nat.le_of_ble_eq_true rfl, Nat.le_of_ble_eq_true rfl⟩ (fun r1 hw1 => ?_)
        refine lv_aload_n hx hb dL_law_265 rfl (lv_at hl 2 rfl) ?_
        refine e_callR (q0 := 0) (ci := 1) (rest := [.int r1]) ⟨hx, hb, hml, hown, hts⟩ (metX2_edges l dC dI adM cM n c T Hd G O Nw Lt) (cwV 0 hts (lw_V q231 q232 q233 q20 q234) rfl rfl rfl (by decide +kernel) ⟨Nat.le_of_ble_eq_true rfl, Nat.le_of_ble_eq_true rfl⟩) hKM (hP.sub (ws' := wM adM cM n c T Hd G O Nw Lt) [8, 9, 10, 11, 12, 13, 14] rfl) rfl rfl rfl rfl hl.1 rfl (Nat.le_of_ble_eq_true rfl) dL_law_266 ⟨Nat.le_of_ble_eq_true rfl, Nat.le_of_ble_eq_true rfl⟩ (fun r2 hw2 => ?_)
        refine lv_icmp_eq (tgt := 491) hx hb dL_law_269 (by decide) (fun _ => ?_) (fun c_9 => absurd (hw1.trans hw2.symm) c_9)
        exact nxt c T Hd G O N Wt Qu cu Nw Lt hok hgd H locs hP hD hS
      · refine lv_tableIn (off := 232) (tgt := 274) hx hb dL_law_42 (by decide) (by decide) (by decide) (by decide) ?_
        refine lv_aload_n hx hb dL_law_274 rfl (lv_at hl 1 rfl) ?_
        refine lv_aload_n hx hb dL_law_275 rfl (lv_at hl 0 rfl) ?_
        refine lv_iload_n hx hb dL_law_276 rfl (lv_at hl 3 rfl) ?_
        refine lv_iconst (v := 1) hx hb dL_law_277 (by decide) ?_
        refine lv_iadd hx hb dL_law_278 ?_
        refine e_top (nI (i + 1)) (e_addk i 1 1 (by decide)) ?_
        refine va_sld (A := (fun q : Nat => st.heap.size ≤ q)) hx hb hX hbl hbA hS (vp_in_nI (show i + 1 < L by omega) (by omega)) dL_law_279 ?_
        refine e_top (xs (i + 1)) (by rw [nI_clamp (by omega)]) ?_
        refine e_callI (q0 := 0) (ci := 0) (rest := []) (wr := wM adM cM n c T Hd G O Nw Lt) ⟨hx, hb, hml, hown, hts⟩ (metX1_need l dC dI adG cI cZ n c T Hd G O N Wt Qu cu hok hgd (xs (i + 1)) H.size) (cwV 1 hts (lw_V q104 q105 q106 q19 q107) rfl rfl rfl (by decide +kernel) ⟨Nat.le_of_ble_eq_true rfl, Nat.le_of_ble_eq_true rfl⟩) hKG hP hD hS hA [0, 1, 2, 3, 4, 5, 6, 7] [8, 9, 10, 11, 12, 13, 14] rfl rfl (by decide) (by decide) (by decide) rfl rfl rfl rfl hl.1 rfl (Nat.le_of_ble_eq_true rfl) dL_law_280 ⟨Nat.le_of_ble_eq_true rfl, Nat.le_of_ble_eq_true rfl⟩ (fun r1 u1 H locs hw1 hP hD hS => ?_)
        obtain ⟨N1, Wt1, Qu1, cu1⟩ := u1
        obtain ⟨hw1, hgd1⟩ := hw1
        have hP : va_P (dC, dI) vwCl (wM adM cM n c T Hd G O Nw Lt ++ wG adG cI cZ n c T Hd G O N1 Wt1 Qu1 (-1) cu1) H := hP
        have hD : va_D (fun q : Nat => st.heap.size ≤ q) (wM adM cM n c T Hd G O Nw Lt ++ wG adG cI cZ n c T Hd G O N1 Wt1 Qu1 (-1) cu1) := hD
        refine lv_aload_n hx hb dL_law_283 rfl (lv_at hl 2 rfl) ?_
        refine lv_aload_n hx hb dL_law_284 rfl (lv_at hl 0 rfl) ?_
        refine lv_iload_n hx hb dL_law_285 rfl (lv_at hl 3 rfl) ?_
        refine lv_iconst (v := 1) hx hb dL_law_286 (by decide) ?_
        refine lv_iadd hx hb dL_law_287 ?_
        refine e_top (nI (i + 1)) (e_addk i 1 1 (by decide)) ?_
        refine va_sld (A := (fun q : Nat => st.heap.size ≤ q)) hx hb hX hbl hbA hS (vp_in_nI (show i + 1 < L by omega) (by omega)) dL_law_288 ?_
        refine e_top (xs (i + 1)) (by rw [nI_clamp (by omega)]) ?_
        refine e_callI (q0 := 0) (ci := 1) (rest := [.int r1]) (wr := wG adG cI cZ n c T Hd G O N1 Wt1 Qu1 (-1) cu1) ⟨hx, hb, hml, hown, hts⟩ (metX2_need l dC dI adM cM n c T Hd G O Nw Lt hok (xs (i + 1)) H.size) (cwV 1 hts (lw_V q235 q236 q237 q20 q238) rfl rfl rfl (by decide +kernel) ⟨Nat.le_of_ble_eq_true rfl, Nat.le_of_ble_eq_true rfl⟩) hKM hP hD hS hA [0, 1, 2, 3, 4, 5, 6] [7, 8, 9, 10, 11, 12, 13, 14] rfl rfl (by decide) (by decide) (by decide) rfl rfl rfl rfl hl.1 rfl (Nat.le_of_ble_eq_true rfl) dL_law_289 ⟨Nat.le_of_ble_eq_true rfl, Nat.le_of_ble_eq_true rfl⟩ (fun r2 u2 H locs hw2 hP hD hS => ?_)
        obtain ⟨Nw1, Lt1⟩ := u2
        refine lv_icmp_eq (tgt := 491) hx hb dL_law_292 (by decide) (fun _ => ?_) (fun c_9 => absurd (hw1.trans hw2.symm) c_9)
        exact nxt c T Hd G O N1 Wt1 Qu1 cu1 Nw1 Lt1 hok hgd1 H locs hP hD hS
      · refine lv_tableIn (off := 255) (tgt := 297) hx hb dL_law_42 (by decide) (by decide) (by decide) (by decide) ?_
        refine lv_aload_n hx hb dL_law_297 rfl (lv_at hl 1 rfl) ?_
        refine lv_aload_n hx hb dL_law_298 rfl (lv_at hl 0 rfl) ?_
        refine lv_iload_n hx hb dL_law_299 rfl (lv_at hl 3 rfl) ?_
        refine lv_iconst (v := 1) hx hb dL_law_300 (by decide) ?_
        refine lv_iadd hx hb dL_law_301 ?_
        refine e_top (nI (i + 1)) (e_addk i 1 1 (by decide)) ?_
        refine va_sld (A := (fun q : Nat => st.heap.size ≤ q)) hx hb hX hbl hbA hS (vp_in_nI (show i + 1 < L by omega) (by omega)) dL_law_302 ?_
        refine e_top (xs (i + 1)) (by rw [nI_clamp (by omega)]) ?_
        refine e_callI (q0 := 0) (ci := 0) (rest := []) (wr := wM adM cM n c T Hd G O Nw Lt) ⟨hx, hb, hml, hown, hts⟩ (metX1_safe l dC dI adG cI cZ n c T Hd G O N Wt Qu cu hok hgd (xs (i + 1)) H.size) (cwV 1 hts (lw_V q128 q129 q130 q19 q131) rfl rfl rfl (by decide +kernel) ⟨Nat.le_of_ble_eq_true rfl, Nat.le_of_ble_eq_true rfl⟩) hKG hP hD hS hA [0, 1, 2, 3, 4, 5, 6, 7] [8, 9, 10, 11, 12, 13, 14] rfl rfl (by decide) (by decide) (by decide) rfl rfl rfl rfl hl.1 rfl (Nat.le_of_ble_eq_true rfl) dL_law_303 ⟨Nat.le_of_ble_eq_true rfl, Nat.le_of_ble_eq_true rfl⟩ (fun r1 u1 H locs hw1 hP hD hS => ?_)
        obtain ⟨N1, Wt1, Qu1, cu1⟩ := u1
        obtain ⟨hw1, hgd1⟩ := hw1
        have hP : va_P (dC, dI) vwCl (wM adM cM n c T Hd G O Nw Lt ++ wG adG cI cZ n c T Hd G O N1 Wt1 Qu1 (-1) cu1) H := hP
        have hD : va_D (fun q : Nat => st.heap.size ≤ q) (wM adM cM n c T Hd G O Nw Lt ++ wG adG cI cZ n c T Hd G O N1 Wt1 Qu1 (-1) cu1) := hD
        refine lv_aload_n hx hb dL_law_306 rfl (lv_at hl 2 rfl) ?_
        refine lv_aload_n hx hb dL_law_307 rfl (lv_at hl 0 rfl) ?_
        refine lv_iload_n hx hb dL_law_308 rfl (lv_at hl 3 rfl) ?_
        refine lv_iconst (v := 1) hx hb dL_law_309 (by decide) ?_
        refine lv_iadd hx hb dL_law_310 ?_
        refine e_top (nI (i + 1)) (e_addk i 1 1 (by decide)) ?_
        refine va_sld (A := (fun q : Nat => st.heap.size ≤ q)) hx hb hX hbl hbA hS (vp_in_nI (show i + 1 < L by omega) (by omega)) dL_law_311 ?_
        refine e_top (xs (i + 1)) (by rw [nI_clamp (by omega)]) ?_
        refine e_callI (q0 := 0) (ci := 1) (rest := [.int r1]) (wr := wG adG cI cZ n c T Hd G O N1 Wt1 Qu1 (-1) cu1) ⟨hx, hb, hml, hown, hts⟩ (metX2_safe l dC dI adM cM n c T Hd G O Nw Lt hok (xs (i + 1)) H.size) (cwV 1 hts (lw_V q255 q256 q257 q20 q258) rfl rfl rfl (by decide +kernel) ⟨Nat.le_of_ble_eq_true rfl, Nat.le_of_ble_eq_true rfl⟩) hKM hP hD hS hA [0, 1, 2, 3, 4, 5, 6] [7, 8, 9, 10, 11, 12, 13, 14] rfl rfl (by decide) (by decide) (by decide) rfl rfl rfl rfl hl.1 rfl (Nat.le_of_ble_eq_true rfl) dL_law_312 ⟨Nat.le_of_ble_eq_true rfl, Nat.le_of_ble_eq_true rfl⟩ (fun r2 u2 H locs hw2 hP hD hS => ?_)
        obtain ⟨Nw1, Lt1⟩ := u2
        refine lv_icmp_eq (tgt := 491) hx hb dL_law_315 (by decide) (fun _ => ?_) (fun c_9 => absurd (hw1.trans hw2.symm) c_9)
        exact nxt c T Hd G O N1 Wt1 Qu1 cu1 Nw1 Lt1 hok hgd1 H locs hP hD hS
      · refine lv_tableIn (off := 278) (tgt := 320) hx hb dL_law_42 (by decide) (by decide) (by decide) (by decide) ?_
        refine lv_aload_n hx hb dL_law_320 rfl (lv_at hl 1 rfl) ?_
        refine e_callI (q0 := 0) (ci := 0) (rest := []) (wr := wM adM cM n c T Hd G O Nw Lt) ⟨hx, hb, hml, hown, hts⟩ (metX1_hopeless l dC dI adG cI cZ n c T Hd G O N Wt Qu cu hok hgd  H.size) (cwV 0 hts (lw_V q132 q133 q134 q19 q135) rfl rfl rfl (by decide +kernel) ⟨Nat.le_of_ble_eq_true rfl, Nat.le_of_ble_eq_true rfl⟩) hKG hP hD hS hA [0, 1, 2, 3, 4, 5, 6, 7] [8, 9, 10, 11, 12, 13, 14] rfl rfl (by decide) (by decide) (by decide) rfl rfl rfl rfl hl.1 rfl (Nat.le_of_ble_eq_true rfl) dL_law_321 ⟨Nat.le_of_ble_eq_true rfl, Nat.le_of_ble_eq_true rfl⟩ (fun r1 u1 H locs hw1 hP hD hS => ?_)
        obtain ⟨N1, Wt1, Qu1, cu1⟩ := u1
        obtain ⟨hw1, hgd1⟩ := hw1
        have hP : va_P (dC, dI) vwCl (wM adM cM n c T Hd G O Nw Lt ++ wG adG cI cZ n c T Hd G O N1 Wt1 Qu1 (-1) cu1) H := hP
        have hD : va_D (fun q : Nat => st.heap.size ≤ q) (wM adM cM n c T Hd G O Nw Lt ++ wG adG cI cZ n c T Hd G O N1 Wt1 Qu1 (-1) cu1) := hD
        refine lv_aload_n hx hb dL_law_324 rfl (lv_at hl 2 rfl) ?_
        refine e_callI (q0 := 0) (ci := 1) (rest := [.int r1]) (wr := wG adG cI cZ n c T Hd G O N1 Wt1 Qu1 (-1) cu1) ⟨hx, hb, hml, hown, hts⟩ (metX2_hopeless l dC dI adM cM n c T Hd G O Nw Lt hok  H.size) (cwV 0 hts (lw_V q259 q260 q261 q20 q262) rfl rfl rfl (by decide +kernel) ⟨Nat.le_of_ble_eq_true rfl, Nat.le_of_ble_eq_true rfl⟩) hKM hP hD hS hA [0, 1, 2, 3, 4, 5, 6] [7, 8, 9, 10, 11, 12, 13, 14] rfl rfl (by decide) (by decide) (by decide) rfl rfl rfl rfl hl.1 rfl (Nat.le_of_ble_eq_true rfl) dL_law_325 ⟨Nat.le_of_ble_eq_true rfl, Nat.le_of_ble_eq_true rfl⟩ (fun r2 u2 H locs hw2 hP hD hS => ?_)
        obtain ⟨Nw1, Lt1⟩ := u2
        refine lv_icmp_eq (tgt := 491) hx hb dL_law_328 (by decide) (fun _ => ?_) (fun c_9 => absurd (hw1.trans hw2.symm) c_9)
        exact nxt c T Hd G O N1 Wt1 Qu1 cu1 Nw1 Lt1 hok hgd1 H locs hP hD hS
      · refine lv_tableIn (off := 291) (tgt := 333) hx hb dL_law_42 (by decide) (by decide) (by decide) (by decide) ?_
        refine lv_aload_n hx hb dL_law_333 rfl (lv_at hl 1 rfl) ?_
        refine lv_aload_n hx hb dL_law_334 rfl (lv_at hl 0 rfl) ?_
        refine lv_iload_n hx hb dL_law_335 rfl (lv_at hl 3 rfl) ?_
        refine lv_iconst (v := 1) hx hb dL_law_336 (by decide) ?_
        refine lv_iadd hx hb dL_law_337 ?_
        refine e_top (nI (i + 1)) (e_addk i 1 1 (by decide)) ?_
        refine va_sld (A := (fun q : Nat => st.heap.size ≤ q)) hx hb hX hbl hbA hS (vp_in_nI (show i + 1 < L by omega) (by omega)) dL_law_338 ?_
        refine e_top (xs (i + 1)) (by rw [nI_clamp (by omega)]) ?_
        refine e_callI (q0 := 0) (ci := 0) (rest := []) (wr := wM adM cM n c T Hd G O Nw Lt) ⟨hx, hb, hml, hown, hts⟩ (metX1_choice l dC dI adG cI cZ n c T Hd G O N Wt Qu cu hok hgd (xs (i + 1)) H.size) (cwV 1 hts (lw_V q136 q137 q138 q19 q139) rfl rfl rfl (by decide +kernel) ⟨Nat.le_of_ble_eq_true rfl, Nat.le_of_ble_eq_true rfl⟩) hKG hP hD hS hA [0, 1, 2, 3, 4, 5, 6, 7] [8, 9, 10, 11, 12, 13, 14] rfl rfl (by decide) (by decide) (by decide) rfl rfl rfl rfl hl.1 rfl (Nat.le_of_ble_eq_true rfl) dL_law_339 ⟨Nat.le_of_ble_eq_true rfl, Nat.le_of_ble_eq_true rfl⟩ (fun r1 u1 H locs hw1 hP hD hS => ?_)
        obtain ⟨N1, Wt1, Qu1, cu1⟩ := u1
        obtain ⟨hw1, hgd1⟩ := hw1
        have hP : va_P (dC, dI) vwCl (wM adM cM n c T Hd G O Nw Lt ++ wG adG cI cZ n c T Hd G O N1 Wt1 Qu1 (-1) cu1) H := hP
        have hD : va_D (fun q : Nat => st.heap.size ≤ q) (wM adM cM n c T Hd G O Nw Lt ++ wG adG cI cZ n c T Hd G O N1 Wt1 Qu1 (-1) cu1) := hD
        refine lv_aload_n hx hb dL_law_342 rfl (lv_at hl 2 rfl) ?_
        refine lv_aload_n hx hb dL_law_343 rfl (lv_at hl 0 rfl) ?_
        refine lv_iload_n hx hb dL_law_344 rfl (lv_at hl 3 rfl) ?_
        refine lv_iconst (v := 1) hx hb dL_law_345 (by decide) ?_
        refine lv_iadd hx hb dL_law_346 ?_
        refine e_top (nI (i + 1)) (e_addk i 1 1 (by decide)) ?_
        refine va_sld (A := (fun q : Nat => st.heap.size ≤ q)) hx hb hX hbl hbA hS (vp_in_nI (show i + 1 < L by omega) (by omega)) dL_law_347 ?_
        refine e_top (xs (i + 1)) (by rw [nI_clamp (by omega)]) ?_
        refine e_callI (q0 := 0) (ci := 1) (rest := [.int r1]) (wr := wG adG cI cZ n c T Hd G O N1 Wt1 Qu1 (-1) cu1) ⟨hx, hb, hml, hown, hts⟩ (metX2_choice l dC dI adM cM n c T Hd G O Nw Lt hok (xs (i + 1)) H.size) (cwV 1 hts (lw_V q263 q264 q265 q20 q266) rfl rfl rfl (by decide +kernel) ⟨Nat.le_of_ble_eq_true rfl, Nat.le_of_ble_eq_true rfl⟩) hKM hP hD hS hA [0, 1, 2, 3, 4, 5, 6] [7, 8, 9, 10, 11, 12, 13, 14] rfl rfl (by decide) (by decide) (by decide) rfl rfl rfl rfl hl.1 rfl (Nat.le_of_ble_eq_true rfl) dL_law_348 ⟨Nat.le_of_ble_eq_true rfl, Nat.le_of_ble_eq_true rfl⟩ (fun r2 u2 H locs hw2 hP hD hS => ?_)
        obtain ⟨Nw1, Lt1⟩ := u2
        refine lv_icmp_eq (tgt := 491) hx hb dL_law_351 (by decide) (fun _ => ?_) (fun c_9 => absurd (hw1.trans hw2.symm) c_9)
        exact nxt c T Hd G O N1 Wt1 Qu1 cu1 Nw1 Lt1 hok hgd1 H locs hP hD hS
      · refine lv_tableIn (off := 314) (tgt := 356) hx hb dL_law_42 (by decide) (by decide) (by decide) (by decide) ?_
        refine lv_aload_n hx hb dL_law_356 rfl (lv_at hl 1 rfl) ?_
        refine lv_aload_n hx hb dL_law_357 rfl (lv_at hl 0 rfl) ?_
        refine lv_iload_n hx hb dL_law_358 rfl (lv_at hl 3 rfl) ?_
        refine lv_iconst (v := 1) hx hb dL_law_359 (by decide) ?_
        refine lv_iadd hx hb dL_law_360 ?_
        refine e_top (nI (i + 1)) (e_addk i 1 1 (by decide)) ?_
        refine va_sld (A := (fun q : Nat => st.heap.size ≤ q)) hx hb hX hbl hbA hS (vp_in_nI (show i + 1 < L by omega) (by omega)) dL_law_361 ?_
        refine e_top (xs (i + 1)) (by rw [nI_clamp (by omega)]) ?_
        refine e_callI (q0 := 0) (ci := 0) (rest := []) (wr := wM adM cM n c T Hd G O Nw Lt) ⟨hx, hb, hml, hown, hts⟩ (metX1_choices l dC dI adG cI cZ n c T Hd G O N Wt Qu cu hok hgd (xs (i + 1)) H.size) (cwV 1 hts (lw_V q144 q145 q146 q19 q147) rfl rfl rfl (by decide +kernel) ⟨Nat.le_of_ble_eq_true rfl, Nat.le_of_ble_eq_true rfl⟩) hKG hP hD hS hA [0, 1, 2, 3, 4, 5, 6, 7] [8, 9, 10, 11, 12, 13, 14] rfl rfl (by decide) (by decide) (by decide) rfl rfl rfl rfl hl.1 rfl (Nat.le_of_ble_eq_true rfl) dL_law_362 ⟨Nat.le_of_ble_eq_true rfl, Nat.le_of_ble_eq_true rfl⟩ (fun r1 u1 H locs hw1 hP hD hS => ?_)
        obtain ⟨N1, Wt1, Qu1, cu1⟩ := u1
        obtain ⟨hw1, hgd1⟩ := hw1
        have hP : va_P (dC, dI) vwCl (wM adM cM n c T Hd G O Nw Lt ++ wG adG cI cZ n c T Hd G O N1 Wt1 Qu1 (-1) cu1) H := hP
        have hD : va_D (fun q : Nat => st.heap.size ≤ q) (wM adM cM n c T Hd G O Nw Lt ++ wG adG cI cZ n c T Hd G O N1 Wt1 Qu1 (-1) cu1) := hD
        refine lv_aload_n hx hb dL_law_365 rfl (lv_at hl 2 rfl) ?_
        refine lv_aload_n hx hb dL_law_366 rfl (lv_at hl 0 rfl) ?_
        refine lv_iload_n hx hb dL_law_367 rfl (lv_at hl 3 rfl) ?_
        refine lv_iconst (v := 1) hx hb dL_law_368 (by decide) ?_
        refine lv_iadd hx hb dL_law_369 ?_
        refine e_top (nI (i + 1)) (e_addk i 1 1 (by decide)) ?_
        refine va_sld (A := (fun q : Nat => st.heap.size ≤ q)) hx hb hX hbl hbA hS (vp_in_nI (show i + 1 < L by omega) (by omega)) dL_law_370 ?_
        refine e_top (xs (i + 1)) (by rw [nI_clamp (by omega)]) ?_
        refine e_callI (q0 := 0) (ci := 1) (rest := [.int r1]) (wr := wG adG cI cZ n c T Hd G O N1 Wt1 Qu1 (-1) cu1) ⟨hx, hb, hml, hown, hts⟩ (metX2_choices l dC dI adM cM n c T Hd G O Nw Lt hok (xs (i + 1)) H.size) (cwV 1 hts (lw_V q275 q276 q277 q20 q278) rfl rfl rfl (by decide +kernel) ⟨Nat.le_of_ble_eq_true rfl, Nat.le_of_ble_eq_true rfl⟩) hKM hP hD hS hA [0, 1, 2, 3, 4, 5, 6] [7, 8, 9, 10, 11, 12, 13, 14] rfl rfl (by decide) (by decide) (by decide) rfl rfl rfl rfl hl.1 rfl (Nat.le_of_ble_eq_true rfl) dL_law_371 ⟨Nat.le_of_ble_eq_true rfl, Nat.le_of_ble_eq_true rfl⟩ (fun r2 u2 H locs hw2 hP hD hS => ?_)
        obtain ⟨Nw1, Lt1⟩ := u2
        refine lv_icmp_eq (tgt := 491) hx hb dL_law_374 (by decide) (fun _ => ?_) (fun c_9 => absurd (hw1.trans hw2.symm) c_9)
        exact nxt c T Hd G O N1 Wt1 Qu1 cu1 Nw1 Lt1 hok hgd1 H locs hP hD hS
      · refine lv_tableIn (off := 337) (tgt := 379) hx hb dL_law_42 (by decide) (by decide) (by decide) (by decide) ?_
        refine lv_aload_n hx hb dL_law_379 rfl (lv_at hl 1 rfl) ?_
        refine lv_aload_n hx hb dL_law_380 rfl (lv_at hl 0 rfl) ?_
        refine lv_iload_n hx hb dL_law_381 rfl (lv_at hl 3 rfl) ?_
        refine lv_iconst (v := 1) hx hb dL_law_382 (by decide) ?_
        refine lv_iadd hx hb dL_law_383 ?_
        refine e_top (nI (i + 1)) (e_addk i 1 1 (by decide)) ?_
        refine va_sld (A := (fun q : Nat => st.heap.size ≤ q)) hx hb hX hbl hbA hS (vp_in_nI (show i + 1 < L by omega) (by omega)) dL_law_384 ?_
        refine e_top (xs (i + 1)) (by rw [nI_clamp (by omega)]) ?_
        refine lv_aload_n hx hb dL_law_385 rfl (lv_at hl 0 rfl) ?_
        refine lv_iload_n hx hb dL_law_386 rfl (lv_at hl 3 rfl) ?_
        refine lv_iconst (v := 2) hx hb dL_law_387 (by decide) ?_
        refine lv_iadd hx hb dL_law_388 ?_
        refine e_top (nI (i + 2)) (e_addk i 2 2 (by decide)) ?_
        refine va_sld (A := (fun q : Nat => st.heap.size ≤ q)) hx hb hX hbl hbA hS (vp_in_nI (show i + 2 < L by omega) (by omega)) dL_law_389 ?_
        refine e_top (xs (i + 2)) (by rw [nI_clamp (by omega)]) ?_
        refine e_callI (q0 := 0) (ci := 0) (rest := []) (wr := wM adM cM n c T Hd G O Nw Lt) ⟨hx, hb, hml, hown, hts⟩ (metX1_needWithout l dC dI adG cI cZ n c T Hd G O N Wt Qu cu hok hgd (xs (i + 1)) (xs (i + 2)) H.size) (cwV 2 hts (lw_V q148 q149 q150 q19 q151) rfl rfl rfl (by decide +kernel) ⟨Nat.le_of_ble_eq_true rfl, Nat.le_of_ble_eq_true rfl⟩) hKG hP hD hS hA [0, 1, 2, 3, 4, 5, 6, 7] [8, 9, 10, 11, 12, 13, 14] rfl rfl (by decide) (by decide) (by decide) rfl rfl rfl rfl hl.1 rfl (Nat.le_of_ble_eq_true rfl) dL_law_390 ⟨Nat.le_of_ble_eq_true rfl, Nat.le_of_ble_eq_true rfl⟩ (fun r1 u1 H locs hw1 hP hD hS => ?_)
        obtain ⟨N1, Wt1, Qu1, cu1⟩ := u1
        obtain ⟨hw1, hgd1⟩ := hw1
        have hP : va_P (dC, dI) vwCl (wM adM cM n c T Hd G O Nw Lt ++ wG adG cI cZ n c T Hd G O N1 Wt1 Qu1 (-1) cu1) H := hP
        have hD : va_D (fun q : Nat => st.heap.size ≤ q) (wM adM cM n c T Hd G O Nw Lt ++ wG adG cI cZ n c T Hd G O N1 Wt1 Qu1 (-1) cu1) := hD
        refine lv_aload_n hx hb dL_law_393 rfl (lv_at hl 2 rfl) ?_
        refine lv_aload_n hx hb dL_law_394 rfl (lv_at hl 0 rfl) ?_
        refine lv_iload_n hx hb dL_law_395 rfl (lv_at hl 3 rfl) ?_
        refine lv_iconst (v := 1) hx hb dL_law_396 (by decide) ?_
        refine lv_iadd hx hb dL_law_397 ?_
        refine e_top (nI (i + 1)) (e_addk i 1 1 (by decide)) ?_
        refine va_sld (A := (fun q : Nat => st.heap.size ≤ q)) hx hb hX hbl hbA hS (vp_in_nI (show i + 1 < L by omega) (by omega)) dL_law_398 ?_
        refine e_top (xs (i + 1)) (by rw [nI_clamp (by omega)]) ?_
        refine lv_aload_n hx hb dL_law_399 rfl (lv_at hl 0 rfl) ?_
        refine lv_iload_n hx hb dL_law_400 rfl (lv_at hl 3 rfl) ?_
        refine lv_iconst (v := 2) hx hb dL_law_401 (by decide) ?_
        refine lv_iadd hx hb dL_law_402 ?_
        refine e_top (nI (i + 2)) (e_addk i 2 2 (by decide)) ?_
        refine va_sld (A := (fun q : Nat => st.heap.size ≤ q)) hx hb hX hbl hbA hS (vp_in_nI (show i + 2 < L by omega) (by omega)) dL_law_403 ?_
        refine e_top (xs (i + 2)) (by rw [nI_clamp (by omega)]) ?_
        refine e_callI (q0 := 0) (ci := 1) (rest := [.int r1]) (wr := wG adG cI cZ n c T Hd G O N1 Wt1 Qu1 (-1) cu1) ⟨hx, hb, hml, hown, hts⟩ (metX2_needWithout l dC dI adM cM n c T Hd G O Nw Lt hok (xs (i + 1)) (xs (i + 2)) H.size) (cwV 2 hts (lw_V q279 q280 q281 q20 q282) rfl rfl rfl (by decide +kernel) ⟨Nat.le_of_ble_eq_true rfl, Nat.le_of_ble_eq_true rfl⟩) hKM hP hD hS hA [0, 1, 2, 3, 4, 5, 6] [7, 8, 9, 10, 11, 12, 13, 14] rfl rfl (by decide) (by decide) (by decide) rfl rfl rfl rfl hl.1 rfl (Nat.le_of_ble_eq_true rfl) dL_law_404 ⟨Nat.le_of_ble_eq_true rfl, Nat.le_of_ble_eq_true rfl⟩ (fun r2 u2 H locs hw2 hP hD hS => ?_)
        obtain ⟨Nw1, Lt1⟩ := u2
        refine lv_icmp_eq (tgt := 491) hx hb dL_law_407 (by decide) (fun _ => ?_) (fun c_9 => absurd (hw1.trans hw2.symm) c_9)
        exact nxt c T Hd G O N1 Wt1 Qu1 cu1 Nw1 Lt1 hok hgd1 H locs hP hD hS
      · refine lv_tableIn (off := 370) (tgt := 412) hx hb dL_law_42 (by decide) (by decide) (by decide) (by decide) ?_
        refine lv_aload_n hx hb dL_law_412 rfl (lv_at hl 1 rfl) ?_
        refine lv_aload_n hx hb dL_law_413 rfl (lv_at hl 0 rfl) ?_
        refine lv_iload_n hx hb dL_law_414 rfl (lv_at hl 3 rfl) ?_
        refine lv_iconst (v := 1) hx hb dL_law_415 (by decide) ?_
        refine lv_iadd hx hb dL_law_416 ?_
        refine e_top (nI (i + 1)) (e_addk i 1 1 (by decide)) ?_
        refine va_sld (A := (fun q : Nat => st.heap.size ≤ q)) hx hb hX hbl hbA hS (vp_in_nI (show i + 1 < L by omega) (by omega)) dL_law_417 ?_
        refine e_top (xs (i + 1)) (by rw [nI_clamp (by omega)]) ?_
        refine lv_aload_n hx hb dL_law_418 rfl (lv_at hl 0 rfl) ?_
        refine lv_iload_n hx hb dL_law_419 rfl (lv_at hl 3 rfl) ?_
        refine lv_iconst (v := 2) hx hb dL_law_420 (by decide) ?_
        refine lv_iadd hx hb dL_law_421 ?_
        refine e_top (nI (i + 2)) (e_addk i 2 2 (by decide)) ?_
        refine va_sld (A := (fun q : Nat => st.heap.size ≤ q)) hx hb hX hbl hbA hS (vp_in_nI (show i + 2 < L by omega) (by omega)) dL_law_422 ?_
        refine e_top (xs (i + 2)) (by rw [nI_clamp (by omega)]) ?_
        refine e_callI (q0 := 0) (ci := 0) (rest := []) (wr := wM adM cM n c T Hd G O Nw Lt) ⟨hx, hb, hml, hown, hts⟩ (metX1_needOf l dC dI adG cI cZ n c T Hd G O N Wt Qu cu hok hgd (xs (i + 1)) (xs (i + 2)) H.size) (cwV 2 hts (lw_V q152 q153 q154 q19 q155) rfl rfl rfl (by decide +kernel) ⟨Nat.le_of_ble_eq_true rfl, Nat.le_of_ble_eq_true rfl⟩) hKG hP hD hS hA [0, 1, 2, 3, 4, 5, 6, 7] [8, 9, 10, 11, 12, 13, 14] rfl rfl (by decide) (by decide) (by decide) rfl rfl rfl rfl hl.1 rfl (Nat.le_of_ble_eq_true rfl) dL_law_423 ⟨Nat.le_of_ble_eq_true rfl, Nat.le_of_ble_eq_true rfl⟩ (fun r1 u1 H locs hw1 hP hD hS => ?_)
        obtain ⟨N1, Wt1, Qu1, cu1⟩ := u1
        obtain ⟨hw1, hgd1⟩ := hw1
        have hP : va_P (dC, dI) vwCl (wM adM cM n c T Hd G O Nw Lt ++ wG adG cI cZ n c T Hd G O N1 Wt1 Qu1 (-1) cu1) H := hP
        have hD : va_D (fun q : Nat => st.heap.size ≤ q) (wM adM cM n c T Hd G O Nw Lt ++ wG adG cI cZ n c T Hd G O N1 Wt1 Qu1 (-1) cu1) := hD
        refine lv_aload_n hx hb dL_law_426 rfl (lv_at hl 2 rfl) ?_
        refine lv_aload_n hx hb dL_law_427 rfl (lv_at hl 0 rfl) ?_
        refine lv_iload_n hx hb dL_law_428 rfl (lv_at hl 3 rfl) ?_
        refine lv_iconst (v := 1) hx hb dL_law_429 (by decide) ?_
        refine lv_iadd hx hb dL_law_430 ?_
        refine e_top (nI (i + 1)) (e_addk i 1 1 (by decide)) ?_
        refine va_sld (A := (fun q : Nat => st.heap.size ≤ q)) hx hb hX hbl hbA hS (vp_in_nI (show i + 1 < L by omega) (by omega)) dL_law_431 ?_
        refine e_top (xs (i + 1)) (by rw [nI_clamp (by omega)]) ?_
        refine lv_aload_n hx hb dL_law_432 rfl (lv_at hl 0 rfl) ?_
        refine lv_iload_n hx hb dL_law_433 rfl (lv_at hl 3 rfl) ?_
        refine lv_iconst (v := 2) hx hb dL_law_434 (by decide) ?_
        refine lv_iadd hx hb dL_law_435 ?_
        refine e_top (nI (i + 2)) (e_addk i 2 2 (by decide)) ?_
        refine va_sld (A := (fun q : Nat => st.heap.size ≤ q)) hx hb hX hbl hbA hS (vp_in_nI (show i + 2 < L by omega) (by omega)) dL_law_436 ?_
        refine e_top (xs (i + 2)) (by rw [nI_clamp (by omega)]) ?_
        refine e_callI (q0 := 0) (ci := 1) (rest := [.int r1]) (wr := wG adG cI cZ n c T Hd G O N1 Wt1 Qu1 (-1) cu1) ⟨hx, hb, hml, hown, hts⟩ (metX2_needOf l dC dI adM cM n c T Hd G O Nw Lt hok (xs (i + 1)) (xs (i + 2)) H.size) (cwV 2 hts (lw_V q283 q284 q285 q20 q286) rfl rfl rfl (by decide +kernel) ⟨Nat.le_of_ble_eq_true rfl, Nat.le_of_ble_eq_true rfl⟩) hKM hP hD hS hA [0, 1, 2, 3, 4, 5, 6] [7, 8, 9, 10, 11, 12, 13, 14] rfl rfl (by decide) (by decide) (by decide) rfl rfl rfl rfl hl.1 rfl (Nat.le_of_ble_eq_true rfl) dL_law_437 ⟨Nat.le_of_ble_eq_true rfl, Nat.le_of_ble_eq_true rfl⟩ (fun r2 u2 H locs hw2 hP hD hS => ?_)
        obtain ⟨Nw1, Lt1⟩ := u2
        refine lv_icmp_eq (tgt := 491) hx hb dL_law_440 (by decide) (fun _ => ?_) (fun c_9 => absurd (hw1.trans hw2.symm) c_9)
        exact nxt c T Hd G O N1 Wt1 Qu1 cu1 Nw1 Lt1 hok hgd1 H locs hP hD hS
      · refine lv_tableIn (off := 403) (tgt := 445) hx hb dL_law_42 (by decide) (by decide) (by decide) (by decide) ?_
        refine lv_aload_n hx hb dL_law_445 rfl (lv_at hl 1 rfl) ?_
        refine e_callI (q0 := 0) (ci := 0) (rest := []) (wr := wM adM cM n c T Hd G O Nw Lt) ⟨hx, hb, hml, hown, hts⟩ (metX1_greatest l dC dI adG cI cZ n c T Hd G O N Wt Qu cu hok hgd  H.size) (cwV 0 hts (lw_V q156 q157 q158 q19 q159) rfl rfl rfl (by decide +kernel) ⟨Nat.le_of_ble_eq_true rfl, Nat.le_of_ble_eq_true rfl⟩) hKG hP hD hS hA [0, 1, 2, 3, 4, 5, 6, 7] [8, 9, 10, 11, 12, 13, 14] rfl rfl (by decide) (by decide) (by decide) rfl rfl rfl rfl hl.1 rfl (Nat.le_of_ble_eq_true rfl) dL_law_446 ⟨Nat.le_of_ble_eq_true rfl, Nat.le_of_ble_eq_true rfl⟩ (fun r1 u1 H locs hw1 hP hD hS => ?_)
        obtain ⟨N1, Wt1, Qu1, cu1⟩ := u1
        obtain ⟨hw1, hgd1⟩ := hw1
        have hP : va_P (dC, dI) vwCl (wM adM cM n c T Hd G O Nw Lt ++ wG adG cI cZ n c T Hd G O N1 Wt1 Qu1 (-1) cu1) H := hP
        have hD : va_D (fun q : Nat => st.heap.size ≤ q) (wM adM cM n c T Hd G O Nw Lt ++ wG adG cI cZ n c T Hd G O N1 Wt1 Qu1 (-1) cu1) := hD
        refine lv_aload_n hx hb dL_law_449 rfl (lv_at hl 2 rfl) ?_
        refine e_callI (q0 := 0) (ci := 1) (rest := [.int r1]) (wr := wG adG cI cZ n c T Hd G O N1 Wt1 Qu1 (-1) cu1) ⟨hx, hb, hml, hown, hts⟩ (metX2_greatest l dC dI adM cM n c T Hd G O Nw Lt hok  H.size) (cwV 0 hts (lw_V q287 q288 q289 q20 q290) rfl rfl rfl (by decide +kernel) ⟨Nat.le_of_ble_eq_true rfl, Nat.le_of_ble_eq_true rfl⟩) hKM hP hD hS hA [0, 1, 2, 3, 4, 5, 6] [7, 8, 9, 10, 11, 12, 13, 14] rfl rfl (by decide) (by decide) (by decide) rfl rfl rfl rfl hl.1 rfl (Nat.le_of_ble_eq_true rfl) dL_law_450 ⟨Nat.le_of_ble_eq_true rfl, Nat.le_of_ble_eq_true rfl⟩ (fun r2 u2 H locs hw2 hP hD hS => ?_)
        obtain ⟨Nw1, Lt1⟩ := u2
        refine lv_icmp_eq (tgt := 491) hx hb dL_law_453 (by decide) (fun _ => ?_) (fun c_9 => absurd (hw1.trans hw2.symm) c_9)
        exact nxt c T Hd G O N1 Wt1 Qu1 cu1 Nw1 Lt1 hok hgd1 H locs hP hD hS
      · refine lv_tableIn (off := 416) (tgt := 458) hx hb dL_law_42 (by decide) (by decide) (by decide) (by decide) ?_
        refine lv_aload_n hx hb dL_law_458 rfl (lv_at hl 1 rfl) ?_
        refine lv_aload_n hx hb dL_law_459 rfl (lv_at hl 0 rfl) ?_
        refine lv_iload_n hx hb dL_law_460 rfl (lv_at hl 3 rfl) ?_
        refine lv_iconst (v := 1) hx hb dL_law_461 (by decide) ?_
        refine lv_iadd hx hb dL_law_462 ?_
        refine e_top (nI (i + 1)) (e_addk i 1 1 (by decide)) ?_
        refine va_sld (A := (fun q : Nat => st.heap.size ≤ q)) hx hb hX hbl hbA hS (vp_in_nI (show i + 1 < L by omega) (by omega)) dL_law_463 ?_
        refine e_top (xs (i + 1)) (by rw [nI_clamp (by omega)]) ?_
        refine lv_aload_n hx hb dL_law_464 rfl (lv_at hl 0 rfl) ?_
        refine lv_iload_n hx hb dL_law_465 rfl (lv_at hl 3 rfl) ?_
        refine lv_iconst (v := 2) hx hb dL_law_466 (by decide) ?_
        refine lv_iadd hx hb dL_law_467 ?_
        refine e_top (nI (i + 2)) (e_addk i 2 2 (by decide)) ?_
        refine va_sld (A := (fun q : Nat => st.heap.size ≤ q)) hx hb hX hbl hbA hS (vp_in_nI (show i + 2 < L by omega) (by omega)) dL_law_468 ?_
        refine e_top (xs (i + 2)) (by rw [nI_clamp (by omega)]) ?_
        refine e_callI (q0 := 0) (ci := 0) (rest := []) (wr := wM adM cM n c T Hd G O Nw Lt) ⟨hx, hb, hml, hown, hts⟩ (metX1_store l dC dI adG cI cZ n c T Hd G O N Wt Qu cu hok hgd (xs (i + 1)) (xs (i + 2)) H.size) (cwV 2 hts (lw_V q160 q161 q162 q19 q163) rfl rfl rfl (by decide +kernel) ⟨Nat.le_of_ble_eq_true rfl, Nat.le_of_ble_eq_true rfl⟩) hKG hP hD hS hA [0, 1, 2, 3, 4, 5, 6, 7] [8, 9, 10, 11, 12, 13, 14] rfl rfl (by decide) (by decide) (by decide) rfl rfl rfl rfl hl.1 rfl (Nat.le_of_ble_eq_true rfl) dL_law_469 ⟨Nat.le_of_ble_eq_true rfl, Nat.le_of_ble_eq_true rfl⟩ (fun r1 u1 H locs hw1 hP hD hS => ?_)
        obtain ⟨N1, Wt1, Qu1, cu1⟩ := u1
        obtain ⟨hw1, hgd1⟩ := hw1
        have hP : va_P (dC, dI) vwCl (wM adM cM n c T Hd G O Nw Lt ++ wG adG cI cZ n c T Hd G O N1 Wt1 Qu1 (-1) cu1) H := hP
        have hD : va_D (fun q : Nat => st.heap.size ≤ q) (wM adM cM n c T Hd G O Nw Lt ++ wG adG cI cZ n c T Hd G O N1 Wt1 Qu1 (-1) cu1) := hD
        refine lv_aload_n hx hb dL_law_472 rfl (lv_at hl 2 rfl) ?_
        refine lv_aload_n hx hb dL_law_473 rfl (lv_at hl 0 rfl) ?_
        refine lv_iload_n hx hb dL_law_474 rfl (lv_at hl 3 rfl) ?_
        refine lv_iconst (v := 1) hx hb dL_law_475 (by decide) ?_
        refine lv_iadd hx hb dL_law_476 ?_
        refine e_top (nI (i + 1)) (e_addk i 1 1 (by decide)) ?_
        refine va_sld (A := (fun q : Nat => st.heap.size ≤ q)) hx hb hX hbl hbA hS (vp_in_nI (show i + 1 < L by omega) (by omega)) dL_law_477 ?_
        refine e_top (xs (i + 1)) (by rw [nI_clamp (by omega)]) ?_
        refine lv_aload_n hx hb dL_law_478 rfl (lv_at hl 0 rfl) ?_
        refine lv_iload_n hx hb dL_law_479 rfl (lv_at hl 3 rfl) ?_
        refine lv_iconst (v := 2) hx hb dL_law_480 (by decide) ?_
        refine lv_iadd hx hb dL_law_481 ?_
        refine e_top (nI (i + 2)) (e_addk i 2 2 (by decide)) ?_
        refine va_sld (A := (fun q : Nat => st.heap.size ≤ q)) hx hb hX hbl hbA hS (vp_in_nI (show i + 2 < L by omega) (by omega)) dL_law_482 ?_
        refine e_top (xs (i + 2)) (by rw [nI_clamp (by omega)]) ?_
        refine e_callI (q0 := 0) (ci := 1) (rest := [.int r1]) (wr := wG adG cI cZ n c T Hd G O N1 Wt1 Qu1 (-1) cu1) ⟨hx, hb, hml, hown, hts⟩ (metX2_store l dC dI adM cM n c T Hd G O Nw Lt hok (xs (i + 1)) (xs (i + 2)) H.size) (cwV 2 hts (lw_V q291 q292 q293 q20 q294) rfl rfl rfl (by decide +kernel) ⟨Nat.le_of_ble_eq_true rfl, Nat.le_of_ble_eq_true rfl⟩) hKM hP hD hS hA [0, 1, 2, 3, 4, 5, 6] [7, 8, 9, 10, 11, 12, 13, 14] rfl rfl (by decide) (by decide) (by decide) rfl rfl rfl rfl hl.1 rfl (Nat.le_of_ble_eq_true rfl) dL_law_483 ⟨Nat.le_of_ble_eq_true rfl, Nat.le_of_ble_eq_true rfl⟩ (fun r2 u2 H locs hw2 hP hD hS => ?_)
        obtain ⟨Nw1, Lt1⟩ := u2
        refine lv_icmp_eq (tgt := 491) hx hb dL_law_486 (by decide) (fun _ => ?_) (fun c_9 => absurd (hw1.trans hw2.symm) c_9)
        exact nxt c T Hd G O N1 Wt1 Qu1 cu1 Nw1 Lt1 hok hgd1 H locs hP hD hS
      · refine lv_tableOut (tgt := 491) hx hb dL_law_42 (by decide) (by decide) ?_
        exact nxt c T Hd G O N Wt Qu cu Nw Lt hok hgd H locs hP hD hS
end
section
/-! the law from its entry; the claim (of the skeleton) -/
set_option maxRecDepth 100000
set_option maxHeartbeats 40000000 in
set_option maxRecDepth 100000 in
theorem whole_start {p : Program} {e : Env} {s : State} {m : MethodId} {below : List Frame} {meth : Method} {c : Code} (l : Launch) {b L : Nat} {xs : Nat → Int32} (hL : L ≤ 257) (C0 : lw_At p s m meth c b L xs) : W p l e room_1 s m #[Value.ref b] below meth c s.heap [] 0 0 (lw_Z below #[Value.ref b] s) (entryFrame m ([Value.ref b] : List Value).toArray 4) := by
  obtain ⟨hx, hb, hr, hml, hown, hts0, hX, hbl, hlocks, hgv⟩ := id C0
  have hts : ∀ w ∈ lw_all, w.before #[Value.ref b] s = true := fun w h => hts0 w (lw_all_tbl h)
  have hA : ∀ q : Nat, s.heap.size ≤ q → (fun q : Nat => s.heap.size ≤ q) q := fun _ h => h
  have hbA : ¬ (fun q : Nat => s.heap.size ≤ q) b := Nat.not_le.mpr hbl
  obtain ⟨c0_, iS0, hKn0⟩ := u_known (C := RX1) (T := TX1) (N := 12) (n := 12) hts in_X1 (hts _ q22)
  obtain ⟨c1_, iS1, hKn1⟩ := u_known (C := RX2) (T := TX2) (N := 8) (n := 8) hts in_X2 (hts _ q169)
  obtain ⟨dC, dI, hKc⟩ : ∃ (dC : Nat → ClassId) (dI : Nat → Nat → Nat), ∀ (k : Nat) (q : vw_C), vwCl[k]? = some q → u_Kn s q.1 q.2.1 q.2.2 (dC k) (dI k) := by
    refine ⟨fun k => if k = 0 then c0_ else c1_, fun k => if k = 0 then iS0 else iS1, ?_⟩
    intro k q hq
    match k, hq with
    | 0, hq => cases hq; exact hKn0
    | 1, hq => cases hq; exact hKn1
    | k + 2, hq => simp [vwCl] at hq
  have hS : va_S (fun q : Nat => s.heap.size ≤ q) s.heap s.heap [] := va_S.rf
  have hK : va_K (dC, dI) vwCl [] s := ⟨hKc, fun k q h => by simp at h⟩
  have hP : va_P (dC, dI) vwCl [] s.heap := fun k q h => by simp at h
  have hD : va_D (fun q : Nat => s.heap.size ≤ q) [] := ⟨fun i j p q h => by simp at h, fun k q h => by simp at h⟩
  have hl := lv_entry ([.ref b]) (n := 4) (Nat.le_of_ble_eq_true rfl)
  rw [lg_entry_eq]
  generalize (lg_sl ([.ref b]) ++ List.replicate (4 - (lg_sl ([.ref b])).length) Slot.unset).toArray = ls at hl ⊢
  have hl : lv_has ls 4 [(0, .ref b)] := hl
  refine va_new (ci := 0) (fs := [.null, .null, .null, .null, .null, .null, .null, .int 0, .int 0, .int 0, .int 0, .int 0]) (C := RX1) (T := TX1) (N := 12) hx hb hts in_X1 tyX1 tyX1_ok hown (hts _ q21) (hts _ q22) (hts _ q19) hK hP hD hS hA rfl (fun j hj => by rcases (show j = 0 ∨ j = 1 ∨ j = 2 ∨ j = 3 ∨ j = 4 ∨ j = 5 ∨ j = 6 ∨ j = 7 ∨ j = 8 ∨ j = 9 ∨ j = 10 ∨ j = 11 by omega) with rfl | rfl | rfl | rfl | rfl | rfl | rfl | rfl | rfl | rfl | rfl | rfl <;> rfl) (Nat.le_of_ble_eq_true rfl) (Nat.le_of_ble_eq_true rfl) dL_law_0 (fun hq H hP hD hS => ?_)
  have hP : va_P (dC, dI) vwCl [(hq, .inr (0, [.null, .null, .null, .null, .null, .null, .null, .int 0, .int 0, .int 0, .int 0, .int 0]))] H := hP
  have hD : va_D (fun q : Nat => s.heap.size ≤ q) [(hq, .inr (0, [.null, .null, .null, .null, .null, .null, .null, .int 0, .int 0, .int 0, .int 0, .int 0]))] := hD
  refine W.widen (k := 1) (n := 12) (by decide) (by decide) ?_
  refine lv_dup hx hb dL_law_3 rfl ?_
  refine lv_aload_n hx hb dL_law_4 rfl (lv_at hl 0 rfl) ?_
  refine lv_iconst (v := nI 0) hx hb dL_law_5 (by decide) ?_
  refine e_cs (W.runS (As := [.ref b, .int (nI 0)]) (rest := [.ref hq, .ref hq]) ⟨hx, hb, hml, hown, hts⟩ (metX0_cell l b L xs hL) (va_cwS 2 hts (lw_S q165 q166 q18 q167) rfl rfl rfl (by decide +kernel) ⟨Nat.le_of_ble_eq_true rfl, Nat.le_of_ble_eq_true rfl⟩) ⟨fun a U g mk q => ⟨q.1, va_X.moved (u := U) (U := U.calling g mk a) (Vm.Alike.refl U.vm) q.2⟩, fun U hU hW => ⟨rfl, by show va_X b L xs U U.heap; rw [hU]; exact (hX.kept (hS.2.1 b hbl hbA)).moved hW.alike⟩⟩ rfl rfl hl.1 rfl (lv_room (Nat.le_of_ble_eq_true rfl)) dL_law_6 ⟨Nat.le_of_ble_eq_true rfl, Nat.le_of_ble_eq_true rfl⟩) (fun r1 hr1 => ?_)
  have hPc := hP.sub (ws' := [(hq, .inr (0, [.null, .null, .null, .null, .null, .null, .null, .int 0, .int 0, .int 0, .int 0, .int 0]))]) [0] rfl
  have hDc := hD.sub (ws' := [(hq, .inr (0, [.null, .null, .null, .null, .null, .null, .null, .int 0, .int 0, .int 0, .int 0, .int 0]))]) [0] (by decide) rfl
  have hKc := hK.sub (tys' := []) [] rfl
  have hFc := va_free (wc := [(hq, .inr (0, [.null, .null, .null, .null, .null, .null, .null, .int 0, .int 0, .int 0, .int 0, .int 0]))]) hD hS hA [0] rfl
  refine va_callv (va_runI (As := [.int r1]) (rest := [.ref hq]) ⟨hx, hb, hml, hown, hts⟩ (metX1_init l dC dI hq r1 H.size) (cwI 1 hts (lw_meth q25) rfl rfl rfl (hts _ q19) (hts _ q23) (hts _ q24) rfl (by decide +kernel) ⟨Nat.le_of_ble_eq_true rfl, Nat.le_of_ble_eq_true rfl⟩) ⟨fun a U g mk q => by obtain ⟨q0, q1, qP, qK, qD⟩ := q; exact ⟨q0, q1, qP, va_K.moved (u := U) (U := U.calling g mk a) (Vm.Alike.refl U.vm) qK, qD⟩, fun U hU hW => ⟨rfl, by rw [hU], by rw [hU]; exact hPc, va_K.moved hW.alike hKc, hDc.weaken (fun _ _ _ _ => trivial)⟩⟩ rfl rfl hl.1 rfl (lv_room (Nat.le_of_ble_eq_true rfl)) dL_law_9 ⟨Nat.le_of_ble_eq_true rfl, Nat.le_of_ble_eq_true rfl⟩) hS (fun q _ h => hFc q h) hFc (fun u t H1 locs ht hvm hw hB hz1 hk1 hS => ?_)
  obtain ⟨adG, cI, cZ, n⟩ := u
  have en : n = e_nv r1 := hw.1
  have eh : adG 0 = hq := hw.2
  subst eh
  obtain ⟨hP1, hK1, hD1⟩ := hB
  rw [ht] at hP1
  have hK : va_K (dC, dI) vwCl [(cI, .int), (cZ, .boolean)] s := va_K.moved hvm.symm hK1
  obtain ⟨hP, hD⟩ := va_join (wr := []) (w1 := wG adG cI cZ n 0 (fun _ => 0) (fun _ => 0) (fun _ => 0) (fun _ => 0) (fun _ => 0) (fun _ => 0) (fun _ => 0) (-1) 0) hP hD [0] [] rfl rfl (by decide) (by decide) hk1 hFc hP1 hD1
  clear hPc hDc hKc hFc hP1 hD1 hK1 hk1 hz1
  clear ht
  generalize H1 = H at hP hS ⊢
  have hP : va_P (dC, dI) vwCl (wG adG cI cZ n 0 (fun _ => 0) (fun _ => 0) (fun _ => 0) (fun _ => 0) (fun _ => 0) (fun _ => 0) (fun _ => 0) (-1) 0) H := hP
  have hD : va_D (fun q : Nat => s.heap.size ≤ q) (wG adG cI cZ n 0 (fun _ => 0) (fun _ => 0) (fun _ => 0) (fun _ => 0) (fun _ => 0) (fun _ => 0) (fun _ => 0) (-1) 0) := hD
  refine W.widen (k := 8) (n := 80) (by decide) (by decide) ?_
  refine lv_astore_n (lv' := [(1, .ref (adG 0)), (0, .ref b)]) hx hb dL_law_12 rfl hl (by decide) rfl (fun ls hl => ?_)
  refine va_new (ci := 1) (fs := [.int 0, .int 0, .null, .null, .null, .null, .null, .null]) (C := RX2) (T := TX2) (N := 8) hx hb hts in_X2 tyX2 tyX2_ok hown (hts _ q168) (hts _ q169) (hts _ q20) hK hP hD hS hA rfl (fun j hj => by rcases (show j = 0 ∨ j = 1 ∨ j = 2 ∨ j = 3 ∨ j = 4 ∨ j = 5 ∨ j = 6 ∨ j = 7 by omega) with rfl | rfl | rfl | rfl | rfl | rfl | rfl | rfl <;> rfl) (Nat.le_of_ble_eq_true rfl) (Nat.le_of_ble_eq_true rfl) dL_law_13 (fun hm H hP hD hS => ?_)
  have hP : va_P (dC, dI) vwCl (wG adG cI cZ n 0 (fun _ => 0) (fun _ => 0) (fun _ => 0) (fun _ => 0) (fun _ => 0) (fun _ => 0) (fun _ => 0) (-1) 0 ++ [(hm, .inr (1, [.int 0, .int 0, .null, .null, .null, .null, .null, .null]))]) H := hP
  have hD : va_D (fun q : Nat => s.heap.size ≤ q) (wG adG cI cZ n 0 (fun _ => 0) (fun _ => 0) (fun _ => 0) (fun _ => 0) (fun _ => 0) (fun _ => 0) (fun _ => 0) (-1) 0 ++ [(hm, .inr (1, [.int 0, .int 0, .null, .null, .null, .null, .null, .null]))]) := hD
  refine W.widen (k := 9) (n := 88) (by decide) (by decide) ?_
  refine lv_dup hx hb dL_law_16 rfl ?_
  refine lv_aload_n hx hb dL_law_17 rfl (lv_at hl 1 rfl) ?_
  refine lv_iconst (v := nI 0) hx hb dL_law_18 (by decide) ?_
  refine e_cs (W.runS (As := [.ref b, .int (nI 0)]) (rest := [.ref hm, .ref hm]) ⟨hx, hb, hml, hown, hts⟩ (metX0_cell l b L xs hL) (va_cwS 2 hts (lw_S q165 q166 q18 q167) rfl rfl rfl (by decide +kernel) ⟨Nat.le_of_ble_eq_true rfl, Nat.le_of_ble_eq_true rfl⟩) ⟨fun a U g mk q => ⟨q.1, va_X.moved (u := U) (U := U.calling g mk a) (Vm.Alike.refl U.vm) q.2⟩, fun U hU hW => ⟨rfl, by show va_X b L xs U U.heap; rw [hU]; exact (hX.kept (hS.2.1 b hbl hbA)).moved hW.alike⟩⟩ rfl rfl hl.1 rfl (lv_room (Nat.le_of_ble_eq_true rfl)) dL_law_19 ⟨Nat.le_of_ble_eq_true rfl, Nat.le_of_ble_eq_true rfl⟩) (fun r2 hr2 => ?_)
  have hPc := hP.sub (ws' := [(hm, .inr (1, [.int 0, .int 0, .null, .null, .null, .null, .null, .null]))]) [8] rfl
  have hDc := hD.sub (ws' := [(hm, .inr (1, [.int 0, .int 0, .null, .null, .null, .null, .null, .null]))]) [8] (by decide) rfl
  have hKc := hK.sub (tys' := []) [] rfl
  have hFc := va_free (wc := [(hm, .inr (1, [.int 0, .int 0, .null, .null, .null, .null, .null, .null]))]) hD hS hA [8] rfl
  refine va_callv (va_runI (As := [.int r2]) (rest := [.ref hm]) ⟨hx, hb, hml, hown, hts⟩ (metX2_init l dC dI hm r2 H.size) (cwI 1 hts (lw_meth q172) rfl rfl rfl (hts _ q20) (hts _ q170) (hts _ q171) rfl (by decide +kernel) ⟨Nat.le_of_ble_eq_true rfl, Nat.le_of_ble_eq_true rfl⟩) ⟨fun a U g mk q => by obtain ⟨q0, q1, qP, qK, qD⟩ := q; exact ⟨q0, q1, qP, va_K.moved (u := U) (U := U.calling g mk a) (Vm.Alike.refl U.vm) qK, qD⟩, fun U hU hW => ⟨rfl, by rw [hU], by rw [hU]; exact hPc, va_K.moved hW.alike hKc, hDc.weaken (fun _ _ _ _ => trivial)⟩⟩ rfl rfl hl.1 rfl (lv_room (Nat.le_of_ble_eq_true rfl)) dL_law_22 ⟨Nat.le_of_ble_eq_true rfl, Nat.le_of_ble_eq_true rfl⟩) hS (fun q _ h => hFc q h) hFc (fun u t H1 locs ht hvm hw hB hz1 hk1 hS => ?_)
  obtain ⟨adM, cM, n2⟩ := u
  have en2 : n2 = e_nv r2 := hw.1
  have eh : adM 0 = hm := hw.2
  subst eh
  have enn : n = n2 := by rw [en, en2, hr1, hr2]
  subst enn
  obtain ⟨hP1, hK1, hD1⟩ := hB
  rw [ht] at hP1
  have hK1 := va_K.moved hvm.symm hK1
  obtain ⟨hP, hD⟩ := va_join (wr := wG adG cI cZ n 0 (fun _ => 0) (fun _ => 0) (fun _ => 0) (fun _ => 0) (fun _ => 0) (fun _ => 0) (fun _ => 0) (-1) 0) (w1 := wM adM cM n 0 (fun _ => 0) (fun _ => 0) (fun _ => 0) (fun _ => 0) (fun _ => 0) (fun _ => 0)) hP hD [8] [0, 1, 2, 3, 4, 5, 6, 7] rfl rfl (by decide) (by decide) hk1 hFc hP1 hD1
  have hK : va_K (dC, dI) vwCl [(cI, .int), (cZ, .boolean), (cM, .int)] s := hK.app hK1
  refine W.widen (k := 15) (n := 154) (by decide) (by decide) ?_
  refine lv_astore_n (lv' := [(2, .ref (adM 0)), (1, .ref (adG 0)), (0, .ref b)]) hx hb dL_law_25 rfl hl (by decide) rfl (fun ls hl => ?_)
  refine lv_iconst (v := nI 1) hx hb dL_law_26 (by decide) ?_
  refine lv_istore_n (lv' := [(3, .int (nI 1)), (2, .ref (adM 0)), (1, .ref (adG 0)), (0, .ref b)]) hx hb dL_law_27 rfl hl (by decide) rfl (fun ls hl => ?_)
  exact law_loop l hL C0 hK (L + 4) 1 0 (fun _ => 0) (fun _ => 0) (fun _ => 0) (fun _ => 0) (fun _ => 0) (fun _ => 0) (fun _ => 0) 0 (fun _ => 0) (fun _ => 0) (by omega) (by omega) (e_ok_0 (by rw [en]; exact e_nv_in r1)) (Or.inl rfl) _ _ hP hD hS ls (lv_sub hl [3, 2, 1, 0] rfl)
end
section
/-! the claim out of the walk (of the skeleton) -/
set_option maxHeartbeats 4000000 in
theorem lw_walk (l : Launch) (b : Addr) (xs : List Int32) : MetFree l x (headSpec (Jvm.Cond.code x code maxLocals ret :: tables_1) room_1) (lw_P b xs) (fun _ _ _ _ _ => True) lw_Q := by
  refine MetFree.of_bodyS (code := code) (maxLocals := maxLocals) (ret := ret) (by decide) ?_ ?_
  · intro args s m h hn
    obtain ⟨meth, c, h1, h2, h3, h4, h5, h6, -, -⟩ := Cond.code_spec hn (atoms_spec (ws := Jvm.Cond.code x code maxLocals ret :: tables_1) h _ List.mem_cons_self)
    exact ⟨meth, c, h1, h2, h3, h4, h5, h6⟩
  · intro p e s m args below meth c s₁ B hml0 hP _
    obtain ⟨rfl, hx, hbd, hgv⟩ := hP
    obtain ⟨scr, harrAt, hlist, hof, hsmall⟩ := hx
    obtain ⟨hcb, hkn, -, -⟩ := State.arrayAt?_spec harrAt
    have hown : s.vm.findClass R_law = some m.cls := findClass_of_methodNamed B.named
    have hts0 : ∀ c ∈ (Jvm.Cond.code x code maxLocals ret :: tables_1), c.before #[Value.ref b] s = true := atoms_spec (ws := Jvm.Cond.code x code maxLocals ret :: tables_1) B.pre
    have hts : ∀ w ∈ lw_tbl, w.before #[Value.ref b] s = true := k2_hts_sels lw_privs (fun w hw => hts0 w (List.mem_cons_of_mem _ hw)) lw_privs_ok
    have hml : c.maxLocals = 4 := B.maxLocals_eq (hts0 _ List.mem_cons_self)
    have X₀ : Stand p l e room_1 s m #[Value.ref b] below meth c s₁ [] 0 0 := Stand.of_body B
    have hh0 : s₁.heap = s.heap := by rw [B.state]; rfl
    have hsz : scr.slots.size = xs.length := by rw [← Array.length_toList, hlist, List.length_map]
    have hval : ∀ j : Nat, j < xs.length → scr.slots[j]? = some (.int (xs.getD j 0)) := fun j hj => by
      rw [← Array.getElem?_toList, hlist]
      simp [hj]
    have hbl : b < s.heap.size := (Array.getElem?_eq_some_iff.mp hcb).1
    have hX : va_X b xs.length (fun j => xs.getD j 0) s s.heap := ⟨scr, hcb, hof, hkn, hsz, hval⟩
    have K : W p l e room_1 s m #[Value.ref b] below meth c s₁.heap [] 0 0 (lw_Z below #[Value.ref b] s) (entryFrame m ([Value.ref b] : List Value).toArray 4) := by
      rw [hh0]
      exact whole_start l hbd ⟨B.exec, B.bytes, B.returns, hml, hown, hts, hX, hbl, B.notSynchronized, hgv⟩
    obtain ⟨t, a1, o, b1, b2, b3⟩ := K s₁ rfl X₀
    exact ⟨t, o, a1, b1, b2, b3⟩
theorem lw_pre_spec {args : Array Value} {s : State} (h : (Jvm.Cond.and given_1 narrow_1).before args s = true) (hr : rest_1_c.before args s = true) : ∃ (b : Addr) (xs : List Int32), lw_P b xs args s := by
  have hs := flat_of_before _ h
  have hq := flat_of_before _ hr
  have hc : (Cond.count 1).before args s = true := hs _ (by decide +kernel)
  have harr : (Cond.arrayOf (.arg 0) .int).before args s = true := hs _ (by decide +kernel)
  have hle : (Cond.le (.length (.arg 0)) (.int 257)).before args s = true := hs _ (by decide +kernel)
  have hlen : (Cond.isInt (.length (.arg 0))).before args s = true := hq _ (by decide +kernel)
  have hall : (Cond.all (.arg 0) (.isInt (.elem (.arg 0) (.index 0)))).before args s = true := hq _ (by decide +kernel)
  obtain ⟨b, xs, hb, hx⟩ := State.ints_of_pre rfl harr hlen hall
  have hsm : xs.length < 2 ^ 31 := hx.choose_spec.2.2.2
  have hev : (Term.length (.arg 0)).eval args s none [] s = some (.int xs.length.toInt32) := hx.length_eval hb
  have hv := Cond.le_ints hev (show (Term.int 257).eval args s none [] s = some (.int 257) from rfl)
  have hd : xs.length.toInt32 ≤ 257 := by
    simpa [Cond.before, Cond.holds, hv] using hle
  have hN : xs.length ≤ 257 := (Int32.ofNat_le_ofNat hsm (by decide)).mp (show Int32.ofNat xs.length ≤ Int32.ofNat 257 from hd)
  exact ⟨b, xs, Cond.one_arg hc (show args[0]? = some (.ref b) from hb), hx, hN, h⟩
theorem lw_comes (l : Launch) : Comes l x (Jvm.Cond.code x code maxLocals ret :: tables_1) room_1 (fun tb e args s => Calls_1 tb e args s ∧ rest_1 tb e args s ∧ Pre_1 tb e args s)
    (fun _ _ args s o t => lw_Q args s o t) := by
  intro p e ha hc hk s m args below hf hfit hheap happ hpre
  obtain ⟨b, xs, hP⟩ := lw_pre_spec hpre.2.2 hpre.2.1
  obtain ⟨k, o, h1, h2, h3, hQ⟩ := lw_walk l b xs p e ha hc hk s m args below hf ((Spec.applies_iff_loose hf).mp happ).1 hP trivial
  exact ⟨k, o, h1, h2, h3, hQ⟩
theorem lw_frame {s t : State} {o : Outcome} {args : Array Value} (h : Framed s o t [] 600000 7290000) :
    Framed s o t (fieldLocs frame_1_writes args s ++ arrayLocs frame_1_arrays args s ++ staticLocs frame_1_statics s) 600000 7290000 := h
theorem lw_limb (L : Cond) (hL : ∀ (args : Array Value) (s t : State), L.after args s (.returned (some (.int 1))) t = true) :
    ArmFor flags0 classFile x code maxLocals ret World_1 tables_1 room_1 Calls_1 rest_1 Pre_1
      (fun tb e a s o t => postC L tb e a s o t ∧ Framed s o t (fieldLocs frame_1_writes a s ++ arrayLocs frame_1_arrays a s ++ staticLocs frame_1_statics s) 600000 7290000) := by
  intro l _ _ _ p e ha hc hk s m args below hf hfit hheap happ hpre
  obtain ⟨k, o, h1, h2, h3, rfl, hF⟩ := lw_comes l p e ha hc hk s m args below hf hfit hheap happ hpre
  exact ⟨k, _, h1, h2, h3, hL args s _, lw_frame hF⟩
theorem i_vc : Claimed_1_1 ∧ Claimed_1_2 := ⟨lw_limb limb_1_1 (fun args s t => by simp [limb_1_1, Cond.after, Cond.holds, Cond.value]), lw_limb limb_1_2 (fun args s t => Cond.after_iff.mpr (by
  first | (rw [show limb_1_2 = Cond.eq .result (.int 1) from rfl, Cond.eq_ints (x := 1) (y := 1) rfl rfl]; simp; done) | (simp [limb_1_2, Cond.value, Term.eval]; done)))⟩
end
