section
-- ===== PART A: goes FIRST, ahead of the names: the tables' words, and 'selects' of the private methods out of them =====
/-- a private method of a class that the tables say can be made, by its rows of tables_1 -/
def lw_okq (q : MethodName × Nat) : Prop := (q.1.cls ≠ "java/lang/invoke/MethodHandle" ∧ q.1.cls ≠ "java/lang/invoke/VarHandle") ∧ Cond.instantiable q.1.cls q.2 ∈ tables_1 ∧ Cond.privateMethod q.1 ∈ tables_1 ∧ Cond.instanceMethod q.1 ∈ tables_1
set_option maxRecDepth 100000
theorem lw_t1 {w : Cond} (h : w ∈ tables_1_1) : w ∈ tables_1 := List.mem_append_left _ h
theorem lw_t2 {w : Cond} (h : w ∈ tables_1_2) : w ∈ tables_1 := List.mem_append_right _ h
theorem lw_p0 : lw_okq (⟨"SelfHealStripes", "bad", "(I)Z"⟩, 11) := ⟨⟨by decide +kernel, by decide +kernel⟩, lw_t1 (List.mem_of_getElem? (i := 4) rfl), lw_t1 (List.mem_of_getElem? (i := 60) rfl), lw_t1 (List.mem_of_getElem? (i := 61) rfl)⟩
theorem lw_p1 : lw_okq (⟨"SelfHealStripes", "place", "(II)V"⟩, 11) := ⟨⟨by decide +kernel, by decide +kernel⟩, lw_t1 (List.mem_of_getElem? (i := 4) rfl), lw_t1 (List.mem_of_getElem? (i := 64) rfl), lw_t1 (List.mem_of_getElem? (i := 65) rfl)⟩
theorem lw_p2 : lw_okq (⟨"SelfHealStripes", "choose", "(I)V"⟩, 11) := ⟨⟨by decide +kernel, by decide +kernel⟩, lw_t1 (List.mem_of_getElem? (i := 4) rfl), lw_t1 (List.mem_of_getElem? (i := 68) rfl), lw_t1 (List.mem_of_getElem? (i := 69) rfl)⟩
theorem lw_p3 : lw_okq (⟨"SelfHealStripes", "freeRows", "(I)I"⟩, 11) := ⟨⟨by decide +kernel, by decide +kernel⟩, lw_t1 (List.mem_of_getElem? (i := 4) rfl), lw_t1 (List.mem_of_getElem? (i := 72) rfl), lw_t1 (List.mem_of_getElem? (i := 73) rfl)⟩
theorem lw_p4 : lw_okq (⟨"SelfHealStripes", "freeRow", "(I)I"⟩, 11) := ⟨⟨by decide +kernel, by decide +kernel⟩, lw_t1 (List.mem_of_getElem? (i := 4) rfl), lw_t1 (List.mem_of_getElem? (i := 76) rfl), lw_t1 (List.mem_of_getElem? (i := 77) rfl)⟩
theorem lw_p5 : lw_okq (⟨"SelfHealStripes", "free", "(I)V"⟩, 11) := ⟨⟨by decide +kernel, by decide +kernel⟩, lw_t1 (List.mem_of_getElem? (i := 4) rfl), lw_t1 (List.mem_of_getElem? (i := 80) rfl), lw_t1 (List.mem_of_getElem? (i := 81) rfl)⟩
theorem lw_p6 : lw_okq (⟨"SelfHealStripes", "checkOf", "(I)I"⟩, 11) := ⟨⟨by decide +kernel, by decide +kernel⟩, lw_t1 (List.mem_of_getElem? (i := 4) rfl), lw_t1 (List.mem_of_getElem? (i := 84) rfl), lw_t1 (List.mem_of_getElem? (i := 85) rfl)⟩
theorem lw_p7 : lw_okq (⟨"SelfHealStripes", "fold", "(I)I"⟩, 11) := ⟨⟨by decide +kernel, by decide +kernel⟩, lw_t1 (List.mem_of_getElem? (i := 4) rfl), lw_t1 (List.mem_of_getElem? (i := 88) rfl), lw_t1 (List.mem_of_getElem? (i := 89) rfl)⟩
theorem lw_p8 : lw_okq (⟨"SelfHealStripes", "recover", "(I)I"⟩, 11) := ⟨⟨by decide +kernel, by decide +kernel⟩, lw_t1 (List.mem_of_getElem? (i := 4) rfl), lw_t1 (List.mem_of_getElem? (i := 105) rfl), lw_t1 (List.mem_of_getElem? (i := 106) rfl)⟩
theorem lw_p9 : lw_okq (⟨"SelfHealStripes", "loadWords", "(I)V"⟩, 11) := ⟨⟨by decide +kernel, by decide +kernel⟩, lw_t1 (List.mem_of_getElem? (i := 4) rfl), lw_t1 (List.mem_of_getElem? (i := 109) rfl), lw_t1 (List.mem_of_getElem? (i := 110) rfl)⟩
theorem lw_p10 : lw_okq (⟨"SelfHealStripes", "rebuilt", "(II)I"⟩, 11) := ⟨⟨by decide +kernel, by decide +kernel⟩, lw_t1 (List.mem_of_getElem? (i := 4) rfl), lw_t1 (List.mem_of_getElem? (i := 113) rfl), lw_t1 (List.mem_of_getElem? (i := 114) rfl)⟩
theorem lw_p11 : lw_okq (⟨"SelfHealStripes", "mendData", "(II)V"⟩, 11) := ⟨⟨by decide +kernel, by decide +kernel⟩, lw_t1 (List.mem_of_getElem? (i := 4) rfl), lw_t1 (List.mem_of_getElem? (i := 117) rfl), lw_t1 (List.mem_of_getElem? (i := 118) rfl)⟩
theorem lw_p12 : lw_okq (⟨"SelfHealStripes", "faulty", "(I)I"⟩, 11) := ⟨⟨by decide +kernel, by decide +kernel⟩, lw_t1 (List.mem_of_getElem? (i := 4) rfl), lw_t1 (List.mem_of_getElem? (i := 125) rfl), lw_t1 (List.mem_of_getElem? (i := 126) rfl)⟩
theorem lw_p13 : lw_okq (⟨"SelfHealStripes", "scrubOne", "(I)V"⟩, 11) := ⟨⟨by decide +kernel, by decide +kernel⟩, lw_t1 (List.mem_of_getElem? (i := 4) rfl), lw_t1 (List.mem_of_getElem? (i := 137) rfl), lw_t1 (List.mem_of_getElem? (i := 138) rfl)⟩
theorem lw_p14 : lw_okq (⟨"SelfHealStripes", "anyDamaged", "()Z"⟩, 11) := ⟨⟨by decide +kernel, by decide +kernel⟩, lw_t1 (List.mem_of_getElem? (i := 4) rfl), lw_t1 (List.mem_of_getElem? (i := 149) rfl), lw_t1 (List.mem_of_getElem? (i := 150) rfl)⟩
theorem lw_p15 : lw_okq (⟨"SelfHealStripes", "resupply", "(II)V"⟩, 11) := ⟨⟨by decide +kernel, by decide +kernel⟩, lw_t1 (List.mem_of_getElem? (i := 4) rfl), lw_t1 (List.mem_of_getElem? (i := 153) rfl), lw_t1 (List.mem_of_getElem? (i := 154) rfl)⟩
def lw_privs_1 : List (MethodName × Nat) := [(⟨"SelfHealStripes", "bad", "(I)Z"⟩, 11), (⟨"SelfHealStripes", "place", "(II)V"⟩, 11), (⟨"SelfHealStripes", "choose", "(I)V"⟩, 11), (⟨"SelfHealStripes", "freeRows", "(I)I"⟩, 11), (⟨"SelfHealStripes", "freeRow", "(I)I"⟩, 11), (⟨"SelfHealStripes", "free", "(I)V"⟩, 11), (⟨"SelfHealStripes", "checkOf", "(I)I"⟩, 11), (⟨"SelfHealStripes", "fold", "(I)I"⟩, 11), (⟨"SelfHealStripes", "recover", "(I)I"⟩, 11), (⟨"SelfHealStripes", "loadWords", "(I)V"⟩, 11), (⟨"SelfHealStripes", "rebuilt", "(II)I"⟩, 11), (⟨"SelfHealStripes", "mendData", "(II)V"⟩, 11), (⟨"SelfHealStripes", "faulty", "(I)I"⟩, 11), (⟨"SelfHealStripes", "scrubOne", "(I)V"⟩, 11), (⟨"SelfHealStripes", "anyDamaged", "()Z"⟩, 11), (⟨"SelfHealStripes", "resupply", "(II)V"⟩, 11)]
theorem lw_r1 : ∀ q ∈ lw_privs_1, lw_okq q := List.forall_mem_cons.mpr ⟨lw_p0, List.forall_mem_cons.mpr ⟨lw_p1, List.forall_mem_cons.mpr ⟨lw_p2, List.forall_mem_cons.mpr ⟨lw_p3, List.forall_mem_cons.mpr ⟨lw_p4, List.forall_mem_cons.mpr ⟨lw_p5, List.forall_mem_cons.mpr ⟨lw_p6, List.forall_mem_cons.mpr ⟨lw_p7, List.forall_mem_cons.mpr ⟨lw_p8, List.forall_mem_cons.mpr ⟨lw_p9, List.forall_mem_cons.mpr ⟨lw_p10, List.forall_mem_cons.mpr ⟨lw_p11, List.forall_mem_cons.mpr ⟨lw_p12, List.forall_mem_cons.mpr ⟨lw_p13, List.forall_mem_cons.mpr ⟨lw_p14, List.forall_mem_cons.mpr ⟨lw_p15, fun _ h => absurd h List.not_mem_nil⟩⟩⟩⟩⟩⟩⟩⟩⟩⟩⟩⟩⟩⟩⟩⟩
theorem lw_p16 : lw_okq (⟨"SelfHealStripesModel", "isExtent", "(I)Z"⟩, 7) := ⟨⟨by decide +kernel, by decide +kernel⟩, lw_t1 (List.mem_of_getElem? (i := 165) rfl), lw_t1 (List.mem_of_getElem? (i := 205) rfl), lw_t1 (List.mem_of_getElem? (i := 206) rfl)⟩
theorem lw_p17 : lw_okq (⟨"SelfHealStripesModel", "damagedExtents", "()I"⟩, 7) := ⟨⟨by decide +kernel, by decide +kernel⟩, lw_t1 (List.mem_of_getElem? (i := 165) rfl), lw_t1 (List.mem_of_getElem? (i := 233) rfl), lw_t1 (List.mem_of_getElem? (i := 234) rfl)⟩
def lw_privs_2 : List (MethodName × Nat) := [(⟨"SelfHealStripesModel", "isExtent", "(I)Z"⟩, 7), (⟨"SelfHealStripesModel", "damagedExtents", "()I"⟩, 7)]
theorem lw_r2 : ∀ q ∈ lw_privs_2, lw_okq q := List.forall_mem_cons.mpr ⟨lw_p16, List.forall_mem_cons.mpr ⟨lw_p17, fun _ h => absurd h List.not_mem_nil⟩⟩
def lw_privs : List (MethodName × Nat) := lw_privs_1 ++ (lw_privs_2)
def lw_tbl : List Cond := k2_sels lw_privs ++ tables_1
theorem lw_privs_ok : ∀ q ∈ lw_privs, lw_okq q := by
  show ∀ q ∈ lw_privs_1 ++ (lw_privs_2), lw_okq q
  exact List.forall_mem_append.mpr ⟨lw_r1, lw_r2⟩
-- ===== ONE list of words for every method: the tables' words that hold all through a run =====
def lw_all : List Cond := lw_tbl.filter goodWord
/-- a word of the tables by its place: claim/WORDS.tsv -/
theorem lw_w {w : Cond} (i : Nat) (h : lw_tbl[i]? = some w) (g : goodWord w = true) : w ∈ lw_all := List.mem_filter.mpr ⟨List.mem_of_getElem? h, g⟩
theorem lw_all_tbl {w : Cond} (h : w ∈ lw_all) : w ∈ lw_tbl := (List.mem_filter.mp h).1
theorem lw_self : GoodIn lw_all lw_all := fun w h => ⟨h, good_of_word (List.mem_filter.mp h).2⟩
/-- a class's field words, by their places -/
theorem lw_in (ws : List Cond) (ps : List Nat) (hp : ws = ps.filterMap (fun i => lw_tbl[i]?)) (hg : ws.all goodWord = true) : ∀ w ∈ ws, w ∈ lw_all := by
  intro w h
  have h1 := List.all_eq_true.mp hg w h
  rw [hp] at h
  obtain ⟨i, -, hi⟩ := List.mem_filterMap.mp h
  exact lw_w i hi h1
/-- the words of a contract for the method y with code b, L locals, answer r -/
abbrev ws_ (y : MethodName) (b : ByteArray) (L : Nat) (r : Option FieldType) : List Cond := Cond.code y b L r :: lw_all
theorem lw_meth {y : MethodName} {b : ByteArray} {L : Nat} {r : Option FieldType} (h : Cond.code y b L r ∈ lw_all) : GoodIn lw_all (ws_ y b L r) := by
  intro w hw
  rcases List.mem_cons.mp hw with e | e
  · rw [e]
    exact lw_self _ h
  · exact lw_self _ e
theorem lw_app {a c : List Cond} (ha : ∀ w ∈ a, w ∈ lw_all) (hc : GoodIn lw_all c) : GoodIn lw_all (a ++ c) := by
  intro w hw
  rcases List.mem_append.mp hw with e | e
  · exact lw_self w (ha w e)
  · exact hc w e
/-- what a call through an object asks: cwV n hts (lw_V ..) -/
theorem lw_V {own : String} {idx : Nat} {C : String} {y : MethodName} {b : ByteArray} {L : Nat} {r : Option FieldType} (h1 : Cond.methodLink own idx y ∈ lw_all) (h2 : Cond.instanceMethod y ∈ lw_all) (h3 : Cond.selects C y y ∈ lw_all) (h4 : Cond.initialized C ∈ lw_all) (h5 : Cond.code y b L r ∈ lw_all) : GoodIn lw_all (wsV own idx C y (ws_ y b L r)) := by
  refine lw_app ?_ (lw_meth h5)
  intro w hw
  simp only [List.mem_cons, List.not_mem_nil, or_false] at hw
  rcases hw with e | e | e | e
  · rw [e]; exact h1
  · rw [e]; exact h2
  · rw [e]; exact h3
  · rw [e]; exact h4
/-- what a static call asks: va_cwS n hts (lw_S ..) -/
theorem lw_S {own : String} {idx : Nat} {y : MethodName} {b : ByteArray} {L : Nat} {r : Option FieldType} (h1 : Cond.methodLink own idx y ∈ lw_all) (h2 : Cond.static y ∈ lw_all) (h3 : Cond.initialized y.cls ∈ lw_all) (h4 : Cond.code y b L r ∈ lw_all) : GoodIn lw_all (va_wsS own idx y (ws_ y b L r)) := by
  refine lw_app ?_ (lw_meth h4)
  intro w hw
  simp only [List.mem_cons, List.not_mem_nil, or_false] at hw
  rcases hw with e | e | e
  · rw [e]; exact h1
  · rw [e]; exact h2
  · rw [e]; exact h3
/-- the words of a contract for a method WITH HANDLERS (hh: its table) -/
abbrev wsW_ (y : MethodName) (b : ByteArray) (L : Nat) (r : Option FieldType) (hh : List (Nat × Nat × Nat × Nat)) : List Cond := Cond.codeWith y b L r hh :: lw_all
theorem lw_methW {y : MethodName} {b : ByteArray} {L : Nat} {r : Option FieldType} {hh : List (Nat × Nat × Nat × Nat)} (h : Cond.codeWith y b L r hh ∈ lw_all) : GoodIn lw_all (wsW_ y b L r hh) := by
  intro w hw
  rcases List.mem_cons.mp hw with e | e
  · rw [e]
    exact lw_self _ h
  · exact lw_self _ e
/-- any list of words by their places (lw_in), good -/
theorem lw_good {ws : List Cond} (h : ∀ w ∈ ws, w ∈ lw_all) : GoodIn lw_all ws := fun w hw => lw_self w (h w hw)
/-- what a call of a method with handlers asks: vx_cwVW n hts (lw_VW ..), vx_cwSW n hts (lw_SW ..) -/
theorem lw_VW {own : String} {idx : Nat} {C : String} {y : MethodName} {b : ByteArray} {L : Nat} {r : Option FieldType} {hh : List (Nat × Nat × Nat × Nat)} (h1 : Cond.methodLink own idx y ∈ lw_all) (h2 : Cond.instanceMethod y ∈ lw_all) (h3 : Cond.selects C y y ∈ lw_all) (h4 : Cond.initialized C ∈ lw_all) (h5 : Cond.codeWith y b L r hh ∈ lw_all) : GoodIn lw_all (wsV own idx C y (wsW_ y b L r hh)) := by
  refine lw_app ?_ (lw_methW h5)
  intro w hw
  simp only [List.mem_cons, List.not_mem_nil, or_false] at hw
  rcases hw with e | e | e | e
  · rw [e]; exact h1
  · rw [e]; exact h2
  · rw [e]; exact h3
  · rw [e]; exact h4
theorem lw_SW {own : String} {idx : Nat} {y : MethodName} {b : ByteArray} {L : Nat} {r : Option FieldType} {hh : List (Nat × Nat × Nat × Nat)} (h1 : Cond.methodLink own idx y ∈ lw_all) (h2 : Cond.static y ∈ lw_all) (h3 : Cond.initialized y.cls ∈ lw_all) (h4 : Cond.codeWith y b L r hh ∈ lw_all) : GoodIn lw_all (va_wsS own idx y (wsW_ y b L r hh)) := by
  refine lw_app ?_ (lw_methW h4)
  intro w hw
  simp only [List.mem_cons, List.not_mem_nil, or_false] at hw
  rcases hw with e | e | e
  · rw [e]; exact h1
  · rw [e]; exact h2
  · rw [e]; exact h3
/-- a word by its place in its run of the tables -/
theorem lw_at {r : List Cond} (hr : ∀ w ∈ r, w ∈ lw_tbl) {w : Cond} (i : Nat) (h : r[i]? = some w) : w ∈ lw_tbl := hr w (List.mem_of_getElem? h)
theorem lw_g {w : Cond} (h : w ∈ lw_tbl) (g : goodWord w = true) : w ∈ lw_all := List.mem_filter.mpr ⟨h, g⟩
theorem lw_ms : ∀ w ∈ k2_sels lw_privs, w ∈ lw_tbl := fun w h => show w ∈ k2_sels lw_privs ++ tables_1 from List.mem_append_left _ h
theorem lw_m1 : ∀ w ∈ tables_1_1, w ∈ lw_tbl := fun w h => show w ∈ k2_sels lw_privs ++ tables_1 from List.mem_append_right (k2_sels lw_privs) (show w ∈ tables_1 from List.mem_append_left _ h)
theorem lw_m2 : ∀ w ∈ tables_1_2, w ∈ lw_tbl := fun w h => show w ∈ k2_sels lw_privs ++ tables_1 from List.mem_append_right (k2_sels lw_privs) (show w ∈ tables_1 from List.mem_append_right _ h)
theorem qs0 : (Cond.selects "SelfHealStripes" ⟨"SelfHealStripes", "bad", "(I)Z"⟩ ⟨"SelfHealStripes", "bad", "(I)Z"⟩) ∈ lw_all := lw_g (lw_at lw_ms 0 rfl) rfl
theorem qs1 : (Cond.selects "SelfHealStripes" ⟨"SelfHealStripes", "place", "(II)V"⟩ ⟨"SelfHealStripes", "place", "(II)V"⟩) ∈ lw_all := lw_g (lw_at lw_ms 1 rfl) rfl
theorem qs2 : (Cond.selects "SelfHealStripes" ⟨"SelfHealStripes", "choose", "(I)V"⟩ ⟨"SelfHealStripes", "choose", "(I)V"⟩) ∈ lw_all := lw_g (lw_at lw_ms 2 rfl) rfl
theorem qs3 : (Cond.selects "SelfHealStripes" ⟨"SelfHealStripes", "freeRows", "(I)I"⟩ ⟨"SelfHealStripes", "freeRows", "(I)I"⟩) ∈ lw_all := lw_g (lw_at lw_ms 3 rfl) rfl
theorem qs4 : (Cond.selects "SelfHealStripes" ⟨"SelfHealStripes", "freeRow", "(I)I"⟩ ⟨"SelfHealStripes", "freeRow", "(I)I"⟩) ∈ lw_all := lw_g (lw_at lw_ms 4 rfl) rfl
theorem qs5 : (Cond.selects "SelfHealStripes" ⟨"SelfHealStripes", "free", "(I)V"⟩ ⟨"SelfHealStripes", "free", "(I)V"⟩) ∈ lw_all := lw_g (lw_at lw_ms 5 rfl) rfl
theorem qs6 : (Cond.selects "SelfHealStripes" ⟨"SelfHealStripes", "checkOf", "(I)I"⟩ ⟨"SelfHealStripes", "checkOf", "(I)I"⟩) ∈ lw_all := lw_g (lw_at lw_ms 6 rfl) rfl
theorem qs7 : (Cond.selects "SelfHealStripes" ⟨"SelfHealStripes", "fold", "(I)I"⟩ ⟨"SelfHealStripes", "fold", "(I)I"⟩) ∈ lw_all := lw_g (lw_at lw_ms 7 rfl) rfl
theorem qs8 : (Cond.selects "SelfHealStripes" ⟨"SelfHealStripes", "recover", "(I)I"⟩ ⟨"SelfHealStripes", "recover", "(I)I"⟩) ∈ lw_all := lw_g (lw_at lw_ms 8 rfl) rfl
theorem qs9 : (Cond.selects "SelfHealStripes" ⟨"SelfHealStripes", "loadWords", "(I)V"⟩ ⟨"SelfHealStripes", "loadWords", "(I)V"⟩) ∈ lw_all := lw_g (lw_at lw_ms 9 rfl) rfl
theorem qs10 : (Cond.selects "SelfHealStripes" ⟨"SelfHealStripes", "rebuilt", "(II)I"⟩ ⟨"SelfHealStripes", "rebuilt", "(II)I"⟩) ∈ lw_all := lw_g (lw_at lw_ms 10 rfl) rfl
theorem qs11 : (Cond.selects "SelfHealStripes" ⟨"SelfHealStripes", "mendData", "(II)V"⟩ ⟨"SelfHealStripes", "mendData", "(II)V"⟩) ∈ lw_all := lw_g (lw_at lw_ms 11 rfl) rfl
theorem qs12 : (Cond.selects "SelfHealStripes" ⟨"SelfHealStripes", "faulty", "(I)I"⟩ ⟨"SelfHealStripes", "faulty", "(I)I"⟩) ∈ lw_all := lw_g (lw_at lw_ms 12 rfl) rfl
theorem qs13 : (Cond.selects "SelfHealStripes" ⟨"SelfHealStripes", "scrubOne", "(I)V"⟩ ⟨"SelfHealStripes", "scrubOne", "(I)V"⟩) ∈ lw_all := lw_g (lw_at lw_ms 13 rfl) rfl
theorem qs14 : (Cond.selects "SelfHealStripes" ⟨"SelfHealStripes", "anyDamaged", "()Z"⟩ ⟨"SelfHealStripes", "anyDamaged", "()Z"⟩) ∈ lw_all := lw_g (lw_at lw_ms 14 rfl) rfl
theorem qs15 : (Cond.selects "SelfHealStripes" ⟨"SelfHealStripes", "resupply", "(II)V"⟩ ⟨"SelfHealStripes", "resupply", "(II)V"⟩) ∈ lw_all := lw_g (lw_at lw_ms 15 rfl) rfl
theorem qs16 : (Cond.selects "SelfHealStripesModel" ⟨"SelfHealStripesModel", "isExtent", "(I)Z"⟩ ⟨"SelfHealStripesModel", "isExtent", "(I)Z"⟩) ∈ lw_all := lw_g (lw_at lw_ms 16 rfl) rfl
theorem qs17 : (Cond.selects "SelfHealStripesModel" ⟨"SelfHealStripesModel", "damagedExtents", "()I"⟩ ⟨"SelfHealStripesModel", "damagedExtents", "()I"⟩) ∈ lw_all := lw_g (lw_at lw_ms 17 rfl) rfl
end
section
/-! SelfHealStripes -/
set_option maxRecDepth 100000
def RX0 : String := "SelfHealStripes"
def TX0 : u_T := fun k => match k with
  | 0 => ("SelfHealStripes", "cell", "[I", true)
  | 1 => ("SelfHealStripes", "taken", "[Z", true)
  | 2 => ("SelfHealStripes", "turn", "I", false)
  | 3 => ("SelfHealStripes", "width", "[I", true)
  | 4 => ("SelfHealStripes", "check", "[I", true)
  | 5 => ("SelfHealStripes", "column", "[I", true)
  | 6 => ("SelfHealStripes", "drafted", "I", false)
  | 7 => ("SelfHealStripes", "draft", "[I", true)
  | 8 => ("SelfHealStripes", "word", "[I", true)
  | 9 => ("SelfHealStripes", "mended", "I", false)
  | _ => ("SelfHealStripes", "chosen", "[I", true)
def tyX0 : Nat → FieldType := fun k => match k with
  | 0 => .array .int
  | 1 => .array .boolean
  | 2 => .int
  | 3 => .array .int
  | 4 => .array .int
  | 5 => .array .int
  | 6 => .int
  | 7 => .array .int
  | 8 => .array .int
  | 9 => .int
  | _ => .array .int
abbrev wsX00 : List Cond := u_ws RX0 TX0 11
theorem nmX0 : ∀ a, a < 11 → ∀ b, b < 11 → a ≠ b → (TX0 a).2.1 ≠ (TX0 b).2.1 := by decide +kernel
theorem tyX0_ok : ∀ k, k < 11 → parseFieldDescriptor (TX0 k).2.2.1 = some (tyX0 k) := by decide +kernel
abbrev cX0_init : ByteArray := prog_1_method_1_code
def yX0_init : MethodName := ⟨RX0, "<init>", "()V"⟩
theorem dX0_init_0 : decode cX0_init 0 = .ok (.aload_n 0, 1) := by decide +kernel
theorem dX0_init_1 : decode cX0_init 1 = .ok (.invokespecial 1, 3) := by decide +kernel
theorem dX0_init_4 : decode cX0_init 4 = .ok (.aload_n 0, 1) := by decide +kernel
theorem dX0_init_5 : decode cX0_init 5 = .ok (.bipush 60, 2) := by decide +kernel
theorem dX0_init_7 : decode cX0_init 7 = .ok (.newarray .int, 2) := by decide +kernel
theorem dX0_init_9 : decode cX0_init 9 = .ok (.putfield 7, 3) := by decide +kernel
theorem dX0_init_12 : decode cX0_init 12 = .ok (.aload_n 0, 1) := by decide +kernel
theorem dX0_init_13 : decode cX0_init 13 = .ok (.bipush 60, 2) := by decide +kernel
theorem dX0_init_15 : decode cX0_init 15 = .ok (.newarray .boolean, 2) := by decide +kernel
theorem dX0_init_17 : decode cX0_init 17 = .ok (.putfield 13, 3) := by decide +kernel
theorem dX0_init_20 : decode cX0_init 20 = .ok (.aload_n 0, 1) := by decide +kernel
theorem dX0_init_21 : decode cX0_init 21 = .ok (.bipush 8, 2) := by decide +kernel
theorem dX0_init_23 : decode cX0_init 23 = .ok (.newarray .int, 2) := by decide +kernel
theorem dX0_init_25 : decode cX0_init 25 = .ok (.putfield 17, 3) := by decide +kernel
theorem dX0_init_28 : decode cX0_init 28 = .ok (.aload_n 0, 1) := by decide +kernel
theorem dX0_init_29 : decode cX0_init 29 = .ok (.bipush 8, 2) := by decide +kernel
theorem dX0_init_31 : decode cX0_init 31 = .ok (.newarray .int, 2) := by decide +kernel
theorem dX0_init_33 : decode cX0_init 33 = .ok (.putfield 20, 3) := by decide +kernel
theorem dX0_init_36 : decode cX0_init 36 = .ok (.aload_n 0, 1) := by decide +kernel
theorem dX0_init_37 : decode cX0_init 37 = .ok (.bipush 40, 2) := by decide +kernel
theorem dX0_init_39 : decode cX0_init 39 = .ok (.newarray .int, 2) := by decide +kernel
theorem dX0_init_41 : decode cX0_init 41 = .ok (.putfield 23, 3) := by decide +kernel
theorem dX0_init_44 : decode cX0_init 44 = .ok (.aload_n 0, 1) := by decide +kernel
theorem dX0_init_45 : decode cX0_init 45 = .ok (.iconst 4, 1) := by decide +kernel
theorem dX0_init_46 : decode cX0_init 46 = .ok (.newarray .int, 2) := by decide +kernel
theorem dX0_init_48 : decode cX0_init 48 = .ok (.putfield 26, 3) := by decide +kernel
theorem dX0_init_51 : decode cX0_init 51 = .ok (.aload_n 0, 1) := by decide +kernel
theorem dX0_init_52 : decode cX0_init 52 = .ok (.iconst 4, 1) := by decide +kernel
theorem dX0_init_53 : decode cX0_init 53 = .ok (.newarray .int, 2) := by decide +kernel
theorem dX0_init_55 : decode cX0_init 55 = .ok (.putfield 29, 3) := by decide +kernel
theorem dX0_init_58 : decode cX0_init 58 = .ok (.aload_n 0, 1) := by decide +kernel
theorem dX0_init_59 : decode cX0_init 59 = .ok (.iconst 5, 1) := by decide +kernel
theorem dX0_init_60 : decode cX0_init 60 = .ok (.newarray .int, 2) := by decide +kernel
theorem dX0_init_62 : decode cX0_init 62 = .ok (.putfield 32, 3) := by decide +kernel
theorem dX0_init_65 : decode cX0_init 65 = .ok (.return_, 1) := by decide +kernel
abbrev cX0_draft : ByteArray := prog_1_method_15_code
def yX0_draft : MethodName := ⟨RX0, "draft", "(I)I"⟩
theorem dX0_draft_0 : decode cX0_draft 0 = .ok (.aload_n 0, 1) := by decide +kernel
theorem dX0_draft_1 : decode cX0_draft 1 = .ok (.getfield 73, 3) := by decide +kernel
theorem dX0_draft_4 : decode cX0_draft 4 = .ok (.iconst 4, 1) := by decide +kernel
theorem dX0_draft_5 : decode cX0_draft 5 = .ok (.if_icmp .ne 6, 3) := by decide +kernel
theorem dX0_draft_8 : decode cX0_draft 8 = .ok (.bipush (-2), 2) := by decide +kernel
theorem dX0_draft_10 : decode cX0_draft 10 = .ok (.ireturn, 1) := by decide +kernel
theorem dX0_draft_11 : decode cX0_draft 11 = .ok (.aload_n 0, 1) := by decide +kernel
theorem dX0_draft_12 : decode cX0_draft 12 = .ok (.getfield 26, 3) := by decide +kernel
theorem dX0_draft_15 : decode cX0_draft 15 = .ok (.aload_n 0, 1) := by decide +kernel
theorem dX0_draft_16 : decode cX0_draft 16 = .ok (.getfield 73, 3) := by decide +kernel
theorem dX0_draft_19 : decode cX0_draft 19 = .ok (.iload_n 1, 1) := by decide +kernel
theorem dX0_draft_20 : decode cX0_draft 20 = .ok (.iastore, 1) := by decide +kernel
theorem dX0_draft_21 : decode cX0_draft 21 = .ok (.aload_n 0, 1) := by decide +kernel
theorem dX0_draft_22 : decode cX0_draft 22 = .ok (.dup, 1) := by decide +kernel
theorem dX0_draft_23 : decode cX0_draft 23 = .ok (.getfield 73, 3) := by decide +kernel
theorem dX0_draft_26 : decode cX0_draft 26 = .ok (.iconst 1, 1) := by decide +kernel
theorem dX0_draft_27 : decode cX0_draft 27 = .ok (.iadd, 1) := by decide +kernel
theorem dX0_draft_28 : decode cX0_draft 28 = .ok (.putfield 73, 3) := by decide +kernel
theorem dX0_draft_31 : decode cX0_draft 31 = .ok (.aload_n 0, 1) := by decide +kernel
theorem dX0_draft_32 : decode cX0_draft 32 = .ok (.getfield 73, 3) := by decide +kernel
theorem dX0_draft_35 : decode cX0_draft 35 = .ok (.ireturn, 1) := by decide +kernel
abbrev cX0_scrap : ByteArray := prog_1_method_16_code
def yX0_scrap : MethodName := ⟨RX0, "scrap", "()V"⟩
theorem dX0_scrap_0 : decode cX0_scrap 0 = .ok (.aload_n 0, 1) := by decide +kernel
theorem dX0_scrap_1 : decode cX0_scrap 1 = .ok (.iconst 0, 1) := by decide +kernel
theorem dX0_scrap_2 : decode cX0_scrap 2 = .ok (.putfield 73, 3) := by decide +kernel
theorem dX0_scrap_5 : decode cX0_scrap 5 = .ok (.return_, 1) := by decide +kernel
abbrev cX0_put : ByteArray := prog_1_method_17_code
def yX0_put : MethodName := ⟨RX0, "put", "(I)I"⟩
theorem dX0_put_0 : decode cX0_put 0 = .ok (.aload_n 0, 1) := by decide +kernel
theorem dX0_put_1 : decode cX0_put 1 = .ok (.iload_n 1, 1) := by decide +kernel
theorem dX0_put_2 : decode cX0_put 2 = .ok (.invokevirtual 76, 3) := by decide +kernel
theorem dX0_put_5 : decode cX0_put 5 = .ok (.ifCond .eq 5, 3) := by decide +kernel
theorem dX0_put_8 : decode cX0_put 8 = .ok (.iconst (-1), 1) := by decide +kernel
theorem dX0_put_9 : decode cX0_put 9 = .ok (.ireturn, 1) := by decide +kernel
theorem dX0_put_10 : decode cX0_put 10 = .ok (.aload_n 0, 1) := by decide +kernel
theorem dX0_put_11 : decode cX0_put 11 = .ok (.getfield 73, 3) := by decide +kernel
theorem dX0_put_14 : decode cX0_put 14 = .ok (.ifCond .ne 6, 3) := by decide +kernel
theorem dX0_put_17 : decode cX0_put 17 = .ok (.bipush (-3), 2) := by decide +kernel
theorem dX0_put_19 : decode cX0_put 19 = .ok (.ireturn, 1) := by decide +kernel
theorem dX0_put_20 : decode cX0_put 20 = .ok (.iconst 0, 1) := by decide +kernel
theorem dX0_put_21 : decode cX0_put 21 = .ok (.istore_n 2, 1) := by decide +kernel
theorem dX0_put_22 : decode cX0_put 22 = .ok (.iload_n 2, 1) := by decide +kernel
theorem dX0_put_23 : decode cX0_put 23 = .ok (.aload_n 0, 1) := by decide +kernel
theorem dX0_put_24 : decode cX0_put 24 = .ok (.getfield 73, 3) := by decide +kernel
theorem dX0_put_27 : decode cX0_put 27 = .ok (.if_icmp .ge 21, 3) := by decide +kernel
theorem dX0_put_30 : decode cX0_put 30 = .ok (.aload_n 0, 1) := by decide +kernel
theorem dX0_put_31 : decode cX0_put 31 = .ok (.getfield 29, 3) := by decide +kernel
theorem dX0_put_34 : decode cX0_put 34 = .ok (.iload_n 2, 1) := by decide +kernel
theorem dX0_put_35 : decode cX0_put 35 = .ok (.aload_n 0, 1) := by decide +kernel
theorem dX0_put_36 : decode cX0_put 36 = .ok (.getfield 26, 3) := by decide +kernel
theorem dX0_put_39 : decode cX0_put 39 = .ok (.iload_n 2, 1) := by decide +kernel
theorem dX0_put_40 : decode cX0_put 40 = .ok (.iaload, 1) := by decide +kernel
theorem dX0_put_41 : decode cX0_put 41 = .ok (.iastore, 1) := by decide +kernel
theorem dX0_put_42 : decode cX0_put 42 = .ok (.iinc 2 1, 3) := by decide +kernel
theorem dX0_put_45 : decode cX0_put 45 = .ok (.goto (-23), 3) := by decide +kernel
theorem dX0_put_48 : decode cX0_put 48 = .ok (.aload_n 0, 1) := by decide +kernel
theorem dX0_put_49 : decode cX0_put 49 = .ok (.getfield 73, 3) := by decide +kernel
theorem dX0_put_52 : decode cX0_put 52 = .ok (.istore_n 2, 1) := by decide +kernel
theorem dX0_put_53 : decode cX0_put 53 = .ok (.aload_n 0, 1) := by decide +kernel
theorem dX0_put_54 : decode cX0_put 54 = .ok (.iconst 0, 1) := by decide +kernel
theorem dX0_put_55 : decode cX0_put 55 = .ok (.putfield 73, 3) := by decide +kernel
theorem dX0_put_58 : decode cX0_put 58 = .ok (.aload_n 0, 1) := by decide +kernel
theorem dX0_put_59 : decode cX0_put 59 = .ok (.iload_n 1, 1) := by decide +kernel
theorem dX0_put_60 : decode cX0_put 60 = .ok (.iload_n 2, 1) := by decide +kernel
theorem dX0_put_61 : decode cX0_put 61 = .ok (.invokevirtual 80, 3) := by decide +kernel
theorem dX0_put_64 : decode cX0_put 64 = .ok (.iload_n 2, 1) := by decide +kernel
theorem dX0_put_65 : decode cX0_put 65 = .ok (.ireturn, 1) := by decide +kernel
abbrev cX0_bad : ByteArray := prog_1_method_2_code
def yX0_bad : MethodName := ⟨RX0, "bad", "(I)Z"⟩
theorem dX0_bad_0 : decode cX0_bad 0 = .ok (.iload_n 1, 1) := by decide +kernel
theorem dX0_bad_1 : decode cX0_bad 1 = .ok (.ifCond .lt 9, 3) := by decide +kernel
theorem dX0_bad_4 : decode cX0_bad 4 = .ok (.iload_n 1, 1) := by decide +kernel
theorem dX0_bad_5 : decode cX0_bad 5 = .ok (.bipush 8, 2) := by decide +kernel
theorem dX0_bad_7 : decode cX0_bad 7 = .ok (.if_icmp .lt 7, 3) := by decide +kernel
theorem dX0_bad_10 : decode cX0_bad 10 = .ok (.iconst 1, 1) := by decide +kernel
theorem dX0_bad_11 : decode cX0_bad 11 = .ok (.goto 4, 3) := by decide +kernel
theorem dX0_bad_14 : decode cX0_bad 14 = .ok (.iconst 0, 1) := by decide +kernel
theorem dX0_bad_15 : decode cX0_bad 15 = .ok (.ireturn, 1) := by decide +kernel
abbrev cX0_place : ByteArray := prog_1_method_8_code
def yX0_place : MethodName := ⟨RX0, "place", "(II)V"⟩
theorem dX0_place_0 : decode cX0_place 0 = .ok (.aload_n 0, 1) := by decide +kernel
theorem dX0_place_1 : decode cX0_place 1 = .ok (.iload_n 2, 1) := by decide +kernel
theorem dX0_place_2 : decode cX0_place 2 = .ok (.iconst 1, 1) := by decide +kernel
theorem dX0_place_3 : decode cX0_place 3 = .ok (.iadd, 1) := by decide +kernel
theorem dX0_place_4 : decode cX0_place 4 = .ok (.invokevirtual 50, 3) := by decide +kernel
theorem dX0_place_7 : decode cX0_place 7 = .ok (.iconst 0, 1) := by decide +kernel
theorem dX0_place_8 : decode cX0_place 8 = .ok (.istore_n 3, 1) := by decide +kernel
theorem dX0_place_9 : decode cX0_place 9 = .ok (.iconst 0, 1) := by decide +kernel
theorem dX0_place_10 : decode cX0_place 10 = .ok (.istore 4, 2) := by decide +kernel
theorem dX0_place_12 : decode cX0_place 12 = .ok (.iload 4, 2) := by decide +kernel
theorem dX0_place_14 : decode cX0_place 14 = .ok (.iload_n 2, 1) := by decide +kernel
theorem dX0_place_15 : decode cX0_place 15 = .ok (.if_icmp .ge 38, 3) := by decide +kernel
theorem dX0_place_18 : decode cX0_place 18 = .ok (.aload_n 0, 1) := by decide +kernel
theorem dX0_place_19 : decode cX0_place 19 = .ok (.getfield 7, 3) := by decide +kernel
theorem dX0_place_22 : decode cX0_place 22 = .ok (.aload_n 0, 1) := by decide +kernel
theorem dX0_place_23 : decode cX0_place 23 = .ok (.getfield 32, 3) := by decide +kernel
theorem dX0_place_26 : decode cX0_place 26 = .ok (.iload 4, 2) := by decide +kernel
theorem dX0_place_28 : decode cX0_place 28 = .ok (.iaload, 1) := by decide +kernel
theorem dX0_place_29 : decode cX0_place 29 = .ok (.aload_n 0, 1) := by decide +kernel
theorem dX0_place_30 : decode cX0_place 30 = .ok (.getfield 29, 3) := by decide +kernel
theorem dX0_place_33 : decode cX0_place 33 = .ok (.iload 4, 2) := by decide +kernel
theorem dX0_place_35 : decode cX0_place 35 = .ok (.iaload, 1) := by decide +kernel
theorem dX0_place_36 : decode cX0_place 36 = .ok (.iastore, 1) := by decide +kernel
theorem dX0_place_37 : decode cX0_place 37 = .ok (.iload_n 3, 1) := by decide +kernel
theorem dX0_place_38 : decode cX0_place 38 = .ok (.aload_n 0, 1) := by decide +kernel
theorem dX0_place_39 : decode cX0_place 39 = .ok (.getfield 29, 3) := by decide +kernel
theorem dX0_place_42 : decode cX0_place 42 = .ok (.iload 4, 2) := by decide +kernel
theorem dX0_place_44 : decode cX0_place 44 = .ok (.iaload, 1) := by decide +kernel
theorem dX0_place_45 : decode cX0_place 45 = .ok (.ixor, 1) := by decide +kernel
theorem dX0_place_46 : decode cX0_place 46 = .ok (.istore_n 3, 1) := by decide +kernel
theorem dX0_place_47 : decode cX0_place 47 = .ok (.iinc 4 1, 3) := by decide +kernel
theorem dX0_place_50 : decode cX0_place 50 = .ok (.goto (-38), 3) := by decide +kernel
theorem dX0_place_53 : decode cX0_place 53 = .ok (.aload_n 0, 1) := by decide +kernel
theorem dX0_place_54 : decode cX0_place 54 = .ok (.getfield 7, 3) := by decide +kernel
theorem dX0_place_57 : decode cX0_place 57 = .ok (.aload_n 0, 1) := by decide +kernel
theorem dX0_place_58 : decode cX0_place 58 = .ok (.getfield 32, 3) := by decide +kernel
theorem dX0_place_61 : decode cX0_place 61 = .ok (.iload_n 2, 1) := by decide +kernel
theorem dX0_place_62 : decode cX0_place 62 = .ok (.iaload, 1) := by decide +kernel
theorem dX0_place_63 : decode cX0_place 63 = .ok (.iload_n 3, 1) := by decide +kernel
theorem dX0_place_64 : decode cX0_place 64 = .ok (.iastore, 1) := by decide +kernel
theorem dX0_place_65 : decode cX0_place 65 = .ok (.iconst 0, 1) := by decide +kernel
theorem dX0_place_66 : decode cX0_place 66 = .ok (.istore 4, 2) := by decide +kernel
theorem dX0_place_68 : decode cX0_place 68 = .ok (.iload 4, 2) := by decide +kernel
theorem dX0_place_70 : decode cX0_place 70 = .ok (.iload_n 2, 1) := by decide +kernel
theorem dX0_place_71 : decode cX0_place 71 = .ok (.if_icmp .gt 22, 3) := by decide +kernel
theorem dX0_place_74 : decode cX0_place 74 = .ok (.aload_n 0, 1) := by decide +kernel
theorem dX0_place_75 : decode cX0_place 75 = .ok (.getfield 13, 3) := by decide +kernel
theorem dX0_place_78 : decode cX0_place 78 = .ok (.aload_n 0, 1) := by decide +kernel
theorem dX0_place_79 : decode cX0_place 79 = .ok (.getfield 32, 3) := by decide +kernel
theorem dX0_place_82 : decode cX0_place 82 = .ok (.iload 4, 2) := by decide +kernel
theorem dX0_place_84 : decode cX0_place 84 = .ok (.iaload, 1) := by decide +kernel
theorem dX0_place_85 : decode cX0_place 85 = .ok (.iconst 1, 1) := by decide +kernel
theorem dX0_place_86 : decode cX0_place 86 = .ok (.bastore, 1) := by decide +kernel
theorem dX0_place_87 : decode cX0_place 87 = .ok (.iinc 4 1, 3) := by decide +kernel
theorem dX0_place_90 : decode cX0_place 90 = .ok (.goto (-22), 3) := by decide +kernel
theorem dX0_place_93 : decode cX0_place 93 = .ok (.aload_n 0, 1) := by decide +kernel
theorem dX0_place_94 : decode cX0_place 94 = .ok (.iload_n 1, 1) := by decide +kernel
theorem dX0_place_95 : decode cX0_place 95 = .ok (.invokevirtual 54, 3) := by decide +kernel
theorem dX0_place_98 : decode cX0_place 98 = .ok (.aload_n 0, 1) := by decide +kernel
theorem dX0_place_99 : decode cX0_place 99 = .ok (.getfield 17, 3) := by decide +kernel
theorem dX0_place_102 : decode cX0_place 102 = .ok (.iload_n 1, 1) := by decide +kernel
theorem dX0_place_103 : decode cX0_place 103 = .ok (.iload_n 2, 1) := by decide +kernel
theorem dX0_place_104 : decode cX0_place 104 = .ok (.iastore, 1) := by decide +kernel
theorem dX0_place_105 : decode cX0_place 105 = .ok (.aload_n 0, 1) := by decide +kernel
theorem dX0_place_106 : decode cX0_place 106 = .ok (.getfield 20, 3) := by decide +kernel
theorem dX0_place_109 : decode cX0_place 109 = .ok (.iload_n 1, 1) := by decide +kernel
theorem dX0_place_110 : decode cX0_place 110 = .ok (.aload_n 0, 1) := by decide +kernel
theorem dX0_place_111 : decode cX0_place 111 = .ok (.iload_n 2, 1) := by decide +kernel
theorem dX0_place_112 : decode cX0_place 112 = .ok (.invokevirtual 57, 3) := by decide +kernel
theorem dX0_place_115 : decode cX0_place 115 = .ok (.iastore, 1) := by decide +kernel
theorem dX0_place_116 : decode cX0_place 116 = .ok (.iconst 0, 1) := by decide +kernel
theorem dX0_place_117 : decode cX0_place 117 = .ok (.istore 4, 2) := by decide +kernel
theorem dX0_place_119 : decode cX0_place 119 = .ok (.iload 4, 2) := by decide +kernel
theorem dX0_place_121 : decode cX0_place 121 = .ok (.iload_n 2, 1) := by decide +kernel
theorem dX0_place_122 : decode cX0_place 122 = .ok (.if_icmp .gt 27, 3) := by decide +kernel
theorem dX0_place_125 : decode cX0_place 125 = .ok (.aload_n 0, 1) := by decide +kernel
theorem dX0_place_126 : decode cX0_place 126 = .ok (.getfield 23, 3) := by decide +kernel
theorem dX0_place_129 : decode cX0_place 129 = .ok (.iload_n 1, 1) := by decide +kernel
theorem dX0_place_130 : decode cX0_place 130 = .ok (.iconst 5, 1) := by decide +kernel
theorem dX0_place_131 : decode cX0_place 131 = .ok (.imul, 1) := by decide +kernel
theorem dX0_place_132 : decode cX0_place 132 = .ok (.iload 4, 2) := by decide +kernel
theorem dX0_place_134 : decode cX0_place 134 = .ok (.iadd, 1) := by decide +kernel
theorem dX0_place_135 : decode cX0_place 135 = .ok (.aload_n 0, 1) := by decide +kernel
theorem dX0_place_136 : decode cX0_place 136 = .ok (.getfield 32, 3) := by decide +kernel
theorem dX0_place_139 : decode cX0_place 139 = .ok (.iload 4, 2) := by decide +kernel
theorem dX0_place_141 : decode cX0_place 141 = .ok (.iaload, 1) := by decide +kernel
theorem dX0_place_142 : decode cX0_place 142 = .ok (.iastore, 1) := by decide +kernel
theorem dX0_place_143 : decode cX0_place 143 = .ok (.iinc 4 1, 3) := by decide +kernel
theorem dX0_place_146 : decode cX0_place 146 = .ok (.goto (-27), 3) := by decide +kernel
theorem dX0_place_149 : decode cX0_place 149 = .ok (.return_, 1) := by decide +kernel
abbrev cX0_choose : ByteArray := prog_1_method_7_code
def yX0_choose : MethodName := ⟨RX0, "choose", "(I)V"⟩
theorem dX0_choose_0 : decode cX0_choose 0 = .ok (.iconst 0, 1) := by decide +kernel
theorem dX0_choose_1 : decode cX0_choose 1 = .ok (.istore_n 2, 1) := by decide +kernel
theorem dX0_choose_2 : decode cX0_choose 2 = .ok (.iconst 0, 1) := by decide +kernel
theorem dX0_choose_3 : decode cX0_choose 3 = .ok (.istore_n 3, 1) := by decide +kernel
theorem dX0_choose_4 : decode cX0_choose 4 = .ok (.iload_n 3, 1) := by decide +kernel
theorem dX0_choose_5 : decode cX0_choose 5 = .ok (.iload_n 1, 1) := by decide +kernel
theorem dX0_choose_6 : decode cX0_choose 6 = .ok (.if_icmp .ge 115, 3) := by decide +kernel
theorem dX0_choose_9 : decode cX0_choose 9 = .ok (.iconst (-1), 1) := by decide +kernel
theorem dX0_choose_10 : decode cX0_choose 10 = .ok (.istore 4, 2) := by decide +kernel
theorem dX0_choose_12 : decode cX0_choose 12 = .ok (.iconst 0, 1) := by decide +kernel
theorem dX0_choose_13 : decode cX0_choose 13 = .ok (.istore 5, 2) := by decide +kernel
theorem dX0_choose_15 : decode cX0_choose 15 = .ok (.iconst 0, 1) := by decide +kernel
theorem dX0_choose_16 : decode cX0_choose 16 = .ok (.istore 6, 2) := by decide +kernel
theorem dX0_choose_18 : decode cX0_choose 18 = .ok (.iload 6, 2) := by decide +kernel
theorem dX0_choose_20 : decode cX0_choose 20 = .ok (.iconst 5, 1) := by decide +kernel
theorem dX0_choose_21 : decode cX0_choose 21 = .ok (.if_icmp .ge 52, 3) := by decide +kernel
theorem dX0_choose_24 : decode cX0_choose 24 = .ok (.aload_n 0, 1) := by decide +kernel
theorem dX0_choose_25 : decode cX0_choose 25 = .ok (.getfield 40, 3) := by decide +kernel
theorem dX0_choose_28 : decode cX0_choose 28 = .ok (.iload 6, 2) := by decide +kernel
theorem dX0_choose_30 : decode cX0_choose 30 = .ok (.iadd, 1) := by decide +kernel
theorem dX0_choose_31 : decode cX0_choose 31 = .ok (.iconst 5, 1) := by decide +kernel
theorem dX0_choose_32 : decode cX0_choose 32 = .ok (.irem, 1) := by decide +kernel
theorem dX0_choose_33 : decode cX0_choose 33 = .ok (.istore 7, 2) := by decide +kernel
theorem dX0_choose_35 : decode cX0_choose 35 = .ok (.aload_n 0, 1) := by decide +kernel
theorem dX0_choose_36 : decode cX0_choose 36 = .ok (.iload 7, 2) := by decide +kernel
theorem dX0_choose_38 : decode cX0_choose 38 = .ok (.invokevirtual 44, 3) := by decide +kernel
theorem dX0_choose_41 : decode cX0_choose 41 = .ok (.istore 8, 2) := by decide +kernel
theorem dX0_choose_43 : decode cX0_choose 43 = .ok (.iload_n 2, 1) := by decide +kernel
theorem dX0_choose_44 : decode cX0_choose 44 = .ok (.iload 7, 2) := by decide +kernel
theorem dX0_choose_46 : decode cX0_choose 46 = .ok (.ishr, 1) := by decide +kernel
theorem dX0_choose_47 : decode cX0_choose 47 = .ok (.iconst 1, 1) := by decide +kernel
theorem dX0_choose_48 : decode cX0_choose 48 = .ok (.iand, 1) := by decide +kernel
theorem dX0_choose_49 : decode cX0_choose 49 = .ok (.ifCond .ne 18, 3) := by decide +kernel
theorem dX0_choose_52 : decode cX0_choose 52 = .ok (.iload 8, 2) := by decide +kernel
theorem dX0_choose_54 : decode cX0_choose 54 = .ok (.iload 5, 2) := by decide +kernel
theorem dX0_choose_56 : decode cX0_choose 56 = .ok (.if_icmp .le 11, 3) := by decide +kernel
theorem dX0_choose_59 : decode cX0_choose 59 = .ok (.iload 7, 2) := by decide +kernel
theorem dX0_choose_61 : decode cX0_choose 61 = .ok (.istore 4, 2) := by decide +kernel
theorem dX0_choose_63 : decode cX0_choose 63 = .ok (.iload 8, 2) := by decide +kernel
theorem dX0_choose_65 : decode cX0_choose 65 = .ok (.istore 5, 2) := by decide +kernel
theorem dX0_choose_67 : decode cX0_choose 67 = .ok (.iinc 6 1, 3) := by decide +kernel
theorem dX0_choose_70 : decode cX0_choose 70 = .ok (.goto (-52), 3) := by decide +kernel
theorem dX0_choose_73 : decode cX0_choose 73 = .ok (.iload 4, 2) := by decide +kernel
theorem dX0_choose_75 : decode cX0_choose 75 = .ok (.ifCond .ge 7, 3) := by decide +kernel
theorem dX0_choose_78 : decode cX0_choose 78 = .ok (.iconst 0, 1) := by decide +kernel
theorem dX0_choose_79 : decode cX0_choose 79 = .ok (.goto 5, 3) := by decide +kernel
theorem dX0_choose_82 : decode cX0_choose 82 = .ok (.iload 4, 2) := by decide +kernel
theorem dX0_choose_84 : decode cX0_choose 84 = .ok (.istore 6, 2) := by decide +kernel
theorem dX0_choose_86 : decode cX0_choose 86 = .ok (.aload_n 0, 1) := by decide +kernel
theorem dX0_choose_87 : decode cX0_choose 87 = .ok (.iload 6, 2) := by decide +kernel
theorem dX0_choose_89 : decode cX0_choose 89 = .ok (.invokevirtual 47, 3) := by decide +kernel
theorem dX0_choose_92 : decode cX0_choose 92 = .ok (.istore 7, 2) := by decide +kernel
theorem dX0_choose_94 : decode cX0_choose 94 = .ok (.aload_n 0, 1) := by decide +kernel
theorem dX0_choose_95 : decode cX0_choose 95 = .ok (.getfield 32, 3) := by decide +kernel
theorem dX0_choose_98 : decode cX0_choose 98 = .ok (.iload_n 3, 1) := by decide +kernel
theorem dX0_choose_99 : decode cX0_choose 99 = .ok (.iload 6, 2) := by decide +kernel
theorem dX0_choose_101 : decode cX0_choose 101 = .ok (.bipush 12, 2) := by decide +kernel
theorem dX0_choose_103 : decode cX0_choose 103 = .ok (.imul, 1) := by decide +kernel
theorem dX0_choose_104 : decode cX0_choose 104 = .ok (.iload 7, 2) := by decide +kernel
theorem dX0_choose_106 : decode cX0_choose 106 = .ok (.iadd, 1) := by decide +kernel
theorem dX0_choose_107 : decode cX0_choose 107 = .ok (.iastore, 1) := by decide +kernel
theorem dX0_choose_108 : decode cX0_choose 108 = .ok (.iload_n 2, 1) := by decide +kernel
theorem dX0_choose_109 : decode cX0_choose 109 = .ok (.iconst 1, 1) := by decide +kernel
theorem dX0_choose_110 : decode cX0_choose 110 = .ok (.iload 6, 2) := by decide +kernel
theorem dX0_choose_112 : decode cX0_choose 112 = .ok (.ishl, 1) := by decide +kernel
theorem dX0_choose_113 : decode cX0_choose 113 = .ok (.ior, 1) := by decide +kernel
theorem dX0_choose_114 : decode cX0_choose 114 = .ok (.istore_n 2, 1) := by decide +kernel
theorem dX0_choose_115 : decode cX0_choose 115 = .ok (.iinc 3 1, 3) := by decide +kernel
theorem dX0_choose_118 : decode cX0_choose 118 = .ok (.goto (-114), 3) := by decide +kernel
theorem dX0_choose_121 : decode cX0_choose 121 = .ok (.aload_n 0, 1) := by decide +kernel
theorem dX0_choose_122 : decode cX0_choose 122 = .ok (.aload_n 0, 1) := by decide +kernel
theorem dX0_choose_123 : decode cX0_choose 123 = .ok (.getfield 40, 3) := by decide +kernel
theorem dX0_choose_126 : decode cX0_choose 126 = .ok (.iconst 1, 1) := by decide +kernel
theorem dX0_choose_127 : decode cX0_choose 127 = .ok (.iadd, 1) := by decide +kernel
theorem dX0_choose_128 : decode cX0_choose 128 = .ok (.iconst 5, 1) := by decide +kernel
theorem dX0_choose_129 : decode cX0_choose 129 = .ok (.if_icmp .ne 7, 3) := by decide +kernel
theorem dX0_choose_132 : decode cX0_choose 132 = .ok (.iconst 0, 1) := by decide +kernel
theorem dX0_choose_133 : decode cX0_choose 133 = .ok (.goto 9, 3) := by decide +kernel
theorem dX0_choose_136 : decode cX0_choose 136 = .ok (.aload_n 0, 1) := by decide +kernel
theorem dX0_choose_137 : decode cX0_choose 137 = .ok (.getfield 40, 3) := by decide +kernel
theorem dX0_choose_140 : decode cX0_choose 140 = .ok (.iconst 1, 1) := by decide +kernel
theorem dX0_choose_141 : decode cX0_choose 141 = .ok (.iadd, 1) := by decide +kernel
theorem dX0_choose_142 : decode cX0_choose 142 = .ok (.putfield 40, 3) := by decide +kernel
theorem dX0_choose_145 : decode cX0_choose 145 = .ok (.return_, 1) := by decide +kernel
abbrev cX0_freeRows : ByteArray := prog_1_method_6_code
def yX0_freeRows : MethodName := ⟨RX0, "freeRows", "(I)I"⟩
theorem dX0_freeRows_0 : decode cX0_freeRows 0 = .ok (.iconst 0, 1) := by decide +kernel
theorem dX0_freeRows_1 : decode cX0_freeRows 1 = .ok (.istore_n 2, 1) := by decide +kernel
theorem dX0_freeRows_2 : decode cX0_freeRows 2 = .ok (.iconst 0, 1) := by decide +kernel
theorem dX0_freeRows_3 : decode cX0_freeRows 3 = .ok (.istore_n 3, 1) := by decide +kernel
theorem dX0_freeRows_4 : decode cX0_freeRows 4 = .ok (.iload_n 3, 1) := by decide +kernel
theorem dX0_freeRows_5 : decode cX0_freeRows 5 = .ok (.bipush 12, 2) := by decide +kernel
theorem dX0_freeRows_7 : decode cX0_freeRows 7 = .ok (.if_icmp .ge 26, 3) := by decide +kernel
theorem dX0_freeRows_10 : decode cX0_freeRows 10 = .ok (.aload_n 0, 1) := by decide +kernel
theorem dX0_freeRows_11 : decode cX0_freeRows 11 = .ok (.getfield 13, 3) := by decide +kernel
theorem dX0_freeRows_14 : decode cX0_freeRows 14 = .ok (.iload_n 1, 1) := by decide +kernel
theorem dX0_freeRows_15 : decode cX0_freeRows 15 = .ok (.bipush 12, 2) := by decide +kernel
theorem dX0_freeRows_17 : decode cX0_freeRows 17 = .ok (.imul, 1) := by decide +kernel
theorem dX0_freeRows_18 : decode cX0_freeRows 18 = .ok (.iload_n 3, 1) := by decide +kernel
theorem dX0_freeRows_19 : decode cX0_freeRows 19 = .ok (.iadd, 1) := by decide +kernel
theorem dX0_freeRows_20 : decode cX0_freeRows 20 = .ok (.baload, 1) := by decide +kernel
theorem dX0_freeRows_21 : decode cX0_freeRows 21 = .ok (.ifCond .ne 6, 3) := by decide +kernel
theorem dX0_freeRows_24 : decode cX0_freeRows 24 = .ok (.iinc 2 1, 3) := by decide +kernel
theorem dX0_freeRows_27 : decode cX0_freeRows 27 = .ok (.iinc 3 1, 3) := by decide +kernel
theorem dX0_freeRows_30 : decode cX0_freeRows 30 = .ok (.goto (-26), 3) := by decide +kernel
theorem dX0_freeRows_33 : decode cX0_freeRows 33 = .ok (.iload_n 2, 1) := by decide +kernel
theorem dX0_freeRows_34 : decode cX0_freeRows 34 = .ok (.ireturn, 1) := by decide +kernel
abbrev cX0_freeRow : ByteArray := prog_1_method_5_code
def yX0_freeRow : MethodName := ⟨RX0, "freeRow", "(I)I"⟩
theorem dX0_freeRow_0 : decode cX0_freeRow 0 = .ok (.iconst 0, 1) := by decide +kernel
theorem dX0_freeRow_1 : decode cX0_freeRow 1 = .ok (.istore_n 2, 1) := by decide +kernel
theorem dX0_freeRow_2 : decode cX0_freeRow 2 = .ok (.iload_n 2, 1) := by decide +kernel
theorem dX0_freeRow_3 : decode cX0_freeRow 3 = .ok (.bipush 12, 2) := by decide +kernel
theorem dX0_freeRow_5 : decode cX0_freeRow 5 = .ok (.if_icmp .ge 25, 3) := by decide +kernel
theorem dX0_freeRow_8 : decode cX0_freeRow 8 = .ok (.aload_n 0, 1) := by decide +kernel
theorem dX0_freeRow_9 : decode cX0_freeRow 9 = .ok (.getfield 13, 3) := by decide +kernel
theorem dX0_freeRow_12 : decode cX0_freeRow 12 = .ok (.iload_n 1, 1) := by decide +kernel
theorem dX0_freeRow_13 : decode cX0_freeRow 13 = .ok (.bipush 12, 2) := by decide +kernel
theorem dX0_freeRow_15 : decode cX0_freeRow 15 = .ok (.imul, 1) := by decide +kernel
theorem dX0_freeRow_16 : decode cX0_freeRow 16 = .ok (.iload_n 2, 1) := by decide +kernel
theorem dX0_freeRow_17 : decode cX0_freeRow 17 = .ok (.iadd, 1) := by decide +kernel
theorem dX0_freeRow_18 : decode cX0_freeRow 18 = .ok (.baload, 1) := by decide +kernel
theorem dX0_freeRow_19 : decode cX0_freeRow 19 = .ok (.ifCond .ne 5, 3) := by decide +kernel
theorem dX0_freeRow_22 : decode cX0_freeRow 22 = .ok (.iload_n 2, 1) := by decide +kernel
theorem dX0_freeRow_23 : decode cX0_freeRow 23 = .ok (.ireturn, 1) := by decide +kernel
theorem dX0_freeRow_24 : decode cX0_freeRow 24 = .ok (.iinc 2 1, 3) := by decide +kernel
theorem dX0_freeRow_27 : decode cX0_freeRow 27 = .ok (.goto (-25), 3) := by decide +kernel
theorem dX0_freeRow_30 : decode cX0_freeRow 30 = .ok (.iconst (-1), 1) := by decide +kernel
theorem dX0_freeRow_31 : decode cX0_freeRow 31 = .ok (.ireturn, 1) := by decide +kernel
abbrev cX0_free : ByteArray := prog_1_method_9_code
def yX0_free : MethodName := ⟨RX0, "free", "(I)V"⟩
theorem dX0_free_0 : decode cX0_free 0 = .ok (.aload_n 0, 1) := by decide +kernel
theorem dX0_free_1 : decode cX0_free 1 = .ok (.getfield 17, 3) := by decide +kernel
theorem dX0_free_4 : decode cX0_free 4 = .ok (.iload_n 1, 1) := by decide +kernel
theorem dX0_free_5 : decode cX0_free 5 = .ok (.iaload, 1) := by decide +kernel
theorem dX0_free_6 : decode cX0_free 6 = .ok (.ifCond .ne 4, 3) := by decide +kernel
theorem dX0_free_9 : decode cX0_free 9 = .ok (.return_, 1) := by decide +kernel
theorem dX0_free_10 : decode cX0_free 10 = .ok (.iconst 0, 1) := by decide +kernel
theorem dX0_free_11 : decode cX0_free 11 = .ok (.istore_n 2, 1) := by decide +kernel
theorem dX0_free_12 : decode cX0_free 12 = .ok (.iload_n 2, 1) := by decide +kernel
theorem dX0_free_13 : decode cX0_free 13 = .ok (.aload_n 0, 1) := by decide +kernel
theorem dX0_free_14 : decode cX0_free 14 = .ok (.getfield 17, 3) := by decide +kernel
theorem dX0_free_17 : decode cX0_free 17 = .ok (.iload_n 1, 1) := by decide +kernel
theorem dX0_free_18 : decode cX0_free 18 = .ok (.iaload, 1) := by decide +kernel
theorem dX0_free_19 : decode cX0_free 19 = .ok (.if_icmp .gt 25, 3) := by decide +kernel
theorem dX0_free_22 : decode cX0_free 22 = .ok (.aload_n 0, 1) := by decide +kernel
theorem dX0_free_23 : decode cX0_free 23 = .ok (.getfield 13, 3) := by decide +kernel
theorem dX0_free_26 : decode cX0_free 26 = .ok (.aload_n 0, 1) := by decide +kernel
theorem dX0_free_27 : decode cX0_free 27 = .ok (.getfield 23, 3) := by decide +kernel
theorem dX0_free_30 : decode cX0_free 30 = .ok (.iload_n 1, 1) := by decide +kernel
theorem dX0_free_31 : decode cX0_free 31 = .ok (.iconst 5, 1) := by decide +kernel
theorem dX0_free_32 : decode cX0_free 32 = .ok (.imul, 1) := by decide +kernel
theorem dX0_free_33 : decode cX0_free 33 = .ok (.iload_n 2, 1) := by decide +kernel
theorem dX0_free_34 : decode cX0_free 34 = .ok (.iadd, 1) := by decide +kernel
theorem dX0_free_35 : decode cX0_free 35 = .ok (.iaload, 1) := by decide +kernel
theorem dX0_free_36 : decode cX0_free 36 = .ok (.iconst 0, 1) := by decide +kernel
theorem dX0_free_37 : decode cX0_free 37 = .ok (.bastore, 1) := by decide +kernel
theorem dX0_free_38 : decode cX0_free 38 = .ok (.iinc 2 1, 3) := by decide +kernel
theorem dX0_free_41 : decode cX0_free 41 = .ok (.goto (-29), 3) := by decide +kernel
theorem dX0_free_44 : decode cX0_free 44 = .ok (.aload_n 0, 1) := by decide +kernel
theorem dX0_free_45 : decode cX0_free 45 = .ok (.getfield 17, 3) := by decide +kernel
theorem dX0_free_48 : decode cX0_free 48 = .ok (.iload_n 1, 1) := by decide +kernel
theorem dX0_free_49 : decode cX0_free 49 = .ok (.iconst 0, 1) := by decide +kernel
theorem dX0_free_50 : decode cX0_free 50 = .ok (.iastore, 1) := by decide +kernel
theorem dX0_free_51 : decode cX0_free 51 = .ok (.return_, 1) := by decide +kernel
abbrev cX0_checkOf : ByteArray := prog_1_method_4_code
def yX0_checkOf : MethodName := ⟨RX0, "checkOf", "(I)I"⟩
theorem dX0_checkOf_0 : decode cX0_checkOf 0 = .ok (.iconst 0, 1) := by decide +kernel
theorem dX0_checkOf_1 : decode cX0_checkOf 1 = .ok (.istore_n 2, 1) := by decide +kernel
theorem dX0_checkOf_2 : decode cX0_checkOf 2 = .ok (.iconst 0, 1) := by decide +kernel
theorem dX0_checkOf_3 : decode cX0_checkOf 3 = .ok (.istore_n 3, 1) := by decide +kernel
theorem dX0_checkOf_4 : decode cX0_checkOf 4 = .ok (.iload_n 3, 1) := by decide +kernel
theorem dX0_checkOf_5 : decode cX0_checkOf 5 = .ok (.iload_n 1, 1) := by decide +kernel
theorem dX0_checkOf_6 : decode cX0_checkOf 6 = .ok (.if_icmp .ge 22, 3) := by decide +kernel
theorem dX0_checkOf_9 : decode cX0_checkOf 9 = .ok (.aload_n 0, 1) := by decide +kernel
theorem dX0_checkOf_10 : decode cX0_checkOf 10 = .ok (.iload_n 2, 1) := by decide +kernel
theorem dX0_checkOf_11 : decode cX0_checkOf 11 = .ok (.invokevirtual 36, 3) := by decide +kernel
theorem dX0_checkOf_14 : decode cX0_checkOf 14 = .ok (.aload_n 0, 1) := by decide +kernel
theorem dX0_checkOf_15 : decode cX0_checkOf 15 = .ok (.getfield 29, 3) := by decide +kernel
theorem dX0_checkOf_18 : decode cX0_checkOf 18 = .ok (.iload_n 3, 1) := by decide +kernel
theorem dX0_checkOf_19 : decode cX0_checkOf 19 = .ok (.iaload, 1) := by decide +kernel
theorem dX0_checkOf_20 : decode cX0_checkOf 20 = .ok (.ixor, 1) := by decide +kernel
theorem dX0_checkOf_21 : decode cX0_checkOf 21 = .ok (.istore_n 2, 1) := by decide +kernel
theorem dX0_checkOf_22 : decode cX0_checkOf 22 = .ok (.iinc 3 1, 3) := by decide +kernel
theorem dX0_checkOf_25 : decode cX0_checkOf 25 = .ok (.goto (-21), 3) := by decide +kernel
theorem dX0_checkOf_28 : decode cX0_checkOf 28 = .ok (.iload_n 2, 1) := by decide +kernel
theorem dX0_checkOf_29 : decode cX0_checkOf 29 = .ok (.ireturn, 1) := by decide +kernel
abbrev cX0_fold : ByteArray := prog_1_method_3_code
def yX0_fold : MethodName := ⟨RX0, "fold", "(I)I"⟩
theorem dX0_fold_0 : decode cX0_fold 0 = .ok (.iload_n 1, 1) := by decide +kernel
theorem dX0_fold_1 : decode cX0_fold 1 = .ok (.iconst 1, 1) := by decide +kernel
theorem dX0_fold_2 : decode cX0_fold 2 = .ok (.ishl, 1) := by decide +kernel
theorem dX0_fold_3 : decode cX0_fold 3 = .ok (.istore_n 2, 1) := by decide +kernel
theorem dX0_fold_4 : decode cX0_fold 4 = .ok (.iload_n 1, 1) := by decide +kernel
theorem dX0_fold_5 : decode cX0_fold 5 = .ok (.ifCond .ge 10, 3) := by decide +kernel
theorem dX0_fold_8 : decode cX0_fold 8 = .ok (.iload_n 2, 1) := by decide +kernel
theorem dX0_fold_9 : decode cX0_fold 9 = .ok (.ldc 35, 2) := by decide +kernel
theorem dX0_fold_11 : decode cX0_fold 11 = .ok (.ixor, 1) := by decide +kernel
theorem dX0_fold_12 : decode cX0_fold 12 = .ok (.goto 4, 3) := by decide +kernel
theorem dX0_fold_15 : decode cX0_fold 15 = .ok (.iload_n 2, 1) := by decide +kernel
theorem dX0_fold_16 : decode cX0_fold 16 = .ok (.ireturn, 1) := by decide +kernel
abbrev cX0_delete : ByteArray := prog_1_method_18_code
def yX0_delete : MethodName := ⟨RX0, "delete", "(I)I"⟩
theorem dX0_delete_0 : decode cX0_delete 0 = .ok (.aload_n 0, 1) := by decide +kernel
theorem dX0_delete_1 : decode cX0_delete 1 = .ok (.iload_n 1, 1) := by decide +kernel
theorem dX0_delete_2 : decode cX0_delete 2 = .ok (.invokevirtual 76, 3) := by decide +kernel
theorem dX0_delete_5 : decode cX0_delete 5 = .ok (.ifCond .eq 5, 3) := by decide +kernel
theorem dX0_delete_8 : decode cX0_delete 8 = .ok (.iconst (-1), 1) := by decide +kernel
theorem dX0_delete_9 : decode cX0_delete 9 = .ok (.ireturn, 1) := by decide +kernel
theorem dX0_delete_10 : decode cX0_delete 10 = .ok (.aload_n 0, 1) := by decide +kernel
theorem dX0_delete_11 : decode cX0_delete 11 = .ok (.getfield 17, 3) := by decide +kernel
theorem dX0_delete_14 : decode cX0_delete 14 = .ok (.iload_n 1, 1) := by decide +kernel
theorem dX0_delete_15 : decode cX0_delete 15 = .ok (.iaload, 1) := by decide +kernel
theorem dX0_delete_16 : decode cX0_delete 16 = .ok (.ifCond .ne 6, 3) := by decide +kernel
theorem dX0_delete_19 : decode cX0_delete 19 = .ok (.bipush (-3), 2) := by decide +kernel
theorem dX0_delete_21 : decode cX0_delete 21 = .ok (.ireturn, 1) := by decide +kernel
theorem dX0_delete_22 : decode cX0_delete 22 = .ok (.aload_n 0, 1) := by decide +kernel
theorem dX0_delete_23 : decode cX0_delete 23 = .ok (.getfield 17, 3) := by decide +kernel
theorem dX0_delete_26 : decode cX0_delete 26 = .ok (.iload_n 1, 1) := by decide +kernel
theorem dX0_delete_27 : decode cX0_delete 27 = .ok (.iaload, 1) := by decide +kernel
theorem dX0_delete_28 : decode cX0_delete 28 = .ok (.istore_n 2, 1) := by decide +kernel
theorem dX0_delete_29 : decode cX0_delete 29 = .ok (.aload_n 0, 1) := by decide +kernel
theorem dX0_delete_30 : decode cX0_delete 30 = .ok (.iload_n 1, 1) := by decide +kernel
theorem dX0_delete_31 : decode cX0_delete 31 = .ok (.invokevirtual 54, 3) := by decide +kernel
theorem dX0_delete_34 : decode cX0_delete 34 = .ok (.iload_n 2, 1) := by decide +kernel
theorem dX0_delete_35 : decode cX0_delete 35 = .ok (.ireturn, 1) := by decide +kernel
abbrev cX0_size : ByteArray := prog_1_method_19_code
def yX0_size : MethodName := ⟨RX0, "size", "(I)I"⟩
theorem dX0_size_0 : decode cX0_size 0 = .ok (.aload_n 0, 1) := by decide +kernel
theorem dX0_size_1 : decode cX0_size 1 = .ok (.iload_n 1, 1) := by decide +kernel
theorem dX0_size_2 : decode cX0_size 2 = .ok (.invokevirtual 76, 3) := by decide +kernel
theorem dX0_size_5 : decode cX0_size 5 = .ok (.ifCond .eq 7, 3) := by decide +kernel
theorem dX0_size_8 : decode cX0_size 8 = .ok (.iconst (-1), 1) := by decide +kernel
theorem dX0_size_9 : decode cX0_size 9 = .ok (.goto 9, 3) := by decide +kernel
theorem dX0_size_12 : decode cX0_size 12 = .ok (.aload_n 0, 1) := by decide +kernel
theorem dX0_size_13 : decode cX0_size 13 = .ok (.getfield 17, 3) := by decide +kernel
theorem dX0_size_16 : decode cX0_size 16 = .ok (.iload_n 1, 1) := by decide +kernel
theorem dX0_size_17 : decode cX0_size 17 = .ok (.iaload, 1) := by decide +kernel
theorem dX0_size_18 : decode cX0_size 18 = .ok (.ireturn, 1) := by decide +kernel
abbrev cX0_read : ByteArray := prog_1_method_20_code
def yX0_read : MethodName := ⟨RX0, "read", "(II)I"⟩
theorem dX0_read_0 : decode cX0_read 0 = .ok (.aload_n 0, 1) := by decide +kernel
theorem dX0_read_1 : decode cX0_read 1 = .ok (.iload_n 1, 1) := by decide +kernel
theorem dX0_read_2 : decode cX0_read 2 = .ok (.invokevirtual 76, 3) := by decide +kernel
theorem dX0_read_5 : decode cX0_read 5 = .ok (.ifCond .ne 17, 3) := by decide +kernel
theorem dX0_read_8 : decode cX0_read 8 = .ok (.iload_n 2, 1) := by decide +kernel
theorem dX0_read_9 : decode cX0_read 9 = .ok (.ifCond .lt 13, 3) := by decide +kernel
theorem dX0_read_12 : decode cX0_read 12 = .ok (.iload_n 2, 1) := by decide +kernel
theorem dX0_read_13 : decode cX0_read 13 = .ok (.aload_n 0, 1) := by decide +kernel
theorem dX0_read_14 : decode cX0_read 14 = .ok (.getfield 17, 3) := by decide +kernel
theorem dX0_read_17 : decode cX0_read 17 = .ok (.iload_n 1, 1) := by decide +kernel
theorem dX0_read_18 : decode cX0_read 18 = .ok (.iaload, 1) := by decide +kernel
theorem dX0_read_19 : decode cX0_read 19 = .ok (.if_icmp .lt 5, 3) := by decide +kernel
theorem dX0_read_22 : decode cX0_read 22 = .ok (.iconst 0, 1) := by decide +kernel
theorem dX0_read_23 : decode cX0_read 23 = .ok (.ireturn, 1) := by decide +kernel
theorem dX0_read_24 : decode cX0_read 24 = .ok (.aload_n 0, 1) := by decide +kernel
theorem dX0_read_25 : decode cX0_read 25 = .ok (.iload_n 1, 1) := by decide +kernel
theorem dX0_read_26 : decode cX0_read 26 = .ok (.invokevirtual 67, 3) := by decide +kernel
theorem dX0_read_29 : decode cX0_read 29 = .ok (.istore_n 3, 1) := by decide +kernel
theorem dX0_read_30 : decode cX0_read 30 = .ok (.aload_n 0, 1) := by decide +kernel
theorem dX0_read_31 : decode cX0_read 31 = .ok (.iload_n 1, 1) := by decide +kernel
theorem dX0_read_32 : decode cX0_read 32 = .ok (.iload_n 3, 1) := by decide +kernel
theorem dX0_read_33 : decode cX0_read 33 = .ok (.invokevirtual 84, 3) := by decide +kernel
theorem dX0_read_36 : decode cX0_read 36 = .ok (.aload_n 0, 1) := by decide +kernel
theorem dX0_read_37 : decode cX0_read 37 = .ok (.getfield 29, 3) := by decide +kernel
theorem dX0_read_40 : decode cX0_read 40 = .ok (.iload_n 2, 1) := by decide +kernel
theorem dX0_read_41 : decode cX0_read 41 = .ok (.iaload, 1) := by decide +kernel
theorem dX0_read_42 : decode cX0_read 42 = .ok (.ireturn, 1) := by decide +kernel
end
section
set_option maxRecDepth 100000
abbrev cX0_recover : ByteArray := prog_1_method_12_code
def yX0_recover : MethodName := ⟨RX0, "recover", "(I)I"⟩
theorem dX0_recover_0 : decode cX0_recover 0 = .ok (.aload_n 0, 1) := by decide +kernel
theorem dX0_recover_1 : decode cX0_recover 1 = .ok (.getfield 17, 3) := by decide +kernel
theorem dX0_recover_4 : decode cX0_recover 4 = .ok (.iload_n 1, 1) := by decide +kernel
theorem dX0_recover_5 : decode cX0_recover 5 = .ok (.iaload, 1) := by decide +kernel
theorem dX0_recover_6 : decode cX0_recover 6 = .ok (.istore_n 2, 1) := by decide +kernel
theorem dX0_recover_7 : decode cX0_recover 7 = .ok (.aload_n 0, 1) := by decide +kernel
theorem dX0_recover_8 : decode cX0_recover 8 = .ok (.iload_n 1, 1) := by decide +kernel
theorem dX0_recover_9 : decode cX0_recover 9 = .ok (.invokevirtual 60, 3) := by decide +kernel
theorem dX0_recover_12 : decode cX0_recover 12 = .ok (.aload_n 0, 1) := by decide +kernel
theorem dX0_recover_13 : decode cX0_recover 13 = .ok (.iload_n 2, 1) := by decide +kernel
theorem dX0_recover_14 : decode cX0_recover 14 = .ok (.invokevirtual 57, 3) := by decide +kernel
theorem dX0_recover_17 : decode cX0_recover 17 = .ok (.istore_n 3, 1) := by decide +kernel
theorem dX0_recover_18 : decode cX0_recover 18 = .ok (.iload_n 3, 1) := by decide +kernel
theorem dX0_recover_19 : decode cX0_recover 19 = .ok (.aload_n 0, 1) := by decide +kernel
theorem dX0_recover_20 : decode cX0_recover 20 = .ok (.getfield 20, 3) := by decide +kernel
theorem dX0_recover_23 : decode cX0_recover 23 = .ok (.iload_n 1, 1) := by decide +kernel
theorem dX0_recover_24 : decode cX0_recover 24 = .ok (.iaload, 1) := by decide +kernel
theorem dX0_recover_25 : decode cX0_recover 25 = .ok (.if_icmp .ne 5, 3) := by decide +kernel
theorem dX0_recover_28 : decode cX0_recover 28 = .ok (.iconst (-1), 1) := by decide +kernel
theorem dX0_recover_29 : decode cX0_recover 29 = .ok (.ireturn, 1) := by decide +kernel
theorem dX0_recover_30 : decode cX0_recover 30 = .ok (.iconst 0, 1) := by decide +kernel
theorem dX0_recover_31 : decode cX0_recover 31 = .ok (.istore 4, 2) := by decide +kernel
theorem dX0_recover_33 : decode cX0_recover 33 = .ok (.iload 4, 2) := by decide +kernel
theorem dX0_recover_35 : decode cX0_recover 35 = .ok (.iload_n 2, 1) := by decide +kernel
theorem dX0_recover_36 : decode cX0_recover 36 = .ok (.if_icmp .ge 62, 3) := by decide +kernel
theorem dX0_recover_39 : decode cX0_recover 39 = .ok (.aload_n 0, 1) := by decide +kernel
theorem dX0_recover_40 : decode cX0_recover 40 = .ok (.getfield 29, 3) := by decide +kernel
theorem dX0_recover_43 : decode cX0_recover 43 = .ok (.iload 4, 2) := by decide +kernel
theorem dX0_recover_45 : decode cX0_recover 45 = .ok (.iaload, 1) := by decide +kernel
theorem dX0_recover_46 : decode cX0_recover 46 = .ok (.istore 5, 2) := by decide +kernel
theorem dX0_recover_48 : decode cX0_recover 48 = .ok (.aload_n 0, 1) := by decide +kernel
theorem dX0_recover_49 : decode cX0_recover 49 = .ok (.getfield 29, 3) := by decide +kernel
theorem dX0_recover_52 : decode cX0_recover 52 = .ok (.iload 4, 2) := by decide +kernel
theorem dX0_recover_54 : decode cX0_recover 54 = .ok (.aload_n 0, 1) := by decide +kernel
theorem dX0_recover_55 : decode cX0_recover 55 = .ok (.iload_n 1, 1) := by decide +kernel
theorem dX0_recover_56 : decode cX0_recover 56 = .ok (.iload 4, 2) := by decide +kernel
theorem dX0_recover_58 : decode cX0_recover 58 = .ok (.invokevirtual 63, 3) := by decide +kernel
theorem dX0_recover_61 : decode cX0_recover 61 = .ok (.iastore, 1) := by decide +kernel
theorem dX0_recover_62 : decode cX0_recover 62 = .ok (.aload_n 0, 1) := by decide +kernel
theorem dX0_recover_63 : decode cX0_recover 63 = .ok (.iload_n 2, 1) := by decide +kernel
theorem dX0_recover_64 : decode cX0_recover 64 = .ok (.invokevirtual 57, 3) := by decide +kernel
theorem dX0_recover_67 : decode cX0_recover 67 = .ok (.istore 6, 2) := by decide +kernel
theorem dX0_recover_69 : decode cX0_recover 69 = .ok (.iload 6, 2) := by decide +kernel
theorem dX0_recover_71 : decode cX0_recover 71 = .ok (.aload_n 0, 1) := by decide +kernel
theorem dX0_recover_72 : decode cX0_recover 72 = .ok (.getfield 20, 3) := by decide +kernel
theorem dX0_recover_75 : decode cX0_recover 75 = .ok (.iload_n 1, 1) := by decide +kernel
theorem dX0_recover_76 : decode cX0_recover 76 = .ok (.iaload, 1) := by decide +kernel
theorem dX0_recover_77 : decode cX0_recover 77 = .ok (.if_icmp .ne 6, 3) := by decide +kernel
theorem dX0_recover_80 : decode cX0_recover 80 = .ok (.iload 4, 2) := by decide +kernel
theorem dX0_recover_82 : decode cX0_recover 82 = .ok (.ireturn, 1) := by decide +kernel
theorem dX0_recover_83 : decode cX0_recover 83 = .ok (.aload_n 0, 1) := by decide +kernel
theorem dX0_recover_84 : decode cX0_recover 84 = .ok (.getfield 29, 3) := by decide +kernel
theorem dX0_recover_87 : decode cX0_recover 87 = .ok (.iload 4, 2) := by decide +kernel
theorem dX0_recover_89 : decode cX0_recover 89 = .ok (.iload 5, 2) := by decide +kernel
theorem dX0_recover_91 : decode cX0_recover 91 = .ok (.iastore, 1) := by decide +kernel
theorem dX0_recover_92 : decode cX0_recover 92 = .ok (.iinc 4 1, 3) := by decide +kernel
theorem dX0_recover_95 : decode cX0_recover 95 = .ok (.goto (-62), 3) := by decide +kernel
theorem dX0_recover_98 : decode cX0_recover 98 = .ok (.iconst (-1), 1) := by decide +kernel
theorem dX0_recover_99 : decode cX0_recover 99 = .ok (.ireturn, 1) := by decide +kernel
abbrev cX0_loadWords : ByteArray := prog_1_method_10_code
def yX0_loadWords : MethodName := ⟨RX0, "loadWords", "(I)V"⟩
theorem dX0_loadWords_0 : decode cX0_loadWords 0 = .ok (.iconst 0, 1) := by decide +kernel
theorem dX0_loadWords_1 : decode cX0_loadWords 1 = .ok (.istore_n 2, 1) := by decide +kernel
theorem dX0_loadWords_2 : decode cX0_loadWords 2 = .ok (.iload_n 2, 1) := by decide +kernel
theorem dX0_loadWords_3 : decode cX0_loadWords 3 = .ok (.aload_n 0, 1) := by decide +kernel
theorem dX0_loadWords_4 : decode cX0_loadWords 4 = .ok (.getfield 17, 3) := by decide +kernel
theorem dX0_loadWords_7 : decode cX0_loadWords 7 = .ok (.iload_n 1, 1) := by decide +kernel
theorem dX0_loadWords_8 : decode cX0_loadWords 8 = .ok (.iaload, 1) := by decide +kernel
theorem dX0_loadWords_9 : decode cX0_loadWords 9 = .ok (.if_icmp .ge 30, 3) := by decide +kernel
theorem dX0_loadWords_12 : decode cX0_loadWords 12 = .ok (.aload_n 0, 1) := by decide +kernel
theorem dX0_loadWords_13 : decode cX0_loadWords 13 = .ok (.getfield 29, 3) := by decide +kernel
theorem dX0_loadWords_16 : decode cX0_loadWords 16 = .ok (.iload_n 2, 1) := by decide +kernel
theorem dX0_loadWords_17 : decode cX0_loadWords 17 = .ok (.aload_n 0, 1) := by decide +kernel
theorem dX0_loadWords_18 : decode cX0_loadWords 18 = .ok (.getfield 7, 3) := by decide +kernel
theorem dX0_loadWords_21 : decode cX0_loadWords 21 = .ok (.aload_n 0, 1) := by decide +kernel
theorem dX0_loadWords_22 : decode cX0_loadWords 22 = .ok (.getfield 23, 3) := by decide +kernel
theorem dX0_loadWords_25 : decode cX0_loadWords 25 = .ok (.iload_n 1, 1) := by decide +kernel
theorem dX0_loadWords_26 : decode cX0_loadWords 26 = .ok (.iconst 5, 1) := by decide +kernel
theorem dX0_loadWords_27 : decode cX0_loadWords 27 = .ok (.imul, 1) := by decide +kernel
theorem dX0_loadWords_28 : decode cX0_loadWords 28 = .ok (.iload_n 2, 1) := by decide +kernel
theorem dX0_loadWords_29 : decode cX0_loadWords 29 = .ok (.iadd, 1) := by decide +kernel
theorem dX0_loadWords_30 : decode cX0_loadWords 30 = .ok (.iaload, 1) := by decide +kernel
theorem dX0_loadWords_31 : decode cX0_loadWords 31 = .ok (.iaload, 1) := by decide +kernel
theorem dX0_loadWords_32 : decode cX0_loadWords 32 = .ok (.iastore, 1) := by decide +kernel
theorem dX0_loadWords_33 : decode cX0_loadWords 33 = .ok (.iinc 2 1, 3) := by decide +kernel
theorem dX0_loadWords_36 : decode cX0_loadWords 36 = .ok (.goto (-34), 3) := by decide +kernel
theorem dX0_loadWords_39 : decode cX0_loadWords 39 = .ok (.return_, 1) := by decide +kernel
abbrev cX0_rebuilt : ByteArray := prog_1_method_11_code
def yX0_rebuilt : MethodName := ⟨RX0, "rebuilt", "(II)I"⟩
theorem dX0_rebuilt_0 : decode cX0_rebuilt 0 = .ok (.iconst 0, 1) := by decide +kernel
theorem dX0_rebuilt_1 : decode cX0_rebuilt 1 = .ok (.istore_n 3, 1) := by decide +kernel
theorem dX0_rebuilt_2 : decode cX0_rebuilt 2 = .ok (.iconst 0, 1) := by decide +kernel
theorem dX0_rebuilt_3 : decode cX0_rebuilt 3 = .ok (.istore 4, 2) := by decide +kernel
theorem dX0_rebuilt_5 : decode cX0_rebuilt 5 = .ok (.iload 4, 2) := by decide +kernel
theorem dX0_rebuilt_7 : decode cX0_rebuilt 7 = .ok (.aload_n 0, 1) := by decide +kernel
theorem dX0_rebuilt_8 : decode cX0_rebuilt 8 = .ok (.getfield 17, 3) := by decide +kernel
theorem dX0_rebuilt_11 : decode cX0_rebuilt 11 = .ok (.iload_n 1, 1) := by decide +kernel
theorem dX0_rebuilt_12 : decode cX0_rebuilt 12 = .ok (.iaload, 1) := by decide +kernel
theorem dX0_rebuilt_13 : decode cX0_rebuilt 13 = .ok (.if_icmp .gt 34, 3) := by decide +kernel
theorem dX0_rebuilt_16 : decode cX0_rebuilt 16 = .ok (.iload 4, 2) := by decide +kernel
theorem dX0_rebuilt_18 : decode cX0_rebuilt 18 = .ok (.iload_n 2, 1) := by decide +kernel
theorem dX0_rebuilt_19 : decode cX0_rebuilt 19 = .ok (.if_icmp .eq 22, 3) := by decide +kernel
theorem dX0_rebuilt_22 : decode cX0_rebuilt 22 = .ok (.iload_n 3, 1) := by decide +kernel
theorem dX0_rebuilt_23 : decode cX0_rebuilt 23 = .ok (.aload_n 0, 1) := by decide +kernel
theorem dX0_rebuilt_24 : decode cX0_rebuilt 24 = .ok (.getfield 7, 3) := by decide +kernel
theorem dX0_rebuilt_27 : decode cX0_rebuilt 27 = .ok (.aload_n 0, 1) := by decide +kernel
theorem dX0_rebuilt_28 : decode cX0_rebuilt 28 = .ok (.getfield 23, 3) := by decide +kernel
theorem dX0_rebuilt_31 : decode cX0_rebuilt 31 = .ok (.iload_n 1, 1) := by decide +kernel
theorem dX0_rebuilt_32 : decode cX0_rebuilt 32 = .ok (.iconst 5, 1) := by decide +kernel
theorem dX0_rebuilt_33 : decode cX0_rebuilt 33 = .ok (.imul, 1) := by decide +kernel
theorem dX0_rebuilt_34 : decode cX0_rebuilt 34 = .ok (.iload 4, 2) := by decide +kernel
theorem dX0_rebuilt_36 : decode cX0_rebuilt 36 = .ok (.iadd, 1) := by decide +kernel
theorem dX0_rebuilt_37 : decode cX0_rebuilt 37 = .ok (.iaload, 1) := by decide +kernel
theorem dX0_rebuilt_38 : decode cX0_rebuilt 38 = .ok (.iaload, 1) := by decide +kernel
theorem dX0_rebuilt_39 : decode cX0_rebuilt 39 = .ok (.ixor, 1) := by decide +kernel
theorem dX0_rebuilt_40 : decode cX0_rebuilt 40 = .ok (.istore_n 3, 1) := by decide +kernel
theorem dX0_rebuilt_41 : decode cX0_rebuilt 41 = .ok (.iinc 4 1, 3) := by decide +kernel
theorem dX0_rebuilt_44 : decode cX0_rebuilt 44 = .ok (.goto (-39), 3) := by decide +kernel
theorem dX0_rebuilt_47 : decode cX0_rebuilt 47 = .ok (.iload_n 3, 1) := by decide +kernel
theorem dX0_rebuilt_48 : decode cX0_rebuilt 48 = .ok (.ireturn, 1) := by decide +kernel
abbrev cX0_mendData : ByteArray := prog_1_method_14_code
def yX0_mendData : MethodName := ⟨RX0, "mendData", "(II)V"⟩
theorem dX0_mendData_0 : decode cX0_mendData 0 = .ok (.iload_n 2, 1) := by decide +kernel
theorem dX0_mendData_1 : decode cX0_mendData 1 = .ok (.ifCond .lt 34, 3) := by decide +kernel
theorem dX0_mendData_4 : decode cX0_mendData 4 = .ok (.aload_n 0, 1) := by decide +kernel
theorem dX0_mendData_5 : decode cX0_mendData 5 = .ok (.getfield 7, 3) := by decide +kernel
theorem dX0_mendData_8 : decode cX0_mendData 8 = .ok (.aload_n 0, 1) := by decide +kernel
theorem dX0_mendData_9 : decode cX0_mendData 9 = .ok (.getfield 23, 3) := by decide +kernel
theorem dX0_mendData_12 : decode cX0_mendData 12 = .ok (.iload_n 1, 1) := by decide +kernel
theorem dX0_mendData_13 : decode cX0_mendData 13 = .ok (.iconst 5, 1) := by decide +kernel
theorem dX0_mendData_14 : decode cX0_mendData 14 = .ok (.imul, 1) := by decide +kernel
theorem dX0_mendData_15 : decode cX0_mendData 15 = .ok (.iload_n 2, 1) := by decide +kernel
theorem dX0_mendData_16 : decode cX0_mendData 16 = .ok (.iadd, 1) := by decide +kernel
theorem dX0_mendData_17 : decode cX0_mendData 17 = .ok (.iaload, 1) := by decide +kernel
theorem dX0_mendData_18 : decode cX0_mendData 18 = .ok (.aload_n 0, 1) := by decide +kernel
theorem dX0_mendData_19 : decode cX0_mendData 19 = .ok (.getfield 29, 3) := by decide +kernel
theorem dX0_mendData_22 : decode cX0_mendData 22 = .ok (.iload_n 2, 1) := by decide +kernel
theorem dX0_mendData_23 : decode cX0_mendData 23 = .ok (.iaload, 1) := by decide +kernel
theorem dX0_mendData_24 : decode cX0_mendData 24 = .ok (.iastore, 1) := by decide +kernel
theorem dX0_mendData_25 : decode cX0_mendData 25 = .ok (.aload_n 0, 1) := by decide +kernel
theorem dX0_mendData_26 : decode cX0_mendData 26 = .ok (.dup, 1) := by decide +kernel
theorem dX0_mendData_27 : decode cX0_mendData 27 = .ok (.getfield 70, 3) := by decide +kernel
theorem dX0_mendData_30 : decode cX0_mendData 30 = .ok (.iconst 1, 1) := by decide +kernel
theorem dX0_mendData_31 : decode cX0_mendData 31 = .ok (.iadd, 1) := by decide +kernel
theorem dX0_mendData_32 : decode cX0_mendData 32 = .ok (.putfield 70, 3) := by decide +kernel
theorem dX0_mendData_35 : decode cX0_mendData 35 = .ok (.return_, 1) := by decide +kernel
abbrev cX0_damage : ByteArray := prog_1_method_21_code
def yX0_damage : MethodName := ⟨RX0, "damage", "(III)I"⟩
theorem dX0_damage_0 : decode cX0_damage 0 = .ok (.aload_n 0, 1) := by decide +kernel
theorem dX0_damage_1 : decode cX0_damage 1 = .ok (.iload_n 1, 1) := by decide +kernel
theorem dX0_damage_2 : decode cX0_damage 2 = .ok (.invokevirtual 76, 3) := by decide +kernel
theorem dX0_damage_5 : decode cX0_damage 5 = .ok (.ifCond .eq 5, 3) := by decide +kernel
theorem dX0_damage_8 : decode cX0_damage 8 = .ok (.iconst (-1), 1) := by decide +kernel
theorem dX0_damage_9 : decode cX0_damage 9 = .ok (.ireturn, 1) := by decide +kernel
theorem dX0_damage_10 : decode cX0_damage 10 = .ok (.aload_n 0, 1) := by decide +kernel
theorem dX0_damage_11 : decode cX0_damage 11 = .ok (.getfield 17, 3) := by decide +kernel
theorem dX0_damage_14 : decode cX0_damage 14 = .ok (.iload_n 1, 1) := by decide +kernel
theorem dX0_damage_15 : decode cX0_damage 15 = .ok (.iaload, 1) := by decide +kernel
theorem dX0_damage_16 : decode cX0_damage 16 = .ok (.ifCond .ne 6, 3) := by decide +kernel
theorem dX0_damage_19 : decode cX0_damage 19 = .ok (.bipush (-3), 2) := by decide +kernel
theorem dX0_damage_21 : decode cX0_damage 21 = .ok (.ireturn, 1) := by decide +kernel
theorem dX0_damage_22 : decode cX0_damage 22 = .ok (.iload_n 2, 1) := by decide +kernel
theorem dX0_damage_23 : decode cX0_damage 23 = .ok (.ifCond .lt 13, 3) := by decide +kernel
theorem dX0_damage_26 : decode cX0_damage 26 = .ok (.iload_n 2, 1) := by decide +kernel
theorem dX0_damage_27 : decode cX0_damage 27 = .ok (.aload_n 0, 1) := by decide +kernel
theorem dX0_damage_28 : decode cX0_damage 28 = .ok (.getfield 17, 3) := by decide +kernel
theorem dX0_damage_31 : decode cX0_damage 31 = .ok (.iload_n 1, 1) := by decide +kernel
theorem dX0_damage_32 : decode cX0_damage 32 = .ok (.iaload, 1) := by decide +kernel
theorem dX0_damage_33 : decode cX0_damage 33 = .ok (.if_icmp .le 5, 3) := by decide +kernel
theorem dX0_damage_36 : decode cX0_damage 36 = .ok (.iconst (-1), 1) := by decide +kernel
theorem dX0_damage_37 : decode cX0_damage 37 = .ok (.ireturn, 1) := by decide +kernel
theorem dX0_damage_38 : decode cX0_damage 38 = .ok (.aload_n 0, 1) := by decide +kernel
theorem dX0_damage_39 : decode cX0_damage 39 = .ok (.iload_n 1, 1) := by decide +kernel
theorem dX0_damage_40 : decode cX0_damage 40 = .ok (.invokevirtual 87, 3) := by decide +kernel
theorem dX0_damage_43 : decode cX0_damage 43 = .ok (.istore 4, 2) := by decide +kernel
theorem dX0_damage_45 : decode cX0_damage 45 = .ok (.iload 4, 2) := by decide +kernel
theorem dX0_damage_47 : decode cX0_damage 47 = .ok (.bipush (-5), 2) := by decide +kernel
theorem dX0_damage_49 : decode cX0_damage 49 = .ok (.if_icmp .eq 12, 3) := by decide +kernel
theorem dX0_damage_52 : decode cX0_damage 52 = .ok (.iload 4, 2) := by decide +kernel
theorem dX0_damage_54 : decode cX0_damage 54 = .ok (.iload_n 2, 1) := by decide +kernel
theorem dX0_damage_55 : decode cX0_damage 55 = .ok (.if_icmp .eq 6, 3) := by decide +kernel
theorem dX0_damage_58 : decode cX0_damage 58 = .ok (.bipush (-4), 2) := by decide +kernel
theorem dX0_damage_60 : decode cX0_damage 60 = .ok (.ireturn, 1) := by decide +kernel
theorem dX0_damage_61 : decode cX0_damage 61 = .ok (.aload_n 0, 1) := by decide +kernel
theorem dX0_damage_62 : decode cX0_damage 62 = .ok (.getfield 23, 3) := by decide +kernel
theorem dX0_damage_65 : decode cX0_damage 65 = .ok (.iload_n 1, 1) := by decide +kernel
theorem dX0_damage_66 : decode cX0_damage 66 = .ok (.iconst 5, 1) := by decide +kernel
theorem dX0_damage_67 : decode cX0_damage 67 = .ok (.imul, 1) := by decide +kernel
theorem dX0_damage_68 : decode cX0_damage 68 = .ok (.iload_n 2, 1) := by decide +kernel
theorem dX0_damage_69 : decode cX0_damage 69 = .ok (.iadd, 1) := by decide +kernel
theorem dX0_damage_70 : decode cX0_damage 70 = .ok (.iaload, 1) := by decide +kernel
theorem dX0_damage_71 : decode cX0_damage 71 = .ok (.istore 5, 2) := by decide +kernel
theorem dX0_damage_73 : decode cX0_damage 73 = .ok (.aload_n 0, 1) := by decide +kernel
theorem dX0_damage_74 : decode cX0_damage 74 = .ok (.getfield 7, 3) := by decide +kernel
theorem dX0_damage_77 : decode cX0_damage 77 = .ok (.iload 5, 2) := by decide +kernel
theorem dX0_damage_79 : decode cX0_damage 79 = .ok (.aload_n 0, 1) := by decide +kernel
theorem dX0_damage_80 : decode cX0_damage 80 = .ok (.getfield 7, 3) := by decide +kernel
theorem dX0_damage_83 : decode cX0_damage 83 = .ok (.iload 5, 2) := by decide +kernel
theorem dX0_damage_85 : decode cX0_damage 85 = .ok (.iaload, 1) := by decide +kernel
theorem dX0_damage_86 : decode cX0_damage 86 = .ok (.iload_n 3, 1) := by decide +kernel
theorem dX0_damage_87 : decode cX0_damage 87 = .ok (.ixor, 1) := by decide +kernel
theorem dX0_damage_88 : decode cX0_damage 88 = .ok (.iastore, 1) := by decide +kernel
theorem dX0_damage_89 : decode cX0_damage 89 = .ok (.aload_n 0, 1) := by decide +kernel
theorem dX0_damage_90 : decode cX0_damage 90 = .ok (.iload_n 1, 1) := by decide +kernel
theorem dX0_damage_91 : decode cX0_damage 91 = .ok (.invokevirtual 87, 3) := by decide +kernel
theorem dX0_damage_94 : decode cX0_damage 94 = .ok (.istore 6, 2) := by decide +kernel
theorem dX0_damage_96 : decode cX0_damage 96 = .ok (.iload 6, 2) := by decide +kernel
theorem dX0_damage_98 : decode cX0_damage 98 = .ok (.iload_n 2, 1) := by decide +kernel
theorem dX0_damage_99 : decode cX0_damage 99 = .ok (.if_icmp .ne 7, 3) := by decide +kernel
theorem dX0_damage_102 : decode cX0_damage 102 = .ok (.iconst 1, 1) := by decide +kernel
theorem dX0_damage_103 : decode cX0_damage 103 = .ok (.goto 4, 3) := by decide +kernel
theorem dX0_damage_106 : decode cX0_damage 106 = .ok (.iconst 0, 1) := by decide +kernel
theorem dX0_damage_107 : decode cX0_damage 107 = .ok (.ireturn, 1) := by decide +kernel
abbrev cX0_faulty : ByteArray := prog_1_method_13_code
def yX0_faulty : MethodName := ⟨RX0, "faulty", "(I)I"⟩
theorem dX0_faulty_0 : decode cX0_faulty 0 = .ok (.aload_n 0, 1) := by decide +kernel
theorem dX0_faulty_1 : decode cX0_faulty 1 = .ok (.iload_n 1, 1) := by decide +kernel
theorem dX0_faulty_2 : decode cX0_faulty 2 = .ok (.invokevirtual 67, 3) := by decide +kernel
theorem dX0_faulty_5 : decode cX0_faulty 5 = .ok (.istore_n 2, 1) := by decide +kernel
theorem dX0_faulty_6 : decode cX0_faulty 6 = .ok (.iload_n 2, 1) := by decide +kernel
theorem dX0_faulty_7 : decode cX0_faulty 7 = .ok (.ifCond .lt 5, 3) := by decide +kernel
theorem dX0_faulty_10 : decode cX0_faulty 10 = .ok (.iload_n 2, 1) := by decide +kernel
theorem dX0_faulty_11 : decode cX0_faulty 11 = .ok (.ireturn, 1) := by decide +kernel
theorem dX0_faulty_12 : decode cX0_faulty 12 = .ok (.aload_n 0, 1) := by decide +kernel
theorem dX0_faulty_13 : decode cX0_faulty 13 = .ok (.iload_n 1, 1) := by decide +kernel
theorem dX0_faulty_14 : decode cX0_faulty 14 = .ok (.aload_n 0, 1) := by decide +kernel
theorem dX0_faulty_15 : decode cX0_faulty 15 = .ok (.getfield 17, 3) := by decide +kernel
theorem dX0_faulty_18 : decode cX0_faulty 18 = .ok (.iload_n 1, 1) := by decide +kernel
theorem dX0_faulty_19 : decode cX0_faulty 19 = .ok (.iaload, 1) := by decide +kernel
theorem dX0_faulty_20 : decode cX0_faulty 20 = .ok (.invokevirtual 63, 3) := by decide +kernel
theorem dX0_faulty_23 : decode cX0_faulty 23 = .ok (.istore_n 3, 1) := by decide +kernel
theorem dX0_faulty_24 : decode cX0_faulty 24 = .ok (.iload_n 3, 1) := by decide +kernel
theorem dX0_faulty_25 : decode cX0_faulty 25 = .ok (.aload_n 0, 1) := by decide +kernel
theorem dX0_faulty_26 : decode cX0_faulty 26 = .ok (.getfield 7, 3) := by decide +kernel
theorem dX0_faulty_29 : decode cX0_faulty 29 = .ok (.aload_n 0, 1) := by decide +kernel
theorem dX0_faulty_30 : decode cX0_faulty 30 = .ok (.getfield 23, 3) := by decide +kernel
theorem dX0_faulty_33 : decode cX0_faulty 33 = .ok (.iload_n 1, 1) := by decide +kernel
theorem dX0_faulty_34 : decode cX0_faulty 34 = .ok (.iconst 5, 1) := by decide +kernel
theorem dX0_faulty_35 : decode cX0_faulty 35 = .ok (.imul, 1) := by decide +kernel
theorem dX0_faulty_36 : decode cX0_faulty 36 = .ok (.aload_n 0, 1) := by decide +kernel
theorem dX0_faulty_37 : decode cX0_faulty 37 = .ok (.getfield 17, 3) := by decide +kernel
theorem dX0_faulty_40 : decode cX0_faulty 40 = .ok (.iload_n 1, 1) := by decide +kernel
theorem dX0_faulty_41 : decode cX0_faulty 41 = .ok (.iaload, 1) := by decide +kernel
theorem dX0_faulty_42 : decode cX0_faulty 42 = .ok (.iadd, 1) := by decide +kernel
theorem dX0_faulty_43 : decode cX0_faulty 43 = .ok (.iaload, 1) := by decide +kernel
theorem dX0_faulty_44 : decode cX0_faulty 44 = .ok (.iaload, 1) := by decide +kernel
theorem dX0_faulty_45 : decode cX0_faulty 45 = .ok (.if_icmp .ne 8, 3) := by decide +kernel
theorem dX0_faulty_48 : decode cX0_faulty 48 = .ok (.bipush (-5), 2) := by decide +kernel
theorem dX0_faulty_50 : decode cX0_faulty 50 = .ok (.goto 9, 3) := by decide +kernel
theorem dX0_faulty_53 : decode cX0_faulty 53 = .ok (.aload_n 0, 1) := by decide +kernel
theorem dX0_faulty_54 : decode cX0_faulty 54 = .ok (.getfield 17, 3) := by decide +kernel
theorem dX0_faulty_57 : decode cX0_faulty 57 = .ok (.iload_n 1, 1) := by decide +kernel
theorem dX0_faulty_58 : decode cX0_faulty 58 = .ok (.iaload, 1) := by decide +kernel
theorem dX0_faulty_59 : decode cX0_faulty 59 = .ok (.ireturn, 1) := by decide +kernel
abbrev cX0_damaged : ByteArray := prog_1_method_22_code
def yX0_damaged : MethodName := ⟨RX0, "damaged", "(I)I"⟩
theorem dX0_damaged_0 : decode cX0_damaged 0 = .ok (.aload_n 0, 1) := by decide +kernel
theorem dX0_damaged_1 : decode cX0_damaged 1 = .ok (.iload_n 1, 1) := by decide +kernel
theorem dX0_damaged_2 : decode cX0_damaged 2 = .ok (.invokevirtual 76, 3) := by decide +kernel
theorem dX0_damaged_5 : decode cX0_damaged 5 = .ok (.ifCond .eq 5, 3) := by decide +kernel
theorem dX0_damaged_8 : decode cX0_damaged 8 = .ok (.iconst (-1), 1) := by decide +kernel
theorem dX0_damaged_9 : decode cX0_damaged 9 = .ok (.ireturn, 1) := by decide +kernel
theorem dX0_damaged_10 : decode cX0_damaged 10 = .ok (.aload_n 0, 1) := by decide +kernel
theorem dX0_damaged_11 : decode cX0_damaged 11 = .ok (.getfield 17, 3) := by decide +kernel
theorem dX0_damaged_14 : decode cX0_damaged 14 = .ok (.iload_n 1, 1) := by decide +kernel
theorem dX0_damaged_15 : decode cX0_damaged 15 = .ok (.iaload, 1) := by decide +kernel
theorem dX0_damaged_16 : decode cX0_damaged 16 = .ok (.ifCond .ne 8, 3) := by decide +kernel
theorem dX0_damaged_19 : decode cX0_damaged 19 = .ok (.bipush (-3), 2) := by decide +kernel
theorem dX0_damaged_21 : decode cX0_damaged 21 = .ok (.goto 8, 3) := by decide +kernel
theorem dX0_damaged_24 : decode cX0_damaged 24 = .ok (.aload_n 0, 1) := by decide +kernel
theorem dX0_damaged_25 : decode cX0_damaged 25 = .ok (.iload_n 1, 1) := by decide +kernel
theorem dX0_damaged_26 : decode cX0_damaged 26 = .ok (.invokevirtual 87, 3) := by decide +kernel
theorem dX0_damaged_29 : decode cX0_damaged 29 = .ok (.ireturn, 1) := by decide +kernel
abbrev cX0_scrub : ByteArray := prog_1_method_23_code
def yX0_scrub : MethodName := ⟨RX0, "scrub", "()I"⟩
theorem dX0_scrub_0 : decode cX0_scrub 0 = .ok (.aload_n 0, 1) := by decide +kernel
theorem dX0_scrub_1 : decode cX0_scrub 1 = .ok (.getfield 70, 3) := by decide +kernel
theorem dX0_scrub_4 : decode cX0_scrub 4 = .ok (.istore_n 1, 1) := by decide +kernel
theorem dX0_scrub_5 : decode cX0_scrub 5 = .ok (.iconst 0, 1) := by decide +kernel
theorem dX0_scrub_6 : decode cX0_scrub 6 = .ok (.istore_n 2, 1) := by decide +kernel
theorem dX0_scrub_7 : decode cX0_scrub 7 = .ok (.iload_n 2, 1) := by decide +kernel
theorem dX0_scrub_8 : decode cX0_scrub 8 = .ok (.bipush 8, 2) := by decide +kernel
theorem dX0_scrub_10 : decode cX0_scrub 10 = .ok (.if_icmp .ge 23, 3) := by decide +kernel
theorem dX0_scrub_13 : decode cX0_scrub 13 = .ok (.aload_n 0, 1) := by decide +kernel
theorem dX0_scrub_14 : decode cX0_scrub 14 = .ok (.getfield 17, 3) := by decide +kernel
theorem dX0_scrub_17 : decode cX0_scrub 17 = .ok (.iload_n 2, 1) := by decide +kernel
theorem dX0_scrub_18 : decode cX0_scrub 18 = .ok (.iaload, 1) := by decide +kernel
theorem dX0_scrub_19 : decode cX0_scrub 19 = .ok (.ifCond .le 8, 3) := by decide +kernel
theorem dX0_scrub_22 : decode cX0_scrub 22 = .ok (.aload_n 0, 1) := by decide +kernel
theorem dX0_scrub_23 : decode cX0_scrub 23 = .ok (.iload_n 2, 1) := by decide +kernel
theorem dX0_scrub_24 : decode cX0_scrub 24 = .ok (.invokevirtual 90, 3) := by decide +kernel
theorem dX0_scrub_27 : decode cX0_scrub 27 = .ok (.iinc 2 1, 3) := by decide +kernel
theorem dX0_scrub_30 : decode cX0_scrub 30 = .ok (.goto (-23), 3) := by decide +kernel
theorem dX0_scrub_33 : decode cX0_scrub 33 = .ok (.aload_n 0, 1) := by decide +kernel
theorem dX0_scrub_34 : decode cX0_scrub 34 = .ok (.getfield 70, 3) := by decide +kernel
theorem dX0_scrub_37 : decode cX0_scrub 37 = .ok (.iload_n 1, 1) := by decide +kernel
theorem dX0_scrub_38 : decode cX0_scrub 38 = .ok (.isub, 1) := by decide +kernel
theorem dX0_scrub_39 : decode cX0_scrub 39 = .ok (.ireturn, 1) := by decide +kernel
abbrev cX0_scrubOne : ByteArray := prog_1_method_24_code
def yX0_scrubOne : MethodName := ⟨RX0, "scrubOne", "(I)V"⟩
theorem dX0_scrubOne_0 : decode cX0_scrubOne 0 = .ok (.aload_n 0, 1) := by decide +kernel
theorem dX0_scrubOne_1 : decode cX0_scrubOne 1 = .ok (.iload_n 1, 1) := by decide +kernel
theorem dX0_scrubOne_2 : decode cX0_scrubOne 2 = .ok (.invokevirtual 87, 3) := by decide +kernel
theorem dX0_scrubOne_5 : decode cX0_scrubOne 5 = .ok (.istore_n 2, 1) := by decide +kernel
theorem dX0_scrubOne_6 : decode cX0_scrubOne 6 = .ok (.iload_n 2, 1) := by decide +kernel
theorem dX0_scrubOne_7 : decode cX0_scrubOne 7 = .ok (.aload_n 0, 1) := by decide +kernel
theorem dX0_scrubOne_8 : decode cX0_scrubOne 8 = .ok (.getfield 17, 3) := by decide +kernel
theorem dX0_scrubOne_11 : decode cX0_scrubOne 11 = .ok (.iload_n 1, 1) := by decide +kernel
theorem dX0_scrubOne_12 : decode cX0_scrubOne 12 = .ok (.iaload, 1) := by decide +kernel
theorem dX0_scrubOne_13 : decode cX0_scrubOne 13 = .ok (.if_icmp .ne 37, 3) := by decide +kernel
theorem dX0_scrubOne_16 : decode cX0_scrubOne 16 = .ok (.aload_n 0, 1) := by decide +kernel
theorem dX0_scrubOne_17 : decode cX0_scrubOne 17 = .ok (.getfield 7, 3) := by decide +kernel
theorem dX0_scrubOne_20 : decode cX0_scrubOne 20 = .ok (.aload_n 0, 1) := by decide +kernel
theorem dX0_scrubOne_21 : decode cX0_scrubOne 21 = .ok (.getfield 23, 3) := by decide +kernel
theorem dX0_scrubOne_24 : decode cX0_scrubOne 24 = .ok (.iload_n 1, 1) := by decide +kernel
theorem dX0_scrubOne_25 : decode cX0_scrubOne 25 = .ok (.iconst 5, 1) := by decide +kernel
theorem dX0_scrubOne_26 : decode cX0_scrubOne 26 = .ok (.imul, 1) := by decide +kernel
theorem dX0_scrubOne_27 : decode cX0_scrubOne 27 = .ok (.iload_n 2, 1) := by decide +kernel
theorem dX0_scrubOne_28 : decode cX0_scrubOne 28 = .ok (.iadd, 1) := by decide +kernel
theorem dX0_scrubOne_29 : decode cX0_scrubOne 29 = .ok (.iaload, 1) := by decide +kernel
theorem dX0_scrubOne_30 : decode cX0_scrubOne 30 = .ok (.aload_n 0, 1) := by decide +kernel
theorem dX0_scrubOne_31 : decode cX0_scrubOne 31 = .ok (.iload_n 1, 1) := by decide +kernel
theorem dX0_scrubOne_32 : decode cX0_scrubOne 32 = .ok (.iload_n 2, 1) := by decide +kernel
theorem dX0_scrubOne_33 : decode cX0_scrubOne 33 = .ok (.invokevirtual 63, 3) := by decide +kernel
theorem dX0_scrubOne_36 : decode cX0_scrubOne 36 = .ok (.iastore, 1) := by decide +kernel
theorem dX0_scrubOne_37 : decode cX0_scrubOne 37 = .ok (.aload_n 0, 1) := by decide +kernel
theorem dX0_scrubOne_38 : decode cX0_scrubOne 38 = .ok (.dup, 1) := by decide +kernel
theorem dX0_scrubOne_39 : decode cX0_scrubOne 39 = .ok (.getfield 70, 3) := by decide +kernel
theorem dX0_scrubOne_42 : decode cX0_scrubOne 42 = .ok (.iconst 1, 1) := by decide +kernel
theorem dX0_scrubOne_43 : decode cX0_scrubOne 43 = .ok (.iadd, 1) := by decide +kernel
theorem dX0_scrubOne_44 : decode cX0_scrubOne 44 = .ok (.putfield 70, 3) := by decide +kernel
theorem dX0_scrubOne_47 : decode cX0_scrubOne 47 = .ok (.goto 9, 3) := by decide +kernel
theorem dX0_scrubOne_50 : decode cX0_scrubOne 50 = .ok (.aload_n 0, 1) := by decide +kernel
theorem dX0_scrubOne_51 : decode cX0_scrubOne 51 = .ok (.iload_n 1, 1) := by decide +kernel
theorem dX0_scrubOne_52 : decode cX0_scrubOne 52 = .ok (.iload_n 2, 1) := by decide +kernel
theorem dX0_scrubOne_53 : decode cX0_scrubOne 53 = .ok (.invokevirtual 84, 3) := by decide +kernel
theorem dX0_scrubOne_56 : decode cX0_scrubOne 56 = .ok (.return_, 1) := by decide +kernel
abbrev cX0_healed : ByteArray := prog_1_method_25_code
def yX0_healed : MethodName := ⟨RX0, "healed", "()I"⟩
theorem dX0_healed_0 : decode cX0_healed 0 = .ok (.aload_n 0, 1) := by decide +kernel
theorem dX0_healed_1 : decode cX0_healed 1 = .ok (.getfield 70, 3) := by decide +kernel
theorem dX0_healed_4 : decode cX0_healed 4 = .ok (.ireturn, 1) := by decide +kernel
abbrev cX0_lose : ByteArray := prog_1_method_27_code
def yX0_lose : MethodName := ⟨RX0, "lose", "(I)I"⟩
theorem dX0_lose_0 : decode cX0_lose 0 = .ok (.iload_n 1, 1) := by decide +kernel
theorem dX0_lose_1 : decode cX0_lose 1 = .ok (.ifCond .lt 8, 3) := by decide +kernel
theorem dX0_lose_4 : decode cX0_lose 4 = .ok (.iload_n 1, 1) := by decide +kernel
theorem dX0_lose_5 : decode cX0_lose 5 = .ok (.iconst 5, 1) := by decide +kernel
theorem dX0_lose_6 : decode cX0_lose 6 = .ok (.if_icmp .lt 5, 3) := by decide +kernel
theorem dX0_lose_9 : decode cX0_lose 9 = .ok (.iconst (-1), 1) := by decide +kernel
theorem dX0_lose_10 : decode cX0_lose 10 = .ok (.ireturn, 1) := by decide +kernel
theorem dX0_lose_11 : decode cX0_lose 11 = .ok (.aload_n 0, 1) := by decide +kernel
theorem dX0_lose_12 : decode cX0_lose 12 = .ok (.invokevirtual 93, 3) := by decide +kernel
theorem dX0_lose_15 : decode cX0_lose 15 = .ok (.istore_n 2, 1) := by decide +kernel
theorem dX0_lose_16 : decode cX0_lose 16 = .ok (.iload_n 2, 1) := by decide +kernel
theorem dX0_lose_17 : decode cX0_lose 17 = .ok (.ifCond .eq 6, 3) := by decide +kernel
theorem dX0_lose_20 : decode cX0_lose 20 = .ok (.bipush (-4), 2) := by decide +kernel
theorem dX0_lose_22 : decode cX0_lose 22 = .ok (.ireturn, 1) := by decide +kernel
theorem dX0_lose_23 : decode cX0_lose 23 = .ok (.iconst 0, 1) := by decide +kernel
theorem dX0_lose_24 : decode cX0_lose 24 = .ok (.istore_n 3, 1) := by decide +kernel
theorem dX0_lose_25 : decode cX0_lose 25 = .ok (.iload_n 3, 1) := by decide +kernel
theorem dX0_lose_26 : decode cX0_lose 26 = .ok (.bipush 12, 2) := by decide +kernel
theorem dX0_lose_28 : decode cX0_lose 28 = .ok (.if_icmp .ge 23, 3) := by decide +kernel
theorem dX0_lose_31 : decode cX0_lose 31 = .ok (.aload_n 0, 1) := by decide +kernel
theorem dX0_lose_32 : decode cX0_lose 32 = .ok (.getfield 7, 3) := by decide +kernel
theorem dX0_lose_35 : decode cX0_lose 35 = .ok (.iload_n 1, 1) := by decide +kernel
theorem dX0_lose_36 : decode cX0_lose 36 = .ok (.bipush 12, 2) := by decide +kernel
theorem dX0_lose_38 : decode cX0_lose 38 = .ok (.imul, 1) := by decide +kernel
theorem dX0_lose_39 : decode cX0_lose 39 = .ok (.iload_n 3, 1) := by decide +kernel
theorem dX0_lose_40 : decode cX0_lose 40 = .ok (.iadd, 1) := by decide +kernel
theorem dX0_lose_41 : decode cX0_lose 41 = .ok (.iconst (-1), 1) := by decide +kernel
theorem dX0_lose_42 : decode cX0_lose 42 = .ok (.iload_n 3, 1) := by decide +kernel
theorem dX0_lose_43 : decode cX0_lose 43 = .ok (.isub, 1) := by decide +kernel
theorem dX0_lose_44 : decode cX0_lose 44 = .ok (.iastore, 1) := by decide +kernel
theorem dX0_lose_45 : decode cX0_lose 45 = .ok (.iinc 3 1, 3) := by decide +kernel
theorem dX0_lose_48 : decode cX0_lose 48 = .ok (.goto (-23), 3) := by decide +kernel
theorem dX0_lose_51 : decode cX0_lose 51 = .ok (.iconst 0, 1) := by decide +kernel
theorem dX0_lose_52 : decode cX0_lose 52 = .ok (.istore_n 3, 1) := by decide +kernel
theorem dX0_lose_53 : decode cX0_lose 53 = .ok (.iload_n 3, 1) := by decide +kernel
theorem dX0_lose_54 : decode cX0_lose 54 = .ok (.bipush 8, 2) := by decide +kernel
theorem dX0_lose_56 : decode cX0_lose 56 = .ok (.if_icmp .ge 24, 3) := by decide +kernel
theorem dX0_lose_59 : decode cX0_lose 59 = .ok (.aload_n 0, 1) := by decide +kernel
theorem dX0_lose_60 : decode cX0_lose 60 = .ok (.getfield 17, 3) := by decide +kernel
theorem dX0_lose_63 : decode cX0_lose 63 = .ok (.iload_n 3, 1) := by decide +kernel
theorem dX0_lose_64 : decode cX0_lose 64 = .ok (.iaload, 1) := by decide +kernel
theorem dX0_lose_65 : decode cX0_lose 65 = .ok (.ifCond .le 9, 3) := by decide +kernel
theorem dX0_lose_68 : decode cX0_lose 68 = .ok (.aload_n 0, 1) := by decide +kernel
theorem dX0_lose_69 : decode cX0_lose 69 = .ok (.iload_n 3, 1) := by decide +kernel
theorem dX0_lose_70 : decode cX0_lose 70 = .ok (.iload_n 1, 1) := by decide +kernel
theorem dX0_lose_71 : decode cX0_lose 71 = .ok (.invokevirtual 97, 3) := by decide +kernel
theorem dX0_lose_74 : decode cX0_lose 74 = .ok (.iinc 3 1, 3) := by decide +kernel
theorem dX0_lose_77 : decode cX0_lose 77 = .ok (.goto (-24), 3) := by decide +kernel
theorem dX0_lose_80 : decode cX0_lose 80 = .ok (.iconst 0, 1) := by decide +kernel
theorem dX0_lose_81 : decode cX0_lose 81 = .ok (.ireturn, 1) := by decide +kernel
abbrev cX0_anyDamaged : ByteArray := prog_1_method_26_code
def yX0_anyDamaged : MethodName := ⟨RX0, "anyDamaged", "()Z"⟩
theorem dX0_anyDamaged_0 : decode cX0_anyDamaged 0 = .ok (.iconst 0, 1) := by decide +kernel
theorem dX0_anyDamaged_1 : decode cX0_anyDamaged 1 = .ok (.istore_n 1, 1) := by decide +kernel
theorem dX0_anyDamaged_2 : decode cX0_anyDamaged 2 = .ok (.iconst 0, 1) := by decide +kernel
theorem dX0_anyDamaged_3 : decode cX0_anyDamaged 3 = .ok (.istore_n 2, 1) := by decide +kernel
theorem dX0_anyDamaged_4 : decode cX0_anyDamaged 4 = .ok (.iload_n 2, 1) := by decide +kernel
theorem dX0_anyDamaged_5 : decode cX0_anyDamaged 5 = .ok (.bipush 8, 2) := by decide +kernel
theorem dX0_anyDamaged_7 : decode cX0_anyDamaged 7 = .ok (.if_icmp .ge 40, 3) := by decide +kernel
theorem dX0_anyDamaged_10 : decode cX0_anyDamaged 10 = .ok (.aload_n 0, 1) := by decide +kernel
theorem dX0_anyDamaged_11 : decode cX0_anyDamaged 11 = .ok (.getfield 17, 3) := by decide +kernel
theorem dX0_anyDamaged_14 : decode cX0_anyDamaged 14 = .ok (.iload_n 2, 1) := by decide +kernel
theorem dX0_anyDamaged_15 : decode cX0_anyDamaged 15 = .ok (.iaload, 1) := by decide +kernel
theorem dX0_anyDamaged_16 : decode cX0_anyDamaged 16 = .ok (.ifCond .le 25, 3) := by decide +kernel
theorem dX0_anyDamaged_19 : decode cX0_anyDamaged 19 = .ok (.aload_n 0, 1) := by decide +kernel
theorem dX0_anyDamaged_20 : decode cX0_anyDamaged 20 = .ok (.iload_n 2, 1) := by decide +kernel
theorem dX0_anyDamaged_21 : decode cX0_anyDamaged 21 = .ok (.invokevirtual 87, 3) := by decide +kernel
theorem dX0_anyDamaged_24 : decode cX0_anyDamaged 24 = .ok (.istore_n 3, 1) := by decide +kernel
theorem dX0_anyDamaged_25 : decode cX0_anyDamaged 25 = .ok (.iload_n 1, 1) := by decide +kernel
theorem dX0_anyDamaged_26 : decode cX0_anyDamaged 26 = .ok (.ifCond .ne 9, 3) := by decide +kernel
theorem dX0_anyDamaged_29 : decode cX0_anyDamaged 29 = .ok (.iload_n 3, 1) := by decide +kernel
theorem dX0_anyDamaged_30 : decode cX0_anyDamaged 30 = .ok (.bipush (-5), 2) := by decide +kernel
theorem dX0_anyDamaged_32 : decode cX0_anyDamaged 32 = .ok (.if_icmp .eq 7, 3) := by decide +kernel
theorem dX0_anyDamaged_35 : decode cX0_anyDamaged 35 = .ok (.iconst 1, 1) := by decide +kernel
theorem dX0_anyDamaged_36 : decode cX0_anyDamaged 36 = .ok (.goto 4, 3) := by decide +kernel
theorem dX0_anyDamaged_39 : decode cX0_anyDamaged 39 = .ok (.iconst 0, 1) := by decide +kernel
theorem dX0_anyDamaged_40 : decode cX0_anyDamaged 40 = .ok (.istore_n 1, 1) := by decide +kernel
theorem dX0_anyDamaged_41 : decode cX0_anyDamaged 41 = .ok (.iinc 2 1, 3) := by decide +kernel
theorem dX0_anyDamaged_44 : decode cX0_anyDamaged 44 = .ok (.goto (-40), 3) := by decide +kernel
theorem dX0_anyDamaged_47 : decode cX0_anyDamaged 47 = .ok (.iload_n 1, 1) := by decide +kernel
theorem dX0_anyDamaged_48 : decode cX0_anyDamaged 48 = .ok (.ireturn, 1) := by decide +kernel
abbrev cX0_resupply : ByteArray := prog_1_method_28_code
def yX0_resupply : MethodName := ⟨RX0, "resupply", "(II)V"⟩
theorem dX0_resupply_0 : decode cX0_resupply 0 = .ok (.iconst 0, 1) := by decide +kernel
theorem dX0_resupply_1 : decode cX0_resupply 1 = .ok (.istore_n 3, 1) := by decide +kernel
theorem dX0_resupply_2 : decode cX0_resupply 2 = .ok (.iload_n 3, 1) := by decide +kernel
theorem dX0_resupply_3 : decode cX0_resupply 3 = .ok (.aload_n 0, 1) := by decide +kernel
theorem dX0_resupply_4 : decode cX0_resupply 4 = .ok (.getfield 17, 3) := by decide +kernel
theorem dX0_resupply_7 : decode cX0_resupply 7 = .ok (.iload_n 1, 1) := by decide +kernel
theorem dX0_resupply_8 : decode cX0_resupply 8 = .ok (.iaload, 1) := by decide +kernel
theorem dX0_resupply_9 : decode cX0_resupply 9 = .ok (.if_icmp .gt 55, 3) := by decide +kernel
theorem dX0_resupply_12 : decode cX0_resupply 12 = .ok (.aload_n 0, 1) := by decide +kernel
theorem dX0_resupply_13 : decode cX0_resupply 13 = .ok (.getfield 23, 3) := by decide +kernel
theorem dX0_resupply_16 : decode cX0_resupply 16 = .ok (.iload_n 1, 1) := by decide +kernel
theorem dX0_resupply_17 : decode cX0_resupply 17 = .ok (.iconst 5, 1) := by decide +kernel
theorem dX0_resupply_18 : decode cX0_resupply 18 = .ok (.imul, 1) := by decide +kernel
theorem dX0_resupply_19 : decode cX0_resupply 19 = .ok (.iload_n 3, 1) := by decide +kernel
theorem dX0_resupply_20 : decode cX0_resupply 20 = .ok (.iadd, 1) := by decide +kernel
theorem dX0_resupply_21 : decode cX0_resupply 21 = .ok (.iaload, 1) := by decide +kernel
theorem dX0_resupply_22 : decode cX0_resupply 22 = .ok (.istore 4, 2) := by decide +kernel
theorem dX0_resupply_24 : decode cX0_resupply 24 = .ok (.iload 4, 2) := by decide +kernel
theorem dX0_resupply_26 : decode cX0_resupply 26 = .ok (.iload_n 2, 1) := by decide +kernel
theorem dX0_resupply_27 : decode cX0_resupply 27 = .ok (.bipush 12, 2) := by decide +kernel
theorem dX0_resupply_29 : decode cX0_resupply 29 = .ok (.imul, 1) := by decide +kernel
theorem dX0_resupply_30 : decode cX0_resupply 30 = .ok (.if_icmp .lt 28, 3) := by decide +kernel
theorem dX0_resupply_33 : decode cX0_resupply 33 = .ok (.iload 4, 2) := by decide +kernel
theorem dX0_resupply_35 : decode cX0_resupply 35 = .ok (.iload_n 2, 1) := by decide +kernel
theorem dX0_resupply_36 : decode cX0_resupply 36 = .ok (.bipush 12, 2) := by decide +kernel
theorem dX0_resupply_38 : decode cX0_resupply 38 = .ok (.imul, 1) := by decide +kernel
theorem dX0_resupply_39 : decode cX0_resupply 39 = .ok (.bipush 12, 2) := by decide +kernel
theorem dX0_resupply_41 : decode cX0_resupply 41 = .ok (.iadd, 1) := by decide +kernel
theorem dX0_resupply_42 : decode cX0_resupply 42 = .ok (.if_icmp .ge 16, 3) := by decide +kernel
theorem dX0_resupply_45 : decode cX0_resupply 45 = .ok (.aload_n 0, 1) := by decide +kernel
theorem dX0_resupply_46 : decode cX0_resupply 46 = .ok (.getfield 7, 3) := by decide +kernel
theorem dX0_resupply_49 : decode cX0_resupply 49 = .ok (.iload 4, 2) := by decide +kernel
theorem dX0_resupply_51 : decode cX0_resupply 51 = .ok (.aload_n 0, 1) := by decide +kernel
theorem dX0_resupply_52 : decode cX0_resupply 52 = .ok (.iload_n 1, 1) := by decide +kernel
theorem dX0_resupply_53 : decode cX0_resupply 53 = .ok (.iload_n 3, 1) := by decide +kernel
theorem dX0_resupply_54 : decode cX0_resupply 54 = .ok (.invokevirtual 63, 3) := by decide +kernel
theorem dX0_resupply_57 : decode cX0_resupply 57 = .ok (.iastore, 1) := by decide +kernel
theorem dX0_resupply_58 : decode cX0_resupply 58 = .ok (.iinc 3 1, 3) := by decide +kernel
theorem dX0_resupply_61 : decode cX0_resupply 61 = .ok (.goto (-59), 3) := by decide +kernel
theorem dX0_resupply_64 : decode cX0_resupply 64 = .ok (.return_, 1) := by decide +kernel
abbrev cX0_copy : ByteArray := prog_1_method_29_code
def yX0_copy : MethodName := ⟨RX0, "copy", "(II)I"⟩
theorem dX0_copy_0 : decode cX0_copy 0 = .ok (.aload_n 0, 1) := by decide +kernel
theorem dX0_copy_1 : decode cX0_copy 1 = .ok (.iload_n 1, 1) := by decide +kernel
theorem dX0_copy_2 : decode cX0_copy 2 = .ok (.invokevirtual 76, 3) := by decide +kernel
theorem dX0_copy_5 : decode cX0_copy 5 = .ok (.ifCond .ne 11, 3) := by decide +kernel
theorem dX0_copy_8 : decode cX0_copy 8 = .ok (.aload_n 0, 1) := by decide +kernel
theorem dX0_copy_9 : decode cX0_copy 9 = .ok (.iload_n 2, 1) := by decide +kernel
theorem dX0_copy_10 : decode cX0_copy 10 = .ok (.invokevirtual 76, 3) := by decide +kernel
theorem dX0_copy_13 : decode cX0_copy 13 = .ok (.ifCond .eq 5, 3) := by decide +kernel
theorem dX0_copy_16 : decode cX0_copy 16 = .ok (.iconst (-1), 1) := by decide +kernel
theorem dX0_copy_17 : decode cX0_copy 17 = .ok (.ireturn, 1) := by decide +kernel
theorem dX0_copy_18 : decode cX0_copy 18 = .ok (.aload_n 0, 1) := by decide +kernel
theorem dX0_copy_19 : decode cX0_copy 19 = .ok (.getfield 17, 3) := by decide +kernel
theorem dX0_copy_22 : decode cX0_copy 22 = .ok (.iload_n 1, 1) := by decide +kernel
theorem dX0_copy_23 : decode cX0_copy 23 = .ok (.iaload, 1) := by decide +kernel
theorem dX0_copy_24 : decode cX0_copy 24 = .ok (.ifCond .ne 10, 3) := by decide +kernel
theorem dX0_copy_27 : decode cX0_copy 27 = .ok (.aload_n 0, 1) := by decide +kernel
theorem dX0_copy_28 : decode cX0_copy 28 = .ok (.iload_n 2, 1) := by decide +kernel
theorem dX0_copy_29 : decode cX0_copy 29 = .ok (.invokevirtual 54, 3) := by decide +kernel
theorem dX0_copy_32 : decode cX0_copy 32 = .ok (.iconst 0, 1) := by decide +kernel
theorem dX0_copy_33 : decode cX0_copy 33 = .ok (.ireturn, 1) := by decide +kernel
theorem dX0_copy_34 : decode cX0_copy 34 = .ok (.aload_n 0, 1) := by decide +kernel
theorem dX0_copy_35 : decode cX0_copy 35 = .ok (.iload_n 1, 1) := by decide +kernel
theorem dX0_copy_36 : decode cX0_copy 36 = .ok (.invokevirtual 87, 3) := by decide +kernel
theorem dX0_copy_39 : decode cX0_copy 39 = .ok (.istore_n 3, 1) := by decide +kernel
theorem dX0_copy_40 : decode cX0_copy 40 = .ok (.iload_n 3, 1) := by decide +kernel
theorem dX0_copy_41 : decode cX0_copy 41 = .ok (.bipush (-5), 2) := by decide +kernel
theorem dX0_copy_43 : decode cX0_copy 43 = .ok (.if_icmp .eq 6, 3) := by decide +kernel
theorem dX0_copy_46 : decode cX0_copy 46 = .ok (.bipush (-4), 2) := by decide +kernel
theorem dX0_copy_48 : decode cX0_copy 48 = .ok (.ireturn, 1) := by decide +kernel
theorem dX0_copy_49 : decode cX0_copy 49 = .ok (.aload_n 0, 1) := by decide +kernel
theorem dX0_copy_50 : decode cX0_copy 50 = .ok (.getfield 17, 3) := by decide +kernel
theorem dX0_copy_53 : decode cX0_copy 53 = .ok (.iload_n 1, 1) := by decide +kernel
theorem dX0_copy_54 : decode cX0_copy 54 = .ok (.iaload, 1) := by decide +kernel
theorem dX0_copy_55 : decode cX0_copy 55 = .ok (.istore 4, 2) := by decide +kernel
theorem dX0_copy_57 : decode cX0_copy 57 = .ok (.aload_n 0, 1) := by decide +kernel
theorem dX0_copy_58 : decode cX0_copy 58 = .ok (.iload_n 2, 1) := by decide +kernel
theorem dX0_copy_59 : decode cX0_copy 59 = .ok (.iload 4, 2) := by decide +kernel
theorem dX0_copy_61 : decode cX0_copy 61 = .ok (.invokevirtual 80, 3) := by decide +kernel
theorem dX0_copy_64 : decode cX0_copy 64 = .ok (.iload 4, 2) := by decide +kernel
theorem dX0_copy_66 : decode cX0_copy 66 = .ok (.ireturn, 1) := by decide +kernel
abbrev cX0_digest : ByteArray := prog_1_method_30_code
def yX0_digest : MethodName := ⟨RX0, "digest", "(I)I"⟩
theorem dX0_digest_0 : decode cX0_digest 0 = .ok (.aload_n 0, 1) := by decide +kernel
theorem dX0_digest_1 : decode cX0_digest 1 = .ok (.iload_n 1, 1) := by decide +kernel
theorem dX0_digest_2 : decode cX0_digest 2 = .ok (.invokevirtual 76, 3) := by decide +kernel
theorem dX0_digest_5 : decode cX0_digest 5 = .ok (.ifCond .ne 12, 3) := by decide +kernel
theorem dX0_digest_8 : decode cX0_digest 8 = .ok (.aload_n 0, 1) := by decide +kernel
theorem dX0_digest_9 : decode cX0_digest 9 = .ok (.getfield 17, 3) := by decide +kernel
theorem dX0_digest_12 : decode cX0_digest 12 = .ok (.iload_n 1, 1) := by decide +kernel
theorem dX0_digest_13 : decode cX0_digest 13 = .ok (.iaload, 1) := by decide +kernel
theorem dX0_digest_14 : decode cX0_digest 14 = .ok (.ifCond .ne 5, 3) := by decide +kernel
theorem dX0_digest_17 : decode cX0_digest 17 = .ok (.iconst 0, 1) := by decide +kernel
theorem dX0_digest_18 : decode cX0_digest 18 = .ok (.ireturn, 1) := by decide +kernel
theorem dX0_digest_19 : decode cX0_digest 19 = .ok (.aload_n 0, 1) := by decide +kernel
theorem dX0_digest_20 : decode cX0_digest 20 = .ok (.iload_n 1, 1) := by decide +kernel
theorem dX0_digest_21 : decode cX0_digest 21 = .ok (.invokevirtual 67, 3) := by decide +kernel
theorem dX0_digest_24 : decode cX0_digest 24 = .ok (.pop, 1) := by decide +kernel
theorem dX0_digest_25 : decode cX0_digest 25 = .ok (.iconst 0, 1) := by decide +kernel
theorem dX0_digest_26 : decode cX0_digest 26 = .ok (.istore_n 2, 1) := by decide +kernel
theorem dX0_digest_27 : decode cX0_digest 27 = .ok (.iconst 0, 1) := by decide +kernel
theorem dX0_digest_28 : decode cX0_digest 28 = .ok (.istore_n 3, 1) := by decide +kernel
theorem dX0_digest_29 : decode cX0_digest 29 = .ok (.iload_n 3, 1) := by decide +kernel
theorem dX0_digest_30 : decode cX0_digest 30 = .ok (.aload_n 0, 1) := by decide +kernel
theorem dX0_digest_31 : decode cX0_digest 31 = .ok (.getfield 17, 3) := by decide +kernel
theorem dX0_digest_34 : decode cX0_digest 34 = .ok (.iload_n 1, 1) := by decide +kernel
theorem dX0_digest_35 : decode cX0_digest 35 = .ok (.iaload, 1) := by decide +kernel
theorem dX0_digest_36 : decode cX0_digest 36 = .ok (.if_icmp .ge 22, 3) := by decide +kernel
theorem dX0_digest_39 : decode cX0_digest 39 = .ok (.iload_n 2, 1) := by decide +kernel
theorem dX0_digest_40 : decode cX0_digest 40 = .ok (.iload_n 3, 1) := by decide +kernel
theorem dX0_digest_41 : decode cX0_digest 41 = .ok (.iconst 1, 1) := by decide +kernel
theorem dX0_digest_42 : decode cX0_digest 42 = .ok (.iadd, 1) := by decide +kernel
theorem dX0_digest_43 : decode cX0_digest 43 = .ok (.aload_n 0, 1) := by decide +kernel
theorem dX0_digest_44 : decode cX0_digest 44 = .ok (.getfield 29, 3) := by decide +kernel
theorem dX0_digest_47 : decode cX0_digest 47 = .ok (.iload_n 3, 1) := by decide +kernel
theorem dX0_digest_48 : decode cX0_digest 48 = .ok (.iaload, 1) := by decide +kernel
theorem dX0_digest_49 : decode cX0_digest 49 = .ok (.imul, 1) := by decide +kernel
theorem dX0_digest_50 : decode cX0_digest 50 = .ok (.iadd, 1) := by decide +kernel
theorem dX0_digest_51 : decode cX0_digest 51 = .ok (.istore_n 2, 1) := by decide +kernel
theorem dX0_digest_52 : decode cX0_digest 52 = .ok (.iinc 3 1, 3) := by decide +kernel
theorem dX0_digest_55 : decode cX0_digest 55 = .ok (.goto (-26), 3) := by decide +kernel
theorem dX0_digest_58 : decode cX0_digest 58 = .ok (.iload_n 2, 1) := by decide +kernel
theorem dX0_digest_59 : decode cX0_digest 59 = .ok (.ireturn, 1) := by decide +kernel
end
section
set_option maxRecDepth 100000
theorem q19 : (Jvm.Cond.initialized "SelfHealStripes") ∈ lw_all := lw_g (lw_at lw_m1 1 rfl) rfl
theorem q22 : (Jvm.Cond.instantiable "SelfHealStripes" (11 : Nat)) ∈ lw_all := lw_g (lw_at lw_m1 4 rfl) rfl
theorem q24 : (Jvm.Cond.instanceMethod ({ cls := "SelfHealStripes", name := "<init>", desc := "()V" } : Jvm.MethodName)) ∈ lw_all := lw_g (lw_at lw_m1 6 rfl) rfl
theorem q25 : (Jvm.Cond.code ({ cls := "SelfHealStripes", name := "<init>", desc := "()V" } : Jvm.MethodName) prog_1_method_1_code (1 : Nat) (Option.none : Option Jvm.ClassFile.FieldType)) ∈ lw_all := lw_g (lw_at lw_m1 7 rfl) rfl
theorem q26 : (Jvm.Cond.methodLink "SelfHealStripes" (1 : Nat) ({ cls := "java/lang/Object", name := "<init>", desc := "()V" } : Jvm.MethodName)) ∈ lw_all := lw_g (lw_at lw_m1 8 rfl) rfl
theorem q29 : (Jvm.Cond.fieldLink "SelfHealStripes" (7 : Nat) "SelfHealStripes" "cell" "[I") ∈ lw_all := lw_g (lw_at lw_m1 11 rfl) rfl
theorem q30 : (Jvm.Cond.fieldLink "SelfHealStripes" (13 : Nat) "SelfHealStripes" "taken" "[Z") ∈ lw_all := lw_g (lw_at lw_m1 12 rfl) rfl
theorem q31 : (Jvm.Cond.fieldLink "SelfHealStripes" (40 : Nat) "SelfHealStripes" "turn" "I") ∈ lw_all := lw_g (lw_at lw_m1 13 rfl) rfl
theorem q32 : (Jvm.Cond.fieldLink "SelfHealStripes" (17 : Nat) "SelfHealStripes" "width" "[I") ∈ lw_all := lw_g (lw_at lw_m1 14 rfl) rfl
theorem q33 : (Jvm.Cond.fieldLink "SelfHealStripes" (20 : Nat) "SelfHealStripes" "check" "[I") ∈ lw_all := lw_g (lw_at lw_m1 15 rfl) rfl
theorem q34 : (Jvm.Cond.fieldLink "SelfHealStripes" (23 : Nat) "SelfHealStripes" "column" "[I") ∈ lw_all := lw_g (lw_at lw_m1 16 rfl) rfl
theorem q35 : (Jvm.Cond.fieldLink "SelfHealStripes" (73 : Nat) "SelfHealStripes" "drafted" "I") ∈ lw_all := lw_g (lw_at lw_m1 17 rfl) rfl
theorem q36 : (Jvm.Cond.fieldLink "SelfHealStripes" (26 : Nat) "SelfHealStripes" "draft" "[I") ∈ lw_all := lw_g (lw_at lw_m1 18 rfl) rfl
theorem q37 : (Jvm.Cond.fieldLink "SelfHealStripes" (29 : Nat) "SelfHealStripes" "word" "[I") ∈ lw_all := lw_g (lw_at lw_m1 19 rfl) rfl
theorem q38 : (Jvm.Cond.fieldLink "SelfHealStripes" (70 : Nat) "SelfHealStripes" "mended" "I") ∈ lw_all := lw_g (lw_at lw_m1 20 rfl) rfl
theorem q39 : (Jvm.Cond.fieldLink "SelfHealStripes" (32 : Nat) "SelfHealStripes" "chosen" "[I") ∈ lw_all := lw_g (lw_at lw_m1 21 rfl) rfl
theorem q40 : (Jvm.Cond.laysFinal "SelfHealStripes" "SelfHealStripes" "cell" "[I") ∈ lw_all := lw_g (lw_at lw_m1 22 rfl) rfl
theorem q41 : (Jvm.Cond.soleField "SelfHealStripes" "cell") ∈ lw_all := lw_g (lw_at lw_m1 23 rfl) rfl
theorem q42 : (Jvm.Cond.laysFinal "SelfHealStripes" "SelfHealStripes" "taken" "[Z") ∈ lw_all := lw_g (lw_at lw_m1 24 rfl) rfl
theorem q43 : (Jvm.Cond.soleField "SelfHealStripes" "taken") ∈ lw_all := lw_g (lw_at lw_m1 25 rfl) rfl
theorem q44 : (Jvm.Cond.lays "SelfHealStripes" "SelfHealStripes" "turn" "I") ∈ lw_all := lw_g (lw_at lw_m1 26 rfl) rfl
theorem q45 : (Jvm.Cond.soleField "SelfHealStripes" "turn") ∈ lw_all := lw_g (lw_at lw_m1 27 rfl) rfl
theorem q46 : (Jvm.Cond.laysFinal "SelfHealStripes" "SelfHealStripes" "width" "[I") ∈ lw_all := lw_g (lw_at lw_m1 28 rfl) rfl
theorem q47 : (Jvm.Cond.soleField "SelfHealStripes" "width") ∈ lw_all := lw_g (lw_at lw_m1 29 rfl) rfl
theorem q48 : (Jvm.Cond.laysFinal "SelfHealStripes" "SelfHealStripes" "check" "[I") ∈ lw_all := lw_g (lw_at lw_m1 30 rfl) rfl
theorem q49 : (Jvm.Cond.soleField "SelfHealStripes" "check") ∈ lw_all := lw_g (lw_at lw_m1 31 rfl) rfl
theorem q50 : (Jvm.Cond.laysFinal "SelfHealStripes" "SelfHealStripes" "column" "[I") ∈ lw_all := lw_g (lw_at lw_m1 32 rfl) rfl
theorem q51 : (Jvm.Cond.soleField "SelfHealStripes" "column") ∈ lw_all := lw_g (lw_at lw_m1 33 rfl) rfl
theorem q52 : (Jvm.Cond.lays "SelfHealStripes" "SelfHealStripes" "drafted" "I") ∈ lw_all := lw_g (lw_at lw_m1 34 rfl) rfl
theorem q53 : (Jvm.Cond.soleField "SelfHealStripes" "drafted") ∈ lw_all := lw_g (lw_at lw_m1 35 rfl) rfl
theorem q54 : (Jvm.Cond.laysFinal "SelfHealStripes" "SelfHealStripes" "draft" "[I") ∈ lw_all := lw_g (lw_at lw_m1 36 rfl) rfl
theorem q55 : (Jvm.Cond.soleField "SelfHealStripes" "draft") ∈ lw_all := lw_g (lw_at lw_m1 37 rfl) rfl
theorem q56 : (Jvm.Cond.laysFinal "SelfHealStripes" "SelfHealStripes" "word" "[I") ∈ lw_all := lw_g (lw_at lw_m1 38 rfl) rfl
theorem q57 : (Jvm.Cond.soleField "SelfHealStripes" "word") ∈ lw_all := lw_g (lw_at lw_m1 39 rfl) rfl
theorem q58 : (Jvm.Cond.lays "SelfHealStripes" "SelfHealStripes" "mended" "I") ∈ lw_all := lw_g (lw_at lw_m1 40 rfl) rfl
theorem q59 : (Jvm.Cond.soleField "SelfHealStripes" "mended") ∈ lw_all := lw_g (lw_at lw_m1 41 rfl) rfl
theorem q60 : (Jvm.Cond.laysFinal "SelfHealStripes" "SelfHealStripes" "chosen" "[I") ∈ lw_all := lw_g (lw_at lw_m1 42 rfl) rfl
theorem q61 : (Jvm.Cond.soleField "SelfHealStripes" "chosen") ∈ lw_all := lw_g (lw_at lw_m1 43 rfl) rfl
theorem q62 : (Jvm.Cond.superclass "SelfHealStripes" "java/lang/Object") ∈ lw_all := lw_g (lw_at lw_m1 44 rfl) rfl
theorem q66 : (Jvm.Cond.instanceMethod ({ cls := "SelfHealStripes", name := "draft", desc := "(I)I" } : Jvm.MethodName)) ∈ lw_all := lw_g (lw_at lw_m1 48 rfl) rfl
theorem q67 : (Jvm.Cond.selects "SelfHealStripes" ({ cls := "SelfHealStripes", name := "draft", desc := "(I)I" } : Jvm.MethodName) ({ cls := "SelfHealStripes", name := "draft", desc := "(I)I" } : Jvm.MethodName)) ∈ lw_all := lw_g (lw_at lw_m1 49 rfl) rfl
theorem q68 : (Jvm.Cond.code ({ cls := "SelfHealStripes", name := "draft", desc := "(I)I" } : Jvm.MethodName) prog_1_method_15_code (2 : Nat) (Option.some Jvm.ClassFile.FieldType.int)) ∈ lw_all := lw_g (lw_at lw_m1 50 rfl) rfl
theorem q70 : (Jvm.Cond.instanceMethod ({ cls := "SelfHealStripes", name := "scrap", desc := "()V" } : Jvm.MethodName)) ∈ lw_all := lw_g (lw_at lw_m1 52 rfl) rfl
theorem q71 : (Jvm.Cond.selects "SelfHealStripes" ({ cls := "SelfHealStripes", name := "scrap", desc := "()V" } : Jvm.MethodName) ({ cls := "SelfHealStripes", name := "scrap", desc := "()V" } : Jvm.MethodName)) ∈ lw_all := lw_g (lw_at lw_m1 53 rfl) rfl
theorem q72 : (Jvm.Cond.code ({ cls := "SelfHealStripes", name := "scrap", desc := "()V" } : Jvm.MethodName) prog_1_method_16_code (1 : Nat) (Option.none : Option Jvm.ClassFile.FieldType)) ∈ lw_all := lw_g (lw_at lw_m1 54 rfl) rfl
theorem q74 : (Jvm.Cond.instanceMethod ({ cls := "SelfHealStripes", name := "put", desc := "(I)I" } : Jvm.MethodName)) ∈ lw_all := lw_g (lw_at lw_m1 56 rfl) rfl
theorem q75 : (Jvm.Cond.selects "SelfHealStripes" ({ cls := "SelfHealStripes", name := "put", desc := "(I)I" } : Jvm.MethodName) ({ cls := "SelfHealStripes", name := "put", desc := "(I)I" } : Jvm.MethodName)) ∈ lw_all := lw_g (lw_at lw_m1 57 rfl) rfl
theorem q76 : (Jvm.Cond.code ({ cls := "SelfHealStripes", name := "put", desc := "(I)I" } : Jvm.MethodName) prog_1_method_17_code (3 : Nat) (Option.some Jvm.ClassFile.FieldType.int)) ∈ lw_all := lw_g (lw_at lw_m1 58 rfl) rfl
theorem q77 : (Jvm.Cond.methodLink "SelfHealStripes" (76 : Nat) ({ cls := "SelfHealStripes", name := "bad", desc := "(I)Z" } : Jvm.MethodName)) ∈ lw_all := lw_g (lw_at lw_m1 59 rfl) rfl
theorem q78 : (Jvm.Cond.privateMethod ({ cls := "SelfHealStripes", name := "bad", desc := "(I)Z" } : Jvm.MethodName)) ∈ lw_tbl := lw_at lw_m1 60 rfl
theorem q79 : (Jvm.Cond.instanceMethod ({ cls := "SelfHealStripes", name := "bad", desc := "(I)Z" } : Jvm.MethodName)) ∈ lw_all := lw_g (lw_at lw_m1 61 rfl) rfl
theorem q80 : (Jvm.Cond.code ({ cls := "SelfHealStripes", name := "bad", desc := "(I)Z" } : Jvm.MethodName) prog_1_method_2_code (2 : Nat) (Option.some Jvm.ClassFile.FieldType.boolean)) ∈ lw_all := lw_g (lw_at lw_m1 62 rfl) rfl
theorem q81 : (Jvm.Cond.methodLink "SelfHealStripes" (80 : Nat) ({ cls := "SelfHealStripes", name := "place", desc := "(II)V" } : Jvm.MethodName)) ∈ lw_all := lw_g (lw_at lw_m1 63 rfl) rfl
theorem q82 : (Jvm.Cond.privateMethod ({ cls := "SelfHealStripes", name := "place", desc := "(II)V" } : Jvm.MethodName)) ∈ lw_tbl := lw_at lw_m1 64 rfl
theorem q83 : (Jvm.Cond.instanceMethod ({ cls := "SelfHealStripes", name := "place", desc := "(II)V" } : Jvm.MethodName)) ∈ lw_all := lw_g (lw_at lw_m1 65 rfl) rfl
theorem q84 : (Jvm.Cond.code ({ cls := "SelfHealStripes", name := "place", desc := "(II)V" } : Jvm.MethodName) prog_1_method_8_code (5 : Nat) (Option.none : Option Jvm.ClassFile.FieldType)) ∈ lw_all := lw_g (lw_at lw_m1 66 rfl) rfl
theorem q85 : (Jvm.Cond.methodLink "SelfHealStripes" (50 : Nat) ({ cls := "SelfHealStripes", name := "choose", desc := "(I)V" } : Jvm.MethodName)) ∈ lw_all := lw_g (lw_at lw_m1 67 rfl) rfl
theorem q86 : (Jvm.Cond.privateMethod ({ cls := "SelfHealStripes", name := "choose", desc := "(I)V" } : Jvm.MethodName)) ∈ lw_tbl := lw_at lw_m1 68 rfl
theorem q87 : (Jvm.Cond.instanceMethod ({ cls := "SelfHealStripes", name := "choose", desc := "(I)V" } : Jvm.MethodName)) ∈ lw_all := lw_g (lw_at lw_m1 69 rfl) rfl
theorem q88 : (Jvm.Cond.code ({ cls := "SelfHealStripes", name := "choose", desc := "(I)V" } : Jvm.MethodName) prog_1_method_7_code (9 : Nat) (Option.none : Option Jvm.ClassFile.FieldType)) ∈ lw_all := lw_g (lw_at lw_m1 70 rfl) rfl
theorem q89 : (Jvm.Cond.methodLink "SelfHealStripes" (44 : Nat) ({ cls := "SelfHealStripes", name := "freeRows", desc := "(I)I" } : Jvm.MethodName)) ∈ lw_all := lw_g (lw_at lw_m1 71 rfl) rfl
theorem q90 : (Jvm.Cond.privateMethod ({ cls := "SelfHealStripes", name := "freeRows", desc := "(I)I" } : Jvm.MethodName)) ∈ lw_tbl := lw_at lw_m1 72 rfl
theorem q91 : (Jvm.Cond.instanceMethod ({ cls := "SelfHealStripes", name := "freeRows", desc := "(I)I" } : Jvm.MethodName)) ∈ lw_all := lw_g (lw_at lw_m1 73 rfl) rfl
theorem q92 : (Jvm.Cond.code ({ cls := "SelfHealStripes", name := "freeRows", desc := "(I)I" } : Jvm.MethodName) prog_1_method_6_code (4 : Nat) (Option.some Jvm.ClassFile.FieldType.int)) ∈ lw_all := lw_g (lw_at lw_m1 74 rfl) rfl
theorem q93 : (Jvm.Cond.methodLink "SelfHealStripes" (47 : Nat) ({ cls := "SelfHealStripes", name := "freeRow", desc := "(I)I" } : Jvm.MethodName)) ∈ lw_all := lw_g (lw_at lw_m1 75 rfl) rfl
theorem q94 : (Jvm.Cond.privateMethod ({ cls := "SelfHealStripes", name := "freeRow", desc := "(I)I" } : Jvm.MethodName)) ∈ lw_tbl := lw_at lw_m1 76 rfl
theorem q95 : (Jvm.Cond.instanceMethod ({ cls := "SelfHealStripes", name := "freeRow", desc := "(I)I" } : Jvm.MethodName)) ∈ lw_all := lw_g (lw_at lw_m1 77 rfl) rfl
theorem q96 : (Jvm.Cond.code ({ cls := "SelfHealStripes", name := "freeRow", desc := "(I)I" } : Jvm.MethodName) prog_1_method_5_code (3 : Nat) (Option.some Jvm.ClassFile.FieldType.int)) ∈ lw_all := lw_g (lw_at lw_m1 78 rfl) rfl
theorem q97 : (Jvm.Cond.methodLink "SelfHealStripes" (54 : Nat) ({ cls := "SelfHealStripes", name := "free", desc := "(I)V" } : Jvm.MethodName)) ∈ lw_all := lw_g (lw_at lw_m1 79 rfl) rfl
theorem q98 : (Jvm.Cond.privateMethod ({ cls := "SelfHealStripes", name := "free", desc := "(I)V" } : Jvm.MethodName)) ∈ lw_tbl := lw_at lw_m1 80 rfl
theorem q99 : (Jvm.Cond.instanceMethod ({ cls := "SelfHealStripes", name := "free", desc := "(I)V" } : Jvm.MethodName)) ∈ lw_all := lw_g (lw_at lw_m1 81 rfl) rfl
theorem q100 : (Jvm.Cond.code ({ cls := "SelfHealStripes", name := "free", desc := "(I)V" } : Jvm.MethodName) prog_1_method_9_code (3 : Nat) (Option.none : Option Jvm.ClassFile.FieldType)) ∈ lw_all := lw_g (lw_at lw_m1 82 rfl) rfl
theorem q101 : (Jvm.Cond.methodLink "SelfHealStripes" (57 : Nat) ({ cls := "SelfHealStripes", name := "checkOf", desc := "(I)I" } : Jvm.MethodName)) ∈ lw_all := lw_g (lw_at lw_m1 83 rfl) rfl
theorem q102 : (Jvm.Cond.privateMethod ({ cls := "SelfHealStripes", name := "checkOf", desc := "(I)I" } : Jvm.MethodName)) ∈ lw_tbl := lw_at lw_m1 84 rfl
theorem q103 : (Jvm.Cond.instanceMethod ({ cls := "SelfHealStripes", name := "checkOf", desc := "(I)I" } : Jvm.MethodName)) ∈ lw_all := lw_g (lw_at lw_m1 85 rfl) rfl
theorem q104 : (Jvm.Cond.code ({ cls := "SelfHealStripes", name := "checkOf", desc := "(I)I" } : Jvm.MethodName) prog_1_method_4_code (4 : Nat) (Option.some Jvm.ClassFile.FieldType.int)) ∈ lw_all := lw_g (lw_at lw_m1 86 rfl) rfl
theorem q105 : (Jvm.Cond.methodLink "SelfHealStripes" (36 : Nat) ({ cls := "SelfHealStripes", name := "fold", desc := "(I)I" } : Jvm.MethodName)) ∈ lw_all := lw_g (lw_at lw_m1 87 rfl) rfl
theorem q106 : (Jvm.Cond.privateMethod ({ cls := "SelfHealStripes", name := "fold", desc := "(I)I" } : Jvm.MethodName)) ∈ lw_tbl := lw_at lw_m1 88 rfl
theorem q107 : (Jvm.Cond.instanceMethod ({ cls := "SelfHealStripes", name := "fold", desc := "(I)I" } : Jvm.MethodName)) ∈ lw_all := lw_g (lw_at lw_m1 89 rfl) rfl
theorem q108 : (Jvm.Cond.code ({ cls := "SelfHealStripes", name := "fold", desc := "(I)I" } : Jvm.MethodName) prog_1_method_3_code (3 : Nat) (Option.some Jvm.ClassFile.FieldType.int)) ∈ lw_all := lw_g (lw_at lw_m1 90 rfl) rfl
theorem q109 : (Jvm.Cond.constant "SelfHealStripes" (35 : Nat) (79764919 : Int32)) ∈ lw_all := lw_g (lw_at lw_m1 91 rfl) rfl
theorem q111 : (Jvm.Cond.instanceMethod ({ cls := "SelfHealStripes", name := "delete", desc := "(I)I" } : Jvm.MethodName)) ∈ lw_all := lw_g (lw_at lw_m1 93 rfl) rfl
theorem q112 : (Jvm.Cond.selects "SelfHealStripes" ({ cls := "SelfHealStripes", name := "delete", desc := "(I)I" } : Jvm.MethodName) ({ cls := "SelfHealStripes", name := "delete", desc := "(I)I" } : Jvm.MethodName)) ∈ lw_all := lw_g (lw_at lw_m1 94 rfl) rfl
theorem q113 : (Jvm.Cond.code ({ cls := "SelfHealStripes", name := "delete", desc := "(I)I" } : Jvm.MethodName) prog_1_method_18_code (3 : Nat) (Option.some Jvm.ClassFile.FieldType.int)) ∈ lw_all := lw_g (lw_at lw_m1 95 rfl) rfl
theorem q115 : (Jvm.Cond.instanceMethod ({ cls := "SelfHealStripes", name := "size", desc := "(I)I" } : Jvm.MethodName)) ∈ lw_all := lw_g (lw_at lw_m1 97 rfl) rfl
theorem q116 : (Jvm.Cond.selects "SelfHealStripes" ({ cls := "SelfHealStripes", name := "size", desc := "(I)I" } : Jvm.MethodName) ({ cls := "SelfHealStripes", name := "size", desc := "(I)I" } : Jvm.MethodName)) ∈ lw_all := lw_g (lw_at lw_m1 98 rfl) rfl
theorem q117 : (Jvm.Cond.code ({ cls := "SelfHealStripes", name := "size", desc := "(I)I" } : Jvm.MethodName) prog_1_method_19_code (2 : Nat) (Option.some Jvm.ClassFile.FieldType.int)) ∈ lw_all := lw_g (lw_at lw_m1 99 rfl) rfl
theorem q119 : (Jvm.Cond.instanceMethod ({ cls := "SelfHealStripes", name := "read", desc := "(II)I" } : Jvm.MethodName)) ∈ lw_all := lw_g (lw_at lw_m1 101 rfl) rfl
theorem q120 : (Jvm.Cond.selects "SelfHealStripes" ({ cls := "SelfHealStripes", name := "read", desc := "(II)I" } : Jvm.MethodName) ({ cls := "SelfHealStripes", name := "read", desc := "(II)I" } : Jvm.MethodName)) ∈ lw_all := lw_g (lw_at lw_m1 102 rfl) rfl
theorem q121 : (Jvm.Cond.code ({ cls := "SelfHealStripes", name := "read", desc := "(II)I" } : Jvm.MethodName) prog_1_method_20_code (4 : Nat) (Option.some Jvm.ClassFile.FieldType.int)) ∈ lw_all := lw_g (lw_at lw_m1 103 rfl) rfl
theorem q122 : (Jvm.Cond.methodLink "SelfHealStripes" (67 : Nat) ({ cls := "SelfHealStripes", name := "recover", desc := "(I)I" } : Jvm.MethodName)) ∈ lw_all := lw_g (lw_at lw_m1 104 rfl) rfl
theorem q123 : (Jvm.Cond.privateMethod ({ cls := "SelfHealStripes", name := "recover", desc := "(I)I" } : Jvm.MethodName)) ∈ lw_tbl := lw_at lw_m1 105 rfl
theorem q124 : (Jvm.Cond.instanceMethod ({ cls := "SelfHealStripes", name := "recover", desc := "(I)I" } : Jvm.MethodName)) ∈ lw_all := lw_g (lw_at lw_m1 106 rfl) rfl
theorem q125 : (Jvm.Cond.code ({ cls := "SelfHealStripes", name := "recover", desc := "(I)I" } : Jvm.MethodName) prog_1_method_12_code (7 : Nat) (Option.some Jvm.ClassFile.FieldType.int)) ∈ lw_all := lw_g (lw_at lw_m1 107 rfl) rfl
theorem q126 : (Jvm.Cond.methodLink "SelfHealStripes" (60 : Nat) ({ cls := "SelfHealStripes", name := "loadWords", desc := "(I)V" } : Jvm.MethodName)) ∈ lw_all := lw_g (lw_at lw_m1 108 rfl) rfl
theorem q127 : (Jvm.Cond.privateMethod ({ cls := "SelfHealStripes", name := "loadWords", desc := "(I)V" } : Jvm.MethodName)) ∈ lw_tbl := lw_at lw_m1 109 rfl
theorem q128 : (Jvm.Cond.instanceMethod ({ cls := "SelfHealStripes", name := "loadWords", desc := "(I)V" } : Jvm.MethodName)) ∈ lw_all := lw_g (lw_at lw_m1 110 rfl) rfl
theorem q129 : (Jvm.Cond.code ({ cls := "SelfHealStripes", name := "loadWords", desc := "(I)V" } : Jvm.MethodName) prog_1_method_10_code (3 : Nat) (Option.none : Option Jvm.ClassFile.FieldType)) ∈ lw_all := lw_g (lw_at lw_m1 111 rfl) rfl
theorem q130 : (Jvm.Cond.methodLink "SelfHealStripes" (63 : Nat) ({ cls := "SelfHealStripes", name := "rebuilt", desc := "(II)I" } : Jvm.MethodName)) ∈ lw_all := lw_g (lw_at lw_m1 112 rfl) rfl
theorem q131 : (Jvm.Cond.privateMethod ({ cls := "SelfHealStripes", name := "rebuilt", desc := "(II)I" } : Jvm.MethodName)) ∈ lw_tbl := lw_at lw_m1 113 rfl
theorem q132 : (Jvm.Cond.instanceMethod ({ cls := "SelfHealStripes", name := "rebuilt", desc := "(II)I" } : Jvm.MethodName)) ∈ lw_all := lw_g (lw_at lw_m1 114 rfl) rfl
theorem q133 : (Jvm.Cond.code ({ cls := "SelfHealStripes", name := "rebuilt", desc := "(II)I" } : Jvm.MethodName) prog_1_method_11_code (5 : Nat) (Option.some Jvm.ClassFile.FieldType.int)) ∈ lw_all := lw_g (lw_at lw_m1 115 rfl) rfl
theorem q134 : (Jvm.Cond.methodLink "SelfHealStripes" (84 : Nat) ({ cls := "SelfHealStripes", name := "mendData", desc := "(II)V" } : Jvm.MethodName)) ∈ lw_all := lw_g (lw_at lw_m1 116 rfl) rfl
theorem q135 : (Jvm.Cond.privateMethod ({ cls := "SelfHealStripes", name := "mendData", desc := "(II)V" } : Jvm.MethodName)) ∈ lw_tbl := lw_at lw_m1 117 rfl
theorem q136 : (Jvm.Cond.instanceMethod ({ cls := "SelfHealStripes", name := "mendData", desc := "(II)V" } : Jvm.MethodName)) ∈ lw_all := lw_g (lw_at lw_m1 118 rfl) rfl
theorem q137 : (Jvm.Cond.code ({ cls := "SelfHealStripes", name := "mendData", desc := "(II)V" } : Jvm.MethodName) prog_1_method_14_code (3 : Nat) (Option.none : Option Jvm.ClassFile.FieldType)) ∈ lw_all := lw_g (lw_at lw_m1 119 rfl) rfl
theorem q139 : (Jvm.Cond.instanceMethod ({ cls := "SelfHealStripes", name := "damage", desc := "(III)I" } : Jvm.MethodName)) ∈ lw_all := lw_g (lw_at lw_m1 121 rfl) rfl
theorem q140 : (Jvm.Cond.selects "SelfHealStripes" ({ cls := "SelfHealStripes", name := "damage", desc := "(III)I" } : Jvm.MethodName) ({ cls := "SelfHealStripes", name := "damage", desc := "(III)I" } : Jvm.MethodName)) ∈ lw_all := lw_g (lw_at lw_m1 122 rfl) rfl
theorem q141 : (Jvm.Cond.code ({ cls := "SelfHealStripes", name := "damage", desc := "(III)I" } : Jvm.MethodName) prog_1_method_21_code (7 : Nat) (Option.some Jvm.ClassFile.FieldType.int)) ∈ lw_all := lw_g (lw_at lw_m1 123 rfl) rfl
theorem q142 : (Jvm.Cond.methodLink "SelfHealStripes" (87 : Nat) ({ cls := "SelfHealStripes", name := "faulty", desc := "(I)I" } : Jvm.MethodName)) ∈ lw_all := lw_g (lw_at lw_m1 124 rfl) rfl
theorem q143 : (Jvm.Cond.privateMethod ({ cls := "SelfHealStripes", name := "faulty", desc := "(I)I" } : Jvm.MethodName)) ∈ lw_tbl := lw_at lw_m1 125 rfl
theorem q144 : (Jvm.Cond.instanceMethod ({ cls := "SelfHealStripes", name := "faulty", desc := "(I)I" } : Jvm.MethodName)) ∈ lw_all := lw_g (lw_at lw_m1 126 rfl) rfl
theorem q145 : (Jvm.Cond.code ({ cls := "SelfHealStripes", name := "faulty", desc := "(I)I" } : Jvm.MethodName) prog_1_method_13_code (4 : Nat) (Option.some Jvm.ClassFile.FieldType.int)) ∈ lw_all := lw_g (lw_at lw_m1 127 rfl) rfl
theorem q147 : (Jvm.Cond.instanceMethod ({ cls := "SelfHealStripes", name := "damaged", desc := "(I)I" } : Jvm.MethodName)) ∈ lw_all := lw_g (lw_at lw_m1 129 rfl) rfl
theorem q148 : (Jvm.Cond.selects "SelfHealStripes" ({ cls := "SelfHealStripes", name := "damaged", desc := "(I)I" } : Jvm.MethodName) ({ cls := "SelfHealStripes", name := "damaged", desc := "(I)I" } : Jvm.MethodName)) ∈ lw_all := lw_g (lw_at lw_m1 130 rfl) rfl
theorem q149 : (Jvm.Cond.code ({ cls := "SelfHealStripes", name := "damaged", desc := "(I)I" } : Jvm.MethodName) prog_1_method_22_code (2 : Nat) (Option.some Jvm.ClassFile.FieldType.int)) ∈ lw_all := lw_g (lw_at lw_m1 131 rfl) rfl
theorem q151 : (Jvm.Cond.instanceMethod ({ cls := "SelfHealStripes", name := "scrub", desc := "()I" } : Jvm.MethodName)) ∈ lw_all := lw_g (lw_at lw_m1 133 rfl) rfl
theorem q152 : (Jvm.Cond.selects "SelfHealStripes" ({ cls := "SelfHealStripes", name := "scrub", desc := "()I" } : Jvm.MethodName) ({ cls := "SelfHealStripes", name := "scrub", desc := "()I" } : Jvm.MethodName)) ∈ lw_all := lw_g (lw_at lw_m1 134 rfl) rfl
theorem q153 : (Jvm.Cond.code ({ cls := "SelfHealStripes", name := "scrub", desc := "()I" } : Jvm.MethodName) prog_1_method_23_code (3 : Nat) (Option.some Jvm.ClassFile.FieldType.int)) ∈ lw_all := lw_g (lw_at lw_m1 135 rfl) rfl
theorem q154 : (Jvm.Cond.methodLink "SelfHealStripes" (90 : Nat) ({ cls := "SelfHealStripes", name := "scrubOne", desc := "(I)V" } : Jvm.MethodName)) ∈ lw_all := lw_g (lw_at lw_m1 136 rfl) rfl
theorem q155 : (Jvm.Cond.privateMethod ({ cls := "SelfHealStripes", name := "scrubOne", desc := "(I)V" } : Jvm.MethodName)) ∈ lw_tbl := lw_at lw_m1 137 rfl
theorem q156 : (Jvm.Cond.instanceMethod ({ cls := "SelfHealStripes", name := "scrubOne", desc := "(I)V" } : Jvm.MethodName)) ∈ lw_all := lw_g (lw_at lw_m1 138 rfl) rfl
theorem q157 : (Jvm.Cond.code ({ cls := "SelfHealStripes", name := "scrubOne", desc := "(I)V" } : Jvm.MethodName) prog_1_method_24_code (3 : Nat) (Option.none : Option Jvm.ClassFile.FieldType)) ∈ lw_all := lw_g (lw_at lw_m1 139 rfl) rfl
theorem q159 : (Jvm.Cond.instanceMethod ({ cls := "SelfHealStripes", name := "healed", desc := "()I" } : Jvm.MethodName)) ∈ lw_all := lw_g (lw_at lw_m1 141 rfl) rfl
theorem q160 : (Jvm.Cond.selects "SelfHealStripes" ({ cls := "SelfHealStripes", name := "healed", desc := "()I" } : Jvm.MethodName) ({ cls := "SelfHealStripes", name := "healed", desc := "()I" } : Jvm.MethodName)) ∈ lw_all := lw_g (lw_at lw_m1 142 rfl) rfl
theorem q161 : (Jvm.Cond.code ({ cls := "SelfHealStripes", name := "healed", desc := "()I" } : Jvm.MethodName) prog_1_method_25_code (1 : Nat) (Option.some Jvm.ClassFile.FieldType.int)) ∈ lw_all := lw_g (lw_at lw_m1 143 rfl) rfl
theorem q163 : (Jvm.Cond.instanceMethod ({ cls := "SelfHealStripes", name := "lose", desc := "(I)I" } : Jvm.MethodName)) ∈ lw_all := lw_g (lw_at lw_m1 145 rfl) rfl
theorem q164 : (Jvm.Cond.selects "SelfHealStripes" ({ cls := "SelfHealStripes", name := "lose", desc := "(I)I" } : Jvm.MethodName) ({ cls := "SelfHealStripes", name := "lose", desc := "(I)I" } : Jvm.MethodName)) ∈ lw_all := lw_g (lw_at lw_m1 146 rfl) rfl
theorem q165 : (Jvm.Cond.code ({ cls := "SelfHealStripes", name := "lose", desc := "(I)I" } : Jvm.MethodName) prog_1_method_27_code (4 : Nat) (Option.some Jvm.ClassFile.FieldType.int)) ∈ lw_all := lw_g (lw_at lw_m1 147 rfl) rfl
theorem q166 : (Jvm.Cond.methodLink "SelfHealStripes" (93 : Nat) ({ cls := "SelfHealStripes", name := "anyDamaged", desc := "()Z" } : Jvm.MethodName)) ∈ lw_all := lw_g (lw_at lw_m1 148 rfl) rfl
theorem q167 : (Jvm.Cond.privateMethod ({ cls := "SelfHealStripes", name := "anyDamaged", desc := "()Z" } : Jvm.MethodName)) ∈ lw_tbl := lw_at lw_m1 149 rfl
theorem q168 : (Jvm.Cond.instanceMethod ({ cls := "SelfHealStripes", name := "anyDamaged", desc := "()Z" } : Jvm.MethodName)) ∈ lw_all := lw_g (lw_at lw_m1 150 rfl) rfl
theorem q169 : (Jvm.Cond.code ({ cls := "SelfHealStripes", name := "anyDamaged", desc := "()Z" } : Jvm.MethodName) prog_1_method_26_code (4 : Nat) (Option.some Jvm.ClassFile.FieldType.boolean)) ∈ lw_all := lw_g (lw_at lw_m1 151 rfl) rfl
theorem q170 : (Jvm.Cond.methodLink "SelfHealStripes" (97 : Nat) ({ cls := "SelfHealStripes", name := "resupply", desc := "(II)V" } : Jvm.MethodName)) ∈ lw_all := lw_g (lw_at lw_m1 152 rfl) rfl
theorem q171 : (Jvm.Cond.privateMethod ({ cls := "SelfHealStripes", name := "resupply", desc := "(II)V" } : Jvm.MethodName)) ∈ lw_tbl := lw_at lw_m1 153 rfl
theorem q172 : (Jvm.Cond.instanceMethod ({ cls := "SelfHealStripes", name := "resupply", desc := "(II)V" } : Jvm.MethodName)) ∈ lw_all := lw_g (lw_at lw_m1 154 rfl) rfl
theorem q173 : (Jvm.Cond.code ({ cls := "SelfHealStripes", name := "resupply", desc := "(II)V" } : Jvm.MethodName) prog_1_method_28_code (5 : Nat) (Option.none : Option Jvm.ClassFile.FieldType)) ∈ lw_all := lw_g (lw_at lw_m1 155 rfl) rfl
theorem q175 : (Jvm.Cond.instanceMethod ({ cls := "SelfHealStripes", name := "copy", desc := "(II)I" } : Jvm.MethodName)) ∈ lw_all := lw_g (lw_at lw_m1 157 rfl) rfl
theorem q176 : (Jvm.Cond.selects "SelfHealStripes" ({ cls := "SelfHealStripes", name := "copy", desc := "(II)I" } : Jvm.MethodName) ({ cls := "SelfHealStripes", name := "copy", desc := "(II)I" } : Jvm.MethodName)) ∈ lw_all := lw_g (lw_at lw_m1 158 rfl) rfl
theorem q177 : (Jvm.Cond.code ({ cls := "SelfHealStripes", name := "copy", desc := "(II)I" } : Jvm.MethodName) prog_1_method_29_code (5 : Nat) (Option.some Jvm.ClassFile.FieldType.int)) ∈ lw_all := lw_g (lw_at lw_m1 159 rfl) rfl
theorem q179 : (Jvm.Cond.instanceMethod ({ cls := "SelfHealStripes", name := "digest", desc := "(I)I" } : Jvm.MethodName)) ∈ lw_all := lw_g (lw_at lw_m1 161 rfl) rfl
theorem q180 : (Jvm.Cond.selects "SelfHealStripes" ({ cls := "SelfHealStripes", name := "digest", desc := "(I)I" } : Jvm.MethodName) ({ cls := "SelfHealStripes", name := "digest", desc := "(I)I" } : Jvm.MethodName)) ∈ lw_all := lw_g (lw_at lw_m1 162 rfl) rfl
theorem q181 : (Jvm.Cond.code ({ cls := "SelfHealStripes", name := "digest", desc := "(I)I" } : Jvm.MethodName) prog_1_method_30_code (4 : Nat) (Option.some Jvm.ClassFile.FieldType.int)) ∈ lw_all := lw_g (lw_at lw_m1 163 rfl) rfl
theorem in_X0 : ∀ w ∈ wsX00, w ∈ lw_all := lw_in wsX00 [40, 42, 44, 46, 48, 50, 52, 54, 56, 58, 60] (by decide +kernel) (by decide +kernel)
end
section
/-! SelfHealStripesModel -/
set_option maxRecDepth 100000
def RX1 : String := "SelfHealStripesModel"
def TX1 : u_T := fun k => match k with
  | 0 => ("SelfHealStripesModel", "draft", "[I", true)
  | 1 => ("SelfHealStripesModel", "drafted", "I", false)
  | 2 => ("SelfHealStripesModel", "words", "[I", true)
  | 3 => ("SelfHealStripesModel", "sizes", "[I", true)
  | 4 => ("SelfHealStripesModel", "column", "[I", true)
  | 5 => ("SelfHealStripesModel", "masks", "[I", true)
  | _ => ("SelfHealStripesModel", "healed", "I", false)
def tyX1 : Nat → FieldType := fun k => match k with
  | 0 => .array .int
  | 1 => .int
  | 2 => .array .int
  | 3 => .array .int
  | 4 => .array .int
  | 5 => .array .int
  | _ => .int
abbrev wsX10 : List Cond := u_ws RX1 TX1 7
theorem nmX1 : ∀ a, a < 7 → ∀ b, b < 7 → a ≠ b → (TX1 a).2.1 ≠ (TX1 b).2.1 := by decide +kernel
theorem tyX1_ok : ∀ k, k < 7 → parseFieldDescriptor (TX1 k).2.2.1 = some (tyX1 k) := by decide +kernel
abbrev cX1_init : ByteArray := prog_3_method_1_code
def yX1_init : MethodName := ⟨RX1, "<init>", "()V"⟩
theorem dX1_init_0 : decode cX1_init 0 = .ok (.aload_n 0, 1) := by decide +kernel
theorem dX1_init_1 : decode cX1_init 1 = .ok (.invokespecial 1, 3) := by decide +kernel
theorem dX1_init_4 : decode cX1_init 4 = .ok (.aload_n 0, 1) := by decide +kernel
theorem dX1_init_5 : decode cX1_init 5 = .ok (.iconst 4, 1) := by decide +kernel
theorem dX1_init_6 : decode cX1_init 6 = .ok (.newarray .int, 2) := by decide +kernel
theorem dX1_init_8 : decode cX1_init 8 = .ok (.putfield 7, 3) := by decide +kernel
theorem dX1_init_11 : decode cX1_init 11 = .ok (.aload_n 0, 1) := by decide +kernel
theorem dX1_init_12 : decode cX1_init 12 = .ok (.bipush 32, 2) := by decide +kernel
theorem dX1_init_14 : decode cX1_init 14 = .ok (.newarray .int, 2) := by decide +kernel
theorem dX1_init_16 : decode cX1_init 16 = .ok (.putfield 13, 3) := by decide +kernel
theorem dX1_init_19 : decode cX1_init 19 = .ok (.aload_n 0, 1) := by decide +kernel
theorem dX1_init_20 : decode cX1_init 20 = .ok (.bipush 8, 2) := by decide +kernel
theorem dX1_init_22 : decode cX1_init 22 = .ok (.newarray .int, 2) := by decide +kernel
theorem dX1_init_24 : decode cX1_init 24 = .ok (.putfield 16, 3) := by decide +kernel
theorem dX1_init_27 : decode cX1_init 27 = .ok (.aload_n 0, 1) := by decide +kernel
theorem dX1_init_28 : decode cX1_init 28 = .ok (.bipush 8, 2) := by decide +kernel
theorem dX1_init_30 : decode cX1_init 30 = .ok (.newarray .int, 2) := by decide +kernel
theorem dX1_init_32 : decode cX1_init 32 = .ok (.putfield 19, 3) := by decide +kernel
theorem dX1_init_35 : decode cX1_init 35 = .ok (.aload_n 0, 1) := by decide +kernel
theorem dX1_init_36 : decode cX1_init 36 = .ok (.bipush 8, 2) := by decide +kernel
theorem dX1_init_38 : decode cX1_init 38 = .ok (.newarray .int, 2) := by decide +kernel
theorem dX1_init_40 : decode cX1_init 40 = .ok (.putfield 22, 3) := by decide +kernel
theorem dX1_init_43 : decode cX1_init 43 = .ok (.return_, 1) := by decide +kernel
abbrev cX1_draft : ByteArray := prog_3_method_3_code
def yX1_draft : MethodName := ⟨RX1, "draft", "(I)I"⟩
theorem dX1_draft_0 : decode cX1_draft 0 = .ok (.aload_n 0, 1) := by decide +kernel
theorem dX1_draft_1 : decode cX1_draft 1 = .ok (.getfield 25, 3) := by decide +kernel
theorem dX1_draft_4 : decode cX1_draft 4 = .ok (.iconst 4, 1) := by decide +kernel
theorem dX1_draft_5 : decode cX1_draft 5 = .ok (.if_icmp .ne 6, 3) := by decide +kernel
theorem dX1_draft_8 : decode cX1_draft 8 = .ok (.bipush (-2), 2) := by decide +kernel
theorem dX1_draft_10 : decode cX1_draft 10 = .ok (.ireturn, 1) := by decide +kernel
theorem dX1_draft_11 : decode cX1_draft 11 = .ok (.aload_n 0, 1) := by decide +kernel
theorem dX1_draft_12 : decode cX1_draft 12 = .ok (.getfield 7, 3) := by decide +kernel
theorem dX1_draft_15 : decode cX1_draft 15 = .ok (.aload_n 0, 1) := by decide +kernel
theorem dX1_draft_16 : decode cX1_draft 16 = .ok (.getfield 25, 3) := by decide +kernel
theorem dX1_draft_19 : decode cX1_draft 19 = .ok (.iload_n 1, 1) := by decide +kernel
theorem dX1_draft_20 : decode cX1_draft 20 = .ok (.iastore, 1) := by decide +kernel
theorem dX1_draft_21 : decode cX1_draft 21 = .ok (.aload_n 0, 1) := by decide +kernel
theorem dX1_draft_22 : decode cX1_draft 22 = .ok (.dup, 1) := by decide +kernel
theorem dX1_draft_23 : decode cX1_draft 23 = .ok (.getfield 25, 3) := by decide +kernel
theorem dX1_draft_26 : decode cX1_draft 26 = .ok (.iconst 1, 1) := by decide +kernel
theorem dX1_draft_27 : decode cX1_draft 27 = .ok (.iadd, 1) := by decide +kernel
theorem dX1_draft_28 : decode cX1_draft 28 = .ok (.putfield 25, 3) := by decide +kernel
theorem dX1_draft_31 : decode cX1_draft 31 = .ok (.aload_n 0, 1) := by decide +kernel
theorem dX1_draft_32 : decode cX1_draft 32 = .ok (.getfield 25, 3) := by decide +kernel
theorem dX1_draft_35 : decode cX1_draft 35 = .ok (.ireturn, 1) := by decide +kernel
abbrev cX1_scrap : ByteArray := prog_3_method_4_code
def yX1_scrap : MethodName := ⟨RX1, "scrap", "()V"⟩
theorem dX1_scrap_0 : decode cX1_scrap 0 = .ok (.aload_n 0, 1) := by decide +kernel
theorem dX1_scrap_1 : decode cX1_scrap 1 = .ok (.iconst 0, 1) := by decide +kernel
theorem dX1_scrap_2 : decode cX1_scrap 2 = .ok (.putfield 25, 3) := by decide +kernel
theorem dX1_scrap_5 : decode cX1_scrap 5 = .ok (.return_, 1) := by decide +kernel
abbrev cX1_put : ByteArray := prog_3_method_5_code
def yX1_put : MethodName := ⟨RX1, "put", "(I)I"⟩
theorem dX1_put_0 : decode cX1_put 0 = .ok (.aload_n 0, 1) := by decide +kernel
theorem dX1_put_1 : decode cX1_put 1 = .ok (.iload_n 1, 1) := by decide +kernel
theorem dX1_put_2 : decode cX1_put 2 = .ok (.invokevirtual 29, 3) := by decide +kernel
theorem dX1_put_5 : decode cX1_put 5 = .ok (.ifCond .ne 5, 3) := by decide +kernel
theorem dX1_put_8 : decode cX1_put 8 = .ok (.iconst (-1), 1) := by decide +kernel
theorem dX1_put_9 : decode cX1_put 9 = .ok (.ireturn, 1) := by decide +kernel
theorem dX1_put_10 : decode cX1_put 10 = .ok (.aload_n 0, 1) := by decide +kernel
theorem dX1_put_11 : decode cX1_put 11 = .ok (.getfield 25, 3) := by decide +kernel
theorem dX1_put_14 : decode cX1_put 14 = .ok (.ifCond .ne 6, 3) := by decide +kernel
theorem dX1_put_17 : decode cX1_put 17 = .ok (.bipush (-3), 2) := by decide +kernel
theorem dX1_put_19 : decode cX1_put 19 = .ok (.ireturn, 1) := by decide +kernel
theorem dX1_put_20 : decode cX1_put 20 = .ok (.iconst 0, 1) := by decide +kernel
theorem dX1_put_21 : decode cX1_put 21 = .ok (.istore_n 2, 1) := by decide +kernel
theorem dX1_put_22 : decode cX1_put 22 = .ok (.iload_n 2, 1) := by decide +kernel
theorem dX1_put_23 : decode cX1_put 23 = .ok (.aload_n 0, 1) := by decide +kernel
theorem dX1_put_24 : decode cX1_put 24 = .ok (.getfield 25, 3) := by decide +kernel
theorem dX1_put_27 : decode cX1_put 27 = .ok (.if_icmp .ge 25, 3) := by decide +kernel
theorem dX1_put_30 : decode cX1_put 30 = .ok (.aload_n 0, 1) := by decide +kernel
theorem dX1_put_31 : decode cX1_put 31 = .ok (.getfield 13, 3) := by decide +kernel
theorem dX1_put_34 : decode cX1_put 34 = .ok (.iconst 4, 1) := by decide +kernel
theorem dX1_put_35 : decode cX1_put 35 = .ok (.iload_n 1, 1) := by decide +kernel
theorem dX1_put_36 : decode cX1_put 36 = .ok (.imul, 1) := by decide +kernel
theorem dX1_put_37 : decode cX1_put 37 = .ok (.iload_n 2, 1) := by decide +kernel
theorem dX1_put_38 : decode cX1_put 38 = .ok (.iadd, 1) := by decide +kernel
theorem dX1_put_39 : decode cX1_put 39 = .ok (.aload_n 0, 1) := by decide +kernel
theorem dX1_put_40 : decode cX1_put 40 = .ok (.getfield 7, 3) := by decide +kernel
theorem dX1_put_43 : decode cX1_put 43 = .ok (.iload_n 2, 1) := by decide +kernel
theorem dX1_put_44 : decode cX1_put 44 = .ok (.iaload, 1) := by decide +kernel
theorem dX1_put_45 : decode cX1_put 45 = .ok (.iastore, 1) := by decide +kernel
theorem dX1_put_46 : decode cX1_put 46 = .ok (.iinc 2 1, 3) := by decide +kernel
theorem dX1_put_49 : decode cX1_put 49 = .ok (.goto (-27), 3) := by decide +kernel
theorem dX1_put_52 : decode cX1_put 52 = .ok (.aload_n 0, 1) := by decide +kernel
theorem dX1_put_53 : decode cX1_put 53 = .ok (.getfield 16, 3) := by decide +kernel
theorem dX1_put_56 : decode cX1_put 56 = .ok (.iload_n 1, 1) := by decide +kernel
theorem dX1_put_57 : decode cX1_put 57 = .ok (.aload_n 0, 1) := by decide +kernel
theorem dX1_put_58 : decode cX1_put 58 = .ok (.getfield 25, 3) := by decide +kernel
theorem dX1_put_61 : decode cX1_put 61 = .ok (.iastore, 1) := by decide +kernel
theorem dX1_put_62 : decode cX1_put 62 = .ok (.aload_n 0, 1) := by decide +kernel
theorem dX1_put_63 : decode cX1_put 63 = .ok (.getfield 22, 3) := by decide +kernel
theorem dX1_put_66 : decode cX1_put 66 = .ok (.iload_n 1, 1) := by decide +kernel
theorem dX1_put_67 : decode cX1_put 67 = .ok (.iconst 0, 1) := by decide +kernel
theorem dX1_put_68 : decode cX1_put 68 = .ok (.iastore, 1) := by decide +kernel
theorem dX1_put_69 : decode cX1_put 69 = .ok (.aload_n 0, 1) := by decide +kernel
theorem dX1_put_70 : decode cX1_put 70 = .ok (.iconst 0, 1) := by decide +kernel
theorem dX1_put_71 : decode cX1_put 71 = .ok (.putfield 25, 3) := by decide +kernel
theorem dX1_put_74 : decode cX1_put 74 = .ok (.aload_n 0, 1) := by decide +kernel
theorem dX1_put_75 : decode cX1_put 75 = .ok (.getfield 16, 3) := by decide +kernel
theorem dX1_put_78 : decode cX1_put 78 = .ok (.iload_n 1, 1) := by decide +kernel
theorem dX1_put_79 : decode cX1_put 79 = .ok (.iaload, 1) := by decide +kernel
theorem dX1_put_80 : decode cX1_put 80 = .ok (.ireturn, 1) := by decide +kernel
abbrev cX1_isExtent : ByteArray := prog_3_method_2_code
def yX1_isExtent : MethodName := ⟨RX1, "isExtent", "(I)Z"⟩
theorem dX1_isExtent_0 : decode cX1_isExtent 0 = .ok (.iload_n 1, 1) := by decide +kernel
theorem dX1_isExtent_1 : decode cX1_isExtent 1 = .ok (.ifCond .lt 13, 3) := by decide +kernel
theorem dX1_isExtent_4 : decode cX1_isExtent 4 = .ok (.iload_n 1, 1) := by decide +kernel
theorem dX1_isExtent_5 : decode cX1_isExtent 5 = .ok (.bipush 7, 2) := by decide +kernel
theorem dX1_isExtent_7 : decode cX1_isExtent 7 = .ok (.if_icmp .gt 7, 3) := by decide +kernel
theorem dX1_isExtent_10 : decode cX1_isExtent 10 = .ok (.iconst 1, 1) := by decide +kernel
theorem dX1_isExtent_11 : decode cX1_isExtent 11 = .ok (.goto 4, 3) := by decide +kernel
theorem dX1_isExtent_14 : decode cX1_isExtent 14 = .ok (.iconst 0, 1) := by decide +kernel
theorem dX1_isExtent_15 : decode cX1_isExtent 15 = .ok (.ireturn, 1) := by decide +kernel
abbrev cX1_delete : ByteArray := prog_3_method_6_code
def yX1_delete : MethodName := ⟨RX1, "delete", "(I)I"⟩
theorem dX1_delete_0 : decode cX1_delete 0 = .ok (.aload_n 0, 1) := by decide +kernel
theorem dX1_delete_1 : decode cX1_delete 1 = .ok (.iload_n 1, 1) := by decide +kernel
theorem dX1_delete_2 : decode cX1_delete 2 = .ok (.invokevirtual 29, 3) := by decide +kernel
theorem dX1_delete_5 : decode cX1_delete 5 = .ok (.ifCond .ne 5, 3) := by decide +kernel
theorem dX1_delete_8 : decode cX1_delete 8 = .ok (.iconst (-1), 1) := by decide +kernel
theorem dX1_delete_9 : decode cX1_delete 9 = .ok (.ireturn, 1) := by decide +kernel
theorem dX1_delete_10 : decode cX1_delete 10 = .ok (.aload_n 0, 1) := by decide +kernel
theorem dX1_delete_11 : decode cX1_delete 11 = .ok (.getfield 16, 3) := by decide +kernel
theorem dX1_delete_14 : decode cX1_delete 14 = .ok (.iload_n 1, 1) := by decide +kernel
theorem dX1_delete_15 : decode cX1_delete 15 = .ok (.iaload, 1) := by decide +kernel
theorem dX1_delete_16 : decode cX1_delete 16 = .ok (.ifCond .ne 6, 3) := by decide +kernel
theorem dX1_delete_19 : decode cX1_delete 19 = .ok (.bipush (-3), 2) := by decide +kernel
theorem dX1_delete_21 : decode cX1_delete 21 = .ok (.ireturn, 1) := by decide +kernel
theorem dX1_delete_22 : decode cX1_delete 22 = .ok (.aload_n 0, 1) := by decide +kernel
theorem dX1_delete_23 : decode cX1_delete 23 = .ok (.getfield 16, 3) := by decide +kernel
theorem dX1_delete_26 : decode cX1_delete 26 = .ok (.iload_n 1, 1) := by decide +kernel
theorem dX1_delete_27 : decode cX1_delete 27 = .ok (.iaload, 1) := by decide +kernel
theorem dX1_delete_28 : decode cX1_delete 28 = .ok (.istore_n 2, 1) := by decide +kernel
theorem dX1_delete_29 : decode cX1_delete 29 = .ok (.aload_n 0, 1) := by decide +kernel
theorem dX1_delete_30 : decode cX1_delete 30 = .ok (.getfield 16, 3) := by decide +kernel
theorem dX1_delete_33 : decode cX1_delete 33 = .ok (.iload_n 1, 1) := by decide +kernel
theorem dX1_delete_34 : decode cX1_delete 34 = .ok (.iconst 0, 1) := by decide +kernel
theorem dX1_delete_35 : decode cX1_delete 35 = .ok (.iastore, 1) := by decide +kernel
theorem dX1_delete_36 : decode cX1_delete 36 = .ok (.aload_n 0, 1) := by decide +kernel
theorem dX1_delete_37 : decode cX1_delete 37 = .ok (.getfield 22, 3) := by decide +kernel
theorem dX1_delete_40 : decode cX1_delete 40 = .ok (.iload_n 1, 1) := by decide +kernel
theorem dX1_delete_41 : decode cX1_delete 41 = .ok (.iconst 0, 1) := by decide +kernel
theorem dX1_delete_42 : decode cX1_delete 42 = .ok (.iastore, 1) := by decide +kernel
theorem dX1_delete_43 : decode cX1_delete 43 = .ok (.iload_n 2, 1) := by decide +kernel
theorem dX1_delete_44 : decode cX1_delete 44 = .ok (.ireturn, 1) := by decide +kernel
abbrev cX1_size : ByteArray := prog_3_method_7_code
def yX1_size : MethodName := ⟨RX1, "size", "(I)I"⟩
theorem dX1_size_0 : decode cX1_size 0 = .ok (.aload_n 0, 1) := by decide +kernel
theorem dX1_size_1 : decode cX1_size 1 = .ok (.iload_n 1, 1) := by decide +kernel
theorem dX1_size_2 : decode cX1_size 2 = .ok (.invokevirtual 29, 3) := by decide +kernel
theorem dX1_size_5 : decode cX1_size 5 = .ok (.ifCond .eq 12, 3) := by decide +kernel
theorem dX1_size_8 : decode cX1_size 8 = .ok (.aload_n 0, 1) := by decide +kernel
theorem dX1_size_9 : decode cX1_size 9 = .ok (.getfield 16, 3) := by decide +kernel
theorem dX1_size_12 : decode cX1_size 12 = .ok (.iload_n 1, 1) := by decide +kernel
theorem dX1_size_13 : decode cX1_size 13 = .ok (.iaload, 1) := by decide +kernel
theorem dX1_size_14 : decode cX1_size 14 = .ok (.goto 4, 3) := by decide +kernel
theorem dX1_size_17 : decode cX1_size 17 = .ok (.iconst (-1), 1) := by decide +kernel
theorem dX1_size_18 : decode cX1_size 18 = .ok (.ireturn, 1) := by decide +kernel
abbrev cX1_read : ByteArray := prog_3_method_8_code
def yX1_read : MethodName := ⟨RX1, "read", "(II)I"⟩
theorem dX1_read_0 : decode cX1_read 0 = .ok (.aload_n 0, 1) := by decide +kernel
theorem dX1_read_1 : decode cX1_read 1 = .ok (.iload_n 1, 1) := by decide +kernel
theorem dX1_read_2 : decode cX1_read 2 = .ok (.invokevirtual 29, 3) := by decide +kernel
theorem dX1_read_5 : decode cX1_read 5 = .ok (.ifCond .eq 17, 3) := by decide +kernel
theorem dX1_read_8 : decode cX1_read 8 = .ok (.iload_n 2, 1) := by decide +kernel
theorem dX1_read_9 : decode cX1_read 9 = .ok (.ifCond .lt 13, 3) := by decide +kernel
theorem dX1_read_12 : decode cX1_read 12 = .ok (.iload_n 2, 1) := by decide +kernel
theorem dX1_read_13 : decode cX1_read 13 = .ok (.aload_n 0, 1) := by decide +kernel
theorem dX1_read_14 : decode cX1_read 14 = .ok (.getfield 16, 3) := by decide +kernel
theorem dX1_read_17 : decode cX1_read 17 = .ok (.iload_n 1, 1) := by decide +kernel
theorem dX1_read_18 : decode cX1_read 18 = .ok (.iaload, 1) := by decide +kernel
theorem dX1_read_19 : decode cX1_read 19 = .ok (.if_icmp .lt 5, 3) := by decide +kernel
theorem dX1_read_22 : decode cX1_read 22 = .ok (.iconst 0, 1) := by decide +kernel
theorem dX1_read_23 : decode cX1_read 23 = .ok (.ireturn, 1) := by decide +kernel
theorem dX1_read_24 : decode cX1_read 24 = .ok (.aload_n 0, 1) := by decide +kernel
theorem dX1_read_25 : decode cX1_read 25 = .ok (.getfield 22, 3) := by decide +kernel
theorem dX1_read_28 : decode cX1_read 28 = .ok (.iload_n 1, 1) := by decide +kernel
theorem dX1_read_29 : decode cX1_read 29 = .ok (.iaload, 1) := by decide +kernel
theorem dX1_read_30 : decode cX1_read 30 = .ok (.ifCond .eq 35, 3) := by decide +kernel
theorem dX1_read_33 : decode cX1_read 33 = .ok (.aload_n 0, 1) := by decide +kernel
theorem dX1_read_34 : decode cX1_read 34 = .ok (.getfield 19, 3) := by decide +kernel
theorem dX1_read_37 : decode cX1_read 37 = .ok (.iload_n 1, 1) := by decide +kernel
theorem dX1_read_38 : decode cX1_read 38 = .ok (.iaload, 1) := by decide +kernel
theorem dX1_read_39 : decode cX1_read 39 = .ok (.aload_n 0, 1) := by decide +kernel
theorem dX1_read_40 : decode cX1_read 40 = .ok (.getfield 16, 3) := by decide +kernel
theorem dX1_read_43 : decode cX1_read 43 = .ok (.iload_n 1, 1) := by decide +kernel
theorem dX1_read_44 : decode cX1_read 44 = .ok (.iaload, 1) := by decide +kernel
theorem dX1_read_45 : decode cX1_read 45 = .ok (.if_icmp .eq 20, 3) := by decide +kernel
theorem dX1_read_48 : decode cX1_read 48 = .ok (.aload_n 0, 1) := by decide +kernel
theorem dX1_read_49 : decode cX1_read 49 = .ok (.getfield 22, 3) := by decide +kernel
theorem dX1_read_52 : decode cX1_read 52 = .ok (.iload_n 1, 1) := by decide +kernel
theorem dX1_read_53 : decode cX1_read 53 = .ok (.iconst 0, 1) := by decide +kernel
theorem dX1_read_54 : decode cX1_read 54 = .ok (.iastore, 1) := by decide +kernel
theorem dX1_read_55 : decode cX1_read 55 = .ok (.aload_n 0, 1) := by decide +kernel
theorem dX1_read_56 : decode cX1_read 56 = .ok (.dup, 1) := by decide +kernel
theorem dX1_read_57 : decode cX1_read 57 = .ok (.getfield 33, 3) := by decide +kernel
theorem dX1_read_60 : decode cX1_read 60 = .ok (.iconst 1, 1) := by decide +kernel
theorem dX1_read_61 : decode cX1_read 61 = .ok (.iadd, 1) := by decide +kernel
theorem dX1_read_62 : decode cX1_read 62 = .ok (.putfield 33, 3) := by decide +kernel
theorem dX1_read_65 : decode cX1_read 65 = .ok (.aload_n 0, 1) := by decide +kernel
theorem dX1_read_66 : decode cX1_read 66 = .ok (.getfield 13, 3) := by decide +kernel
theorem dX1_read_69 : decode cX1_read 69 = .ok (.iconst 4, 1) := by decide +kernel
theorem dX1_read_70 : decode cX1_read 70 = .ok (.iload_n 1, 1) := by decide +kernel
theorem dX1_read_71 : decode cX1_read 71 = .ok (.imul, 1) := by decide +kernel
theorem dX1_read_72 : decode cX1_read 72 = .ok (.iload_n 2, 1) := by decide +kernel
theorem dX1_read_73 : decode cX1_read 73 = .ok (.iadd, 1) := by decide +kernel
theorem dX1_read_74 : decode cX1_read 74 = .ok (.iaload, 1) := by decide +kernel
theorem dX1_read_75 : decode cX1_read 75 = .ok (.ireturn, 1) := by decide +kernel
abbrev cX1_damage : ByteArray := prog_3_method_9_code
def yX1_damage : MethodName := ⟨RX1, "damage", "(III)I"⟩
theorem dX1_damage_0 : decode cX1_damage 0 = .ok (.aload_n 0, 1) := by decide +kernel
theorem dX1_damage_1 : decode cX1_damage 1 = .ok (.iload_n 1, 1) := by decide +kernel
theorem dX1_damage_2 : decode cX1_damage 2 = .ok (.invokevirtual 29, 3) := by decide +kernel
theorem dX1_damage_5 : decode cX1_damage 5 = .ok (.ifCond .ne 5, 3) := by decide +kernel
theorem dX1_damage_8 : decode cX1_damage 8 = .ok (.iconst (-1), 1) := by decide +kernel
theorem dX1_damage_9 : decode cX1_damage 9 = .ok (.ireturn, 1) := by decide +kernel
theorem dX1_damage_10 : decode cX1_damage 10 = .ok (.aload_n 0, 1) := by decide +kernel
theorem dX1_damage_11 : decode cX1_damage 11 = .ok (.getfield 16, 3) := by decide +kernel
theorem dX1_damage_14 : decode cX1_damage 14 = .ok (.iload_n 1, 1) := by decide +kernel
theorem dX1_damage_15 : decode cX1_damage 15 = .ok (.iaload, 1) := by decide +kernel
theorem dX1_damage_16 : decode cX1_damage 16 = .ok (.ifCond .ne 6, 3) := by decide +kernel
theorem dX1_damage_19 : decode cX1_damage 19 = .ok (.bipush (-3), 2) := by decide +kernel
theorem dX1_damage_21 : decode cX1_damage 21 = .ok (.ireturn, 1) := by decide +kernel
theorem dX1_damage_22 : decode cX1_damage 22 = .ok (.iload_n 2, 1) := by decide +kernel
theorem dX1_damage_23 : decode cX1_damage 23 = .ok (.ifCond .lt 13, 3) := by decide +kernel
theorem dX1_damage_26 : decode cX1_damage 26 = .ok (.iload_n 2, 1) := by decide +kernel
theorem dX1_damage_27 : decode cX1_damage 27 = .ok (.aload_n 0, 1) := by decide +kernel
theorem dX1_damage_28 : decode cX1_damage 28 = .ok (.getfield 16, 3) := by decide +kernel
theorem dX1_damage_31 : decode cX1_damage 31 = .ok (.iload_n 1, 1) := by decide +kernel
theorem dX1_damage_32 : decode cX1_damage 32 = .ok (.iaload, 1) := by decide +kernel
theorem dX1_damage_33 : decode cX1_damage 33 = .ok (.if_icmp .le 5, 3) := by decide +kernel
theorem dX1_damage_36 : decode cX1_damage 36 = .ok (.iconst (-1), 1) := by decide +kernel
theorem dX1_damage_37 : decode cX1_damage 37 = .ok (.ireturn, 1) := by decide +kernel
theorem dX1_damage_38 : decode cX1_damage 38 = .ok (.aload_n 0, 1) := by decide +kernel
theorem dX1_damage_39 : decode cX1_damage 39 = .ok (.getfield 22, 3) := by decide +kernel
theorem dX1_damage_42 : decode cX1_damage 42 = .ok (.iload_n 1, 1) := by decide +kernel
theorem dX1_damage_43 : decode cX1_damage 43 = .ok (.iaload, 1) := by decide +kernel
theorem dX1_damage_44 : decode cX1_damage 44 = .ok (.ifCond .eq 16, 3) := by decide +kernel
theorem dX1_damage_47 : decode cX1_damage 47 = .ok (.aload_n 0, 1) := by decide +kernel
theorem dX1_damage_48 : decode cX1_damage 48 = .ok (.getfield 19, 3) := by decide +kernel
theorem dX1_damage_51 : decode cX1_damage 51 = .ok (.iload_n 1, 1) := by decide +kernel
theorem dX1_damage_52 : decode cX1_damage 52 = .ok (.iaload, 1) := by decide +kernel
theorem dX1_damage_53 : decode cX1_damage 53 = .ok (.iload_n 2, 1) := by decide +kernel
theorem dX1_damage_54 : decode cX1_damage 54 = .ok (.if_icmp .eq 6, 3) := by decide +kernel
theorem dX1_damage_57 : decode cX1_damage 57 = .ok (.bipush (-4), 2) := by decide +kernel
theorem dX1_damage_59 : decode cX1_damage 59 = .ok (.ireturn, 1) := by decide +kernel
theorem dX1_damage_60 : decode cX1_damage 60 = .ok (.aload_n 0, 1) := by decide +kernel
theorem dX1_damage_61 : decode cX1_damage 61 = .ok (.getfield 19, 3) := by decide +kernel
theorem dX1_damage_64 : decode cX1_damage 64 = .ok (.iload_n 1, 1) := by decide +kernel
theorem dX1_damage_65 : decode cX1_damage 65 = .ok (.iload_n 2, 1) := by decide +kernel
theorem dX1_damage_66 : decode cX1_damage 66 = .ok (.iastore, 1) := by decide +kernel
theorem dX1_damage_67 : decode cX1_damage 67 = .ok (.aload_n 0, 1) := by decide +kernel
theorem dX1_damage_68 : decode cX1_damage 68 = .ok (.getfield 22, 3) := by decide +kernel
theorem dX1_damage_71 : decode cX1_damage 71 = .ok (.iload_n 1, 1) := by decide +kernel
theorem dX1_damage_72 : decode cX1_damage 72 = .ok (.aload_n 0, 1) := by decide +kernel
theorem dX1_damage_73 : decode cX1_damage 73 = .ok (.getfield 22, 3) := by decide +kernel
theorem dX1_damage_76 : decode cX1_damage 76 = .ok (.iload_n 1, 1) := by decide +kernel
theorem dX1_damage_77 : decode cX1_damage 77 = .ok (.iaload, 1) := by decide +kernel
theorem dX1_damage_78 : decode cX1_damage 78 = .ok (.iload_n 3, 1) := by decide +kernel
theorem dX1_damage_79 : decode cX1_damage 79 = .ok (.ixor, 1) := by decide +kernel
theorem dX1_damage_80 : decode cX1_damage 80 = .ok (.iastore, 1) := by decide +kernel
theorem dX1_damage_81 : decode cX1_damage 81 = .ok (.aload_n 0, 1) := by decide +kernel
theorem dX1_damage_82 : decode cX1_damage 82 = .ok (.getfield 22, 3) := by decide +kernel
theorem dX1_damage_85 : decode cX1_damage 85 = .ok (.iload_n 1, 1) := by decide +kernel
theorem dX1_damage_86 : decode cX1_damage 86 = .ok (.iaload, 1) := by decide +kernel
theorem dX1_damage_87 : decode cX1_damage 87 = .ok (.ifCond .eq 7, 3) := by decide +kernel
theorem dX1_damage_90 : decode cX1_damage 90 = .ok (.iconst 1, 1) := by decide +kernel
theorem dX1_damage_91 : decode cX1_damage 91 = .ok (.goto 4, 3) := by decide +kernel
theorem dX1_damage_94 : decode cX1_damage 94 = .ok (.iconst 0, 1) := by decide +kernel
theorem dX1_damage_95 : decode cX1_damage 95 = .ok (.ireturn, 1) := by decide +kernel
abbrev cX1_damaged : ByteArray := prog_3_method_10_code
def yX1_damaged : MethodName := ⟨RX1, "damaged", "(I)I"⟩
theorem dX1_damaged_0 : decode cX1_damaged 0 = .ok (.aload_n 0, 1) := by decide +kernel
theorem dX1_damaged_1 : decode cX1_damaged 1 = .ok (.iload_n 1, 1) := by decide +kernel
theorem dX1_damaged_2 : decode cX1_damaged 2 = .ok (.invokevirtual 29, 3) := by decide +kernel
theorem dX1_damaged_5 : decode cX1_damaged 5 = .ok (.ifCond .ne 5, 3) := by decide +kernel
theorem dX1_damaged_8 : decode cX1_damaged 8 = .ok (.iconst (-1), 1) := by decide +kernel
theorem dX1_damaged_9 : decode cX1_damaged 9 = .ok (.ireturn, 1) := by decide +kernel
theorem dX1_damaged_10 : decode cX1_damaged 10 = .ok (.aload_n 0, 1) := by decide +kernel
theorem dX1_damaged_11 : decode cX1_damaged 11 = .ok (.getfield 16, 3) := by decide +kernel
theorem dX1_damaged_14 : decode cX1_damaged 14 = .ok (.iload_n 1, 1) := by decide +kernel
theorem dX1_damaged_15 : decode cX1_damaged 15 = .ok (.iaload, 1) := by decide +kernel
theorem dX1_damaged_16 : decode cX1_damaged 16 = .ok (.ifCond .ne 6, 3) := by decide +kernel
theorem dX1_damaged_19 : decode cX1_damaged 19 = .ok (.bipush (-3), 2) := by decide +kernel
theorem dX1_damaged_21 : decode cX1_damaged 21 = .ok (.ireturn, 1) := by decide +kernel
theorem dX1_damaged_22 : decode cX1_damaged 22 = .ok (.aload_n 0, 1) := by decide +kernel
theorem dX1_damaged_23 : decode cX1_damaged 23 = .ok (.getfield 22, 3) := by decide +kernel
theorem dX1_damaged_26 : decode cX1_damaged 26 = .ok (.iload_n 1, 1) := by decide +kernel
theorem dX1_damaged_27 : decode cX1_damaged 27 = .ok (.iaload, 1) := by decide +kernel
theorem dX1_damaged_28 : decode cX1_damaged 28 = .ok (.ifCond .eq 12, 3) := by decide +kernel
theorem dX1_damaged_31 : decode cX1_damaged 31 = .ok (.aload_n 0, 1) := by decide +kernel
theorem dX1_damaged_32 : decode cX1_damaged 32 = .ok (.getfield 19, 3) := by decide +kernel
theorem dX1_damaged_35 : decode cX1_damaged 35 = .ok (.iload_n 1, 1) := by decide +kernel
theorem dX1_damaged_36 : decode cX1_damaged 36 = .ok (.iaload, 1) := by decide +kernel
theorem dX1_damaged_37 : decode cX1_damaged 37 = .ok (.goto 5, 3) := by decide +kernel
theorem dX1_damaged_40 : decode cX1_damaged 40 = .ok (.bipush (-5), 2) := by decide +kernel
theorem dX1_damaged_42 : decode cX1_damaged 42 = .ok (.ireturn, 1) := by decide +kernel
abbrev cX1_scrub : ByteArray := prog_3_method_12_code
def yX1_scrub : MethodName := ⟨RX1, "scrub", "()I"⟩
theorem dX1_scrub_0 : decode cX1_scrub 0 = .ok (.aload_n 0, 1) := by decide +kernel
theorem dX1_scrub_1 : decode cX1_scrub 1 = .ok (.invokevirtual 36, 3) := by decide +kernel
theorem dX1_scrub_4 : decode cX1_scrub 4 = .ok (.istore_n 1, 1) := by decide +kernel
theorem dX1_scrub_5 : decode cX1_scrub 5 = .ok (.iconst 0, 1) := by decide +kernel
theorem dX1_scrub_6 : decode cX1_scrub 6 = .ok (.istore_n 2, 1) := by decide +kernel
theorem dX1_scrub_7 : decode cX1_scrub 7 = .ok (.iload_n 2, 1) := by decide +kernel
theorem dX1_scrub_8 : decode cX1_scrub 8 = .ok (.bipush 8, 2) := by decide +kernel
theorem dX1_scrub_10 : decode cX1_scrub 10 = .ok (.if_icmp .ge 16, 3) := by decide +kernel
theorem dX1_scrub_13 : decode cX1_scrub 13 = .ok (.aload_n 0, 1) := by decide +kernel
theorem dX1_scrub_14 : decode cX1_scrub 14 = .ok (.getfield 22, 3) := by decide +kernel
theorem dX1_scrub_17 : decode cX1_scrub 17 = .ok (.iload_n 2, 1) := by decide +kernel
theorem dX1_scrub_18 : decode cX1_scrub 18 = .ok (.iconst 0, 1) := by decide +kernel
theorem dX1_scrub_19 : decode cX1_scrub 19 = .ok (.iastore, 1) := by decide +kernel
theorem dX1_scrub_20 : decode cX1_scrub 20 = .ok (.iinc 2 1, 3) := by decide +kernel
theorem dX1_scrub_23 : decode cX1_scrub 23 = .ok (.goto (-16), 3) := by decide +kernel
theorem dX1_scrub_26 : decode cX1_scrub 26 = .ok (.aload_n 0, 1) := by decide +kernel
theorem dX1_scrub_27 : decode cX1_scrub 27 = .ok (.aload_n 0, 1) := by decide +kernel
theorem dX1_scrub_28 : decode cX1_scrub 28 = .ok (.getfield 33, 3) := by decide +kernel
theorem dX1_scrub_31 : decode cX1_scrub 31 = .ok (.iload_n 1, 1) := by decide +kernel
theorem dX1_scrub_32 : decode cX1_scrub 32 = .ok (.iadd, 1) := by decide +kernel
theorem dX1_scrub_33 : decode cX1_scrub 33 = .ok (.putfield 33, 3) := by decide +kernel
theorem dX1_scrub_36 : decode cX1_scrub 36 = .ok (.iload_n 1, 1) := by decide +kernel
theorem dX1_scrub_37 : decode cX1_scrub 37 = .ok (.ireturn, 1) := by decide +kernel
abbrev cX1_damagedExtents : ByteArray := prog_3_method_11_code
def yX1_damagedExtents : MethodName := ⟨RX1, "damagedExtents", "()I"⟩
theorem dX1_damagedExtents_0 : decode cX1_damagedExtents 0 = .ok (.iconst 0, 1) := by decide +kernel
theorem dX1_damagedExtents_1 : decode cX1_damagedExtents 1 = .ok (.istore_n 1, 1) := by decide +kernel
theorem dX1_damagedExtents_2 : decode cX1_damagedExtents 2 = .ok (.iconst 0, 1) := by decide +kernel
theorem dX1_damagedExtents_3 : decode cX1_damagedExtents 3 = .ok (.istore_n 2, 1) := by decide +kernel
theorem dX1_damagedExtents_4 : decode cX1_damagedExtents 4 = .ok (.iload_n 2, 1) := by decide +kernel
theorem dX1_damagedExtents_5 : decode cX1_damagedExtents 5 = .ok (.bipush 8, 2) := by decide +kernel
theorem dX1_damagedExtents_7 : decode cX1_damagedExtents 7 = .ok (.if_icmp .ge 21, 3) := by decide +kernel
theorem dX1_damagedExtents_10 : decode cX1_damagedExtents 10 = .ok (.aload_n 0, 1) := by decide +kernel
theorem dX1_damagedExtents_11 : decode cX1_damagedExtents 11 = .ok (.getfield 22, 3) := by decide +kernel
theorem dX1_damagedExtents_14 : decode cX1_damagedExtents 14 = .ok (.iload_n 2, 1) := by decide +kernel
theorem dX1_damagedExtents_15 : decode cX1_damagedExtents 15 = .ok (.iaload, 1) := by decide +kernel
theorem dX1_damagedExtents_16 : decode cX1_damagedExtents 16 = .ok (.ifCond .eq 6, 3) := by decide +kernel
theorem dX1_damagedExtents_19 : decode cX1_damagedExtents 19 = .ok (.iinc 1 1, 3) := by decide +kernel
theorem dX1_damagedExtents_22 : decode cX1_damagedExtents 22 = .ok (.iinc 2 1, 3) := by decide +kernel
theorem dX1_damagedExtents_25 : decode cX1_damagedExtents 25 = .ok (.goto (-21), 3) := by decide +kernel
theorem dX1_damagedExtents_28 : decode cX1_damagedExtents 28 = .ok (.iload_n 1, 1) := by decide +kernel
theorem dX1_damagedExtents_29 : decode cX1_damagedExtents 29 = .ok (.ireturn, 1) := by decide +kernel
abbrev cX1_healed : ByteArray := prog_3_method_13_code
def yX1_healed : MethodName := ⟨RX1, "healed", "()I"⟩
theorem dX1_healed_0 : decode cX1_healed 0 = .ok (.aload_n 0, 1) := by decide +kernel
theorem dX1_healed_1 : decode cX1_healed 1 = .ok (.getfield 33, 3) := by decide +kernel
theorem dX1_healed_4 : decode cX1_healed 4 = .ok (.ireturn, 1) := by decide +kernel
abbrev cX1_lose : ByteArray := prog_3_method_14_code
def yX1_lose : MethodName := ⟨RX1, "lose", "(I)I"⟩
theorem dX1_lose_0 : decode cX1_lose 0 = .ok (.iload_n 1, 1) := by decide +kernel
theorem dX1_lose_1 : decode cX1_lose 1 = .ok (.ifCond .lt 8, 3) := by decide +kernel
theorem dX1_lose_4 : decode cX1_lose 4 = .ok (.iload_n 1, 1) := by decide +kernel
theorem dX1_lose_5 : decode cX1_lose 5 = .ok (.iconst 4, 1) := by decide +kernel
theorem dX1_lose_6 : decode cX1_lose 6 = .ok (.if_icmp .le 5, 3) := by decide +kernel
theorem dX1_lose_9 : decode cX1_lose 9 = .ok (.iconst (-1), 1) := by decide +kernel
theorem dX1_lose_10 : decode cX1_lose 10 = .ok (.ireturn, 1) := by decide +kernel
theorem dX1_lose_11 : decode cX1_lose 11 = .ok (.aload_n 0, 1) := by decide +kernel
theorem dX1_lose_12 : decode cX1_lose 12 = .ok (.invokevirtual 36, 3) := by decide +kernel
theorem dX1_lose_15 : decode cX1_lose 15 = .ok (.ifCond .le 8, 3) := by decide +kernel
theorem dX1_lose_18 : decode cX1_lose 18 = .ok (.bipush (-4), 2) := by decide +kernel
theorem dX1_lose_20 : decode cX1_lose 20 = .ok (.goto 4, 3) := by decide +kernel
theorem dX1_lose_23 : decode cX1_lose 23 = .ok (.iconst 0, 1) := by decide +kernel
theorem dX1_lose_24 : decode cX1_lose 24 = .ok (.ireturn, 1) := by decide +kernel
abbrev cX1_copy : ByteArray := prog_3_method_15_code
def yX1_copy : MethodName := ⟨RX1, "copy", "(II)I"⟩
theorem dX1_copy_0 : decode cX1_copy 0 = .ok (.aload_n 0, 1) := by decide +kernel
theorem dX1_copy_1 : decode cX1_copy 1 = .ok (.iload_n 1, 1) := by decide +kernel
theorem dX1_copy_2 : decode cX1_copy 2 = .ok (.invokevirtual 29, 3) := by decide +kernel
theorem dX1_copy_5 : decode cX1_copy 5 = .ok (.ifCond .eq 11, 3) := by decide +kernel
theorem dX1_copy_8 : decode cX1_copy 8 = .ok (.aload_n 0, 1) := by decide +kernel
theorem dX1_copy_9 : decode cX1_copy 9 = .ok (.iload_n 2, 1) := by decide +kernel
theorem dX1_copy_10 : decode cX1_copy 10 = .ok (.invokevirtual 29, 3) := by decide +kernel
theorem dX1_copy_13 : decode cX1_copy 13 = .ok (.ifCond .ne 5, 3) := by decide +kernel
theorem dX1_copy_16 : decode cX1_copy 16 = .ok (.iconst (-1), 1) := by decide +kernel
theorem dX1_copy_17 : decode cX1_copy 17 = .ok (.ireturn, 1) := by decide +kernel
theorem dX1_copy_18 : decode cX1_copy 18 = .ok (.aload_n 0, 1) := by decide +kernel
theorem dX1_copy_19 : decode cX1_copy 19 = .ok (.getfield 22, 3) := by decide +kernel
theorem dX1_copy_22 : decode cX1_copy 22 = .ok (.iload_n 1, 1) := by decide +kernel
theorem dX1_copy_23 : decode cX1_copy 23 = .ok (.iaload, 1) := by decide +kernel
theorem dX1_copy_24 : decode cX1_copy 24 = .ok (.ifCond .eq 6, 3) := by decide +kernel
theorem dX1_copy_27 : decode cX1_copy 27 = .ok (.bipush (-4), 2) := by decide +kernel
theorem dX1_copy_29 : decode cX1_copy 29 = .ok (.ireturn, 1) := by decide +kernel
theorem dX1_copy_30 : decode cX1_copy 30 = .ok (.iconst 0, 1) := by decide +kernel
theorem dX1_copy_31 : decode cX1_copy 31 = .ok (.istore_n 3, 1) := by decide +kernel
theorem dX1_copy_32 : decode cX1_copy 32 = .ok (.iload_n 3, 1) := by decide +kernel
theorem dX1_copy_33 : decode cX1_copy 33 = .ok (.iconst 4, 1) := by decide +kernel
theorem dX1_copy_34 : decode cX1_copy 34 = .ok (.if_icmp .ge 29, 3) := by decide +kernel
theorem dX1_copy_37 : decode cX1_copy 37 = .ok (.aload_n 0, 1) := by decide +kernel
theorem dX1_copy_38 : decode cX1_copy 38 = .ok (.getfield 13, 3) := by decide +kernel
theorem dX1_copy_41 : decode cX1_copy 41 = .ok (.iconst 4, 1) := by decide +kernel
theorem dX1_copy_42 : decode cX1_copy 42 = .ok (.iload_n 2, 1) := by decide +kernel
theorem dX1_copy_43 : decode cX1_copy 43 = .ok (.imul, 1) := by decide +kernel
theorem dX1_copy_44 : decode cX1_copy 44 = .ok (.iload_n 3, 1) := by decide +kernel
theorem dX1_copy_45 : decode cX1_copy 45 = .ok (.iadd, 1) := by decide +kernel
theorem dX1_copy_46 : decode cX1_copy 46 = .ok (.aload_n 0, 1) := by decide +kernel
theorem dX1_copy_47 : decode cX1_copy 47 = .ok (.getfield 13, 3) := by decide +kernel
theorem dX1_copy_50 : decode cX1_copy 50 = .ok (.iconst 4, 1) := by decide +kernel
theorem dX1_copy_51 : decode cX1_copy 51 = .ok (.iload_n 1, 1) := by decide +kernel
theorem dX1_copy_52 : decode cX1_copy 52 = .ok (.imul, 1) := by decide +kernel
theorem dX1_copy_53 : decode cX1_copy 53 = .ok (.iload_n 3, 1) := by decide +kernel
theorem dX1_copy_54 : decode cX1_copy 54 = .ok (.iadd, 1) := by decide +kernel
theorem dX1_copy_55 : decode cX1_copy 55 = .ok (.iaload, 1) := by decide +kernel
theorem dX1_copy_56 : decode cX1_copy 56 = .ok (.iastore, 1) := by decide +kernel
theorem dX1_copy_57 : decode cX1_copy 57 = .ok (.iinc 3 1, 3) := by decide +kernel
theorem dX1_copy_60 : decode cX1_copy 60 = .ok (.goto (-28), 3) := by decide +kernel
theorem dX1_copy_63 : decode cX1_copy 63 = .ok (.aload_n 0, 1) := by decide +kernel
theorem dX1_copy_64 : decode cX1_copy 64 = .ok (.getfield 16, 3) := by decide +kernel
theorem dX1_copy_67 : decode cX1_copy 67 = .ok (.iload_n 2, 1) := by decide +kernel
theorem dX1_copy_68 : decode cX1_copy 68 = .ok (.aload_n 0, 1) := by decide +kernel
theorem dX1_copy_69 : decode cX1_copy 69 = .ok (.getfield 16, 3) := by decide +kernel
theorem dX1_copy_72 : decode cX1_copy 72 = .ok (.iload_n 1, 1) := by decide +kernel
theorem dX1_copy_73 : decode cX1_copy 73 = .ok (.iaload, 1) := by decide +kernel
theorem dX1_copy_74 : decode cX1_copy 74 = .ok (.iastore, 1) := by decide +kernel
theorem dX1_copy_75 : decode cX1_copy 75 = .ok (.aload_n 0, 1) := by decide +kernel
theorem dX1_copy_76 : decode cX1_copy 76 = .ok (.getfield 22, 3) := by decide +kernel
theorem dX1_copy_79 : decode cX1_copy 79 = .ok (.iload_n 2, 1) := by decide +kernel
theorem dX1_copy_80 : decode cX1_copy 80 = .ok (.iconst 0, 1) := by decide +kernel
theorem dX1_copy_81 : decode cX1_copy 81 = .ok (.iastore, 1) := by decide +kernel
theorem dX1_copy_82 : decode cX1_copy 82 = .ok (.aload_n 0, 1) := by decide +kernel
theorem dX1_copy_83 : decode cX1_copy 83 = .ok (.getfield 16, 3) := by decide +kernel
theorem dX1_copy_86 : decode cX1_copy 86 = .ok (.iload_n 1, 1) := by decide +kernel
theorem dX1_copy_87 : decode cX1_copy 87 = .ok (.iaload, 1) := by decide +kernel
theorem dX1_copy_88 : decode cX1_copy 88 = .ok (.ireturn, 1) := by decide +kernel
abbrev cX1_digest : ByteArray := prog_3_method_16_code
def yX1_digest : MethodName := ⟨RX1, "digest", "(I)I"⟩
theorem dX1_digest_0 : decode cX1_digest 0 = .ok (.aload_n 0, 1) := by decide +kernel
theorem dX1_digest_1 : decode cX1_digest 1 = .ok (.iload_n 1, 1) := by decide +kernel
theorem dX1_digest_2 : decode cX1_digest 2 = .ok (.invokevirtual 29, 3) := by decide +kernel
theorem dX1_digest_5 : decode cX1_digest 5 = .ok (.ifCond .ne 5, 3) := by decide +kernel
theorem dX1_digest_8 : decode cX1_digest 8 = .ok (.iconst 0, 1) := by decide +kernel
theorem dX1_digest_9 : decode cX1_digest 9 = .ok (.ireturn, 1) := by decide +kernel
theorem dX1_digest_10 : decode cX1_digest 10 = .ok (.iconst 0, 1) := by decide +kernel
theorem dX1_digest_11 : decode cX1_digest 11 = .ok (.istore_n 2, 1) := by decide +kernel
theorem dX1_digest_12 : decode cX1_digest 12 = .ok (.iconst 0, 1) := by decide +kernel
theorem dX1_digest_13 : decode cX1_digest 13 = .ok (.istore_n 3, 1) := by decide +kernel
theorem dX1_digest_14 : decode cX1_digest 14 = .ok (.iload_n 3, 1) := by decide +kernel
theorem dX1_digest_15 : decode cX1_digest 15 = .ok (.aload_n 0, 1) := by decide +kernel
theorem dX1_digest_16 : decode cX1_digest 16 = .ok (.getfield 16, 3) := by decide +kernel
theorem dX1_digest_19 : decode cX1_digest 19 = .ok (.iload_n 1, 1) := by decide +kernel
theorem dX1_digest_20 : decode cX1_digest 20 = .ok (.iaload, 1) := by decide +kernel
theorem dX1_digest_21 : decode cX1_digest 21 = .ok (.if_icmp .ge 26, 3) := by decide +kernel
theorem dX1_digest_24 : decode cX1_digest 24 = .ok (.iload_n 2, 1) := by decide +kernel
theorem dX1_digest_25 : decode cX1_digest 25 = .ok (.iload_n 3, 1) := by decide +kernel
theorem dX1_digest_26 : decode cX1_digest 26 = .ok (.iconst 1, 1) := by decide +kernel
theorem dX1_digest_27 : decode cX1_digest 27 = .ok (.iadd, 1) := by decide +kernel
theorem dX1_digest_28 : decode cX1_digest 28 = .ok (.aload_n 0, 1) := by decide +kernel
theorem dX1_digest_29 : decode cX1_digest 29 = .ok (.getfield 13, 3) := by decide +kernel
theorem dX1_digest_32 : decode cX1_digest 32 = .ok (.iconst 4, 1) := by decide +kernel
theorem dX1_digest_33 : decode cX1_digest 33 = .ok (.iload_n 1, 1) := by decide +kernel
theorem dX1_digest_34 : decode cX1_digest 34 = .ok (.imul, 1) := by decide +kernel
theorem dX1_digest_35 : decode cX1_digest 35 = .ok (.iload_n 3, 1) := by decide +kernel
theorem dX1_digest_36 : decode cX1_digest 36 = .ok (.iadd, 1) := by decide +kernel
theorem dX1_digest_37 : decode cX1_digest 37 = .ok (.iaload, 1) := by decide +kernel
theorem dX1_digest_38 : decode cX1_digest 38 = .ok (.imul, 1) := by decide +kernel
theorem dX1_digest_39 : decode cX1_digest 39 = .ok (.iadd, 1) := by decide +kernel
theorem dX1_digest_40 : decode cX1_digest 40 = .ok (.istore_n 2, 1) := by decide +kernel
theorem dX1_digest_41 : decode cX1_digest 41 = .ok (.iinc 3 1, 3) := by decide +kernel
theorem dX1_digest_44 : decode cX1_digest 44 = .ok (.goto (-30), 3) := by decide +kernel
theorem dX1_digest_47 : decode cX1_digest 47 = .ok (.iload_n 2, 1) := by decide +kernel
theorem dX1_digest_48 : decode cX1_digest 48 = .ok (.ireturn, 1) := by decide +kernel
theorem q20 : (Jvm.Cond.initialized "SelfHealStripesModel") ∈ lw_all := lw_g (lw_at lw_m1 2 rfl) rfl
theorem q183 : (Jvm.Cond.instantiable "SelfHealStripesModel" (7 : Nat)) ∈ lw_all := lw_g (lw_at lw_m1 165 rfl) rfl
theorem q185 : (Jvm.Cond.instanceMethod ({ cls := "SelfHealStripesModel", name := "<init>", desc := "()V" } : Jvm.MethodName)) ∈ lw_all := lw_g (lw_at lw_m1 167 rfl) rfl
theorem q186 : (Jvm.Cond.code ({ cls := "SelfHealStripesModel", name := "<init>", desc := "()V" } : Jvm.MethodName) prog_3_method_1_code (1 : Nat) (Option.none : Option Jvm.ClassFile.FieldType)) ∈ lw_all := lw_g (lw_at lw_m1 168 rfl) rfl
theorem q187 : (Jvm.Cond.methodLink "SelfHealStripesModel" (1 : Nat) ({ cls := "java/lang/Object", name := "<init>", desc := "()V" } : Jvm.MethodName)) ∈ lw_all := lw_g (lw_at lw_m1 169 rfl) rfl
theorem q188 : (Jvm.Cond.fieldLink "SelfHealStripesModel" (7 : Nat) "SelfHealStripesModel" "draft" "[I") ∈ lw_all := lw_g (lw_at lw_m1 170 rfl) rfl
theorem q189 : (Jvm.Cond.fieldLink "SelfHealStripesModel" (25 : Nat) "SelfHealStripesModel" "drafted" "I") ∈ lw_all := lw_g (lw_at lw_m1 171 rfl) rfl
theorem q190 : (Jvm.Cond.fieldLink "SelfHealStripesModel" (13 : Nat) "SelfHealStripesModel" "words" "[I") ∈ lw_all := lw_g (lw_at lw_m1 172 rfl) rfl
theorem q191 : (Jvm.Cond.fieldLink "SelfHealStripesModel" (16 : Nat) "SelfHealStripesModel" "sizes" "[I") ∈ lw_all := lw_g (lw_at lw_m1 173 rfl) rfl
theorem q192 : (Jvm.Cond.fieldLink "SelfHealStripesModel" (19 : Nat) "SelfHealStripesModel" "column" "[I") ∈ lw_all := lw_g (lw_at lw_m1 174 rfl) rfl
theorem q193 : (Jvm.Cond.fieldLink "SelfHealStripesModel" (22 : Nat) "SelfHealStripesModel" "masks" "[I") ∈ lw_all := lw_g (lw_at lw_m1 175 rfl) rfl
theorem q194 : (Jvm.Cond.fieldLink "SelfHealStripesModel" (33 : Nat) "SelfHealStripesModel" "healed" "I") ∈ lw_all := lw_g (lw_at lw_m1 176 rfl) rfl
theorem q195 : (Jvm.Cond.laysFinal "SelfHealStripesModel" "SelfHealStripesModel" "draft" "[I") ∈ lw_all := lw_g (lw_at lw_m1 177 rfl) rfl
theorem q196 : (Jvm.Cond.soleField "SelfHealStripesModel" "draft") ∈ lw_all := lw_g (lw_at lw_m1 178 rfl) rfl
theorem q197 : (Jvm.Cond.lays "SelfHealStripesModel" "SelfHealStripesModel" "drafted" "I") ∈ lw_all := lw_g (lw_at lw_m1 179 rfl) rfl
theorem q198 : (Jvm.Cond.soleField "SelfHealStripesModel" "drafted") ∈ lw_all := lw_g (lw_at lw_m1 180 rfl) rfl
theorem q199 : (Jvm.Cond.laysFinal "SelfHealStripesModel" "SelfHealStripesModel" "words" "[I") ∈ lw_all := lw_g (lw_at lw_m1 181 rfl) rfl
theorem q200 : (Jvm.Cond.soleField "SelfHealStripesModel" "words") ∈ lw_all := lw_g (lw_at lw_m1 182 rfl) rfl
theorem q201 : (Jvm.Cond.laysFinal "SelfHealStripesModel" "SelfHealStripesModel" "sizes" "[I") ∈ lw_all := lw_g (lw_at lw_m1 183 rfl) rfl
theorem q202 : (Jvm.Cond.soleField "SelfHealStripesModel" "sizes") ∈ lw_all := lw_g (lw_at lw_m1 184 rfl) rfl
theorem q203 : (Jvm.Cond.laysFinal "SelfHealStripesModel" "SelfHealStripesModel" "column" "[I") ∈ lw_all := lw_g (lw_at lw_m1 185 rfl) rfl
theorem q204 : (Jvm.Cond.soleField "SelfHealStripesModel" "column") ∈ lw_all := lw_g (lw_at lw_m1 186 rfl) rfl
theorem q205 : (Jvm.Cond.laysFinal "SelfHealStripesModel" "SelfHealStripesModel" "masks" "[I") ∈ lw_all := lw_g (lw_at lw_m1 187 rfl) rfl
theorem q206 : (Jvm.Cond.soleField "SelfHealStripesModel" "masks") ∈ lw_all := lw_g (lw_at lw_m1 188 rfl) rfl
theorem q207 : (Jvm.Cond.lays "SelfHealStripesModel" "SelfHealStripesModel" "healed" "I") ∈ lw_all := lw_g (lw_at lw_m1 189 rfl) rfl
theorem q208 : (Jvm.Cond.soleField "SelfHealStripesModel" "healed") ∈ lw_all := lw_g (lw_at lw_m1 190 rfl) rfl
theorem q209 : (Jvm.Cond.superclass "SelfHealStripesModel" "java/lang/Object") ∈ lw_all := lw_g (lw_at lw_m1 191 rfl) rfl
theorem q211 : (Jvm.Cond.instanceMethod ({ cls := "SelfHealStripesModel", name := "draft", desc := "(I)I" } : Jvm.MethodName)) ∈ lw_all := lw_g (lw_at lw_m1 193 rfl) rfl
theorem q212 : (Jvm.Cond.selects "SelfHealStripesModel" ({ cls := "SelfHealStripesModel", name := "draft", desc := "(I)I" } : Jvm.MethodName) ({ cls := "SelfHealStripesModel", name := "draft", desc := "(I)I" } : Jvm.MethodName)) ∈ lw_all := lw_g (lw_at lw_m1 194 rfl) rfl
theorem q213 : (Jvm.Cond.code ({ cls := "SelfHealStripesModel", name := "draft", desc := "(I)I" } : Jvm.MethodName) prog_3_method_3_code (2 : Nat) (Option.some Jvm.ClassFile.FieldType.int)) ∈ lw_all := lw_g (lw_at lw_m1 195 rfl) rfl
theorem q215 : (Jvm.Cond.instanceMethod ({ cls := "SelfHealStripesModel", name := "scrap", desc := "()V" } : Jvm.MethodName)) ∈ lw_all := lw_g (lw_at lw_m1 197 rfl) rfl
theorem q216 : (Jvm.Cond.selects "SelfHealStripesModel" ({ cls := "SelfHealStripesModel", name := "scrap", desc := "()V" } : Jvm.MethodName) ({ cls := "SelfHealStripesModel", name := "scrap", desc := "()V" } : Jvm.MethodName)) ∈ lw_all := lw_g (lw_at lw_m1 198 rfl) rfl
theorem q217 : (Jvm.Cond.code ({ cls := "SelfHealStripesModel", name := "scrap", desc := "()V" } : Jvm.MethodName) prog_3_method_4_code (1 : Nat) (Option.none : Option Jvm.ClassFile.FieldType)) ∈ lw_all := lw_g (lw_at lw_m1 199 rfl) rfl
theorem q219 : (Jvm.Cond.instanceMethod ({ cls := "SelfHealStripesModel", name := "put", desc := "(I)I" } : Jvm.MethodName)) ∈ lw_all := lw_g (lw_at lw_m1 201 rfl) rfl
theorem q220 : (Jvm.Cond.selects "SelfHealStripesModel" ({ cls := "SelfHealStripesModel", name := "put", desc := "(I)I" } : Jvm.MethodName) ({ cls := "SelfHealStripesModel", name := "put", desc := "(I)I" } : Jvm.MethodName)) ∈ lw_all := lw_g (lw_at lw_m1 202 rfl) rfl
theorem q221 : (Jvm.Cond.code ({ cls := "SelfHealStripesModel", name := "put", desc := "(I)I" } : Jvm.MethodName) prog_3_method_5_code (3 : Nat) (Option.some Jvm.ClassFile.FieldType.int)) ∈ lw_all := lw_g (lw_at lw_m1 203 rfl) rfl
theorem q222 : (Jvm.Cond.methodLink "SelfHealStripesModel" (29 : Nat) ({ cls := "SelfHealStripesModel", name := "isExtent", desc := "(I)Z" } : Jvm.MethodName)) ∈ lw_all := lw_g (lw_at lw_m1 204 rfl) rfl
theorem q223 : (Jvm.Cond.privateMethod ({ cls := "SelfHealStripesModel", name := "isExtent", desc := "(I)Z" } : Jvm.MethodName)) ∈ lw_tbl := lw_at lw_m1 205 rfl
theorem q224 : (Jvm.Cond.instanceMethod ({ cls := "SelfHealStripesModel", name := "isExtent", desc := "(I)Z" } : Jvm.MethodName)) ∈ lw_all := lw_g (lw_at lw_m1 206 rfl) rfl
theorem q225 : (Jvm.Cond.code ({ cls := "SelfHealStripesModel", name := "isExtent", desc := "(I)Z" } : Jvm.MethodName) prog_3_method_2_code (2 : Nat) (Option.some Jvm.ClassFile.FieldType.boolean)) ∈ lw_all := lw_g (lw_at lw_m1 207 rfl) rfl
theorem q227 : (Jvm.Cond.instanceMethod ({ cls := "SelfHealStripesModel", name := "delete", desc := "(I)I" } : Jvm.MethodName)) ∈ lw_all := lw_g (lw_at lw_m1 209 rfl) rfl
theorem q228 : (Jvm.Cond.selects "SelfHealStripesModel" ({ cls := "SelfHealStripesModel", name := "delete", desc := "(I)I" } : Jvm.MethodName) ({ cls := "SelfHealStripesModel", name := "delete", desc := "(I)I" } : Jvm.MethodName)) ∈ lw_all := lw_g (lw_at lw_m1 210 rfl) rfl
theorem q229 : (Jvm.Cond.code ({ cls := "SelfHealStripesModel", name := "delete", desc := "(I)I" } : Jvm.MethodName) prog_3_method_6_code (3 : Nat) (Option.some Jvm.ClassFile.FieldType.int)) ∈ lw_all := lw_g (lw_at lw_m1 211 rfl) rfl
theorem q231 : (Jvm.Cond.instanceMethod ({ cls := "SelfHealStripesModel", name := "size", desc := "(I)I" } : Jvm.MethodName)) ∈ lw_all := lw_g (lw_at lw_m1 213 rfl) rfl
theorem q232 : (Jvm.Cond.selects "SelfHealStripesModel" ({ cls := "SelfHealStripesModel", name := "size", desc := "(I)I" } : Jvm.MethodName) ({ cls := "SelfHealStripesModel", name := "size", desc := "(I)I" } : Jvm.MethodName)) ∈ lw_all := lw_g (lw_at lw_m1 214 rfl) rfl
theorem q233 : (Jvm.Cond.code ({ cls := "SelfHealStripesModel", name := "size", desc := "(I)I" } : Jvm.MethodName) prog_3_method_7_code (2 : Nat) (Option.some Jvm.ClassFile.FieldType.int)) ∈ lw_all := lw_g (lw_at lw_m1 215 rfl) rfl
theorem q235 : (Jvm.Cond.instanceMethod ({ cls := "SelfHealStripesModel", name := "read", desc := "(II)I" } : Jvm.MethodName)) ∈ lw_all := lw_g (lw_at lw_m1 217 rfl) rfl
theorem q236 : (Jvm.Cond.selects "SelfHealStripesModel" ({ cls := "SelfHealStripesModel", name := "read", desc := "(II)I" } : Jvm.MethodName) ({ cls := "SelfHealStripesModel", name := "read", desc := "(II)I" } : Jvm.MethodName)) ∈ lw_all := lw_g (lw_at lw_m1 218 rfl) rfl
theorem q237 : (Jvm.Cond.code ({ cls := "SelfHealStripesModel", name := "read", desc := "(II)I" } : Jvm.MethodName) prog_3_method_8_code (3 : Nat) (Option.some Jvm.ClassFile.FieldType.int)) ∈ lw_all := lw_g (lw_at lw_m1 219 rfl) rfl
theorem q239 : (Jvm.Cond.instanceMethod ({ cls := "SelfHealStripesModel", name := "damage", desc := "(III)I" } : Jvm.MethodName)) ∈ lw_all := lw_g (lw_at lw_m1 221 rfl) rfl
theorem q240 : (Jvm.Cond.selects "SelfHealStripesModel" ({ cls := "SelfHealStripesModel", name := "damage", desc := "(III)I" } : Jvm.MethodName) ({ cls := "SelfHealStripesModel", name := "damage", desc := "(III)I" } : Jvm.MethodName)) ∈ lw_all := lw_g (lw_at lw_m1 222 rfl) rfl
theorem q241 : (Jvm.Cond.code ({ cls := "SelfHealStripesModel", name := "damage", desc := "(III)I" } : Jvm.MethodName) prog_3_method_9_code (4 : Nat) (Option.some Jvm.ClassFile.FieldType.int)) ∈ lw_all := lw_g (lw_at lw_m1 223 rfl) rfl
theorem q243 : (Jvm.Cond.instanceMethod ({ cls := "SelfHealStripesModel", name := "damaged", desc := "(I)I" } : Jvm.MethodName)) ∈ lw_all := lw_g (lw_at lw_m1 225 rfl) rfl
theorem q244 : (Jvm.Cond.selects "SelfHealStripesModel" ({ cls := "SelfHealStripesModel", name := "damaged", desc := "(I)I" } : Jvm.MethodName) ({ cls := "SelfHealStripesModel", name := "damaged", desc := "(I)I" } : Jvm.MethodName)) ∈ lw_all := lw_g (lw_at lw_m1 226 rfl) rfl
theorem q245 : (Jvm.Cond.code ({ cls := "SelfHealStripesModel", name := "damaged", desc := "(I)I" } : Jvm.MethodName) prog_3_method_10_code (2 : Nat) (Option.some Jvm.ClassFile.FieldType.int)) ∈ lw_all := lw_g (lw_at lw_m1 227 rfl) rfl
theorem q247 : (Jvm.Cond.instanceMethod ({ cls := "SelfHealStripesModel", name := "scrub", desc := "()I" } : Jvm.MethodName)) ∈ lw_all := lw_g (lw_at lw_m1 229 rfl) rfl
theorem q248 : (Jvm.Cond.selects "SelfHealStripesModel" ({ cls := "SelfHealStripesModel", name := "scrub", desc := "()I" } : Jvm.MethodName) ({ cls := "SelfHealStripesModel", name := "scrub", desc := "()I" } : Jvm.MethodName)) ∈ lw_all := lw_g (lw_at lw_m1 230 rfl) rfl
theorem q249 : (Jvm.Cond.code ({ cls := "SelfHealStripesModel", name := "scrub", desc := "()I" } : Jvm.MethodName) prog_3_method_12_code (3 : Nat) (Option.some Jvm.ClassFile.FieldType.int)) ∈ lw_all := lw_g (lw_at lw_m1 231 rfl) rfl
theorem q250 : (Jvm.Cond.methodLink "SelfHealStripesModel" (36 : Nat) ({ cls := "SelfHealStripesModel", name := "damagedExtents", desc := "()I" } : Jvm.MethodName)) ∈ lw_all := lw_g (lw_at lw_m1 232 rfl) rfl
theorem q251 : (Jvm.Cond.privateMethod ({ cls := "SelfHealStripesModel", name := "damagedExtents", desc := "()I" } : Jvm.MethodName)) ∈ lw_tbl := lw_at lw_m1 233 rfl
theorem q252 : (Jvm.Cond.instanceMethod ({ cls := "SelfHealStripesModel", name := "damagedExtents", desc := "()I" } : Jvm.MethodName)) ∈ lw_all := lw_g (lw_at lw_m1 234 rfl) rfl
theorem q253 : (Jvm.Cond.code ({ cls := "SelfHealStripesModel", name := "damagedExtents", desc := "()I" } : Jvm.MethodName) prog_3_method_11_code (3 : Nat) (Option.some Jvm.ClassFile.FieldType.int)) ∈ lw_all := lw_g (lw_at lw_m1 235 rfl) rfl
theorem q255 : (Jvm.Cond.instanceMethod ({ cls := "SelfHealStripesModel", name := "healed", desc := "()I" } : Jvm.MethodName)) ∈ lw_all := lw_g (lw_at lw_m1 237 rfl) rfl
theorem q256 : (Jvm.Cond.selects "SelfHealStripesModel" ({ cls := "SelfHealStripesModel", name := "healed", desc := "()I" } : Jvm.MethodName) ({ cls := "SelfHealStripesModel", name := "healed", desc := "()I" } : Jvm.MethodName)) ∈ lw_all := lw_g (lw_at lw_m1 238 rfl) rfl
theorem q257 : (Jvm.Cond.code ({ cls := "SelfHealStripesModel", name := "healed", desc := "()I" } : Jvm.MethodName) prog_3_method_13_code (1 : Nat) (Option.some Jvm.ClassFile.FieldType.int)) ∈ lw_all := lw_g (lw_at lw_m1 239 rfl) rfl
theorem q259 : (Jvm.Cond.instanceMethod ({ cls := "SelfHealStripesModel", name := "lose", desc := "(I)I" } : Jvm.MethodName)) ∈ lw_all := lw_g (lw_at lw_m2 1 rfl) rfl
theorem q260 : (Jvm.Cond.selects "SelfHealStripesModel" ({ cls := "SelfHealStripesModel", name := "lose", desc := "(I)I" } : Jvm.MethodName) ({ cls := "SelfHealStripesModel", name := "lose", desc := "(I)I" } : Jvm.MethodName)) ∈ lw_all := lw_g (lw_at lw_m2 2 rfl) rfl
theorem q261 : (Jvm.Cond.code ({ cls := "SelfHealStripesModel", name := "lose", desc := "(I)I" } : Jvm.MethodName) prog_3_method_14_code (2 : Nat) (Option.some Jvm.ClassFile.FieldType.int)) ∈ lw_all := lw_g (lw_at lw_m2 3 rfl) rfl
theorem q263 : (Jvm.Cond.instanceMethod ({ cls := "SelfHealStripesModel", name := "copy", desc := "(II)I" } : Jvm.MethodName)) ∈ lw_all := lw_g (lw_at lw_m2 5 rfl) rfl
theorem q264 : (Jvm.Cond.selects "SelfHealStripesModel" ({ cls := "SelfHealStripesModel", name := "copy", desc := "(II)I" } : Jvm.MethodName) ({ cls := "SelfHealStripesModel", name := "copy", desc := "(II)I" } : Jvm.MethodName)) ∈ lw_all := lw_g (lw_at lw_m2 6 rfl) rfl
theorem q265 : (Jvm.Cond.code ({ cls := "SelfHealStripesModel", name := "copy", desc := "(II)I" } : Jvm.MethodName) prog_3_method_15_code (4 : Nat) (Option.some Jvm.ClassFile.FieldType.int)) ∈ lw_all := lw_g (lw_at lw_m2 7 rfl) rfl
theorem q267 : (Jvm.Cond.instanceMethod ({ cls := "SelfHealStripesModel", name := "digest", desc := "(I)I" } : Jvm.MethodName)) ∈ lw_all := lw_g (lw_at lw_m2 9 rfl) rfl
theorem q268 : (Jvm.Cond.selects "SelfHealStripesModel" ({ cls := "SelfHealStripesModel", name := "digest", desc := "(I)I" } : Jvm.MethodName) ({ cls := "SelfHealStripesModel", name := "digest", desc := "(I)I" } : Jvm.MethodName)) ∈ lw_all := lw_g (lw_at lw_m2 10 rfl) rfl
theorem q269 : (Jvm.Cond.code ({ cls := "SelfHealStripesModel", name := "digest", desc := "(I)I" } : Jvm.MethodName) prog_3_method_16_code (4 : Nat) (Option.some Jvm.ClassFile.FieldType.int)) ∈ lw_all := lw_g (lw_at lw_m2 11 rfl) rfl
theorem in_X1 : ∀ w ∈ wsX10, w ∈ lw_all := lw_in wsX10 [195, 197, 199, 201, 203, 205, 207] (by decide +kernel) (by decide +kernel)
end
section
/-! java/lang/Object -/
set_option maxRecDepth 100000
def RJ0 : String := "java/lang/Object"
abbrev cJ0_init : ByteArray := object_method_1_code
def yJ0_init : MethodName := ⟨RJ0, "<init>", "()V"⟩
theorem dJ0_init_0 : decode cJ0_init 0 = .ok (.return_, 1) := by decide +kernel
theorem q27 : (Jvm.Cond.instanceMethod ({ cls := "java/lang/Object", name := "<init>", desc := "()V" } : Jvm.MethodName)) ∈ lw_all := lw_g (lw_at lw_m1 9 rfl) rfl
theorem q28 : (Jvm.Cond.code ({ cls := "java/lang/Object", name := "<init>", desc := "()V" } : Jvm.MethodName) object_method_1_code (1 : Nat) (Option.none : Option Jvm.ClassFile.FieldType)) ∈ lw_all := lw_g (lw_at lw_m1 10 rfl) rfl
/-! the law's own entry -/
set_option maxRecDepth 100000
abbrev cL_law : ByteArray := code
theorem dL_law_0 : decode cL_law 0 = .ok (.new 7, 3) := by decide +kernel
theorem dL_law_3 : decode cL_law 3 = .ok (.dup, 1) := by decide +kernel
theorem dL_law_4 : decode cL_law 4 = .ok (.invokespecial 9, 3) := by decide +kernel
theorem dL_law_7 : decode cL_law 7 = .ok (.astore_n 1, 1) := by decide +kernel
theorem dL_law_8 : decode cL_law 8 = .ok (.new 10, 3) := by decide +kernel
theorem dL_law_11 : decode cL_law 11 = .ok (.dup, 1) := by decide +kernel
theorem dL_law_12 : decode cL_law 12 = .ok (.invokespecial 12, 3) := by decide +kernel
theorem dL_law_15 : decode cL_law 15 = .ok (.astore_n 2, 1) := by decide +kernel
theorem dL_law_16 : decode cL_law 16 = .ok (.iconst 0, 1) := by decide +kernel
theorem dL_law_17 : decode cL_law 17 = .ok (.istore_n 3, 1) := by decide +kernel
theorem dL_law_18 : decode cL_law 18 = .ok (.iload_n 3, 1) := by decide +kernel
theorem dL_law_19 : decode cL_law 19 = .ok (.aload_n 0, 1) := by decide +kernel
theorem dL_law_20 : decode cL_law 20 = .ok (.arraylength, 1) := by decide +kernel
theorem dL_law_21 : decode cL_law 21 = .ok (.iconst 4, 1) := by decide +kernel
theorem dL_law_22 : decode cL_law 22 = .ok (.isub, 1) := by decide +kernel
theorem dL_law_23 : decode cL_law 23 = .ok (.if_icmp .gt 390, 3) := by decide +kernel
theorem dL_law_26 : decode cL_law 26 = .ok (.aload_n 0, 1) := by decide +kernel
theorem dL_law_27 : decode cL_law 27 = .ok (.iload_n 3, 1) := by decide +kernel
theorem dL_law_28 : decode cL_law 28 = .ok (.iaload, 1) := by decide +kernel
theorem dL_law_29 : decode cL_law 29 = .ok (.bipush 15, 2) := by decide +kernel
theorem dL_law_31 : decode cL_law 31 = .ok (.iand, 1) := by decide +kernel
theorem dL_law_32 : decode cL_law 32 = .ok (.tableswitch 375 0 12 #[68, 91, 102, 125, 148, 171, 204, 247, 270, 283, 296, 319, 352], 68) := by decide +kernel
theorem dL_law_100 : decode cL_law 100 = .ok (.aload_n 1, 1) := by decide +kernel
theorem dL_law_101 : decode cL_law 101 = .ok (.aload_n 0, 1) := by decide +kernel
theorem dL_law_102 : decode cL_law 102 = .ok (.iload_n 3, 1) := by decide +kernel
theorem dL_law_103 : decode cL_law 103 = .ok (.iconst 1, 1) := by decide +kernel
theorem dL_law_104 : decode cL_law 104 = .ok (.iadd, 1) := by decide +kernel
theorem dL_law_105 : decode cL_law 105 = .ok (.iaload, 1) := by decide +kernel
theorem dL_law_106 : decode cL_law 106 = .ok (.invokevirtual 13, 3) := by decide +kernel
theorem dL_law_109 : decode cL_law 109 = .ok (.aload_n 2, 1) := by decide +kernel
theorem dL_law_110 : decode cL_law 110 = .ok (.aload_n 0, 1) := by decide +kernel
theorem dL_law_111 : decode cL_law 111 = .ok (.iload_n 3, 1) := by decide +kernel
theorem dL_law_112 : decode cL_law 112 = .ok (.iconst 1, 1) := by decide +kernel
theorem dL_law_113 : decode cL_law 113 = .ok (.iadd, 1) := by decide +kernel
theorem dL_law_114 : decode cL_law 114 = .ok (.iaload, 1) := by decide +kernel
theorem dL_law_115 : decode cL_law 115 = .ok (.invokevirtual 17, 3) := by decide +kernel
theorem dL_law_118 : decode cL_law 118 = .ok (.if_icmp .eq 289, 3) := by decide +kernel
theorem dL_law_121 : decode cL_law 121 = .ok (.iconst 0, 1) := by decide +kernel
theorem dL_law_122 : decode cL_law 122 = .ok (.ireturn, 1) := by decide +kernel
theorem dL_law_123 : decode cL_law 123 = .ok (.aload_n 1, 1) := by decide +kernel
theorem dL_law_124 : decode cL_law 124 = .ok (.invokevirtual 18, 3) := by decide +kernel
theorem dL_law_127 : decode cL_law 127 = .ok (.aload_n 2, 1) := by decide +kernel
theorem dL_law_128 : decode cL_law 128 = .ok (.invokevirtual 21, 3) := by decide +kernel
theorem dL_law_131 : decode cL_law 131 = .ok (.goto 276, 3) := by decide +kernel
theorem dL_law_134 : decode cL_law 134 = .ok (.aload_n 1, 1) := by decide +kernel
theorem dL_law_135 : decode cL_law 135 = .ok (.aload_n 0, 1) := by decide +kernel
theorem dL_law_136 : decode cL_law 136 = .ok (.iload_n 3, 1) := by decide +kernel
theorem dL_law_137 : decode cL_law 137 = .ok (.iconst 1, 1) := by decide +kernel
theorem dL_law_138 : decode cL_law 138 = .ok (.iadd, 1) := by decide +kernel
theorem dL_law_139 : decode cL_law 139 = .ok (.iaload, 1) := by decide +kernel
theorem dL_law_140 : decode cL_law 140 = .ok (.invokevirtual 22, 3) := by decide +kernel
theorem dL_law_143 : decode cL_law 143 = .ok (.aload_n 2, 1) := by decide +kernel
theorem dL_law_144 : decode cL_law 144 = .ok (.aload_n 0, 1) := by decide +kernel
theorem dL_law_145 : decode cL_law 145 = .ok (.iload_n 3, 1) := by decide +kernel
theorem dL_law_146 : decode cL_law 146 = .ok (.iconst 1, 1) := by decide +kernel
theorem dL_law_147 : decode cL_law 147 = .ok (.iadd, 1) := by decide +kernel
theorem dL_law_148 : decode cL_law 148 = .ok (.iaload, 1) := by decide +kernel
theorem dL_law_149 : decode cL_law 149 = .ok (.invokevirtual 25, 3) := by decide +kernel
theorem dL_law_152 : decode cL_law 152 = .ok (.if_icmp .eq 255, 3) := by decide +kernel
theorem dL_law_155 : decode cL_law 155 = .ok (.iconst 0, 1) := by decide +kernel
theorem dL_law_156 : decode cL_law 156 = .ok (.ireturn, 1) := by decide +kernel
theorem dL_law_157 : decode cL_law 157 = .ok (.aload_n 1, 1) := by decide +kernel
theorem dL_law_158 : decode cL_law 158 = .ok (.aload_n 0, 1) := by decide +kernel
theorem dL_law_159 : decode cL_law 159 = .ok (.iload_n 3, 1) := by decide +kernel
theorem dL_law_160 : decode cL_law 160 = .ok (.iconst 1, 1) := by decide +kernel
theorem dL_law_161 : decode cL_law 161 = .ok (.iadd, 1) := by decide +kernel
theorem dL_law_162 : decode cL_law 162 = .ok (.iaload, 1) := by decide +kernel
theorem dL_law_163 : decode cL_law 163 = .ok (.invokevirtual 26, 3) := by decide +kernel
theorem dL_law_166 : decode cL_law 166 = .ok (.aload_n 2, 1) := by decide +kernel
theorem dL_law_167 : decode cL_law 167 = .ok (.aload_n 0, 1) := by decide +kernel
theorem dL_law_168 : decode cL_law 168 = .ok (.iload_n 3, 1) := by decide +kernel
theorem dL_law_169 : decode cL_law 169 = .ok (.iconst 1, 1) := by decide +kernel
theorem dL_law_170 : decode cL_law 170 = .ok (.iadd, 1) := by decide +kernel
theorem dL_law_171 : decode cL_law 171 = .ok (.iaload, 1) := by decide +kernel
theorem dL_law_172 : decode cL_law 172 = .ok (.invokevirtual 29, 3) := by decide +kernel
theorem dL_law_175 : decode cL_law 175 = .ok (.if_icmp .eq 232, 3) := by decide +kernel
theorem dL_law_178 : decode cL_law 178 = .ok (.iconst 0, 1) := by decide +kernel
theorem dL_law_179 : decode cL_law 179 = .ok (.ireturn, 1) := by decide +kernel
theorem dL_law_180 : decode cL_law 180 = .ok (.aload_n 1, 1) := by decide +kernel
theorem dL_law_181 : decode cL_law 181 = .ok (.aload_n 0, 1) := by decide +kernel
theorem dL_law_182 : decode cL_law 182 = .ok (.iload_n 3, 1) := by decide +kernel
theorem dL_law_183 : decode cL_law 183 = .ok (.iconst 1, 1) := by decide +kernel
theorem dL_law_184 : decode cL_law 184 = .ok (.iadd, 1) := by decide +kernel
theorem dL_law_185 : decode cL_law 185 = .ok (.iaload, 1) := by decide +kernel
theorem dL_law_186 : decode cL_law 186 = .ok (.invokevirtual 30, 3) := by decide +kernel
theorem dL_law_189 : decode cL_law 189 = .ok (.aload_n 2, 1) := by decide +kernel
theorem dL_law_190 : decode cL_law 190 = .ok (.aload_n 0, 1) := by decide +kernel
theorem dL_law_191 : decode cL_law 191 = .ok (.iload_n 3, 1) := by decide +kernel
theorem dL_law_192 : decode cL_law 192 = .ok (.iconst 1, 1) := by decide +kernel
theorem dL_law_193 : decode cL_law 193 = .ok (.iadd, 1) := by decide +kernel
theorem dL_law_194 : decode cL_law 194 = .ok (.iaload, 1) := by decide +kernel
theorem dL_law_195 : decode cL_law 195 = .ok (.invokevirtual 33, 3) := by decide +kernel
theorem dL_law_198 : decode cL_law 198 = .ok (.if_icmp .eq 209, 3) := by decide +kernel
theorem dL_law_201 : decode cL_law 201 = .ok (.iconst 0, 1) := by decide +kernel
theorem dL_law_202 : decode cL_law 202 = .ok (.ireturn, 1) := by decide +kernel
theorem dL_law_203 : decode cL_law 203 = .ok (.aload_n 1, 1) := by decide +kernel
theorem dL_law_204 : decode cL_law 204 = .ok (.aload_n 0, 1) := by decide +kernel
theorem dL_law_205 : decode cL_law 205 = .ok (.iload_n 3, 1) := by decide +kernel
theorem dL_law_206 : decode cL_law 206 = .ok (.iconst 1, 1) := by decide +kernel
theorem dL_law_207 : decode cL_law 207 = .ok (.iadd, 1) := by decide +kernel
theorem dL_law_208 : decode cL_law 208 = .ok (.iaload, 1) := by decide +kernel
theorem dL_law_209 : decode cL_law 209 = .ok (.aload_n 0, 1) := by decide +kernel
theorem dL_law_210 : decode cL_law 210 = .ok (.iload_n 3, 1) := by decide +kernel
theorem dL_law_211 : decode cL_law 211 = .ok (.iconst 2, 1) := by decide +kernel
theorem dL_law_212 : decode cL_law 212 = .ok (.iadd, 1) := by decide +kernel
theorem dL_law_213 : decode cL_law 213 = .ok (.iaload, 1) := by decide +kernel
theorem dL_law_214 : decode cL_law 214 = .ok (.invokevirtual 34, 3) := by decide +kernel
theorem dL_law_217 : decode cL_law 217 = .ok (.aload_n 2, 1) := by decide +kernel
theorem dL_law_218 : decode cL_law 218 = .ok (.aload_n 0, 1) := by decide +kernel
theorem dL_law_219 : decode cL_law 219 = .ok (.iload_n 3, 1) := by decide +kernel
theorem dL_law_220 : decode cL_law 220 = .ok (.iconst 1, 1) := by decide +kernel
theorem dL_law_221 : decode cL_law 221 = .ok (.iadd, 1) := by decide +kernel
theorem dL_law_222 : decode cL_law 222 = .ok (.iaload, 1) := by decide +kernel
theorem dL_law_223 : decode cL_law 223 = .ok (.aload_n 0, 1) := by decide +kernel
theorem dL_law_224 : decode cL_law 224 = .ok (.iload_n 3, 1) := by decide +kernel
theorem dL_law_225 : decode cL_law 225 = .ok (.iconst 2, 1) := by decide +kernel
theorem dL_law_226 : decode cL_law 226 = .ok (.iadd, 1) := by decide +kernel
theorem dL_law_227 : decode cL_law 227 = .ok (.iaload, 1) := by decide +kernel
theorem dL_law_228 : decode cL_law 228 = .ok (.invokevirtual 38, 3) := by decide +kernel
theorem dL_law_231 : decode cL_law 231 = .ok (.if_icmp .eq 176, 3) := by decide +kernel
theorem dL_law_234 : decode cL_law 234 = .ok (.iconst 0, 1) := by decide +kernel
theorem dL_law_235 : decode cL_law 235 = .ok (.ireturn, 1) := by decide +kernel
theorem dL_law_236 : decode cL_law 236 = .ok (.aload_n 1, 1) := by decide +kernel
theorem dL_law_237 : decode cL_law 237 = .ok (.aload_n 0, 1) := by decide +kernel
theorem dL_law_238 : decode cL_law 238 = .ok (.iload_n 3, 1) := by decide +kernel
theorem dL_law_239 : decode cL_law 239 = .ok (.iconst 1, 1) := by decide +kernel
theorem dL_law_240 : decode cL_law 240 = .ok (.iadd, 1) := by decide +kernel
theorem dL_law_241 : decode cL_law 241 = .ok (.iaload, 1) := by decide +kernel
theorem dL_law_242 : decode cL_law 242 = .ok (.aload_n 0, 1) := by decide +kernel
theorem dL_law_243 : decode cL_law 243 = .ok (.iload_n 3, 1) := by decide +kernel
theorem dL_law_244 : decode cL_law 244 = .ok (.iconst 2, 1) := by decide +kernel
theorem dL_law_245 : decode cL_law 245 = .ok (.iadd, 1) := by decide +kernel
theorem dL_law_246 : decode cL_law 246 = .ok (.iaload, 1) := by decide +kernel
theorem dL_law_247 : decode cL_law 247 = .ok (.aload_n 0, 1) := by decide +kernel
theorem dL_law_248 : decode cL_law 248 = .ok (.iload_n 3, 1) := by decide +kernel
theorem dL_law_249 : decode cL_law 249 = .ok (.iconst 3, 1) := by decide +kernel
theorem dL_law_250 : decode cL_law 250 = .ok (.iadd, 1) := by decide +kernel
theorem dL_law_251 : decode cL_law 251 = .ok (.iaload, 1) := by decide +kernel
theorem dL_law_252 : decode cL_law 252 = .ok (.invokevirtual 39, 3) := by decide +kernel
theorem dL_law_255 : decode cL_law 255 = .ok (.aload_n 2, 1) := by decide +kernel
theorem dL_law_256 : decode cL_law 256 = .ok (.aload_n 0, 1) := by decide +kernel
theorem dL_law_257 : decode cL_law 257 = .ok (.iload_n 3, 1) := by decide +kernel
theorem dL_law_258 : decode cL_law 258 = .ok (.iconst 1, 1) := by decide +kernel
theorem dL_law_259 : decode cL_law 259 = .ok (.iadd, 1) := by decide +kernel
theorem dL_law_260 : decode cL_law 260 = .ok (.iaload, 1) := by decide +kernel
theorem dL_law_261 : decode cL_law 261 = .ok (.aload_n 0, 1) := by decide +kernel
theorem dL_law_262 : decode cL_law 262 = .ok (.iload_n 3, 1) := by decide +kernel
theorem dL_law_263 : decode cL_law 263 = .ok (.iconst 2, 1) := by decide +kernel
theorem dL_law_264 : decode cL_law 264 = .ok (.iadd, 1) := by decide +kernel
theorem dL_law_265 : decode cL_law 265 = .ok (.iaload, 1) := by decide +kernel
theorem dL_law_266 : decode cL_law 266 = .ok (.aload_n 0, 1) := by decide +kernel
theorem dL_law_267 : decode cL_law 267 = .ok (.iload_n 3, 1) := by decide +kernel
theorem dL_law_268 : decode cL_law 268 = .ok (.iconst 3, 1) := by decide +kernel
theorem dL_law_269 : decode cL_law 269 = .ok (.iadd, 1) := by decide +kernel
theorem dL_law_270 : decode cL_law 270 = .ok (.iaload, 1) := by decide +kernel
theorem dL_law_271 : decode cL_law 271 = .ok (.invokevirtual 43, 3) := by decide +kernel
theorem dL_law_274 : decode cL_law 274 = .ok (.if_icmp .eq 133, 3) := by decide +kernel
theorem dL_law_277 : decode cL_law 277 = .ok (.iconst 0, 1) := by decide +kernel
theorem dL_law_278 : decode cL_law 278 = .ok (.ireturn, 1) := by decide +kernel
theorem dL_law_279 : decode cL_law 279 = .ok (.aload_n 1, 1) := by decide +kernel
theorem dL_law_280 : decode cL_law 280 = .ok (.aload_n 0, 1) := by decide +kernel
theorem dL_law_281 : decode cL_law 281 = .ok (.iload_n 3, 1) := by decide +kernel
theorem dL_law_282 : decode cL_law 282 = .ok (.iconst 1, 1) := by decide +kernel
theorem dL_law_283 : decode cL_law 283 = .ok (.iadd, 1) := by decide +kernel
theorem dL_law_284 : decode cL_law 284 = .ok (.iaload, 1) := by decide +kernel
theorem dL_law_285 : decode cL_law 285 = .ok (.invokevirtual 44, 3) := by decide +kernel
theorem dL_law_288 : decode cL_law 288 = .ok (.aload_n 2, 1) := by decide +kernel
theorem dL_law_289 : decode cL_law 289 = .ok (.aload_n 0, 1) := by decide +kernel
theorem dL_law_290 : decode cL_law 290 = .ok (.iload_n 3, 1) := by decide +kernel
theorem dL_law_291 : decode cL_law 291 = .ok (.iconst 1, 1) := by decide +kernel
theorem dL_law_292 : decode cL_law 292 = .ok (.iadd, 1) := by decide +kernel
theorem dL_law_293 : decode cL_law 293 = .ok (.iaload, 1) := by decide +kernel
theorem dL_law_294 : decode cL_law 294 = .ok (.invokevirtual 47, 3) := by decide +kernel
theorem dL_law_297 : decode cL_law 297 = .ok (.if_icmp .eq 110, 3) := by decide +kernel
theorem dL_law_300 : decode cL_law 300 = .ok (.iconst 0, 1) := by decide +kernel
theorem dL_law_301 : decode cL_law 301 = .ok (.ireturn, 1) := by decide +kernel
theorem dL_law_302 : decode cL_law 302 = .ok (.aload_n 1, 1) := by decide +kernel
theorem dL_law_303 : decode cL_law 303 = .ok (.invokevirtual 48, 3) := by decide +kernel
theorem dL_law_306 : decode cL_law 306 = .ok (.aload_n 2, 1) := by decide +kernel
theorem dL_law_307 : decode cL_law 307 = .ok (.invokevirtual 52, 3) := by decide +kernel
theorem dL_law_310 : decode cL_law 310 = .ok (.if_icmp .eq 97, 3) := by decide +kernel
theorem dL_law_313 : decode cL_law 313 = .ok (.iconst 0, 1) := by decide +kernel
theorem dL_law_314 : decode cL_law 314 = .ok (.ireturn, 1) := by decide +kernel
theorem dL_law_315 : decode cL_law 315 = .ok (.aload_n 1, 1) := by decide +kernel
theorem dL_law_316 : decode cL_law 316 = .ok (.invokevirtual 53, 3) := by decide +kernel
theorem dL_law_319 : decode cL_law 319 = .ok (.aload_n 2, 1) := by decide +kernel
theorem dL_law_320 : decode cL_law 320 = .ok (.invokevirtual 56, 3) := by decide +kernel
theorem dL_law_323 : decode cL_law 323 = .ok (.if_icmp .eq 84, 3) := by decide +kernel
theorem dL_law_326 : decode cL_law 326 = .ok (.iconst 0, 1) := by decide +kernel
theorem dL_law_327 : decode cL_law 327 = .ok (.ireturn, 1) := by decide +kernel
theorem dL_law_328 : decode cL_law 328 = .ok (.aload_n 1, 1) := by decide +kernel
theorem dL_law_329 : decode cL_law 329 = .ok (.aload_n 0, 1) := by decide +kernel
theorem dL_law_330 : decode cL_law 330 = .ok (.iload_n 3, 1) := by decide +kernel
theorem dL_law_331 : decode cL_law 331 = .ok (.iconst 1, 1) := by decide +kernel
theorem dL_law_332 : decode cL_law 332 = .ok (.iadd, 1) := by decide +kernel
theorem dL_law_333 : decode cL_law 333 = .ok (.iaload, 1) := by decide +kernel
theorem dL_law_334 : decode cL_law 334 = .ok (.invokevirtual 57, 3) := by decide +kernel
theorem dL_law_337 : decode cL_law 337 = .ok (.aload_n 2, 1) := by decide +kernel
theorem dL_law_338 : decode cL_law 338 = .ok (.aload_n 0, 1) := by decide +kernel
theorem dL_law_339 : decode cL_law 339 = .ok (.iload_n 3, 1) := by decide +kernel
theorem dL_law_340 : decode cL_law 340 = .ok (.iconst 1, 1) := by decide +kernel
theorem dL_law_341 : decode cL_law 341 = .ok (.iadd, 1) := by decide +kernel
theorem dL_law_342 : decode cL_law 342 = .ok (.iaload, 1) := by decide +kernel
theorem dL_law_343 : decode cL_law 343 = .ok (.invokevirtual 60, 3) := by decide +kernel
theorem dL_law_346 : decode cL_law 346 = .ok (.if_icmp .eq 61, 3) := by decide +kernel
theorem dL_law_349 : decode cL_law 349 = .ok (.iconst 0, 1) := by decide +kernel
theorem dL_law_350 : decode cL_law 350 = .ok (.ireturn, 1) := by decide +kernel
theorem dL_law_351 : decode cL_law 351 = .ok (.aload_n 1, 1) := by decide +kernel
theorem dL_law_352 : decode cL_law 352 = .ok (.aload_n 0, 1) := by decide +kernel
theorem dL_law_353 : decode cL_law 353 = .ok (.iload_n 3, 1) := by decide +kernel
theorem dL_law_354 : decode cL_law 354 = .ok (.iconst 1, 1) := by decide +kernel
theorem dL_law_355 : decode cL_law 355 = .ok (.iadd, 1) := by decide +kernel
theorem dL_law_356 : decode cL_law 356 = .ok (.iaload, 1) := by decide +kernel
theorem dL_law_357 : decode cL_law 357 = .ok (.aload_n 0, 1) := by decide +kernel
theorem dL_law_358 : decode cL_law 358 = .ok (.iload_n 3, 1) := by decide +kernel
theorem dL_law_359 : decode cL_law 359 = .ok (.iconst 2, 1) := by decide +kernel
theorem dL_law_360 : decode cL_law 360 = .ok (.iadd, 1) := by decide +kernel
theorem dL_law_361 : decode cL_law 361 = .ok (.iaload, 1) := by decide +kernel
theorem dL_law_362 : decode cL_law 362 = .ok (.invokevirtual 61, 3) := by decide +kernel
theorem dL_law_365 : decode cL_law 365 = .ok (.aload_n 2, 1) := by decide +kernel
theorem dL_law_366 : decode cL_law 366 = .ok (.aload_n 0, 1) := by decide +kernel
theorem dL_law_367 : decode cL_law 367 = .ok (.iload_n 3, 1) := by decide +kernel
theorem dL_law_368 : decode cL_law 368 = .ok (.iconst 1, 1) := by decide +kernel
theorem dL_law_369 : decode cL_law 369 = .ok (.iadd, 1) := by decide +kernel
theorem dL_law_370 : decode cL_law 370 = .ok (.iaload, 1) := by decide +kernel
theorem dL_law_371 : decode cL_law 371 = .ok (.aload_n 0, 1) := by decide +kernel
theorem dL_law_372 : decode cL_law 372 = .ok (.iload_n 3, 1) := by decide +kernel
theorem dL_law_373 : decode cL_law 373 = .ok (.iconst 2, 1) := by decide +kernel
theorem dL_law_374 : decode cL_law 374 = .ok (.iadd, 1) := by decide +kernel
theorem dL_law_375 : decode cL_law 375 = .ok (.iaload, 1) := by decide +kernel
theorem dL_law_376 : decode cL_law 376 = .ok (.invokevirtual 64, 3) := by decide +kernel
theorem dL_law_379 : decode cL_law 379 = .ok (.if_icmp .eq 28, 3) := by decide +kernel
theorem dL_law_382 : decode cL_law 382 = .ok (.iconst 0, 1) := by decide +kernel
theorem dL_law_383 : decode cL_law 383 = .ok (.ireturn, 1) := by decide +kernel
theorem dL_law_384 : decode cL_law 384 = .ok (.aload_n 1, 1) := by decide +kernel
theorem dL_law_385 : decode cL_law 385 = .ok (.aload_n 0, 1) := by decide +kernel
theorem dL_law_386 : decode cL_law 386 = .ok (.iload_n 3, 1) := by decide +kernel
theorem dL_law_387 : decode cL_law 387 = .ok (.iconst 1, 1) := by decide +kernel
theorem dL_law_388 : decode cL_law 388 = .ok (.iadd, 1) := by decide +kernel
theorem dL_law_389 : decode cL_law 389 = .ok (.iaload, 1) := by decide +kernel
theorem dL_law_390 : decode cL_law 390 = .ok (.invokevirtual 65, 3) := by decide +kernel
theorem dL_law_393 : decode cL_law 393 = .ok (.aload_n 2, 1) := by decide +kernel
theorem dL_law_394 : decode cL_law 394 = .ok (.aload_n 0, 1) := by decide +kernel
theorem dL_law_395 : decode cL_law 395 = .ok (.iload_n 3, 1) := by decide +kernel
theorem dL_law_396 : decode cL_law 396 = .ok (.iconst 1, 1) := by decide +kernel
theorem dL_law_397 : decode cL_law 397 = .ok (.iadd, 1) := by decide +kernel
theorem dL_law_398 : decode cL_law 398 = .ok (.iaload, 1) := by decide +kernel
theorem dL_law_399 : decode cL_law 399 = .ok (.invokevirtual 68, 3) := by decide +kernel
theorem dL_law_402 : decode cL_law 402 = .ok (.if_icmp .eq 5, 3) := by decide +kernel
theorem dL_law_405 : decode cL_law 405 = .ok (.iconst 0, 1) := by decide +kernel
theorem dL_law_406 : decode cL_law 406 = .ok (.ireturn, 1) := by decide +kernel
theorem dL_law_407 : decode cL_law 407 = .ok (.iinc 3 4, 3) := by decide +kernel
theorem dL_law_410 : decode cL_law 410 = .ok (.goto (-392), 3) := by decide +kernel
theorem dL_law_413 : decode cL_law 413 = .ok (.iconst 1, 1) := by decide +kernel
theorem dL_law_414 : decode cL_law 414 = .ok (.ireturn, 1) := by decide +kernel
theorem q18 : (Jvm.Cond.initialized "SelfHealStripesLaw") ∈ lw_all := lw_g (lw_at lw_m1 0 rfl) rfl
set_option maxRecDepth 100000
theorem q21 : (Jvm.Cond.classLink "SelfHealStripesLaw" (7 : Nat) "SelfHealStripes") ∈ lw_all := lw_g (lw_at lw_m1 3 rfl) rfl
theorem q23 : (Jvm.Cond.methodLink "SelfHealStripesLaw" (9 : Nat) ({ cls := "SelfHealStripes", name := "<init>", desc := "()V" } : Jvm.MethodName)) ∈ lw_all := lw_g (lw_at lw_m1 5 rfl) rfl
theorem q65 : (Jvm.Cond.methodLink "SelfHealStripesLaw" (13 : Nat) ({ cls := "SelfHealStripes", name := "draft", desc := "(I)I" } : Jvm.MethodName)) ∈ lw_all := lw_g (lw_at lw_m1 47 rfl) rfl
theorem q69 : (Jvm.Cond.methodLink "SelfHealStripesLaw" (18 : Nat) ({ cls := "SelfHealStripes", name := "scrap", desc := "()V" } : Jvm.MethodName)) ∈ lw_all := lw_g (lw_at lw_m1 51 rfl) rfl
theorem q73 : (Jvm.Cond.methodLink "SelfHealStripesLaw" (22 : Nat) ({ cls := "SelfHealStripes", name := "put", desc := "(I)I" } : Jvm.MethodName)) ∈ lw_all := lw_g (lw_at lw_m1 55 rfl) rfl
theorem q110 : (Jvm.Cond.methodLink "SelfHealStripesLaw" (26 : Nat) ({ cls := "SelfHealStripes", name := "delete", desc := "(I)I" } : Jvm.MethodName)) ∈ lw_all := lw_g (lw_at lw_m1 92 rfl) rfl
theorem q114 : (Jvm.Cond.methodLink "SelfHealStripesLaw" (30 : Nat) ({ cls := "SelfHealStripes", name := "size", desc := "(I)I" } : Jvm.MethodName)) ∈ lw_all := lw_g (lw_at lw_m1 96 rfl) rfl
theorem q118 : (Jvm.Cond.methodLink "SelfHealStripesLaw" (34 : Nat) ({ cls := "SelfHealStripes", name := "read", desc := "(II)I" } : Jvm.MethodName)) ∈ lw_all := lw_g (lw_at lw_m1 100 rfl) rfl
theorem q138 : (Jvm.Cond.methodLink "SelfHealStripesLaw" (39 : Nat) ({ cls := "SelfHealStripes", name := "damage", desc := "(III)I" } : Jvm.MethodName)) ∈ lw_all := lw_g (lw_at lw_m1 120 rfl) rfl
theorem q146 : (Jvm.Cond.methodLink "SelfHealStripesLaw" (44 : Nat) ({ cls := "SelfHealStripes", name := "damaged", desc := "(I)I" } : Jvm.MethodName)) ∈ lw_all := lw_g (lw_at lw_m1 128 rfl) rfl
theorem q150 : (Jvm.Cond.methodLink "SelfHealStripesLaw" (48 : Nat) ({ cls := "SelfHealStripes", name := "scrub", desc := "()I" } : Jvm.MethodName)) ∈ lw_all := lw_g (lw_at lw_m1 132 rfl) rfl
theorem q158 : (Jvm.Cond.methodLink "SelfHealStripesLaw" (53 : Nat) ({ cls := "SelfHealStripes", name := "healed", desc := "()I" } : Jvm.MethodName)) ∈ lw_all := lw_g (lw_at lw_m1 140 rfl) rfl
theorem q162 : (Jvm.Cond.methodLink "SelfHealStripesLaw" (57 : Nat) ({ cls := "SelfHealStripes", name := "lose", desc := "(I)I" } : Jvm.MethodName)) ∈ lw_all := lw_g (lw_at lw_m1 144 rfl) rfl
theorem q174 : (Jvm.Cond.methodLink "SelfHealStripesLaw" (61 : Nat) ({ cls := "SelfHealStripes", name := "copy", desc := "(II)I" } : Jvm.MethodName)) ∈ lw_all := lw_g (lw_at lw_m1 156 rfl) rfl
theorem q178 : (Jvm.Cond.methodLink "SelfHealStripesLaw" (65 : Nat) ({ cls := "SelfHealStripes", name := "digest", desc := "(I)I" } : Jvm.MethodName)) ∈ lw_all := lw_g (lw_at lw_m1 160 rfl) rfl
theorem q182 : (Jvm.Cond.classLink "SelfHealStripesLaw" (10 : Nat) "SelfHealStripesModel") ∈ lw_all := lw_g (lw_at lw_m1 164 rfl) rfl
theorem q184 : (Jvm.Cond.methodLink "SelfHealStripesLaw" (12 : Nat) ({ cls := "SelfHealStripesModel", name := "<init>", desc := "()V" } : Jvm.MethodName)) ∈ lw_all := lw_g (lw_at lw_m1 166 rfl) rfl
theorem q210 : (Jvm.Cond.methodLink "SelfHealStripesLaw" (17 : Nat) ({ cls := "SelfHealStripesModel", name := "draft", desc := "(I)I" } : Jvm.MethodName)) ∈ lw_all := lw_g (lw_at lw_m1 192 rfl) rfl
theorem q214 : (Jvm.Cond.methodLink "SelfHealStripesLaw" (21 : Nat) ({ cls := "SelfHealStripesModel", name := "scrap", desc := "()V" } : Jvm.MethodName)) ∈ lw_all := lw_g (lw_at lw_m1 196 rfl) rfl
theorem q218 : (Jvm.Cond.methodLink "SelfHealStripesLaw" (25 : Nat) ({ cls := "SelfHealStripesModel", name := "put", desc := "(I)I" } : Jvm.MethodName)) ∈ lw_all := lw_g (lw_at lw_m1 200 rfl) rfl
theorem q226 : (Jvm.Cond.methodLink "SelfHealStripesLaw" (29 : Nat) ({ cls := "SelfHealStripesModel", name := "delete", desc := "(I)I" } : Jvm.MethodName)) ∈ lw_all := lw_g (lw_at lw_m1 208 rfl) rfl
theorem q230 : (Jvm.Cond.methodLink "SelfHealStripesLaw" (33 : Nat) ({ cls := "SelfHealStripesModel", name := "size", desc := "(I)I" } : Jvm.MethodName)) ∈ lw_all := lw_g (lw_at lw_m1 212 rfl) rfl
theorem q234 : (Jvm.Cond.methodLink "SelfHealStripesLaw" (38 : Nat) ({ cls := "SelfHealStripesModel", name := "read", desc := "(II)I" } : Jvm.MethodName)) ∈ lw_all := lw_g (lw_at lw_m1 216 rfl) rfl
theorem q238 : (Jvm.Cond.methodLink "SelfHealStripesLaw" (43 : Nat) ({ cls := "SelfHealStripesModel", name := "damage", desc := "(III)I" } : Jvm.MethodName)) ∈ lw_all := lw_g (lw_at lw_m1 220 rfl) rfl
theorem q242 : (Jvm.Cond.methodLink "SelfHealStripesLaw" (47 : Nat) ({ cls := "SelfHealStripesModel", name := "damaged", desc := "(I)I" } : Jvm.MethodName)) ∈ lw_all := lw_g (lw_at lw_m1 224 rfl) rfl
theorem q246 : (Jvm.Cond.methodLink "SelfHealStripesLaw" (52 : Nat) ({ cls := "SelfHealStripesModel", name := "scrub", desc := "()I" } : Jvm.MethodName)) ∈ lw_all := lw_g (lw_at lw_m1 228 rfl) rfl
theorem q254 : (Jvm.Cond.methodLink "SelfHealStripesLaw" (56 : Nat) ({ cls := "SelfHealStripesModel", name := "healed", desc := "()I" } : Jvm.MethodName)) ∈ lw_all := lw_g (lw_at lw_m1 236 rfl) rfl
theorem q258 : (Jvm.Cond.methodLink "SelfHealStripesLaw" (60 : Nat) ({ cls := "SelfHealStripesModel", name := "lose", desc := "(I)I" } : Jvm.MethodName)) ∈ lw_all := lw_g (lw_at lw_m2 0 rfl) rfl
theorem q262 : (Jvm.Cond.methodLink "SelfHealStripesLaw" (64 : Nat) ({ cls := "SelfHealStripesModel", name := "copy", desc := "(II)I" } : Jvm.MethodName)) ∈ lw_all := lw_g (lw_at lw_m2 4 rfl) rfl
theorem q266 : (Jvm.Cond.methodLink "SelfHealStripesLaw" (68 : Nat) ({ cls := "SelfHealStripesModel", name := "digest", desc := "(I)I" } : Jvm.MethodName)) ∈ lw_all := lw_g (lw_at lw_m2 8 rfl) rfl
theorem q63 : (Jvm.Cond.arrayClass Jvm.ClassFile.FieldType.int) ∈ lw_all := lw_g (lw_at lw_m1 45 rfl) rfl
set_option maxRecDepth 100000
theorem q64 : (Jvm.Cond.arrayClass Jvm.ClassFile.FieldType.boolean) ∈ lw_all := lw_g (lw_at lw_m1 46 rfl) rfl
end
section
/-! the walk's own kit: Az E I lv pc st: from the place pc, with the world I, the places lv and the stack st, the machine comes to its end -/
set_option maxRecDepth 100000
abbrev EV : Type := Program × Launch × Env × Room × State × MethodId × Array Value × List Frame × Method × Code × Nat × Nat × Nat × (State → Prop)
abbrev eP (E : EV) : Program := E.1
abbrev eL (E : EV) : Launch := E.2.1
abbrev eE (E : EV) : Env := E.2.2.1
abbrev eR (E : EV) : Room := E.2.2.2.1
abbrev eS (E : EV) : State := E.2.2.2.2.1
abbrev eM (E : EV) : MethodId := E.2.2.2.2.2.1
abbrev eA (E : EV) : Array Value := E.2.2.2.2.2.2.1
abbrev eB (E : EV) : List Frame := E.2.2.2.2.2.2.2.1
abbrev eT (E : EV) : Method := E.2.2.2.2.2.2.2.2.1
abbrev eC (E : EV) : Code := E.2.2.2.2.2.2.2.2.2.1
abbrev eX (E : EV) : Nat := E.2.2.2.2.2.2.2.2.2.2.1
abbrev eY (E : EV) : Nat := E.2.2.2.2.2.2.2.2.2.2.2.1
abbrev eN (E : EV) : Nat := E.2.2.2.2.2.2.2.2.2.2.2.2.1
abbrev eQ (E : EV) : State → Prop := E.2.2.2.2.2.2.2.2.2.2.2.2.2
def Az (E : EV) (I : Heap → List Loc → Prop) (lv : List (Nat × Value)) (pc : Nat) (st : List Value) : Prop :=
  ∀ (H : Heap) (locs : List Loc) (ls : Array Slot), I H locs → lv_has ls (eN E) lv → W (eP E) (eL E) (eE E) (eR E) (eS E) (eM E) (eA E) (eB E) (eT E) (eC E) H locs (eX E) (eY E) (eQ E) (F0 (eM E) pc ls st)
def Fx (E : EV) (cc : ByteArray) (own : String) : Prop := CallFix (eP E) (eM E) (eC E) cc (eN E) (eS E) (eA E) lw_all own ∧ (eT E).locks = false
def rmk (d : Nat) : Room := { frames := d, cells := 0, slots := 0, locals := 30 * d }
theorem room_ok {E : EV} {d d' maxL : Nat} (h : eR E = rmk d) (hd : d' < d) (hm : maxL ≤ 11) : (rmk d').frames + 1 ≤ (eR E).frames ∧ 8 + (maxL + 11) + (rmk d').locals ≤ (eR E).locals := by
  rw [h]
  show d' + 1 ≤ d ∧ 8 + (maxL + 11) + 30 * d' ≤ 30 * d
  omega
section AZ
variable {E : EV} {cc : ByteArray} {own : String} {I : Heap → List Loc → Prop} {lv lv' : List (Nat × Value)} {pc : Nat} {st : List Value}
theorem z_sub (ks : List Nat) (hl : lv_pick lv ks = lv') (k : Az E I lv' pc st) : Az E I lv pc st := fun H locs ls hI h => k H locs ls hI (lv_sub h ks hl)
theorem z_top {x : Int32} (y : Int32) (h : x = y) (k : Az E I lv pc (.int y :: st)) : Az E I lv pc (.int x :: st) := h ▸ k
theorem z_I {I' : Heap → List Loc → Prop} (h : I = I') (k : Az E I' lv pc st) : Az E I lv pc st := h ▸ k
theorem z_pc {pc' : Nat} (h : pc = pc') (k : Az E I lv pc' st) : Az E I lv pc st := h ▸ k
theorem z_iconst (S : Fx E cc own) {n : Int} (v : Int32) (dg : decode cc pc = .ok (.iconst n, 1)) (hv : Int32.ofInt n = v) (k : Az E I lv (pc + 1) (.int v :: st)) : Az E I lv pc st := fun H locs ls hI hl => lv_iconst S.1.1 S.1.2.1 dg hv (k H locs ls hI hl)
theorem z_bipush (S : Fx E cc own) {n : Int} (v : Int32) (dg : decode cc pc = .ok (.bipush n, 2)) (hv : (Int8.ofInt n).toInt32 = v) (k : Az E I lv (pc + 2) (.int v :: st)) : Az E I lv pc st := fun H locs ls hI hl => lv_bipush S.1.1 S.1.2.1 dg hv (k H locs ls hI hl)
theorem z_ldc (S : Fx E cc own) {index : Nat} {v : Int32} (hw : Cond.constant own index v ∈ lw_all) (dg : decode cc pc = .ok (.ldc index, 2)) (k : Az E I lv (pc + 2) (.int v :: st)) : Az E I lv pc st := fun H locs ls hI hl => lv_ldc S.1.1 S.1.2.1 S.1.2.2.2.1 (S.1.2.2.2.2 _ hw) dg (k H locs ls hI hl)
theorem z_iload_n (S : Fx E cc own) (q : Nat) {i : Fin 4} {x : Int32} (dg : decode cc pc = .ok (.iload_n i, 1)) (hk : lv[q]? = some ((i : Nat), .int x)) (k : Az E I lv (pc + 1) (.int x :: st)) : Az E I lv pc st := fun H locs ls hI hl => lv_iload_n S.1.1 S.1.2.1 dg rfl (lv_at hl q hk) (k H locs ls hI hl)
theorem z_iload (S : Fx E cc own) (q : Nat) {i : Nat} {x : Int32} (dg : decode cc pc = .ok (.iload i, 2)) (hk : lv[q]? = some (i, .int x)) (k : Az E I lv (pc + 2) (.int x :: st)) : Az E I lv pc st := fun H locs ls hI hl => lv_iload S.1.1 S.1.2.1 dg (lv_at hl q hk) (k H locs ls hI hl)
theorem z_aload_n (S : Fx E cc own) (q : Nat) {i : Fin 4} {x : Nat} (dg : decode cc pc = .ok (.aload_n i, 1)) (hk : lv[q]? = some ((i : Nat), .ref x)) (k : Az E I lv (pc + 1) (.ref x :: st)) : Az E I lv pc st := fun H locs ls hI hl => lv_aload_n S.1.1 S.1.2.1 dg rfl (lv_at hl q hk) (k H locs ls hI hl)
theorem z_istore_n (S : Fx E cc own) {nL : Nat} (hN : eN E = nL) (lv' : List (Nat × Value)) (ks : List Nat) {i : Fin 4} {x : Int32} (dg : decode cc pc = .ok (.istore_n i, 1)) (hn : (i : Nat) < nL) (hl : lv_pick (((i : Nat), Value.int x) :: lv.filter (fun q => !(q.1 == (i : Nat)) && !(q.1 + 1 == (i : Nat) && q.2.category == 2))) ks = lv') (k : Az E I lv' (pc + 1) st) : Az E I lv pc (.int x :: st) := fun H locs ls hI h => lv_istore_n S.1.1 S.1.2.1 dg rfl h (by rw [hN]; exact hn) rfl (fun ls' hl' => k H locs ls' hI (lv_sub hl' ks hl))
theorem z_istore (S : Fx E cc own) {nL : Nat} (hN : eN E = nL) (lv' : List (Nat × Value)) (ks : List Nat) {i : Nat} {x : Int32} (dg : decode cc pc = .ok (.istore i, 2)) (hn : i < nL) (hl : lv_pick ((i, Value.int x) :: lv.filter (fun q => !(q.1 == i) && !(q.1 + 1 == i && q.2.category == 2))) ks = lv') (k : Az E I lv' (pc + 2) st) : Az E I lv pc (.int x :: st) := fun H locs ls hI h => lv_istore S.1.1 S.1.2.1 dg h (by rw [hN]; exact hn) rfl (fun ls' hl' => k H locs ls' hI (lv_sub hl' ks hl))
theorem z_iinc (S : Fx E cc own) {nL : Nat} (hN : eN E = nL) (lv' : List (Nat × Value)) (q : Nat) (ks : List Nat) {i : Nat} {n : Int} {x : Int32} (v : Int32) (dg : decode cc pc = .ok (.iinc i n, 3)) (hk : lv[q]? = some (i, .int x)) (hv : x + Int32.ofInt n = v) (hn : i < nL) (hl : lv_pick ((i, Value.int v) :: lv.filter (fun q => !(q.1 == i) && !(q.1 + 1 == i && q.2.category == 2))) ks = lv') (k : Az E I lv' (pc + 3) st) : Az E I lv pc st := fun H locs ls hI h => lv_iinc S.1.1 S.1.2.1 dg h hk hv (by rw [hN]; exact hn) rfl (fun ls' hl' => k H locs ls' hI (lv_sub hl' ks hl))
theorem z_goto (S : Fx E cc own) {off : Int} (tgt : Nat) (dg : decode cc pc = .ok (.goto off, 3)) (ht : (pc : Int) + off = (tgt : Int)) (k : Az E I lv tgt st) : Az E I lv pc st := fun H locs ls hI hl => lv_goto S.1.1 S.1.2.1 dg ht (k H locs ls hI hl)
theorem z_dup (S : Fx E cc own) {v : Value} (dg : decode cc pc = .ok (.dup, 1)) (hc : v.category = 1) (k : Az E I lv (pc + 1) (v :: v :: st)) : Az E I lv pc (v :: st) := fun H locs ls hI hl => lv_dup S.1.1 S.1.2.1 dg hc (k H locs ls hI hl)
theorem z_pop (S : Fx E cc own) {v : Value} (dg : decode cc pc = .ok (.pop, 1)) (hc : v.category = 1) (k : Az E I lv (pc + 1) st) : Az E I lv pc (v :: st) := fun H locs ls hI hl => lv_pop S.1.1 S.1.2.1 dg hc (k H locs ls hI hl)
theorem z_irem (S : Fx E cc own) {x y : Int32} (dg : decode cc pc = .ok (.irem, 1)) (hne : ¬ y = 0) (k : Az E I lv (pc + 1) (.int (x - x / y * y) :: st)) : Az E I lv pc (.int y :: .int x :: st) := fun H locs ls hI hl => lv_irem S.1.1 S.1.2.1 dg hne (k H locs ls hI hl)
theorem z_iadd (S : Fx E cc own) {x y : Int32} (dg : decode cc pc = .ok (.iadd, 1)) (k : Az E I lv (pc + 1) (.int (x + y) :: st)) : Az E I lv pc (.int y :: .int x :: st) := fun H locs ls hI hl => lv_iadd S.1.1 S.1.2.1 dg (k H locs ls hI hl)
theorem z_isub (S : Fx E cc own) {x y : Int32} (dg : decode cc pc = .ok (.isub, 1)) (k : Az E I lv (pc + 1) (.int (x - y) :: st)) : Az E I lv pc (.int y :: .int x :: st) := fun H locs ls hI hl => lv_isub S.1.1 S.1.2.1 dg (k H locs ls hI hl)
theorem z_imul (S : Fx E cc own) {x y : Int32} (dg : decode cc pc = .ok (.imul, 1)) (k : Az E I lv (pc + 1) (.int (x * y) :: st)) : Az E I lv pc (.int y :: .int x :: st) := fun H locs ls hI hl => lv_imul S.1.1 S.1.2.1 dg (k H locs ls hI hl)
theorem z_iand (S : Fx E cc own) {x y : Int32} (dg : decode cc pc = .ok (.iand, 1)) (k : Az E I lv (pc + 1) (.int (x &&& y) :: st)) : Az E I lv pc (.int y :: .int x :: st) := fun H locs ls hI hl => lv_iand S.1.1 S.1.2.1 dg (k H locs ls hI hl)
theorem z_ior (S : Fx E cc own) {x y : Int32} (dg : decode cc pc = .ok (.ior, 1)) (k : Az E I lv (pc + 1) (.int (x ||| y) :: st)) : Az E I lv pc (.int y :: .int x :: st) := fun H locs ls hI hl => lv_ior S.1.1 S.1.2.1 dg (k H locs ls hI hl)
theorem z_ixor (S : Fx E cc own) {x y : Int32} (dg : decode cc pc = .ok (.ixor, 1)) (k : Az E I lv (pc + 1) (.int (x ^^^ y) :: st)) : Az E I lv pc (.int y :: .int x :: st) := fun H locs ls hI hl => lv_ixor S.1.1 S.1.2.1 dg (k H locs ls hI hl)
theorem z_ishl (S : Fx E cc own) {x y : Int32} (dg : decode cc pc = .ok (.ishl, 1)) (k : Az E I lv (pc + 1) (.int (x <<< (y &&& 31)) :: st)) : Az E I lv pc (.int y :: .int x :: st) := fun H locs ls hI hl => lv_ishl S.1.1 S.1.2.1 dg (k H locs ls hI hl)
theorem z_ishr (S : Fx E cc own) {x y : Int32} (dg : decode cc pc = .ok (.ishr, 1)) (k : Az E I lv (pc + 1) (.int (x >>> (y &&& 31)) :: st)) : Az E I lv pc (.int y :: .int x :: st) := fun H locs ls hI hl => lv_ishr S.1.1 S.1.2.1 dg (k H locs ls hI hl)
theorem z_iaddN (S : Fx E cc own) {a b : Nat} (dg : decode cc pc = .ok (.iadd, 1)) (k : Az E I lv (pc + 1) (.int (nI (a + b)) :: st)) : Az E I lv pc (.int (nI b) :: .int (nI a) :: st) := z_iadd S dg (z_top _ (nI_add a b) k)
theorem z_imulN (S : Fx E cc own) {a b : Nat} (dg : decode cc pc = .ok (.imul, 1)) (k : Az E I lv (pc + 1) (.int (nI (a * b)) :: st)) : Az E I lv pc (.int (nI b) :: .int (nI a) :: st) := z_imul S dg (z_top _ (pk_mul a b) k)
theorem z_iincN (S : Fx E cc own) {nL : Nat} (hN : eN E = nL) (lv' : List (Nat × Value)) (q : Nat) (ks : List Nat) {i : Nat} {a : Nat} (dg : decode cc pc = .ok (.iinc i 1, 3)) (hk : lv[q]? = some (i, .int (nI a))) (hn : i < nL) (hl : lv_pick ((i, Value.int (nI (a + 1))) :: lv.filter (fun q => !(q.1 == i) && !(q.1 + 1 == i && q.2.category == 2))) ks = lv') (k : Az E I lv' (pc + 3) st) : Az E I lv pc st := z_iinc S hN lv' q ks (nI (a + 1)) dg hk (nI_1 a) hn hl k
theorem z_icmp_eq (S : Fx E cc own) {x y : Int32} {off : Int} (tgt : Nat) (dg : decode cc pc = .ok (.if_icmp .eq off, 3)) (ht : (pc : Int) + off = (tgt : Int)) (kt : x = y → Az E I lv tgt st) (kf : ¬ x = y → Az E I lv (pc + 3) st) : Az E I lv pc (.int y :: .int x :: st) := fun H locs ls hI hl => lv_icmp_eq S.1.1 S.1.2.1 dg ht (fun h => kt h H locs ls hI hl) (fun h => kf h H locs ls hI hl)
theorem z_if_eq (S : Fx E cc own) {x : Int32} {off : Int} (tgt : Nat) (dg : decode cc pc = .ok (.ifCond .eq off, 3)) (ht : (pc : Int) + off = (tgt : Int)) (kt : x = 0 → Az E I lv tgt st) (kf : ¬ x = 0 → Az E I lv (pc + 3) st) : Az E I lv pc (.int x :: st) := fun H locs ls hI hl => lv_if_eq S.1.1 S.1.2.1 dg ht (fun h => kt h H locs ls hI hl) (fun h => kf h H locs ls hI hl)
theorem z_icmp_ne (S : Fx E cc own) {x y : Int32} {off : Int} (tgt : Nat) (dg : decode cc pc = .ok (.if_icmp .ne off, 3)) (ht : (pc : Int) + off = (tgt : Int)) (kt : ¬ x = y → Az E I lv tgt st) (kf : x = y → Az E I lv (pc + 3) st) : Az E I lv pc (.int y :: .int x :: st) := fun H locs ls hI hl => lv_icmp_ne S.1.1 S.1.2.1 dg ht (fun h => kt h H locs ls hI hl) (fun h => kf h H locs ls hI hl)
theorem z_if_ne (S : Fx E cc own) {x : Int32} {off : Int} (tgt : Nat) (dg : decode cc pc = .ok (.ifCond .ne off, 3)) (ht : (pc : Int) + off = (tgt : Int)) (kt : ¬ x = 0 → Az E I lv tgt st) (kf : x = 0 → Az E I lv (pc + 3) st) : Az E I lv pc (.int x :: st) := fun H locs ls hI hl => lv_if_ne S.1.1 S.1.2.1 dg ht (fun h => kt h H locs ls hI hl) (fun h => kf h H locs ls hI hl)
theorem z_icmp_lt (S : Fx E cc own) {x y : Int32} {off : Int} (tgt : Nat) (dg : decode cc pc = .ok (.if_icmp .lt off, 3)) (ht : (pc : Int) + off = (tgt : Int)) (kt : x < y → Az E I lv tgt st) (kf : ¬ x < y → Az E I lv (pc + 3) st) : Az E I lv pc (.int y :: .int x :: st) := fun H locs ls hI hl => lv_icmp_lt S.1.1 S.1.2.1 dg ht (fun h => kt h H locs ls hI hl) (fun h => kf h H locs ls hI hl)
theorem z_if_lt (S : Fx E cc own) {x : Int32} {off : Int} (tgt : Nat) (dg : decode cc pc = .ok (.ifCond .lt off, 3)) (ht : (pc : Int) + off = (tgt : Int)) (kt : x < 0 → Az E I lv tgt st) (kf : ¬ x < 0 → Az E I lv (pc + 3) st) : Az E I lv pc (.int x :: st) := fun H locs ls hI hl => lv_if_lt S.1.1 S.1.2.1 dg ht (fun h => kt h H locs ls hI hl) (fun h => kf h H locs ls hI hl)
theorem z_icmp_ge (S : Fx E cc own) {x y : Int32} {off : Int} (tgt : Nat) (dg : decode cc pc = .ok (.if_icmp .ge off, 3)) (ht : (pc : Int) + off = (tgt : Int)) (kt : y ≤ x → Az E I lv tgt st) (kf : ¬ y ≤ x → Az E I lv (pc + 3) st) : Az E I lv pc (.int y :: .int x :: st) := fun H locs ls hI hl => lv_icmp_ge S.1.1 S.1.2.1 dg ht (fun h => kt h H locs ls hI hl) (fun h => kf h H locs ls hI hl)
theorem z_if_ge (S : Fx E cc own) {x : Int32} {off : Int} (tgt : Nat) (dg : decode cc pc = .ok (.ifCond .ge off, 3)) (ht : (pc : Int) + off = (tgt : Int)) (kt : 0 ≤ x → Az E I lv tgt st) (kf : ¬ 0 ≤ x → Az E I lv (pc + 3) st) : Az E I lv pc (.int x :: st) := fun H locs ls hI hl => lv_if_ge S.1.1 S.1.2.1 dg ht (fun h => kt h H locs ls hI hl) (fun h => kf h H locs ls hI hl)
theorem z_icmp_gt (S : Fx E cc own) {x y : Int32} {off : Int} (tgt : Nat) (dg : decode cc pc = .ok (.if_icmp .gt off, 3)) (ht : (pc : Int) + off = (tgt : Int)) (kt : y < x → Az E I lv tgt st) (kf : ¬ y < x → Az E I lv (pc + 3) st) : Az E I lv pc (.int y :: .int x :: st) := fun H locs ls hI hl => lv_icmp_gt S.1.1 S.1.2.1 dg ht (fun h => kt h H locs ls hI hl) (fun h => kf h H locs ls hI hl)
theorem z_if_gt (S : Fx E cc own) {x : Int32} {off : Int} (tgt : Nat) (dg : decode cc pc = .ok (.ifCond .gt off, 3)) (ht : (pc : Int) + off = (tgt : Int)) (kt : 0 < x → Az E I lv tgt st) (kf : ¬ 0 < x → Az E I lv (pc + 3) st) : Az E I lv pc (.int x :: st) := fun H locs ls hI hl => lv_if_gt S.1.1 S.1.2.1 dg ht (fun h => kt h H locs ls hI hl) (fun h => kf h H locs ls hI hl)
theorem z_icmp_le (S : Fx E cc own) {x y : Int32} {off : Int} (tgt : Nat) (dg : decode cc pc = .ok (.if_icmp .le off, 3)) (ht : (pc : Int) + off = (tgt : Int)) (kt : x ≤ y → Az E I lv tgt st) (kf : ¬ x ≤ y → Az E I lv (pc + 3) st) : Az E I lv pc (.int y :: .int x :: st) := fun H locs ls hI hl => lv_icmp_le S.1.1 S.1.2.1 dg ht (fun h => kt h H locs ls hI hl) (fun h => kf h H locs ls hI hl)
theorem z_if_le (S : Fx E cc own) {x : Int32} {off : Int} (tgt : Nat) (dg : decode cc pc = .ok (.ifCond .le off, 3)) (ht : (pc : Int) + off = (tgt : Int)) (kt : x ≤ 0 → Az E I lv tgt st) (kf : ¬ x ≤ 0 → Az E I lv (pc + 3) st) : Az E I lv pc (.int x :: st) := fun H locs ls hI hl => lv_if_le S.1.1 S.1.2.1 dg ht (fun h => kt h H locs ls hI hl) (fun h => kf h H locs ls hI hl)
theorem z_icmp_eqN (S : Fx E cc own) {a b : Nat} {off : Int} (tgt : Nat) (dg : decode cc pc = .ok (.if_icmp .eq off, 3)) (ht : (pc : Int) + off = (tgt : Int)) (ha : a < 2 ^ 31) (hb : b < 2 ^ 31) (kt : a = b → Az E I lv tgt st) (kf : a ≠ b → Az E I lv (pc + 3) st) : Az E I lv pc (.int (nI b) :: .int (nI a) :: st) := z_icmp_eq S tgt dg ht (fun h => kt ((nI_eq ha hb).mp h)) (fun h => kf (fun q => h ((nI_eq ha hb).mpr q)))
theorem z_icmp_neN (S : Fx E cc own) {a b : Nat} {off : Int} (tgt : Nat) (dg : decode cc pc = .ok (.if_icmp .ne off, 3)) (ht : (pc : Int) + off = (tgt : Int)) (ha : a < 2 ^ 31) (hb : b < 2 ^ 31) (kt : a ≠ b → Az E I lv tgt st) (kf : a = b → Az E I lv (pc + 3) st) : Az E I lv pc (.int (nI b) :: .int (nI a) :: st) := z_icmp_ne S tgt dg ht (fun h => kt (fun q => h ((nI_eq ha hb).mpr q))) (fun h => kf ((nI_eq ha hb).mp h))
theorem z_icmp_ltN (S : Fx E cc own) {a b : Nat} {off : Int} (tgt : Nat) (dg : decode cc pc = .ok (.if_icmp .lt off, 3)) (ht : (pc : Int) + off = (tgt : Int)) (ha : a < 2 ^ 31) (hb : b < 2 ^ 31) (kt : a < b → Az E I lv tgt st) (kf : b ≤ a → Az E I lv (pc + 3) st) : Az E I lv pc (.int (nI b) :: .int (nI a) :: st) := z_icmp_lt S tgt dg ht (fun h => kt ((nI_ltI ha hb).mp h)) (fun h => kf (Nat.not_lt.mp (fun q => h ((nI_ltI ha hb).mpr q))))
theorem z_icmp_geN (S : Fx E cc own) {a b : Nat} {off : Int} (tgt : Nat) (dg : decode cc pc = .ok (.if_icmp .ge off, 3)) (ht : (pc : Int) + off = (tgt : Int)) (ha : a < 2 ^ 31) (hb : b < 2 ^ 31) (kt : b ≤ a → Az E I lv tgt st) (kf : a < b → Az E I lv (pc + 3) st) : Az E I lv pc (.int (nI b) :: .int (nI a) :: st) := z_icmp_ge S tgt dg ht (fun h => kt ((nI_leI hb ha).mp h)) (fun h => kf (Nat.not_le.mp (fun q => h ((nI_leI hb ha).mpr q))))
theorem z_icmp_gtN (S : Fx E cc own) {a b : Nat} {off : Int} (tgt : Nat) (dg : decode cc pc = .ok (.if_icmp .gt off, 3)) (ht : (pc : Int) + off = (tgt : Int)) (ha : a < 2 ^ 31) (hb : b < 2 ^ 31) (kt : b < a → Az E I lv tgt st) (kf : a ≤ b → Az E I lv (pc + 3) st) : Az E I lv pc (.int (nI b) :: .int (nI a) :: st) := z_icmp_gt S tgt dg ht (fun h => kt ((nI_ltI hb ha).mp h)) (fun h => kf (Nat.not_lt.mp (fun q => h ((nI_ltI hb ha).mpr q))))
theorem z_icmp_leN (S : Fx E cc own) {a b : Nat} {off : Int} (tgt : Nat) (dg : decode cc pc = .ok (.if_icmp .le off, 3)) (ht : (pc : Int) + off = (tgt : Int)) (ha : a < 2 ^ 31) (hb : b < 2 ^ 31) (kt : a ≤ b → Az E I lv tgt st) (kf : b < a → Az E I lv (pc + 3) st) : Az E I lv pc (.int (nI b) :: .int (nI a) :: st) := z_icmp_le S tgt dg ht (fun h => kt ((nI_leI ha hb).mp h)) (fun h => kf (Nat.not_le.mp (fun q => h ((nI_leI ha hb).mpr q))))
theorem z_if_eqN (S : Fx E cc own) {a : Nat} {off : Int} (tgt : Nat) (dg : decode cc pc = .ok (.ifCond .eq off, 3)) (ht : (pc : Int) + off = (tgt : Int)) (ha : a < 2 ^ 31) (kt : a = 0 → Az E I lv tgt st) (kf : 0 < a → Az E I lv (pc + 3) st) : Az E I lv pc (.int (nI a) :: st) := z_if_eq S tgt dg ht (fun h => kt ((nI_eq ha (by decide)).mp (h.trans nI_0.symm))) (fun h => kf (Nat.pos_of_ne_zero (fun q => h (by rw [q]; exact nI_0))))
theorem z_if_neN (S : Fx E cc own) {a : Nat} {off : Int} (tgt : Nat) (dg : decode cc pc = .ok (.ifCond .ne off, 3)) (ht : (pc : Int) + off = (tgt : Int)) (ha : a < 2 ^ 31) (kt : 0 < a → Az E I lv tgt st) (kf : a = 0 → Az E I lv (pc + 3) st) : Az E I lv pc (.int (nI a) :: st) := z_if_ne S tgt dg ht (fun h => kt (Nat.pos_of_ne_zero (fun q => h (by rw [q]; exact nI_0)))) (fun h => kf ((nI_eq ha (by decide)).mp (h.trans nI_0.symm)))
theorem z_if_leN (S : Fx E cc own) {a : Nat} {off : Int} (tgt : Nat) (dg : decode cc pc = .ok (.ifCond .le off, 3)) (ht : (pc : Int) + off = (tgt : Int)) (ha : a < 2 ^ 31) (kt : a = 0 → Az E I lv tgt st) (kf : 0 < a → Az E I lv (pc + 3) st) : Az E I lv pc (.int (nI a) :: st) := z_if_le S tgt dg ht (fun h => kt (Nat.le_zero.mp ((nI_leI ha (by decide)).mp (by rw [nI_0]; exact h)))) (fun h => kf (Nat.pos_of_ne_zero (fun q => h (by rw [q, nI_0]; exact Int32.le_refl 0))))
theorem z_if_ltN (S : Fx E cc own) {a : Nat} {off : Int} (tgt : Nat) (dg : decode cc pc = .ok (.ifCond .lt off, 3)) (ht : (pc : Int) + off = (tgt : Int)) (ha : a < 2 ^ 31) (kf : Az E I lv (pc + 3) st) : Az E I lv pc (.int (nI a) :: st) := z_if_lt S tgt dg ht (fun h => absurd h (nI_pos ha)) (fun _ => kf)
end AZ
abbrev vwCl : List vw_C := [(RX0, TX0, 11), (RX1, TX1, 7)]
abbrev XS : Type := Nat → Nat → Int32
abbrev XA : Type := va_G × (Nat → Nat) × (Nat → ClassId)
abbrev xa (g : XA) (k : Nat) : Nat := g.2.1 k
abbrev xc (g : XA) (k : Nat) : ClassId := g.2.2 k
def wf (σ : XS) (k : Nat) (f : Nat → Int32) : XS := fun q => if q = k then f else σ q
def wr (σ : XS) (k j : Nat) (x : Int32) : XS := wf σ k (upd (σ k) j x)
theorem wf_s (σ : XS) (k : Nat) (f : Nat → Int32) : wf σ k f k = f := if_pos rfl
theorem wf_n {σ : XS} {k q : Nat} {f : Nat → Int32} (h : q ≠ k) : wf σ k f q = σ q := if_neg h
theorem wf_wf (σ : XS) (k : Nat) (f g : Nat → Int32) : wf (wf σ k f) k g = wf σ k g := by
  funext q
  by_cases h : q = k
  · simp [wf, h]
  · simp [wf, h]
theorem wf_id (σ : XS) (k : Nat) : wf σ k (σ k) = σ := by
  funext q
  by_cases h : q = k
  · simp [wf, h]
  · simp [wf, h]
theorem wr_s (σ : XS) (k j : Nat) (x : Int32) : wr σ k j x k j = x := by simp [wr, wf, upd]
theorem wr_i {σ : XS} {k j i : Nat} {x : Int32} (h : i ≠ j) : wr σ k j x k i = σ k i := by simp [wr, wf, upd, h]
theorem wr_n {σ : XS} {k q j : Nat} {x : Int32} (h : q ≠ k) : wr σ k j x q = σ q := by simp [wr, wf, h]
def xfs (g : XA) (σ : XS) : List Value := [.ref (xa g 0), .ref (xa g 1), .int (σ 2 0), .ref (xa g 3), .ref (xa g 4), .ref (xa g 5), .int (σ 6 0), .ref (xa g 7), .ref (xa g 8), .int (σ 9 0), .ref (xa g 10)]
def xw (g : XA) (σ : XS) : va_W := [(xa g 11, .inr (0, xfs g σ)), (xa g 0, .inl (xc g 0, 60, .inl (σ 0))), (xa g 1, .inl (xc g 1, 60, .inl (σ 1))), (xa g 3, .inl (xc g 3, 8, .inl (σ 3))), (xa g 4, .inl (xc g 4, 8, .inl (σ 4))), (xa g 5, .inl (xc g 5, 40, .inl (σ 5))), (xa g 7, .inl (xc g 7, 4, .inl (σ 7))), (xa g 8, .inl (xc g 8, 4, .inl (σ 8))), (xa g 10, .inl (xc g 10, 5, .inl (σ 10)))]
def xt (g : XA) : List (ClassId × FieldType) := [(xc g 0, .int), (xc g 1, .boolean), (xc g 3, .int), (xc g 4, .int), (xc g 5, .int), (xc g 7, .int), (xc g 8, .int), (xc g 10, .int)]
def xA (g : XA) : Nat → Prop := fun q => ∃ k, k < 12 ∧ q = xa g k
def xW (g : XA) (σ : XS) (U : State) : Prop := va_P g.1 vwCl (xw g σ) U.heap ∧ va_K g.1 vwCl (xt g) U ∧ va_D (xA g) (xw g σ)
def xI (g : XA) (s : State) (σ : XS) (H : Heap) (locs : List Loc) : Prop := va_K g.1 vwCl (xt g) s ∧ va_P g.1 vwCl (xw g σ) H ∧ va_D (xA g) (xw g σ) ∧ va_S (xA g) s.heap H locs
def xM (E : EV) (cc : ByteArray) (nL : Nat) (ret : Option FieldType) (d : Nat) (g : XA) (Qc : Array Value → State → Outcome → State → Prop) : Prop := Fx E cc RX0 ∧ eR E = rmk d ∧ eX E = 0 ∧ eY E = 0 ∧ eN E = nL ∧ (eT E).sig.returnType = ret ∧ eQ E = MQ (eB E) Qc (eA E) (eS E) 0 0 (xA g)
section WORLD
variable {E : EV} {cc : ByteArray} {lv : List (Nat × Value)} {pc : Nat} {st : List Value} {g : XA} {σ : XS} {nL d : Nat} {ret : Option FieldType} {Qc : Array Value → State → Outcome → State → Prop}
theorem x_get0 (S : Fx E cc RX0) (dg : decode cc pc = .ok (.getfield 7, 3)) (kk : Az E (xI g (eS E) σ) lv (pc + 3) (.ref (xa g 0) :: st)) : Az E (xI g (eS E) σ) lv pc (.ref (xa g 11) :: st) := fun H locs ls hI hl => va_get (ci := 0) (C := RX0) (T := TX0) (N := 11) S.1.1 S.1.2.1 S.1.2.2.2.2 in_X0 S.1.2.2.2.1 hI.1 hI.2.1 0 rfl rfl 0 (by decide) (S.1.2.2.2.2 _ q29) (fun _ h => h) rfl dg (kk H locs ls hI hl)
theorem x_ld0 (S : Fx E cc RX0) {j : Nat} (dg : decode cc pc = .ok (.iaload, 1)) (hj : j < 60) (kk : Az E (xI g (eS E) σ) lv (pc + 1) (.int (σ 0 j) :: st)) : Az E (xI g (eS E) σ) lv pc (.int (nI j) :: .ref (xa g 0) :: st) := fun H locs ls hI hl => by
  refine va_iald S.1.1 S.1.2.1 hI.1 hI.2.1 1 0 rfl rfl (vp_in_nI hj (by decide)) dg ?_
  rw [nI_clamp (by omega)]
  exact kk H locs ls hI hl
theorem x_st0 (S : Fx E cc RX0) {j : Nat} {x : Int32} (dg : decode cc pc = .ok (.iastore, 1)) (hj : j < 60) (kk : Az E (xI g (eS E) (wr σ 0 j (x))) lv (pc + 1) st) : Az E (xI g (eS E) σ) lv pc (.int x :: .int (nI j) :: .ref (xa g 0) :: st) := fun H locs ls hI hl => by
  refine va_iast S.1.1 S.1.2.1 hI.1 hI.2.1 hI.2.2.1 hI.2.2.2 1 0 rfl rfl (vp_in_nI hj (by decide)) dg (fun H1 locs1 hP hD hS => ?_)
  rw [nI_clamp (by omega)] at hP hD
  exact kk H1 locs1 ls ⟨hI.1, hP, hD, hS⟩ hl
theorem x_get1 (S : Fx E cc RX0) (dg : decode cc pc = .ok (.getfield 13, 3)) (kk : Az E (xI g (eS E) σ) lv (pc + 3) (.ref (xa g 1) :: st)) : Az E (xI g (eS E) σ) lv pc (.ref (xa g 11) :: st) := fun H locs ls hI hl => va_get (ci := 0) (C := RX0) (T := TX0) (N := 11) S.1.1 S.1.2.1 S.1.2.2.2.2 in_X0 S.1.2.2.2.1 hI.1 hI.2.1 0 rfl rfl 1 (by decide) (S.1.2.2.2.2 _ q30) (fun _ h => h) rfl dg (kk H locs ls hI hl)
theorem x_ld1 (S : Fx E cc RX0) {j : Nat} (dg : decode cc pc = .ok (.baload, 1)) (hj : j < 60) (kk : Az E (xI g (eS E) σ) lv (pc + 1) (.int (σ 1 j) :: st)) : Az E (xI g (eS E) σ) lv pc (.int (nI j) :: .ref (xa g 1) :: st) := fun H locs ls hI hl => by
  refine va_zald S.1.1 S.1.2.1 hI.1 hI.2.1 2 1 rfl rfl (vp_in_nI hj (by decide)) dg ?_
  rw [nI_clamp (by omega)]
  exact kk H locs ls hI hl
theorem x_st1 (S : Fx E cc RX0) {j : Nat} {x : Int32} (dg : decode cc pc = .ok (.bastore, 1)) (hj : j < 60) (kk : Az E (xI g (eS E) (wr σ 1 j (vp_nar .boolean x))) lv (pc + 1) st) : Az E (xI g (eS E) σ) lv pc (.int x :: .int (nI j) :: .ref (xa g 1) :: st) := fun H locs ls hI hl => by
  refine va_zast S.1.1 S.1.2.1 hI.1 hI.2.1 hI.2.2.1 hI.2.2.2 2 1 rfl rfl (vp_in_nI hj (by decide)) dg (fun H1 locs1 hP hD hS => ?_)
  rw [nI_clamp (by omega)] at hP hD
  exact kk H1 locs1 ls ⟨hI.1, hP, hD, hS⟩ hl
theorem x_get2 (S : Fx E cc RX0) (dg : decode cc pc = .ok (.getfield 40, 3)) (kk : Az E (xI g (eS E) σ) lv (pc + 3) (.int (σ 2 0) :: st)) : Az E (xI g (eS E) σ) lv pc (.ref (xa g 11) :: st) := fun H locs ls hI hl => va_get (ci := 0) (C := RX0) (T := TX0) (N := 11) S.1.1 S.1.2.1 S.1.2.2.2.2 in_X0 S.1.2.2.2.1 hI.1 hI.2.1 0 rfl rfl 2 (by decide) (S.1.2.2.2.2 _ q31) (fun _ h => h) rfl dg (kk H locs ls hI hl)
theorem x_put2 (S : Fx E cc RX0) {x : Int32} (dg : decode cc pc = .ok (.putfield 40, 3)) (kk : Az E (xI g (eS E) (wr σ 2 0 x)) lv (pc + 3) st) : Az E (xI g (eS E) σ) lv pc (.int x :: .ref (xa g 11) :: st) := fun H locs ls hI hl => va_put (ci := 0) (v := .int x) (ty := .int) (C := RX0) (T := TX0) (N := 11) S.1.1 S.1.2.1 S.1.2.2.2.2 in_X0 tyX0 tyX0_ok nmX0 S.1.2.2.2.1 hI.1 hI.2.1 hI.2.2.1 hI.2.2.2 0 rfl rfl 2 (by decide) (S.1.2.2.2.2 _ q31) (fun _ h => h) rfl (by decide +kernel) rfl rfl (Nat.le_of_ble_eq_true rfl) dg (fun H1 locs1 hP hD hS => kk H1 locs1 ls ⟨hI.1, hP, hD, hS⟩ hl)
theorem x_get3 (S : Fx E cc RX0) (dg : decode cc pc = .ok (.getfield 17, 3)) (kk : Az E (xI g (eS E) σ) lv (pc + 3) (.ref (xa g 3) :: st)) : Az E (xI g (eS E) σ) lv pc (.ref (xa g 11) :: st) := fun H locs ls hI hl => va_get (ci := 0) (C := RX0) (T := TX0) (N := 11) S.1.1 S.1.2.1 S.1.2.2.2.2 in_X0 S.1.2.2.2.1 hI.1 hI.2.1 0 rfl rfl 3 (by decide) (S.1.2.2.2.2 _ q32) (fun _ h => h) rfl dg (kk H locs ls hI hl)
theorem x_ld3 (S : Fx E cc RX0) {j : Nat} (dg : decode cc pc = .ok (.iaload, 1)) (hj : j < 8) (kk : Az E (xI g (eS E) σ) lv (pc + 1) (.int (σ 3 j) :: st)) : Az E (xI g (eS E) σ) lv pc (.int (nI j) :: .ref (xa g 3) :: st) := fun H locs ls hI hl => by
  refine va_iald S.1.1 S.1.2.1 hI.1 hI.2.1 3 2 rfl rfl (vp_in_nI hj (by decide)) dg ?_
  rw [nI_clamp (by omega)]
  exact kk H locs ls hI hl
theorem x_st3 (S : Fx E cc RX0) {j : Nat} {x : Int32} (dg : decode cc pc = .ok (.iastore, 1)) (hj : j < 8) (kk : Az E (xI g (eS E) (wr σ 3 j (x))) lv (pc + 1) st) : Az E (xI g (eS E) σ) lv pc (.int x :: .int (nI j) :: .ref (xa g 3) :: st) := fun H locs ls hI hl => by
  refine va_iast S.1.1 S.1.2.1 hI.1 hI.2.1 hI.2.2.1 hI.2.2.2 3 2 rfl rfl (vp_in_nI hj (by decide)) dg (fun H1 locs1 hP hD hS => ?_)
  rw [nI_clamp (by omega)] at hP hD
  exact kk H1 locs1 ls ⟨hI.1, hP, hD, hS⟩ hl
theorem x_get4 (S : Fx E cc RX0) (dg : decode cc pc = .ok (.getfield 20, 3)) (kk : Az E (xI g (eS E) σ) lv (pc + 3) (.ref (xa g 4) :: st)) : Az E (xI g (eS E) σ) lv pc (.ref (xa g 11) :: st) := fun H locs ls hI hl => va_get (ci := 0) (C := RX0) (T := TX0) (N := 11) S.1.1 S.1.2.1 S.1.2.2.2.2 in_X0 S.1.2.2.2.1 hI.1 hI.2.1 0 rfl rfl 4 (by decide) (S.1.2.2.2.2 _ q33) (fun _ h => h) rfl dg (kk H locs ls hI hl)
theorem x_ld4 (S : Fx E cc RX0) {j : Nat} (dg : decode cc pc = .ok (.iaload, 1)) (hj : j < 8) (kk : Az E (xI g (eS E) σ) lv (pc + 1) (.int (σ 4 j) :: st)) : Az E (xI g (eS E) σ) lv pc (.int (nI j) :: .ref (xa g 4) :: st) := fun H locs ls hI hl => by
  refine va_iald S.1.1 S.1.2.1 hI.1 hI.2.1 4 3 rfl rfl (vp_in_nI hj (by decide)) dg ?_
  rw [nI_clamp (by omega)]
  exact kk H locs ls hI hl
theorem x_st4 (S : Fx E cc RX0) {j : Nat} {x : Int32} (dg : decode cc pc = .ok (.iastore, 1)) (hj : j < 8) (kk : Az E (xI g (eS E) (wr σ 4 j (x))) lv (pc + 1) st) : Az E (xI g (eS E) σ) lv pc (.int x :: .int (nI j) :: .ref (xa g 4) :: st) := fun H locs ls hI hl => by
  refine va_iast S.1.1 S.1.2.1 hI.1 hI.2.1 hI.2.2.1 hI.2.2.2 4 3 rfl rfl (vp_in_nI hj (by decide)) dg (fun H1 locs1 hP hD hS => ?_)
  rw [nI_clamp (by omega)] at hP hD
  exact kk H1 locs1 ls ⟨hI.1, hP, hD, hS⟩ hl
theorem x_get5 (S : Fx E cc RX0) (dg : decode cc pc = .ok (.getfield 23, 3)) (kk : Az E (xI g (eS E) σ) lv (pc + 3) (.ref (xa g 5) :: st)) : Az E (xI g (eS E) σ) lv pc (.ref (xa g 11) :: st) := fun H locs ls hI hl => va_get (ci := 0) (C := RX0) (T := TX0) (N := 11) S.1.1 S.1.2.1 S.1.2.2.2.2 in_X0 S.1.2.2.2.1 hI.1 hI.2.1 0 rfl rfl 5 (by decide) (S.1.2.2.2.2 _ q34) (fun _ h => h) rfl dg (kk H locs ls hI hl)
theorem x_ld5 (S : Fx E cc RX0) {j : Nat} (dg : decode cc pc = .ok (.iaload, 1)) (hj : j < 40) (kk : Az E (xI g (eS E) σ) lv (pc + 1) (.int (σ 5 j) :: st)) : Az E (xI g (eS E) σ) lv pc (.int (nI j) :: .ref (xa g 5) :: st) := fun H locs ls hI hl => by
  refine va_iald S.1.1 S.1.2.1 hI.1 hI.2.1 5 4 rfl rfl (vp_in_nI hj (by decide)) dg ?_
  rw [nI_clamp (by omega)]
  exact kk H locs ls hI hl
theorem x_st5 (S : Fx E cc RX0) {j : Nat} {x : Int32} (dg : decode cc pc = .ok (.iastore, 1)) (hj : j < 40) (kk : Az E (xI g (eS E) (wr σ 5 j (x))) lv (pc + 1) st) : Az E (xI g (eS E) σ) lv pc (.int x :: .int (nI j) :: .ref (xa g 5) :: st) := fun H locs ls hI hl => by
  refine va_iast S.1.1 S.1.2.1 hI.1 hI.2.1 hI.2.2.1 hI.2.2.2 5 4 rfl rfl (vp_in_nI hj (by decide)) dg (fun H1 locs1 hP hD hS => ?_)
  rw [nI_clamp (by omega)] at hP hD
  exact kk H1 locs1 ls ⟨hI.1, hP, hD, hS⟩ hl
theorem x_get6 (S : Fx E cc RX0) (dg : decode cc pc = .ok (.getfield 73, 3)) (kk : Az E (xI g (eS E) σ) lv (pc + 3) (.int (σ 6 0) :: st)) : Az E (xI g (eS E) σ) lv pc (.ref (xa g 11) :: st) := fun H locs ls hI hl => va_get (ci := 0) (C := RX0) (T := TX0) (N := 11) S.1.1 S.1.2.1 S.1.2.2.2.2 in_X0 S.1.2.2.2.1 hI.1 hI.2.1 0 rfl rfl 6 (by decide) (S.1.2.2.2.2 _ q35) (fun _ h => h) rfl dg (kk H locs ls hI hl)
theorem x_put6 (S : Fx E cc RX0) {x : Int32} (dg : decode cc pc = .ok (.putfield 73, 3)) (kk : Az E (xI g (eS E) (wr σ 6 0 x)) lv (pc + 3) st) : Az E (xI g (eS E) σ) lv pc (.int x :: .ref (xa g 11) :: st) := fun H locs ls hI hl => va_put (ci := 0) (v := .int x) (ty := .int) (C := RX0) (T := TX0) (N := 11) S.1.1 S.1.2.1 S.1.2.2.2.2 in_X0 tyX0 tyX0_ok nmX0 S.1.2.2.2.1 hI.1 hI.2.1 hI.2.2.1 hI.2.2.2 0 rfl rfl 6 (by decide) (S.1.2.2.2.2 _ q35) (fun _ h => h) rfl (by decide +kernel) rfl rfl (Nat.le_of_ble_eq_true rfl) dg (fun H1 locs1 hP hD hS => kk H1 locs1 ls ⟨hI.1, hP, hD, hS⟩ hl)
theorem x_get7 (S : Fx E cc RX0) (dg : decode cc pc = .ok (.getfield 26, 3)) (kk : Az E (xI g (eS E) σ) lv (pc + 3) (.ref (xa g 7) :: st)) : Az E (xI g (eS E) σ) lv pc (.ref (xa g 11) :: st) := fun H locs ls hI hl => va_get (ci := 0) (C := RX0) (T := TX0) (N := 11) S.1.1 S.1.2.1 S.1.2.2.2.2 in_X0 S.1.2.2.2.1 hI.1 hI.2.1 0 rfl rfl 7 (by decide) (S.1.2.2.2.2 _ q36) (fun _ h => h) rfl dg (kk H locs ls hI hl)
theorem x_ld7 (S : Fx E cc RX0) {j : Nat} (dg : decode cc pc = .ok (.iaload, 1)) (hj : j < 4) (kk : Az E (xI g (eS E) σ) lv (pc + 1) (.int (σ 7 j) :: st)) : Az E (xI g (eS E) σ) lv pc (.int (nI j) :: .ref (xa g 7) :: st) := fun H locs ls hI hl => by
  refine va_iald S.1.1 S.1.2.1 hI.1 hI.2.1 6 5 rfl rfl (vp_in_nI hj (by decide)) dg ?_
  rw [nI_clamp (by omega)]
  exact kk H locs ls hI hl
theorem x_st7 (S : Fx E cc RX0) {j : Nat} {x : Int32} (dg : decode cc pc = .ok (.iastore, 1)) (hj : j < 4) (kk : Az E (xI g (eS E) (wr σ 7 j (x))) lv (pc + 1) st) : Az E (xI g (eS E) σ) lv pc (.int x :: .int (nI j) :: .ref (xa g 7) :: st) := fun H locs ls hI hl => by
  refine va_iast S.1.1 S.1.2.1 hI.1 hI.2.1 hI.2.2.1 hI.2.2.2 6 5 rfl rfl (vp_in_nI hj (by decide)) dg (fun H1 locs1 hP hD hS => ?_)
  rw [nI_clamp (by omega)] at hP hD
  exact kk H1 locs1 ls ⟨hI.1, hP, hD, hS⟩ hl
theorem x_get8 (S : Fx E cc RX0) (dg : decode cc pc = .ok (.getfield 29, 3)) (kk : Az E (xI g (eS E) σ) lv (pc + 3) (.ref (xa g 8) :: st)) : Az E (xI g (eS E) σ) lv pc (.ref (xa g 11) :: st) := fun H locs ls hI hl => va_get (ci := 0) (C := RX0) (T := TX0) (N := 11) S.1.1 S.1.2.1 S.1.2.2.2.2 in_X0 S.1.2.2.2.1 hI.1 hI.2.1 0 rfl rfl 8 (by decide) (S.1.2.2.2.2 _ q37) (fun _ h => h) rfl dg (kk H locs ls hI hl)
theorem x_ld8 (S : Fx E cc RX0) {j : Nat} (dg : decode cc pc = .ok (.iaload, 1)) (hj : j < 4) (kk : Az E (xI g (eS E) σ) lv (pc + 1) (.int (σ 8 j) :: st)) : Az E (xI g (eS E) σ) lv pc (.int (nI j) :: .ref (xa g 8) :: st) := fun H locs ls hI hl => by
  refine va_iald S.1.1 S.1.2.1 hI.1 hI.2.1 7 6 rfl rfl (vp_in_nI hj (by decide)) dg ?_
  rw [nI_clamp (by omega)]
  exact kk H locs ls hI hl
theorem x_st8 (S : Fx E cc RX0) {j : Nat} {x : Int32} (dg : decode cc pc = .ok (.iastore, 1)) (hj : j < 4) (kk : Az E (xI g (eS E) (wr σ 8 j (x))) lv (pc + 1) st) : Az E (xI g (eS E) σ) lv pc (.int x :: .int (nI j) :: .ref (xa g 8) :: st) := fun H locs ls hI hl => by
  refine va_iast S.1.1 S.1.2.1 hI.1 hI.2.1 hI.2.2.1 hI.2.2.2 7 6 rfl rfl (vp_in_nI hj (by decide)) dg (fun H1 locs1 hP hD hS => ?_)
  rw [nI_clamp (by omega)] at hP hD
  exact kk H1 locs1 ls ⟨hI.1, hP, hD, hS⟩ hl
theorem x_get9 (S : Fx E cc RX0) (dg : decode cc pc = .ok (.getfield 70, 3)) (kk : Az E (xI g (eS E) σ) lv (pc + 3) (.int (σ 9 0) :: st)) : Az E (xI g (eS E) σ) lv pc (.ref (xa g 11) :: st) := fun H locs ls hI hl => va_get (ci := 0) (C := RX0) (T := TX0) (N := 11) S.1.1 S.1.2.1 S.1.2.2.2.2 in_X0 S.1.2.2.2.1 hI.1 hI.2.1 0 rfl rfl 9 (by decide) (S.1.2.2.2.2 _ q38) (fun _ h => h) rfl dg (kk H locs ls hI hl)
theorem x_put9 (S : Fx E cc RX0) {x : Int32} (dg : decode cc pc = .ok (.putfield 70, 3)) (kk : Az E (xI g (eS E) (wr σ 9 0 x)) lv (pc + 3) st) : Az E (xI g (eS E) σ) lv pc (.int x :: .ref (xa g 11) :: st) := fun H locs ls hI hl => va_put (ci := 0) (v := .int x) (ty := .int) (C := RX0) (T := TX0) (N := 11) S.1.1 S.1.2.1 S.1.2.2.2.2 in_X0 tyX0 tyX0_ok nmX0 S.1.2.2.2.1 hI.1 hI.2.1 hI.2.2.1 hI.2.2.2 0 rfl rfl 9 (by decide) (S.1.2.2.2.2 _ q38) (fun _ h => h) rfl (by decide +kernel) rfl rfl (Nat.le_of_ble_eq_true rfl) dg (fun H1 locs1 hP hD hS => kk H1 locs1 ls ⟨hI.1, hP, hD, hS⟩ hl)
theorem x_get10 (S : Fx E cc RX0) (dg : decode cc pc = .ok (.getfield 32, 3)) (kk : Az E (xI g (eS E) σ) lv (pc + 3) (.ref (xa g 10) :: st)) : Az E (xI g (eS E) σ) lv pc (.ref (xa g 11) :: st) := fun H locs ls hI hl => va_get (ci := 0) (C := RX0) (T := TX0) (N := 11) S.1.1 S.1.2.1 S.1.2.2.2.2 in_X0 S.1.2.2.2.1 hI.1 hI.2.1 0 rfl rfl 10 (by decide) (S.1.2.2.2.2 _ q39) (fun _ h => h) rfl dg (kk H locs ls hI hl)
theorem x_ld10 (S : Fx E cc RX0) {j : Nat} (dg : decode cc pc = .ok (.iaload, 1)) (hj : j < 5) (kk : Az E (xI g (eS E) σ) lv (pc + 1) (.int (σ 10 j) :: st)) : Az E (xI g (eS E) σ) lv pc (.int (nI j) :: .ref (xa g 10) :: st) := fun H locs ls hI hl => by
  refine va_iald S.1.1 S.1.2.1 hI.1 hI.2.1 8 7 rfl rfl (vp_in_nI hj (by decide)) dg ?_
  rw [nI_clamp (by omega)]
  exact kk H locs ls hI hl
theorem x_st10 (S : Fx E cc RX0) {j : Nat} {x : Int32} (dg : decode cc pc = .ok (.iastore, 1)) (hj : j < 5) (kk : Az E (xI g (eS E) (wr σ 10 j (x))) lv (pc + 1) st) : Az E (xI g (eS E) σ) lv pc (.int x :: .int (nI j) :: .ref (xa g 10) :: st) := fun H locs ls hI hl => by
  refine va_iast S.1.1 S.1.2.1 hI.1 hI.2.1 hI.2.2.1 hI.2.2.2 8 7 rfl rfl (vp_in_nI hj (by decide)) dg (fun H1 locs1 hP hD hS => ?_)
  rw [nI_clamp (by omega)] at hP hD
  exact kk H1 locs1 ls ⟨hI.1, hP, hD, hS⟩ hl
theorem x_enter {l : Launch} {y : MethodName} {As : List Value} (d : Nat) (lv : List (Nat × Value)) (hy : plainName y.cls = true) (hc : y.cls = RX0) (hlen : (lg_sl (.ref (xa g 11) :: As)).length ≤ nL) (hlv : lv_args 0 (.ref (xa g 11) :: As) = lv)
    (body : ∀ E : EV, xM E cc nL ret d g Qc → Az E (xI g (eS E) σ) lv 0 []) : Met l y (ws_ y cc nL ret) (rmk d) (va_Pc (.ref (xa g 11) :: As) (xW g σ)) Qc 0 0 (xA g) := by
  refine Met.ofW (cc := cc) (maxL := nL) (ret := ret) hy rfl ?_
  intro p e s m args below meth c s₁ B hml hv
  obtain ⟨rfl, hP, hK, hD⟩ := hv
  have hts := atoms_spec (ws := ws_ y cc nL ret) B.pre
  have hts : ∀ w ∈ lw_all, w.before _ s = true := fun w h => hts w (List.mem_cons_of_mem _ h)
  have hown : s.vm.findClass RX0 = some m.cls := by rw [← hc]; exact findClass_of_methodNamed B.named
  have hl := lv_entry (.ref (xa g 11) :: As) (n := nL) hlen
  rw [lg_entry_eq]
  generalize (lg_sl (.ref (xa g 11) :: As) ++ List.replicate (nL - (lg_sl (.ref (xa g 11) :: As)).length) Slot.unset).toArray = ls at hl ⊢
  rw [hlv] at hl
  exact body (p, l, e, rmk d, s, m, _, below, meth, c, 0, 0, nL, _) ⟨⟨⟨B.exec, B.bytes, hml, hown, hts⟩, B.notSynchronized⟩, rfl, rfl, rfl, rfl, B.returns, rfl⟩ s.heap [] ls ⟨hK, hP, hD, va_S.rf⟩ hl
theorem x_reti {post : Int32 → XS → Prop} (M : xM E cc nL (some .int) d g (va_Qi post (xW g) (xA g))) {r : Int32} (dg : decode cc pc = .ok (.ireturn, 1)) (h : post r σ) : Az E (xI g (eS E) σ) lv pc [.int r] := by
  obtain ⟨p, l, e, R, s, m, args, below, meth, c, cells, slots, n, Q⟩ := E
  obtain ⟨S, -, hX, hY, -, hr, hQ⟩ := M
  dsimp only [eP, eL, eE, eR, eS, eM, eA, eB, eT, eC, eX, eY, eN, eQ] at *
  subst hX hY hQ
  intro H locs ls hI hl
  exact W.iret (v := r) S.1.1 S.1.2.1 hr (fun t ht hW => ⟨⟨r, σ, rfl, h, by rw [ht]; exact hI.2.1, va_K.moved hW.alike hI.1, hI.2.2.1⟩, hI.2.2.2.F ht⟩) hI.2.2.2.2.2 dg S.2
theorem x_retz {post : Int32 → XS → Prop} (M : xM E cc nL (some .boolean) d g (va_Qi post (xW g) (xA g))) {r : Int32} (dg : decode cc pc = .ok (.ireturn, 1)) (hn : narrow .boolean (.int r) = .int r) (h : post r σ) : Az E (xI g (eS E) σ) lv pc [.int r] := by
  obtain ⟨p, l, e, R, s, m, args, below, meth, c, cells, slots, n, Q⟩ := E
  obtain ⟨S, -, hX, hY, -, hr, hQ⟩ := M
  dsimp only [eP, eL, eE, eR, eS, eM, eA, eB, eT, eC, eX, eY, eN, eQ] at *
  subst hX hY hQ
  intro H locs ls hI hl
  exact W.zret (v := r) S.1.1 S.1.2.1 hr hn (fun t ht hW => ⟨⟨r, σ, rfl, h, by rw [ht]; exact hI.2.1, va_K.moved hW.alike hI.1, hI.2.2.1⟩, hI.2.2.2.F ht⟩) hI.2.2.2.2.2 dg S.2
theorem x_retv {post : XS → Prop} (M : xM E cc nL none d g (va_Qv post (xW g) (xA g))) (dg : decode cc pc = .ok (.return_, 1)) (h : post σ) : Az E (xI g (eS E) σ) lv pc [] := by
  obtain ⟨p, l, e, R, s, m, args, below, meth, c, cells, slots, n, Q⟩ := E
  obtain ⟨S, -, hX, hY, -, hr, hQ⟩ := M
  dsimp only [eP, eL, eE, eR, eS, eM, eA, eB, eT, eC, eX, eY, eN, eQ] at *
  subst hX hY hQ
  intro H locs ls hI hl
  exact W.vret S.1.1 S.1.2.1 hr (fun t ht hW => ⟨⟨σ, rfl, h, by rw [ht]; exact hI.2.1, va_K.moved hW.alike hI.1, hI.2.2.1⟩, hI.2.2.2.F ht⟩) hI.2.2.2.2.2 dg S.2
theorem x_calli (M : xM E cc nL ret d g Qc) {y : MethodName} {bytes : ByteArray} {maxL index d' : Nat} {rt : Option FieldType} {As rest : List Value} {post : Int32 → XS → Prop} (hM : ∀ l : Launch, Met l y (ws_ y bytes maxL rt) (rmk d') (va_Pc (.ref (xa g 11) :: As) (xW g σ)) (va_Qi post (xW g) (xA g)) 0 0 (xA g)) (hG : GoodIn lw_all (wsV RX0 index RX0 y (ws_ y bytes maxL rt)))
    (hd : y.cls = RX0 ∧ y.cls ≠ "java/lang/invoke/MethodHandle" ∧ y.cls ≠ "java/lang/invoke/VarHandle" ∧ (parseMethodDescriptor y.desc).map (fun d => d.parameters.length) = some As.length) (hdd : d' < d) (hm : maxL ≤ 11) (hst : st = As.reverse ++ .ref (xa g 11) :: rest) (hW : (rest.map fun v => v.category).sum ≤ 8) (dg : decode cc pc = .ok (.invokevirtual index, 3))
    (kk : ∀ (r : Int32) (σ' : XS), post r σ' → Az E (xI g (eS E) σ') lv (pc + 3) (.int r :: rest)) : Az E (xI g (eS E) σ) lv pc st := by
  obtain ⟨p, l, e, R, s, m, args, below, meth, c, cells, slots, n, Q⟩ := E
  have hroom := room_ok M.2.1 hdd hm
  obtain ⟨S, hRm, hX, hY, -, hr, hQ⟩ := M
  dsimp only [eP, eL, eE, eR, eS, eM, eA, eB, eT, eC, eX, eY, eN, eQ] at *
  subst hX hY hQ
  intro H locs ls hI hl
  obtain ⟨hK, hP, hD, hS⟩ := hI
  refine va_calli (va_runV (As := As) (rest := rest) S.1 (hM l) (cwV As.length S.1.2.2.2.2 hG rfl rfl rfl hd hroom) ⟨fun a U g' mk q => ⟨q.1, q.2.1, va_K.moved (u := U) (U := U.calling g' mk a) (Vm.Alike.refl U.vm) q.2.2.1, q.2.2.2⟩, va_recv hK hP (ci := 0) (q0 := 0) rfl rfl, fun U hU hW => ⟨rfl, by rw [hU]; exact hP, va_K.moved hW.alike hK, hD⟩⟩ rfl rfl hl.1 hst (lv_room hW) dg ⟨Nat.zero_le _, Nat.zero_le _⟩) hS (fun q _ h => h) (fun q h => h) (fun r u t H1 locs1 ht hvm hp hB hz hk hS1 => ?_)
  obtain ⟨hP1, hK1, hD1⟩ := hB
  rw [ht] at hP1
  exact kk r u hp H1 locs1 ls ⟨va_K.moved hvm.symm hK1, hP1, hD1, hS1⟩ hl
theorem x_callv (M : xM E cc nL ret d g Qc) {y : MethodName} {bytes : ByteArray} {maxL index d' : Nat} {As rest : List Value} {post : XS → Prop} (hM : ∀ l : Launch, Met l y (ws_ y bytes maxL none) (rmk d') (va_Pc (.ref (xa g 11) :: As) (xW g σ)) (va_Qv post (xW g) (xA g)) 0 0 (xA g)) (hG : GoodIn lw_all (wsV RX0 index RX0 y (ws_ y bytes maxL none)))
    (hd : y.cls = RX0 ∧ y.cls ≠ "java/lang/invoke/MethodHandle" ∧ y.cls ≠ "java/lang/invoke/VarHandle" ∧ (parseMethodDescriptor y.desc).map (fun d => d.parameters.length) = some As.length) (hdd : d' < d) (hm : maxL ≤ 11) (hst : st = As.reverse ++ .ref (xa g 11) :: rest) (hW : (rest.map fun v => v.category).sum ≤ 8) (dg : decode cc pc = .ok (.invokevirtual index, 3))
    (kk : ∀ σ' : XS, post σ' → Az E (xI g (eS E) σ') lv (pc + 3) rest) : Az E (xI g (eS E) σ) lv pc st := by
  obtain ⟨p, l, e, R, s, m, args, below, meth, c, cells, slots, n, Q⟩ := E
  have hroom := room_ok M.2.1 hdd hm
  obtain ⟨S, hRm, hX, hY, -, hr, hQ⟩ := M
  dsimp only [eP, eL, eE, eR, eS, eM, eA, eB, eT, eC, eX, eY, eN, eQ] at *
  subst hX hY hQ
  intro H locs ls hI hl
  obtain ⟨hK, hP, hD, hS⟩ := hI
  refine va_callv (va_runV (As := As) (rest := rest) S.1 (hM l) (cwV As.length S.1.2.2.2.2 hG rfl rfl rfl hd hroom) ⟨fun a U g' mk q => ⟨q.1, q.2.1, va_K.moved (u := U) (U := U.calling g' mk a) (Vm.Alike.refl U.vm) q.2.2.1, q.2.2.2⟩, va_recv hK hP (ci := 0) (q0 := 0) rfl rfl, fun U hU hW => ⟨rfl, by rw [hU]; exact hP, va_K.moved hW.alike hK, hD⟩⟩ rfl rfl hl.1 hst (lv_room hW) dg ⟨Nat.zero_le _, Nat.zero_le _⟩) hS (fun q _ h => h) (fun q h => h) (fun u t H1 locs1 ht hvm hp hB hz hk hS1 => ?_)
  obtain ⟨hP1, hK1, hD1⟩ := hB
  rw [ht] at hP1
  exact kk u hp H1 locs1 ls ⟨va_K.moved hvm.symm hK1, hP1, hD1, hS1⟩ hl
end WORLD
def mfs (g : XA) (σ : XS) : List Value := [.ref (xa g 0), .int (σ 1 0), .ref (xa g 2), .ref (xa g 3), .ref (xa g 4), .ref (xa g 5), .int (σ 6 0)]
def mw (g : XA) (σ : XS) : va_W := [(xa g 7, .inr (1, mfs g σ)), (xa g 0, .inl (xc g 0, 4, .inl (σ 0))), (xa g 2, .inl (xc g 2, 32, .inl (σ 2))), (xa g 3, .inl (xc g 3, 8, .inl (σ 3))), (xa g 4, .inl (xc g 4, 8, .inl (σ 4))), (xa g 5, .inl (xc g 5, 8, .inl (σ 5)))]
def mt (g : XA) : List (ClassId × FieldType) := [(xc g 0, .int), (xc g 2, .int), (xc g 3, .int), (xc g 4, .int), (xc g 5, .int)]
def mA (g : XA) : Nat → Prop := fun q => ∃ k, k < 8 ∧ q = xa g k
def mW (g : XA) (σ : XS) (U : State) : Prop := va_P g.1 vwCl (mw g σ) U.heap ∧ va_K g.1 vwCl (mt g) U ∧ va_D (mA g) (mw g σ)
def mI (g : XA) (s : State) (σ : XS) (H : Heap) (locs : List Loc) : Prop := va_K g.1 vwCl (mt g) s ∧ va_P g.1 vwCl (mw g σ) H ∧ va_D (mA g) (mw g σ) ∧ va_S (mA g) s.heap H locs
def mM (E : EV) (cc : ByteArray) (nL : Nat) (ret : Option FieldType) (d : Nat) (g : XA) (Qc : Array Value → State → Outcome → State → Prop) : Prop := Fx E cc RX1 ∧ eR E = rmk d ∧ eX E = 0 ∧ eY E = 0 ∧ eN E = nL ∧ (eT E).sig.returnType = ret ∧ eQ E = MQ (eB E) Qc (eA E) (eS E) 0 0 (mA g)
section WORLD
variable {E : EV} {cc : ByteArray} {lv : List (Nat × Value)} {pc : Nat} {st : List Value} {g : XA} {σ : XS} {nL d : Nat} {ret : Option FieldType} {Qc : Array Value → State → Outcome → State → Prop}
theorem m_get0 (S : Fx E cc RX1) (dg : decode cc pc = .ok (.getfield 7, 3)) (kk : Az E (mI g (eS E) σ) lv (pc + 3) (.ref (xa g 0) :: st)) : Az E (mI g (eS E) σ) lv pc (.ref (xa g 7) :: st) := fun H locs ls hI hl => va_get (ci := 1) (C := RX1) (T := TX1) (N := 7) S.1.1 S.1.2.1 S.1.2.2.2.2 in_X1 S.1.2.2.2.1 hI.1 hI.2.1 0 rfl rfl 0 (by decide) (S.1.2.2.2.2 _ q188) (fun _ h => h) rfl dg (kk H locs ls hI hl)
theorem m_ld0 (S : Fx E cc RX1) {j : Nat} (dg : decode cc pc = .ok (.iaload, 1)) (hj : j < 4) (kk : Az E (mI g (eS E) σ) lv (pc + 1) (.int (σ 0 j) :: st)) : Az E (mI g (eS E) σ) lv pc (.int (nI j) :: .ref (xa g 0) :: st) := fun H locs ls hI hl => by
  refine va_iald S.1.1 S.1.2.1 hI.1 hI.2.1 1 0 rfl rfl (vp_in_nI hj (by decide)) dg ?_
  rw [nI_clamp (by omega)]
  exact kk H locs ls hI hl
theorem m_st0 (S : Fx E cc RX1) {j : Nat} {x : Int32} (dg : decode cc pc = .ok (.iastore, 1)) (hj : j < 4) (kk : Az E (mI g (eS E) (wr σ 0 j (x))) lv (pc + 1) st) : Az E (mI g (eS E) σ) lv pc (.int x :: .int (nI j) :: .ref (xa g 0) :: st) := fun H locs ls hI hl => by
  refine va_iast S.1.1 S.1.2.1 hI.1 hI.2.1 hI.2.2.1 hI.2.2.2 1 0 rfl rfl (vp_in_nI hj (by decide)) dg (fun H1 locs1 hP hD hS => ?_)
  rw [nI_clamp (by omega)] at hP hD
  exact kk H1 locs1 ls ⟨hI.1, hP, hD, hS⟩ hl
theorem m_get1 (S : Fx E cc RX1) (dg : decode cc pc = .ok (.getfield 25, 3)) (kk : Az E (mI g (eS E) σ) lv (pc + 3) (.int (σ 1 0) :: st)) : Az E (mI g (eS E) σ) lv pc (.ref (xa g 7) :: st) := fun H locs ls hI hl => va_get (ci := 1) (C := RX1) (T := TX1) (N := 7) S.1.1 S.1.2.1 S.1.2.2.2.2 in_X1 S.1.2.2.2.1 hI.1 hI.2.1 0 rfl rfl 1 (by decide) (S.1.2.2.2.2 _ q189) (fun _ h => h) rfl dg (kk H locs ls hI hl)
theorem m_put1 (S : Fx E cc RX1) {x : Int32} (dg : decode cc pc = .ok (.putfield 25, 3)) (kk : Az E (mI g (eS E) (wr σ 1 0 x)) lv (pc + 3) st) : Az E (mI g (eS E) σ) lv pc (.int x :: .ref (xa g 7) :: st) := fun H locs ls hI hl => va_put (ci := 1) (v := .int x) (ty := .int) (C := RX1) (T := TX1) (N := 7) S.1.1 S.1.2.1 S.1.2.2.2.2 in_X1 tyX1 tyX1_ok nmX1 S.1.2.2.2.1 hI.1 hI.2.1 hI.2.2.1 hI.2.2.2 0 rfl rfl 1 (by decide) (S.1.2.2.2.2 _ q189) (fun _ h => h) rfl (by decide +kernel) rfl rfl (Nat.le_of_ble_eq_true rfl) dg (fun H1 locs1 hP hD hS => kk H1 locs1 ls ⟨hI.1, hP, hD, hS⟩ hl)
theorem m_get2 (S : Fx E cc RX1) (dg : decode cc pc = .ok (.getfield 13, 3)) (kk : Az E (mI g (eS E) σ) lv (pc + 3) (.ref (xa g 2) :: st)) : Az E (mI g (eS E) σ) lv pc (.ref (xa g 7) :: st) := fun H locs ls hI hl => va_get (ci := 1) (C := RX1) (T := TX1) (N := 7) S.1.1 S.1.2.1 S.1.2.2.2.2 in_X1 S.1.2.2.2.1 hI.1 hI.2.1 0 rfl rfl 2 (by decide) (S.1.2.2.2.2 _ q190) (fun _ h => h) rfl dg (kk H locs ls hI hl)
theorem m_ld2 (S : Fx E cc RX1) {j : Nat} (dg : decode cc pc = .ok (.iaload, 1)) (hj : j < 32) (kk : Az E (mI g (eS E) σ) lv (pc + 1) (.int (σ 2 j) :: st)) : Az E (mI g (eS E) σ) lv pc (.int (nI j) :: .ref (xa g 2) :: st) := fun H locs ls hI hl => by
  refine va_iald S.1.1 S.1.2.1 hI.1 hI.2.1 2 1 rfl rfl (vp_in_nI hj (by decide)) dg ?_
  rw [nI_clamp (by omega)]
  exact kk H locs ls hI hl
theorem m_st2 (S : Fx E cc RX1) {j : Nat} {x : Int32} (dg : decode cc pc = .ok (.iastore, 1)) (hj : j < 32) (kk : Az E (mI g (eS E) (wr σ 2 j (x))) lv (pc + 1) st) : Az E (mI g (eS E) σ) lv pc (.int x :: .int (nI j) :: .ref (xa g 2) :: st) := fun H locs ls hI hl => by
  refine va_iast S.1.1 S.1.2.1 hI.1 hI.2.1 hI.2.2.1 hI.2.2.2 2 1 rfl rfl (vp_in_nI hj (by decide)) dg (fun H1 locs1 hP hD hS => ?_)
  rw [nI_clamp (by omega)] at hP hD
  exact kk H1 locs1 ls ⟨hI.1, hP, hD, hS⟩ hl
theorem m_get3 (S : Fx E cc RX1) (dg : decode cc pc = .ok (.getfield 16, 3)) (kk : Az E (mI g (eS E) σ) lv (pc + 3) (.ref (xa g 3) :: st)) : Az E (mI g (eS E) σ) lv pc (.ref (xa g 7) :: st) := fun H locs ls hI hl => va_get (ci := 1) (C := RX1) (T := TX1) (N := 7) S.1.1 S.1.2.1 S.1.2.2.2.2 in_X1 S.1.2.2.2.1 hI.1 hI.2.1 0 rfl rfl 3 (by decide) (S.1.2.2.2.2 _ q191) (fun _ h => h) rfl dg (kk H locs ls hI hl)
theorem m_ld3 (S : Fx E cc RX1) {j : Nat} (dg : decode cc pc = .ok (.iaload, 1)) (hj : j < 8) (kk : Az E (mI g (eS E) σ) lv (pc + 1) (.int (σ 3 j) :: st)) : Az E (mI g (eS E) σ) lv pc (.int (nI j) :: .ref (xa g 3) :: st) := fun H locs ls hI hl => by
  refine va_iald S.1.1 S.1.2.1 hI.1 hI.2.1 3 2 rfl rfl (vp_in_nI hj (by decide)) dg ?_
  rw [nI_clamp (by omega)]
  exact kk H locs ls hI hl
theorem m_st3 (S : Fx E cc RX1) {j : Nat} {x : Int32} (dg : decode cc pc = .ok (.iastore, 1)) (hj : j < 8) (kk : Az E (mI g (eS E) (wr σ 3 j (x))) lv (pc + 1) st) : Az E (mI g (eS E) σ) lv pc (.int x :: .int (nI j) :: .ref (xa g 3) :: st) := fun H locs ls hI hl => by
  refine va_iast S.1.1 S.1.2.1 hI.1 hI.2.1 hI.2.2.1 hI.2.2.2 3 2 rfl rfl (vp_in_nI hj (by decide)) dg (fun H1 locs1 hP hD hS => ?_)
  rw [nI_clamp (by omega)] at hP hD
  exact kk H1 locs1 ls ⟨hI.1, hP, hD, hS⟩ hl
theorem m_get4 (S : Fx E cc RX1) (dg : decode cc pc = .ok (.getfield 19, 3)) (kk : Az E (mI g (eS E) σ) lv (pc + 3) (.ref (xa g 4) :: st)) : Az E (mI g (eS E) σ) lv pc (.ref (xa g 7) :: st) := fun H locs ls hI hl => va_get (ci := 1) (C := RX1) (T := TX1) (N := 7) S.1.1 S.1.2.1 S.1.2.2.2.2 in_X1 S.1.2.2.2.1 hI.1 hI.2.1 0 rfl rfl 4 (by decide) (S.1.2.2.2.2 _ q192) (fun _ h => h) rfl dg (kk H locs ls hI hl)
theorem m_ld4 (S : Fx E cc RX1) {j : Nat} (dg : decode cc pc = .ok (.iaload, 1)) (hj : j < 8) (kk : Az E (mI g (eS E) σ) lv (pc + 1) (.int (σ 4 j) :: st)) : Az E (mI g (eS E) σ) lv pc (.int (nI j) :: .ref (xa g 4) :: st) := fun H locs ls hI hl => by
  refine va_iald S.1.1 S.1.2.1 hI.1 hI.2.1 4 3 rfl rfl (vp_in_nI hj (by decide)) dg ?_
  rw [nI_clamp (by omega)]
  exact kk H locs ls hI hl
theorem m_st4 (S : Fx E cc RX1) {j : Nat} {x : Int32} (dg : decode cc pc = .ok (.iastore, 1)) (hj : j < 8) (kk : Az E (mI g (eS E) (wr σ 4 j (x))) lv (pc + 1) st) : Az E (mI g (eS E) σ) lv pc (.int x :: .int (nI j) :: .ref (xa g 4) :: st) := fun H locs ls hI hl => by
  refine va_iast S.1.1 S.1.2.1 hI.1 hI.2.1 hI.2.2.1 hI.2.2.2 4 3 rfl rfl (vp_in_nI hj (by decide)) dg (fun H1 locs1 hP hD hS => ?_)
  rw [nI_clamp (by omega)] at hP hD
  exact kk H1 locs1 ls ⟨hI.1, hP, hD, hS⟩ hl
theorem m_get5 (S : Fx E cc RX1) (dg : decode cc pc = .ok (.getfield 22, 3)) (kk : Az E (mI g (eS E) σ) lv (pc + 3) (.ref (xa g 5) :: st)) : Az E (mI g (eS E) σ) lv pc (.ref (xa g 7) :: st) := fun H locs ls hI hl => va_get (ci := 1) (C := RX1) (T := TX1) (N := 7) S.1.1 S.1.2.1 S.1.2.2.2.2 in_X1 S.1.2.2.2.1 hI.1 hI.2.1 0 rfl rfl 5 (by decide) (S.1.2.2.2.2 _ q193) (fun _ h => h) rfl dg (kk H locs ls hI hl)
theorem m_ld5 (S : Fx E cc RX1) {j : Nat} (dg : decode cc pc = .ok (.iaload, 1)) (hj : j < 8) (kk : Az E (mI g (eS E) σ) lv (pc + 1) (.int (σ 5 j) :: st)) : Az E (mI g (eS E) σ) lv pc (.int (nI j) :: .ref (xa g 5) :: st) := fun H locs ls hI hl => by
  refine va_iald S.1.1 S.1.2.1 hI.1 hI.2.1 5 4 rfl rfl (vp_in_nI hj (by decide)) dg ?_
  rw [nI_clamp (by omega)]
  exact kk H locs ls hI hl
theorem m_st5 (S : Fx E cc RX1) {j : Nat} {x : Int32} (dg : decode cc pc = .ok (.iastore, 1)) (hj : j < 8) (kk : Az E (mI g (eS E) (wr σ 5 j (x))) lv (pc + 1) st) : Az E (mI g (eS E) σ) lv pc (.int x :: .int (nI j) :: .ref (xa g 5) :: st) := fun H locs ls hI hl => by
  refine va_iast S.1.1 S.1.2.1 hI.1 hI.2.1 hI.2.2.1 hI.2.2.2 5 4 rfl rfl (vp_in_nI hj (by decide)) dg (fun H1 locs1 hP hD hS => ?_)
  rw [nI_clamp (by omega)] at hP hD
  exact kk H1 locs1 ls ⟨hI.1, hP, hD, hS⟩ hl
theorem m_get6 (S : Fx E cc RX1) (dg : decode cc pc = .ok (.getfield 33, 3)) (kk : Az E (mI g (eS E) σ) lv (pc + 3) (.int (σ 6 0) :: st)) : Az E (mI g (eS E) σ) lv pc (.ref (xa g 7) :: st) := fun H locs ls hI hl => va_get (ci := 1) (C := RX1) (T := TX1) (N := 7) S.1.1 S.1.2.1 S.1.2.2.2.2 in_X1 S.1.2.2.2.1 hI.1 hI.2.1 0 rfl rfl 6 (by decide) (S.1.2.2.2.2 _ q194) (fun _ h => h) rfl dg (kk H locs ls hI hl)
theorem m_put6 (S : Fx E cc RX1) {x : Int32} (dg : decode cc pc = .ok (.putfield 33, 3)) (kk : Az E (mI g (eS E) (wr σ 6 0 x)) lv (pc + 3) st) : Az E (mI g (eS E) σ) lv pc (.int x :: .ref (xa g 7) :: st) := fun H locs ls hI hl => va_put (ci := 1) (v := .int x) (ty := .int) (C := RX1) (T := TX1) (N := 7) S.1.1 S.1.2.1 S.1.2.2.2.2 in_X1 tyX1 tyX1_ok nmX1 S.1.2.2.2.1 hI.1 hI.2.1 hI.2.2.1 hI.2.2.2 0 rfl rfl 6 (by decide) (S.1.2.2.2.2 _ q194) (fun _ h => h) rfl (by decide +kernel) rfl rfl (Nat.le_of_ble_eq_true rfl) dg (fun H1 locs1 hP hD hS => kk H1 locs1 ls ⟨hI.1, hP, hD, hS⟩ hl)
theorem m_enter {l : Launch} {y : MethodName} {As : List Value} (d : Nat) (lv : List (Nat × Value)) (hy : plainName y.cls = true) (hc : y.cls = RX1) (hlen : (lg_sl (.ref (xa g 7) :: As)).length ≤ nL) (hlv : lv_args 0 (.ref (xa g 7) :: As) = lv)
    (body : ∀ E : EV, mM E cc nL ret d g Qc → Az E (mI g (eS E) σ) lv 0 []) : Met l y (ws_ y cc nL ret) (rmk d) (va_Pc (.ref (xa g 7) :: As) (mW g σ)) Qc 0 0 (mA g) := by
  refine Met.ofW (cc := cc) (maxL := nL) (ret := ret) hy rfl ?_
  intro p e s m args below meth c s₁ B hml hv
  obtain ⟨rfl, hP, hK, hD⟩ := hv
  have hts := atoms_spec (ws := ws_ y cc nL ret) B.pre
  have hts : ∀ w ∈ lw_all, w.before _ s = true := fun w h => hts w (List.mem_cons_of_mem _ h)
  have hown : s.vm.findClass RX1 = some m.cls := by rw [← hc]; exact findClass_of_methodNamed B.named
  have hl := lv_entry (.ref (xa g 7) :: As) (n := nL) hlen
  rw [lg_entry_eq]
  generalize (lg_sl (.ref (xa g 7) :: As) ++ List.replicate (nL - (lg_sl (.ref (xa g 7) :: As)).length) Slot.unset).toArray = ls at hl ⊢
  rw [hlv] at hl
  exact body (p, l, e, rmk d, s, m, _, below, meth, c, 0, 0, nL, _) ⟨⟨⟨B.exec, B.bytes, hml, hown, hts⟩, B.notSynchronized⟩, rfl, rfl, rfl, rfl, B.returns, rfl⟩ s.heap [] ls ⟨hK, hP, hD, va_S.rf⟩ hl
theorem m_reti {post : Int32 → XS → Prop} (M : mM E cc nL (some .int) d g (va_Qi post (mW g) (mA g))) {r : Int32} (dg : decode cc pc = .ok (.ireturn, 1)) (h : post r σ) : Az E (mI g (eS E) σ) lv pc [.int r] := by
  obtain ⟨p, l, e, R, s, m, args, below, meth, c, cells, slots, n, Q⟩ := E
  obtain ⟨S, -, hX, hY, -, hr, hQ⟩ := M
  dsimp only [eP, eL, eE, eR, eS, eM, eA, eB, eT, eC, eX, eY, eN, eQ] at *
  subst hX hY hQ
  intro H locs ls hI hl
  exact W.iret (v := r) S.1.1 S.1.2.1 hr (fun t ht hW => ⟨⟨r, σ, rfl, h, by rw [ht]; exact hI.2.1, va_K.moved hW.alike hI.1, hI.2.2.1⟩, hI.2.2.2.F ht⟩) hI.2.2.2.2.2 dg S.2
theorem m_retz {post : Int32 → XS → Prop} (M : mM E cc nL (some .boolean) d g (va_Qi post (mW g) (mA g))) {r : Int32} (dg : decode cc pc = .ok (.ireturn, 1)) (hn : narrow .boolean (.int r) = .int r) (h : post r σ) : Az E (mI g (eS E) σ) lv pc [.int r] := by
  obtain ⟨p, l, e, R, s, m, args, below, meth, c, cells, slots, n, Q⟩ := E
  obtain ⟨S, -, hX, hY, -, hr, hQ⟩ := M
  dsimp only [eP, eL, eE, eR, eS, eM, eA, eB, eT, eC, eX, eY, eN, eQ] at *
  subst hX hY hQ
  intro H locs ls hI hl
  exact W.zret (v := r) S.1.1 S.1.2.1 hr hn (fun t ht hW => ⟨⟨r, σ, rfl, h, by rw [ht]; exact hI.2.1, va_K.moved hW.alike hI.1, hI.2.2.1⟩, hI.2.2.2.F ht⟩) hI.2.2.2.2.2 dg S.2
theorem m_retv {post : XS → Prop} (M : mM E cc nL none d g (va_Qv post (mW g) (mA g))) (dg : decode cc pc = .ok (.return_, 1)) (h : post σ) : Az E (mI g (eS E) σ) lv pc [] := by
  obtain ⟨p, l, e, R, s, m, args, below, meth, c, cells, slots, n, Q⟩ := E
  obtain ⟨S, -, hX, hY, -, hr, hQ⟩ := M
  dsimp only [eP, eL, eE, eR, eS, eM, eA, eB, eT, eC, eX, eY, eN, eQ] at *
  subst hX hY hQ
  intro H locs ls hI hl
  exact W.vret S.1.1 S.1.2.1 hr (fun t ht hW => ⟨⟨σ, rfl, h, by rw [ht]; exact hI.2.1, va_K.moved hW.alike hI.1, hI.2.2.1⟩, hI.2.2.2.F ht⟩) hI.2.2.2.2.2 dg S.2
theorem m_calli (M : mM E cc nL ret d g Qc) {y : MethodName} {bytes : ByteArray} {maxL index d' : Nat} {rt : Option FieldType} {As rest : List Value} {post : Int32 → XS → Prop} (hM : ∀ l : Launch, Met l y (ws_ y bytes maxL rt) (rmk d') (va_Pc (.ref (xa g 7) :: As) (mW g σ)) (va_Qi post (mW g) (mA g)) 0 0 (mA g)) (hG : GoodIn lw_all (wsV RX1 index RX1 y (ws_ y bytes maxL rt)))
    (hd : y.cls = RX1 ∧ y.cls ≠ "java/lang/invoke/MethodHandle" ∧ y.cls ≠ "java/lang/invoke/VarHandle" ∧ (parseMethodDescriptor y.desc).map (fun d => d.parameters.length) = some As.length) (hdd : d' < d) (hm : maxL ≤ 11) (hst : st = As.reverse ++ .ref (xa g 7) :: rest) (hW : (rest.map fun v => v.category).sum ≤ 8) (dg : decode cc pc = .ok (.invokevirtual index, 3))
    (kk : ∀ (r : Int32) (σ' : XS), post r σ' → Az E (mI g (eS E) σ') lv (pc + 3) (.int r :: rest)) : Az E (mI g (eS E) σ) lv pc st := by
  obtain ⟨p, l, e, R, s, m, args, below, meth, c, cells, slots, n, Q⟩ := E
  have hroom := room_ok M.2.1 hdd hm
  obtain ⟨S, hRm, hX, hY, -, hr, hQ⟩ := M
  dsimp only [eP, eL, eE, eR, eS, eM, eA, eB, eT, eC, eX, eY, eN, eQ] at *
  subst hX hY hQ
  intro H locs ls hI hl
  obtain ⟨hK, hP, hD, hS⟩ := hI
  refine va_calli (va_runV (As := As) (rest := rest) S.1 (hM l) (cwV As.length S.1.2.2.2.2 hG rfl rfl rfl hd hroom) ⟨fun a U g' mk q => ⟨q.1, q.2.1, va_K.moved (u := U) (U := U.calling g' mk a) (Vm.Alike.refl U.vm) q.2.2.1, q.2.2.2⟩, va_recv hK hP (ci := 1) (q0 := 0) rfl rfl, fun U hU hW => ⟨rfl, by rw [hU]; exact hP, va_K.moved hW.alike hK, hD⟩⟩ rfl rfl hl.1 hst (lv_room hW) dg ⟨Nat.zero_le _, Nat.zero_le _⟩) hS (fun q _ h => h) (fun q h => h) (fun r u t H1 locs1 ht hvm hp hB hz hk hS1 => ?_)
  obtain ⟨hP1, hK1, hD1⟩ := hB
  rw [ht] at hP1
  exact kk r u hp H1 locs1 ls ⟨va_K.moved hvm.symm hK1, hP1, hD1, hS1⟩ hl
theorem m_callv (M : mM E cc nL ret d g Qc) {y : MethodName} {bytes : ByteArray} {maxL index d' : Nat} {As rest : List Value} {post : XS → Prop} (hM : ∀ l : Launch, Met l y (ws_ y bytes maxL none) (rmk d') (va_Pc (.ref (xa g 7) :: As) (mW g σ)) (va_Qv post (mW g) (mA g)) 0 0 (mA g)) (hG : GoodIn lw_all (wsV RX1 index RX1 y (ws_ y bytes maxL none)))
    (hd : y.cls = RX1 ∧ y.cls ≠ "java/lang/invoke/MethodHandle" ∧ y.cls ≠ "java/lang/invoke/VarHandle" ∧ (parseMethodDescriptor y.desc).map (fun d => d.parameters.length) = some As.length) (hdd : d' < d) (hm : maxL ≤ 11) (hst : st = As.reverse ++ .ref (xa g 7) :: rest) (hW : (rest.map fun v => v.category).sum ≤ 8) (dg : decode cc pc = .ok (.invokevirtual index, 3))
    (kk : ∀ σ' : XS, post σ' → Az E (mI g (eS E) σ') lv (pc + 3) rest) : Az E (mI g (eS E) σ) lv pc st := by
  obtain ⟨p, l, e, R, s, m, args, below, meth, c, cells, slots, n, Q⟩ := E
  have hroom := room_ok M.2.1 hdd hm
  obtain ⟨S, hRm, hX, hY, -, hr, hQ⟩ := M
  dsimp only [eP, eL, eE, eR, eS, eM, eA, eB, eT, eC, eX, eY, eN, eQ] at *
  subst hX hY hQ
  intro H locs ls hI hl
  obtain ⟨hK, hP, hD, hS⟩ := hI
  refine va_callv (va_runV (As := As) (rest := rest) S.1 (hM l) (cwV As.length S.1.2.2.2.2 hG rfl rfl rfl hd hroom) ⟨fun a U g' mk q => ⟨q.1, q.2.1, va_K.moved (u := U) (U := U.calling g' mk a) (Vm.Alike.refl U.vm) q.2.2.1, q.2.2.2⟩, va_recv hK hP (ci := 1) (q0 := 0) rfl rfl, fun U hU hW => ⟨rfl, by rw [hU]; exact hP, va_K.moved hW.alike hK, hD⟩⟩ rfl rfl hl.1 hst (lv_room hW) dg ⟨Nat.zero_le _, Nat.zero_le _⟩) hS (fun q _ h => h) (fun q h => h) (fun u t H1 locs1 ht hvm hp hB hz hk hS1 => ?_)
  obtain ⟨hP1, hK1, hD1⟩ := hB
  rw [ht] at hP1
  exact kk u hp H1 locs1 ls ⟨va_K.moved hvm.symm hK1, hP1, hD1, hS1⟩ hl
end WORLD
end
section
/-! plain laws: bits, the check word, parity (bt .. b_shl began as rows of laws/BITS.to-paste) -/
set_option maxRecDepth 100000
def bt (x : Int32) (i : Nat) : Bool := x.toBitVec.getLsbD i
theorem b_ext {x y : Int32} (h : ∀ i, i < 32 → bt x i = bt y i) : x = y := Int32.toBitVec_inj.mp (BitVec.eq_of_getLsbD_eq (fun i hi => h i hi))
theorem b_xor (x y : Int32) (i : Nat) : bt (x ^^^ y) i = (bt x i ^^ bt y i) := by unfold bt; rw [Int32.toBitVec_xor, BitVec.getLsbD_xor]
theorem b_0 (i : Nat) : bt 0 i = false := BitVec.getLsbD_zero
theorem s_l : ∀ n, n < 32 → ((nI n &&& 31).toBitVec.smod 32).toNat = n := by decide +kernel
theorem b_shl (n : Nat) (hn : n < 32) (x : Int32) {i : Nat} (hi : i < 32) : bt (x <<< (nI n &&& 31)) i = (decide (n ≤ i) && bt x (i - n)) := by
  unfold bt
  rw [Int32.toBitVec_shiftLeft]
  show (x.toBitVec <<< ((nI n &&& 31).toBitVec.smod 32).toNat).getLsbD i = _
  rw [s_l n hn, BitVec.getLsbD_shiftLeft]
  rcases Nat.lt_or_ge i n with h | h
  · simp [h, Nat.not_le.mpr h]
  · simp [hi, h, Nat.not_lt.mpr h]
theorem xr_c (a b : Int32) : a ^^^ b = b ^^^ a := b_ext fun i _ => by rw [b_xor, b_xor, Bool.xor_comm]
theorem xr_a (a b c : Int32) : (a ^^^ b) ^^^ c = a ^^^ (b ^^^ c) := b_ext fun i _ => by
  simp only [b_xor]
  cases bt a i <;> cases bt b i <;> cases bt c i <;> rfl
theorem xr_s (a : Int32) : a ^^^ a = 0 := b_ext fun i _ => by rw [b_xor, b_0, Bool.xor_self]
theorem xr_0 (a : Int32) : a ^^^ 0 = a := b_ext fun i _ => by rw [b_xor, b_0, Bool.xor_false]
theorem xr_z (a : Int32) : 0 ^^^ a = a := by rw [xr_c, xr_0]
theorem xr_k (a b : Int32) : a ^^^ (a ^^^ b) = b := by rw [← xr_a, xr_s, xr_z]
theorem xr_e {a b : Int32} : a ^^^ b = 0 ↔ a = b := by
  constructor
  · intro h
    have e := xr_k a b
    rw [h, xr_0] at e
    exact e
  · intro h
    rw [h, xr_s]
theorem xr_m (a b c d : Int32) : (a ^^^ b) ^^^ (c ^^^ d) = (a ^^^ c) ^^^ (b ^^^ d) := b_ext fun i _ => by
  simp only [b_xor]
  cases bt a i <;> cases bt b i <;> cases bt c i <;> cases bt d i <;> rfl
theorem xr_i {a b c : Int32} (h : a ^^^ b = a ^^^ c) : b = c := by
  have e := xr_k a b
  rw [h, xr_k] at e
  exact e.symm
theorem neg_bt (x : Int32) : x < 0 ↔ bt x 31 = true := by
  rw [Int32.lt_iff_toInt_lt]
  have h := BitVec.msb_eq_toInt (x := x.toBitVec)
  rw [BitVec.msb_eq_getLsbD_last] at h
  have h1 : bt x 31 = decide (x.toBitVec.toInt < 0) := h
  have h0 : (0 : Int32).toInt = 0 := by decide
  rw [h0, h1, decide_eq_true_iff]
  exact Iff.rfl
def foldI (h : Int32) : Int32 := if h < 0 then (h <<< (nI 1 &&& 31)) ^^^ 79764919 else h <<< (nI 1 &&& 31)
theorem fold_bt (h : Int32) {i : Nat} (hi : i < 32) : bt (foldI h) i = ((decide (1 ≤ i) && bt h (i - 1)) ^^ (bt h 31 && bt 79764919 i)) := by
  unfold foldI
  by_cases hn : h < 0
  · rw [if_pos hn, b_xor, b_shl 1 (by decide) h hi, (neg_bt h).mp hn, Bool.true_and]
  · have e : bt h 31 = false := by
      cases hb : bt h 31 with
      | false => rfl
      | true => exact absurd ((neg_bt h).mpr hb) hn
    rw [if_neg hn, b_shl 1 (by decide) h hi, e, Bool.false_and, Bool.xor_false]
theorem fold_x (a b : Int32) : foldI (a ^^^ b) = foldI a ^^^ foldI b := b_ext fun i hi => by
  rw [b_xor, fold_bt _ hi, fold_bt _ hi, fold_bt _ hi, b_xor, b_xor]
  cases decide (1 ≤ i) <;> cases bt a (i - 1) <;> cases bt b (i - 1) <;> cases bt a 31 <;> cases bt b 31 <;> cases bt 79764919 i <;> rfl
theorem fold_0 : foldI 0 = 0 := by decide +kernel
theorem F_0 : bt 79764919 0 = true := by decide +kernel
theorem fold_lo (m : Int32) : bt (foldI m) 0 = bt m 31 := by
  rw [fold_bt m (by decide), F_0, Bool.and_true]
  simp
theorem fold_hi (m : Int32) {i : Nat} (hi : i + 1 < 32) : bt (foldI m) (i + 1) = (bt m i ^^ (bt m 31 && bt 79764919 (i + 1))) := by
  rw [fold_bt m hi, Nat.add_sub_cancel, decide_eq_true (Nat.le_add_left 1 i), Bool.true_and]
theorem fold_z {m : Int32} (h : foldI m = 0) : m = 0 := by
  have h31 : bt m 31 = false := by rw [← fold_lo, h, b_0]
  refine b_ext fun i hi => ?_
  rw [b_0]
  rcases Nat.lt_or_ge i 31 with q | q
  · have e := fold_hi m (i := i) (by omega)
    rw [h, b_0, h31, Bool.false_and, Bool.xor_false] at e
    exact e.symm
  · rw [show i = 31 by omega, h31]
theorem fold_i {x y : Int32} (h : foldI x = foldI y) : x = y := xr_e.mp (fold_z (by rw [fold_x, h, xr_s]))
def cumF : Nat → Bool
  | 0 => true
  | i + 1 => cumF i ^^ bt 79764919 (i + 1)
theorem fix1 {m : Int32} (h : foldI m = m) : m = 0 := by
  have key : ∀ i, i < 32 → bt m i = (bt m 31 && cumF i) := by
    intro i
    induction i with
    | zero =>
      intro _
      have e := fold_lo m
      rw [h] at e
      rw [e]
      simp [cumF]
    | succ i ih =>
      intro hi
      have e := fold_hi m hi
      rw [h, ih (by omega)] at e
      rw [e]
      show ((bt m 31 && cumF i) ^^ (bt m 31 && bt 79764919 (i + 1))) = (bt m 31 && (cumF i ^^ bt 79764919 (i + 1)))
      cases bt m 31 <;> simp
  have h31 : bt m 31 = false := by
    have e := key 31 (by decide)
    rw [show cumF 31 = false by decide +kernel, Bool.and_false] at e
    exact e
  exact b_ext fun i hi => by rw [key i hi, h31, Bool.false_and, b_0]
theorem fix2 {m : Int32} (h : foldI (foldI m) = m) : m = 0 := by
  have e : foldI (foldI m ^^^ m) = foldI m ^^^ m := by rw [fold_x, h, xr_c]
  exact fix1 (xr_e.mp (fix1 e))
def cum3 : Nat → Bool × Bool × Bool × Bool
  | 0 => (true, true, true, false)
  | i + 1 => ((cum3 i).2.2.1 ^^ (cum3 i).1 ^^ bt 79764919 (i + 1), (cum3 i).2.2.2 ^^ (cum3 i).2.1 ^^ bt 79764919 (i + 1), (cum3 i).1 ^^ bt 79764919 (i + 1), (cum3 i).2.1)
theorem bx_mv {x y z : Bool} (h : (x ^^ y) = z) : x = (z ^^ y) := by
  subst h
  cases x <;> cases y <;> rfl
theorem fix3b {m : Int32} (h : foldI (foldI m) = m ^^^ foldI m) : m = 0 := by
  have hb : ∀ i, bt (foldI (foldI m)) i = (bt m i ^^ bt (foldI m) i) := fun i => by rw [h, b_xor]
  have key : ∀ i, i < 32 → bt m i = ((bt m 31 && (cum3 i).1) ^^ (bt (foldI m) 31 && (cum3 i).2.1)) ∧ bt (foldI m) i = ((bt m 31 && (cum3 i).2.2.1) ^^ (bt (foldI m) 31 && (cum3 i).2.2.2)) := by
    intro i
    induction i with
    | zero =>
      intro _
      have e1 := fold_lo m
      have e2 := fold_lo (foldI m)
      rw [hb, e1] at e2
      show bt m 0 = ((bt m 31 && true) ^^ (bt (foldI m) 31 && true)) ∧ bt (foldI m) 0 = ((bt m 31 && true) ^^ (bt (foldI m) 31 && false))
      rw [e1, ← e2]
      cases bt m 0 <;> cases bt m 31 <;> simp
    | succ i ih =>
      intro hi
      obtain ⟨i1, i2⟩ := ih (by omega)
      have e1 := fold_hi m hi
      have e2 := fold_hi (foldI m) hi
      rw [hb] at e2
      rw [i1] at e1
      rw [e1, i2] at e2
      rw [e1]
      have e3 : bt m (i + 1) = ((((bt m 31 && (cum3 i).2.2.1) ^^ (bt (foldI m) 31 && (cum3 i).2.2.2)) ^^ (bt (foldI m) 31 && bt 79764919 (i + 1))) ^^ (((bt m 31 && (cum3 i).1) ^^ (bt (foldI m) 31 && (cum3 i).2.1)) ^^ (bt m 31 && bt 79764919 (i + 1)))) := bx_mv e2
      rw [e3]
      show _ = ((bt m 31 && ((cum3 i).2.2.1 ^^ (cum3 i).1 ^^ bt 79764919 (i + 1))) ^^ (bt (foldI m) 31 && ((cum3 i).2.2.2 ^^ (cum3 i).2.1 ^^ bt 79764919 (i + 1)))) ∧ _ = ((bt m 31 && ((cum3 i).1 ^^ bt 79764919 (i + 1))) ^^ (bt (foldI m) 31 && (cum3 i).2.1))
      cases bt m 31 <;> cases bt (foldI m) 31 <;> cases (cum3 i).1 <;> cases (cum3 i).2.1 <;> cases (cum3 i).2.2.1 <;> cases (cum3 i).2.2.2 <;> cases bt 79764919 (i + 1) <;> exact ⟨rfl, rfl⟩
  have hz : bt m 31 = false ∧ bt (foldI m) 31 = false := by
    have e := key 31 (by decide)
    rw [show cum3 31 = (false, false, false, false) by decide +kernel] at e
    revert e
    cases bt m 31 <;> cases bt (foldI m) 31 <;> simp
  exact b_ext fun i hi => by rw [(key i hi).1, hz.1, hz.2, b_0]; rfl
theorem fix3 {m : Int32} (h : foldI (foldI (foldI m)) = m) : m = 0 := by
  refine fix3b ?_
  have e : foldI ((m ^^^ foldI m) ^^^ foldI (foldI m)) = (m ^^^ foldI m) ^^^ foldI (foldI m) := by
    rw [fold_x, fold_x, h]
    refine b_ext fun i _ => ?_
    simp only [b_xor]
    cases bt m i <;> cases bt (foldI m) i <;> cases bt (foldI (foldI m)) i <;> rfl
  exact (xr_e.mp (fix1 e)).symm
def fpw (m : Int32) : Nat → Int32
  | 0 => m
  | j + 1 => foldI (fpw m j)
theorem fpw_z {m : Int32} : ∀ j, fpw m j = 0 → m = 0
  | 0, h => h
  | j + 1, h => fpw_z j (fold_z h)
theorem fpw_d {m : Int32} : ∀ j k, fpw m (j + k) = fpw m j → fpw m k = m
  | 0, k, h => by rw [Nat.zero_add] at h; exact h
  | j + 1, k, h => by
    rw [show j + 1 + k = (j + k) + 1 by omega] at h
    exact fpw_d j k (fold_i h)
theorem fpw_3 {m : Int32} {k : Nat} (h0 : 0 < k) (h3 : k ≤ 3) (h : fpw m k = m) : m = 0 := by
  rcases (show k = 1 ∨ k = 2 ∨ k = 3 by omega) with rfl | rfl | rfl
  · exact fix1 h
  · exact fix2 h
  · exact fix3 h
theorem fpw_ne {m : Int32} {a b : Nat} (ha : a ≤ 3) (hb : b ≤ 3) (hab : a ≠ b) (h : fpw m a = fpw m b) : m = 0 := by
  rcases Nat.lt_or_ge a b with q | q
  · refine fpw_3 (k := b - a) (by omega) (by omega) (fpw_d a (b - a) ?_)
    rw [show a + (b - a) = b by omega, h]
  · refine fpw_3 (k := a - b) (by omega) (by omega) (fpw_d b (a - b) ?_)
    rw [show b + (a - b) = a by omega, h]
def chk (f : Nat → Int32) : Nat → Int32
  | 0 => 0
  | k + 1 => foldI (chk f k) ^^^ f k
def sg (m : Int32) (c : Nat) : Nat → Int32 := fun i => if i = c then m else 0
theorem sg_s (m : Int32) (c : Nat) : sg m c c = m := if_pos rfl
theorem sg_n {m : Int32} {c i : Nat} (h : i ≠ c) : sg m c i = 0 := if_neg h
theorem sg_0 (c i : Nat) : sg 0 c i = 0 := by
  unfold sg
  split <;> rfl
theorem chk_congr {f g : Nat → Int32} : ∀ n, (∀ i, i < n → f i = g i) → chk f n = chk g n
  | 0, _ => rfl
  | n + 1, h => by
    show foldI (chk f n) ^^^ f n = foldI (chk g n) ^^^ g n
    rw [chk_congr n (fun i hi => h i (by omega)), h n (by omega)]
theorem chk_x (f g : Nat → Int32) : ∀ n, chk (fun i => f i ^^^ g i) n = chk f n ^^^ chk g n
  | 0 => (xr_0 0).symm
  | n + 1 => by
    show foldI (chk (fun i => f i ^^^ g i) n) ^^^ (f n ^^^ g n) = (foldI (chk f n) ^^^ f n) ^^^ (foldI (chk g n) ^^^ g n)
    rw [chk_x f g n, fold_x, xr_m]
theorem chk_sg0 (m : Int32) (c : Nat) : ∀ n, n ≤ c → chk (sg m c) n = 0
  | 0, _ => rfl
  | n + 1, h => by
    show foldI (chk (sg m c) n) ^^^ sg m c n = 0
    rw [chk_sg0 m c n (by omega), fold_0, sg_n (by omega), xr_0]
theorem chk_sg (m : Int32) (c : Nat) : ∀ j, chk (sg m c) (c + 1 + j) = fpw m j
  | 0 => by
    show foldI (chk (sg m c) c) ^^^ sg m c c = m
    rw [chk_sg0 m c c (Nat.le_refl c), fold_0, sg_s, xr_z]
  | j + 1 => by
    show foldI (chk (sg m c) (c + 1 + j)) ^^^ sg m c (c + 1 + j) = foldI (fpw m j)
    rw [chk_sg m c j, sg_n (by omega), xr_0]
theorem chk_at (m : Int32) {c n : Nat} (h : c < n) : chk (sg m c) n = fpw m (n - 1 - c) := by
  rw [← chk_sg m c (n - 1 - c), show c + 1 + (n - 1 - c) = n by omega]
/-- one column is wrong: the check word tells -/
theorem chk_one {f v : Nat → Int32} {m : Int32} {c w : Nat} (hf : ∀ i, i < w → f i = v i ^^^ sg m c i) (hc : c < w) : chk f w = chk v w ↔ m = 0 := by
  rw [chk_congr (g := fun i => v i ^^^ sg m c i) w hf, chk_x, chk_at m hc]
  constructor
  · intro h
    refine fpw_z (w - 1 - c) (xr_i (a := chk v w) ?_)
    rw [h, xr_0]
  · intro h
    rw [h]
    have e : ∀ j, fpw 0 j = 0 := fun j => by
      induction j with
      | zero => rfl
      | succ j ih =>
        show foldI (fpw 0 j) = 0
        rw [ih, fold_0]
    rw [e, xr_0]
/-- two columns are wrong by the same mask: the check word tells -/
theorem chk_two {f v : Nat → Int32} {m : Int32} {c b w : Nat} (hf : ∀ i, i < w → f i = v i ^^^ (sg m c i ^^^ sg m b i)) (hc : c < w) (hb : b < w) (hw : w ≤ 4) (hcb : c ≠ b) (h : chk f w = chk v w) : m = 0 := by
  rw [chk_congr (g := fun i => v i ^^^ (sg m c i ^^^ sg m b i)) w hf, chk_x, chk_x, chk_at m hc, chk_at m hb] at h
  refine fpw_ne (a := w - 1 - c) (b := w - 1 - b) (by omega) (by omega) (by omega) (xr_e.mp (xr_i (a := chk v w) ?_))
  rw [h, xr_0]
def par (f : Nat → Int32) : Nat → Int32
  | 0 => 0
  | n + 1 => par f n ^^^ f n
theorem par_congr {f g : Nat → Int32} : ∀ n, (∀ i, i < n → f i = g i) → par f n = par g n
  | 0, _ => rfl
  | n + 1, h => by
    show par f n ^^^ f n = par g n ^^^ g n
    rw [par_congr n (fun i hi => h i (by omega)), h n (by omega)]
theorem par_x (f g : Nat → Int32) : ∀ n, par (fun i => f i ^^^ g i) n = par f n ^^^ par g n
  | 0 => (xr_0 0).symm
  | n + 1 => by
    show par (fun i => f i ^^^ g i) n ^^^ (f n ^^^ g n) = (par f n ^^^ f n) ^^^ (par g n ^^^ g n)
    rw [par_x f g n, xr_m]
theorem par_sg (m : Int32) (c : Nat) : ∀ n, par (sg m c) n = if c < n then m else 0
  | 0 => rfl
  | n + 1 => by
    show par (sg m c) n ^^^ sg m c n = _
    rw [par_sg m c n]
    by_cases h : n = c
    · subst h
      rw [if_neg (Nat.lt_irrefl n), if_pos (Nat.lt_succ_self n), sg_s, xr_z]
    · rw [sg_n h, xr_0]
      by_cases q : c < n
      · rw [if_pos q, if_pos (by omega)]
      · rw [if_neg q, if_neg (by omega)]
def tv (v : Nat → Int32) (w c : Nat) : Int32 := if c < w then v c else par v w
theorem tv_lt {v : Nat → Int32} {w c : Nat} (h : c < w) : tv v w c = v c := if_pos h
theorem tv_w (v : Nat → Int32) (w : Nat) : tv v w w = par v w := if_neg (Nat.lt_irrefl w)
theorem tv_congr {v v' : Nat → Int32} {w : Nat} (h : ∀ i, i < w → v i = v' i) (c : Nat) : tv v w c = tv v' w c := by
  unfold tv
  by_cases q : c < w
  · rw [if_pos q, if_pos q, h c q]
  · rw [if_neg q, if_neg q, par_congr w h]
theorem par_tv (v : Nat → Int32) (w : Nat) : par (tv v w) (w + 1) = 0 := by
  show par (tv v w) w ^^^ tv v w w = 0
  rw [tv_w, par_congr (g := v) w (fun i hi => tv_lt hi), xr_s]
def xs (f : Nat → Int32) (t : Nat) : Nat → Int32
  | 0 => 0
  | n + 1 => if n = t then xs f t n else xs f t n ^^^ f n
theorem xs_par (f : Nat → Int32) (t : Nat) : ∀ n, xs f t n = if t < n then par f n ^^^ f t else par f n
  | 0 => rfl
  | n + 1 => by
    show (if n = t then xs f t n else xs f t n ^^^ f n) = if t < n + 1 then (par f n ^^^ f n) ^^^ f t else par f n ^^^ f n
    rw [xs_par f t n]
    by_cases h : n = t
    · subst h
      rw [if_pos rfl, if_neg (Nat.lt_irrefl n), if_pos (Nat.lt_succ_self n), xr_a, xr_s, xr_0]
    · rw [if_neg h]
      by_cases q : t < n
      · rw [if_pos q, if_pos (by omega), xr_a, xr_a, xr_c (f t)]
      · rw [if_neg q, if_neg (by omega)]
theorem xs_congr {f g : Nat → Int32} {t : Nat} : ∀ n, (∀ i, i < n → f i = g i) → xs f t n = xs g t n
  | 0, _ => rfl
  | n + 1, h => by
    show (if n = t then xs f t n else xs f t n ^^^ f n) = if n = t then xs g t n else xs g t n ^^^ g n
    rw [xs_congr n (fun i hi => h i (by omega)), h n (by omega)]
/-- a column rebuilt from the others is right but for a fault in another column -/
theorem xs_ok {f v : Nat → Int32} {m : Int32} {w c t : Nat} (hf : ∀ i, i ≤ w → f i = tv v w i ^^^ sg m c i) (hc : c ≤ w) (ht : t ≤ w) : xs f t (w + 1) = tv v w t ^^^ (if t = c then 0 else m) := by
  rw [xs_congr (g := fun i => tv v w i ^^^ sg m c i) (w + 1) (fun i hi => hf i (by omega)), xs_par, if_pos (by omega), par_x, par_tv, par_sg, if_pos (by omega), xr_z]
  by_cases h : t = c
  · subst h
    rw [if_pos rfl, sg_s, xr_0, xr_c, xr_a, xr_s, xr_0]
  · rw [if_neg h, sg_n h, xr_0, xr_c]
end
section
/-! plain laws: where the stripes lie, what they hold -/
set_option maxRecDepth 100000
theorem wr_wf (σ : XS) (k : Nat) (f : Nat → Int32) (j : Nat) (x : Int32) : wr (wf σ k f) k j x = wf σ k (upd f j x) := by
  unfold wr
  rw [wf_wf, wf_s]
theorem va_up_s {α : Type} (f : Nat → α) (k : Nat) (v : α) : va_up f k v k = v := va_up_self f k v
theorem va_up_n {α : Type} {f : Nat → α} {k j : Nat} {v : α} (h : j ≠ k) : va_up f k v j = f j := by simp [va_up, h]
theorem upd_s (f : Nat → Int32) (k : Nat) (x : Int32) : upd f k x k = x := pk_us
theorem upd_n {f : Nat → Int32} {k j : Nat} {x : Int32} (h : j ≠ k) : upd f k x j = f j := pk_un h
/-- an extent's pointers: width w, the cell of each column -/
def Ext (σ : XS) (j w : Nat) (p : Nat → Nat) : Prop := j < 8 ∧ w ≤ 4 ∧ σ 3 j = nI w ∧ ∀ c, c ≤ w → σ 5 (j * 5 + c) = nI (p c) ∧ p c < 60
/-- an extent with its true words v; the column c0 is wrong by the mask m -/
def St (σ : XS) (j w : Nat) (p : Nat → Nat) (v : Nat → Int32) (m : Int32) (c0 : Nat) : Prop := Ext σ j w p ∧ 0 < w ∧ c0 ≤ w ∧ σ 4 j = chk v w ∧ ∀ c, c ≤ w → σ 0 (p c) = tv v w c ^^^ sg m c0 c
def Geo (σ : XS) (w : Nat → Nat) (p : Nat → Nat → Nat) : Prop :=
  (∀ e, e < 8 → w e ≤ 4 ∧ σ 3 e = nI (w e)) ∧
  (∀ e, e < 8 → 0 < w e → ∀ c, c ≤ w e → σ 5 (e * 5 + c) = nI (p e c) ∧ p e c < 60 ∧ σ 1 (p e c) ≠ 0) ∧
  (∀ e, e < 8 → 0 < w e → ∀ c c', c ≤ w e → c' ≤ w e → p e c / 12 = p e c' / 12 → c = c') ∧
  (∀ e e', e < 8 → e' < 8 → e ≠ e' → 0 < w e → 0 < w e' → ∀ c c', c ≤ w e → c' ≤ w e' → p e c ≠ p e' c') ∧
  (∀ q, q < 60 → σ 1 q ≠ 0 → ∃ e c, e < 8 ∧ 0 < w e ∧ c ≤ w e ∧ q = p e c) ∧
  (∃ t, t < 5 ∧ σ 2 0 = nI t)
def Dat (σ : XS) (w : Nat → Nat) (p : Nat → Nat → Nat) (v : Nat → Nat → Int32) (m : Nat → Int32) (c0 : Nat → Nat) : Prop :=
  ∀ e, e < 8 → 0 < w e → c0 e ≤ w e ∧ σ 4 e = chk (v e) (w e) ∧ ∀ c, c ≤ w e → σ 0 (p e c) = tv (v e) (w e) c ^^^ sg (m e) (c0 e) c
theorem Geo.by {σ σ' : XS} {w : Nat → Nat} {p : Nat → Nat → Nat} (h : Geo σ w p) (h1 : σ' 1 = σ 1) (h2 : σ' 2 = σ 2) (h3 : σ' 3 = σ 3) (h5 : σ' 5 = σ 5) : Geo σ' w p := by
  unfold Geo at h ⊢
  rw [h1, h2, h3, h5]
  exact h
theorem Dat.by {σ σ' : XS} {w : Nat → Nat} {p : Nat → Nat → Nat} {v : Nat → Nat → Int32} {m : Nat → Int32} {c0 : Nat → Nat} (h : Dat σ w p v m c0) (h0 : σ' 0 = σ 0) (h4 : σ' 4 = σ 4) : Dat σ' w p v m c0 := by
  unfold Dat at h ⊢
  rw [h0, h4]
  exact h
theorem Geo.ext {σ : XS} {w : Nat → Nat} {p : Nat → Nat → Nat} (h : Geo σ w p) {e : Nat} (he : e < 8) (h0 : 0 < w e) : Ext σ e (w e) (p e) :=
  ⟨he, (h.1 e he).1, (h.1 e he).2, fun c hc => ⟨(h.2.1 e he h0 c hc).1, (h.2.1 e he h0 c hc).2.1⟩⟩
theorem Geo.st {σ : XS} {w : Nat → Nat} {p : Nat → Nat → Nat} {v : Nat → Nat → Int32} {m : Nat → Int32} {c0 : Nat → Nat} (h : Geo σ w p) (d : Dat σ w p v m c0) {e : Nat} (he : e < 8) (h0 : 0 < w e) : St σ e (w e) (p e) (v e) (m e) (c0 e) :=
  ⟨h.ext he h0, h0, (d e he h0).1, (d e he h0).2.1, (d e he h0).2.2⟩
theorem php : ∀ (n : Nat) (f : Nat → Nat), (∀ i, i ≤ n → f i < n) → ∃ i j, i < j ∧ j ≤ n ∧ f i = f j := by
  intro n
  induction n with
  | zero =>
    intro f h
    exact absurd (h 0 (Nat.le_refl 0)) (Nat.not_lt_zero _)
  | succ n ih =>
    intro f h
    by_cases hx : ∃ i, i ≤ n ∧ f i = f (n + 1)
    · obtain ⟨i, hi, e⟩ := hx
      exact ⟨i, n + 1, by omega, Nat.le_refl _, e⟩
    · have hne : ∀ i, i ≤ n → f i ≠ f (n + 1) := fun i hi e => hx ⟨i, hi, e⟩
      have hl := h (n + 1) (Nat.le_refl _)
      obtain ⟨i, j, h1, h2, h3⟩ := ih (fun i => if f i = n then f (n + 1) else f i) (fun i hi => by
        have a := h i (by omega)
        have b := hne i hi
        split
        · omega
        · omega)
      refine ⟨i, j, h1, by omega, ?_⟩
      have bi := hne i (by omega)
      have bj := hne j h2
      split at h3 <;> split at h3 <;> omega
/-- every disk has a free row -/
theorem Geo.free {σ : XS} {w : Nat → Nat} {p : Nat → Nat → Nat} (h : Geo σ w p) {d : Nat} (hd : d < 5) : ∃ r, r < 12 ∧ σ 1 (d * 12 + r) = 0 := by
  refine Classical.byContradiction fun hn => ?_
  have hall : ∀ r, r < 12 → ∃ e c, e < 8 ∧ 0 < w e ∧ c ≤ w e ∧ d * 12 + r = p e c := fun r hr => h.2.2.2.2.1 (d * 12 + r) (by omega) (fun e => hn ⟨r, hr, e⟩)
  have hch : ∀ r, ∃ e, r < 12 → e < 8 ∧ 0 < w e ∧ ∃ c, c ≤ w e ∧ d * 12 + r = p e c := fun r => by
    by_cases hr : r < 12
    · obtain ⟨e, c, h1, h2, h3, h4⟩ := hall r hr
      exact ⟨e, fun _ => ⟨h1, h2, c, h3, h4⟩⟩
    · exact ⟨0, fun q => absurd q hr⟩
  have hsp : ∀ r, r < 12 → Classical.choose (hch r) < 8 ∧ 0 < w (Classical.choose (hch r)) ∧ ∃ c, c ≤ w (Classical.choose (hch r)) ∧ d * 12 + r = p (Classical.choose (hch r)) c := fun r => Classical.choose_spec (hch r)
  obtain ⟨i, j, hij, hj, e⟩ := php 8 (fun r => Classical.choose (hch r)) (fun i hi => (hsp i (by omega)).1)
  obtain ⟨h1, h2, c, h3, h4⟩ := hsp i (by omega)
  obtain ⟨g1, g2, c', g3, g4⟩ := hsp j (by omega)
  rw [← e] at g1 g2 g3 g4
  have hc := h.2.2.1 _ h1 h2 c c' h3 g3 (by rw [← h4, ← g4]; omega)
  rw [hc] at h4
  omega
/-- a stripe laid anew for the extent j -/
theorem place_ok {σ σ' : XS} {w : Nat → Nat} {p : Nat → Nat → Nat} {v : Nat → Nat → Int32} {m : Nat → Int32} {c0 : Nat → Nat} {j k : Nat} {q : Nat → Nat} {u : Nat → Int32} (G : Geo σ w p) (D : Dat σ w p v m c0) (hj : j < 8) (hk : k ≤ 4) (hk0 : 0 < k)
    (hq : ∀ c, c ≤ k → q c < 60 ∧ σ 1 (q c) = 0) (hqd : ∀ c c', c ≤ k → c' ≤ k → q c / 12 = q c' / 12 → c = c') (f1 : ∀ c, c ≤ k → σ' 0 (q c) = tv u k c) (f2 : ∀ x, (∀ c, c ≤ k → x ≠ q c) → σ' 0 x = σ 0 x)
    (t1 : ∀ c, c ≤ k → σ' 1 (q c) ≠ 0) (t2 : 0 < w j → ∀ c, c ≤ w j → σ' 1 (p j c) = 0) (t3 : ∀ x, (∀ c, c ≤ k → x ≠ q c) → (0 < w j → ∀ c, c ≤ w j → x ≠ p j c) → σ' 1 x = σ 1 x) (tt : ∃ t, t < 5 ∧ σ' 2 0 = nI t)
    (w1 : σ' 3 j = nI k) (w2 : ∀ e, e ≠ j → σ' 3 e = σ 3 e) (k1 : σ' 4 j = chk u k) (k2 : ∀ e, e ≠ j → σ' 4 e = σ 4 e) (s1 : ∀ c, c ≤ k → σ' 5 (j * 5 + c) = nI (q c)) (s2 : ∀ e, e ≠ j → ∀ c, c ≤ 4 → σ' 5 (e * 5 + c) = σ 5 (e * 5 + c)) :
    Geo σ' (va_up w j k) (va_up p j q) ∧ Dat σ' (va_up w j k) (va_up p j q) (va_up v j u) (va_up m j 0) (va_up c0 j 0) := by
  have qp : ∀ c, c ≤ k → ∀ e, e < 8 → 0 < w e → ∀ c', c' ≤ w e → p e c' ≠ q c := fun c hc e he h0 c' hc' x => (G.2.1 e he h0 c' hc').2.2 (by rw [x]; exact (hq c hc).2)
  have keep : ∀ e, e ≠ j → e < 8 → 0 < w e → ∀ c, c ≤ w e → σ' 1 (p e c) = σ 1 (p e c) := fun e hne he h0 c hc => t3 _ (fun c' hc' => qp c' hc' e he h0 c hc) (fun hw c' hc' => G.2.2.2.1 e j he hj hne h0 hw c c' hc hc')
  refine ⟨⟨?_, ?_, ?_, ?_, ?_, tt⟩, ?_⟩
  · intro e he
    by_cases h : e = j
    · subst h
      rw [va_up_s]
      exact ⟨hk, w1⟩
    · rw [va_up_n h, w2 e h]
      exact G.1 e he
  · intro e he h0 c hc
    by_cases h : e = j
    · subst h
      rw [va_up_s] at hc h0 ⊢
      exact ⟨s1 c hc, (hq c hc).1, t1 c hc⟩
    · rw [va_up_n h] at hc h0 ⊢
      have b := (G.1 e he).1
      rw [s2 e h c (by omega), keep e h he h0 c hc]
      exact G.2.1 e he h0 c hc
  · intro e he h0 c c' hc hc' x
    by_cases h : e = j
    · subst h
      rw [va_up_s] at hc hc' x
      exact hqd c c' hc hc' x
    · rw [va_up_n h] at hc hc' h0 x
      exact G.2.2.1 e he h0 c c' hc hc' x
  · intro e e' he he' hne h0 h0' c c' hc hc'
    by_cases h : e = j
    · have h' : e' ≠ j := fun x => hne (h.trans x.symm)
      subst h
      rw [va_up_s] at hc
      rw [va_up_n h'] at hc' h0'
      rw [va_up_s, va_up_n h']
      exact (qp c hc e' he' h0' c' hc').symm
    · by_cases h' : e' = j
      · subst h'
        rw [va_up_s] at hc'
        rw [va_up_n h] at hc h0
        rw [va_up_s, va_up_n h]
        exact qp c' hc' e he h0 c hc
      · rw [va_up_n h] at hc h0
        rw [va_up_n h'] at hc' h0'
        rw [va_up_n h, va_up_n h']
        exact G.2.2.2.1 e e' he he' hne h0 h0' c c' hc hc'
  · intro x hx ht
    by_cases hxq : ∃ c, c ≤ k ∧ x = q c
    · obtain ⟨c, hc, rfl⟩ := hxq
      exact ⟨j, c, hj, by rw [va_up_s]; exact hk0, by rw [va_up_s]; exact hc, by rw [va_up_s]⟩
    · have hxq' : ∀ c, c ≤ k → x ≠ q c := fun c hc e => hxq ⟨c, hc, e⟩
      have hxp : 0 < w j → ∀ c, c ≤ w j → x ≠ p j c := fun hw c hc e => ht (by rw [e]; exact t2 hw c hc)
      rw [t3 x hxq' hxp] at ht
      obtain ⟨e, c, h1, h2, h3, h4⟩ := G.2.2.2.2.1 x hx ht
      have h : e ≠ j := fun y => by
        subst y
        exact hxp h2 c h3 h4
      exact ⟨e, c, h1, by rw [va_up_n h]; exact h2, by rw [va_up_n h]; exact h3, by rw [va_up_n h]; exact h4⟩
  · intro e he h0
    by_cases h : e = j
    · subst h
      rw [va_up_s, va_up_s, va_up_s, va_up_s, va_up_s]
      refine ⟨Nat.zero_le _, k1, fun c hc => ?_⟩
      rw [f1 c hc, sg_0, xr_0]
    · rw [va_up_n h] at h0
      rw [va_up_n h, va_up_n h, va_up_n h, va_up_n h, va_up_n h, k2 e h]
      refine ⟨(D e he h0).1, (D e he h0).2.1, fun c hc => ?_⟩
      rw [f2 _ (fun c' hc' => qp c' hc' e he h0 c hc)]
      exact (D e he h0).2.2 c hc
/-- the extent j is given up -/
theorem free_ok {σ σ' : XS} {w : Nat → Nat} {p : Nat → Nat → Nat} {v : Nat → Nat → Int32} {m : Nat → Int32} {c0 : Nat → Nat} {j : Nat} (G : Geo σ w p) (D : Dat σ w p v m c0) (hj : j < 8) (hw : 0 < w j)
    (h0 : σ' 0 = σ 0) (h2 : σ' 2 = σ 2) (h4 : σ' 4 = σ 4) (h5 : σ' 5 = σ 5) (t2 : ∀ c, c ≤ w j → σ' 1 (p j c) = 0) (t3 : ∀ x, (∀ c, c ≤ w j → x ≠ p j c) → σ' 1 x = σ 1 x) (w1 : σ' 3 j = nI 0) (w2 : ∀ e, e ≠ j → σ' 3 e = σ 3 e) :
    Geo σ' (va_up w j 0) p ∧ Dat σ' (va_up w j 0) p v m c0 := by
  have ne : ∀ e, 0 < va_up w j 0 e → e ≠ j ∧ va_up w j 0 e = w e := fun e h => by
    by_cases q : e = j
    · subst q
      rw [va_up_s] at h
      exact absurd h (Nat.lt_irrefl 0)
    · exact ⟨q, va_up_n q⟩
  have keep : ∀ e, e ≠ j → e < 8 → 0 < w e → ∀ c, c ≤ w e → σ' 1 (p e c) = σ 1 (p e c) := fun e hne he h0 c hc => t3 _ (fun c' hc' => G.2.2.2.1 e j he hj hne h0 hw c c' hc hc')
  refine ⟨⟨?_, ?_, ?_, ?_, ?_, by rw [h2]; exact G.2.2.2.2.2⟩, ?_⟩
  · intro e he
    by_cases h : e = j
    · subst h
      rw [va_up_s]
      exact ⟨Nat.zero_le _, w1⟩
    · rw [va_up_n h, w2 e h]
      exact G.1 e he
  · intro e he hp c hc
    obtain ⟨a, b⟩ := ne e hp
    rw [b] at hp hc
    rw [h5, keep e a he hp c hc]
    exact G.2.1 e he hp c hc
  · intro e he hp c c' hc hc' x
    obtain ⟨a, b⟩ := ne e hp
    rw [b] at hp hc hc'
    exact G.2.2.1 e he hp c c' hc hc' x
  · intro e e' he he' hne hp hp' c c' hc hc'
    obtain ⟨a, b⟩ := ne e hp
    obtain ⟨a', b'⟩ := ne e' hp'
    rw [b] at hp hc
    rw [b'] at hp' hc'
    exact G.2.2.2.1 e e' he he' hne hp hp' c c' hc hc'
  · intro x hx ht
    have hxp : ∀ c, c ≤ w j → x ≠ p j c := fun c hc e => ht (by rw [e]; exact t2 c hc)
    rw [t3 x hxp] at ht
    obtain ⟨e, c, g1, g2, g3, g4⟩ := G.2.2.2.2.1 x hx ht
    have h : e ≠ j := fun y => by
      subst y
      exact hxp c g3 g4
    exact ⟨e, c, g1, by rw [va_up_n h]; exact g2, by rw [va_up_n h]; exact g3, g4⟩
  · intro e he hp
    obtain ⟨a, b⟩ := ne e hp
    rw [b] at hp
    rw [b, h0, h4]
    exact D e he hp
/-- the cell of a column of the extent j gets a value: what is wrong with it now -/
theorem cell_ok {σ σ' : XS} {w : Nat → Nat} {p : Nat → Nat → Nat} {v : Nat → Nat → Int32} {m : Nat → Int32} {c0 : Nat → Nat} {j t : Nat} {x : Int32} (G : Geo σ w p) (D : Dat σ w p v m c0) (hj : j < 8) (hw : 0 < w j) (ht : t ≤ w j) (hm : m j = 0 ∨ c0 j = t)
    (h4 : σ' 4 = σ 4) (h0 : σ' 0 = upd (σ 0) (p j t) (tv (v j) (w j) t ^^^ x)) : Dat σ' w p v (va_up m j x) (va_up c0 j t) := by
  intro e he h
  rw [h4, h0]
  by_cases q : e = j
  · subst q
    rw [va_up_s, va_up_s]
    refine ⟨ht, (D e he h).2.1, fun c hc => ?_⟩
    by_cases y : c = t
    · subst y
      rw [upd_s, sg_s]
    · rw [upd_n (fun z => y (G.2.2.1 e he h c t hc ht (by rw [z]))), sg_n y, (D e he h).2.2 c hc]
      rcases hm with hm | hm
      · rw [hm, sg_0]
      · rw [hm, sg_n y]
  · rw [va_up_n q, va_up_n q]
    refine ⟨(D e he h).1, (D e he h).2.1, fun c hc => ?_⟩
    rw [upd_n (G.2.2.2.1 e j he hj q h hw c t hc ht)]
    exact (D e he h).2.2 c hc
theorem Dat.congr {σ : XS} {w : Nat → Nat} {p : Nat → Nat → Nat} {v v' : Nat → Nat → Int32} {m m' : Nat → Int32} {c0 c0' : Nat → Nat} (D : Dat σ w p v m c0) (hv : ∀ e, e < 8 → 0 < w e → ∀ i, i < w e → v e i = v' e i) (hm : ∀ e, e < 8 → 0 < w e → m e = m' e) (hc : ∀ e, e < 8 → 0 < w e → c0' e ≤ w e ∧ (m e ≠ 0 → c0 e = c0' e)) : Dat σ w p v' m' c0' := by
  intro e he h
  obtain ⟨d1, d2, d3⟩ := D e he h
  refine ⟨(hc e he h).1, by rw [d2, chk_congr _ (hv e he h)], fun c hcw => ?_⟩
  rw [d3 c hcw, tv_congr (hv e he h) c, ← hm e he h]
  by_cases z : m e = 0
  · rw [z, sg_0, sg_0]
  · rw [(hc e he h).2 z]
def Inv (σ : XS) (w : Nat → Nat) (v : Nat → Nat → Int32) (m : Nat → Int32) (c0 : Nat → Nat) : Prop := ∃ p, Geo σ w p ∧ Dat σ w p v m c0
theorem Inv.by {σ σ' : XS} {w : Nat → Nat} {v : Nat → Nat → Int32} {m : Nat → Int32} {c0 : Nat → Nat} (h : Inv σ w v m c0) (h0 : σ' 0 = σ 0) (h1 : σ' 1 = σ 1) (h2 : σ' 2 = σ 2) (h3 : σ' 3 = σ 3) (h4 : σ' 4 = σ 4) (h5 : σ' 5 = σ 5) : Inv σ' w v m c0 := by
  obtain ⟨p, G, D⟩ := h
  exact ⟨p, G.by h1 h2 h3 h5, D.by h0 h4⟩
theorem nI_inj {a b : Nat} (ha : a < 2 ^ 31) (hb : b < 2 ^ 31) (h : nI a = nI b) : a = b := (nI_eq ha hb).mp h
end
section
/-! the leaves of SelfHealStripes -/
set_option maxRecDepth 100000
theorem c_bad (l : Launch) (g : XA) (σ : XS) (e : Int32) : Met l yX0_bad (ws_ yX0_bad cX0_bad 2 (some .boolean)) (rmk 0) (va_Pc [.ref (xa g 11), .int e] (xW g σ)) (va_Qi (fun (r : Int32) (σ' : XS) => σ' = σ ∧ ((e < 0 ∨ nI 8 ≤ e) ∧ r = 1 ∨ ∃ j, j < 8 ∧ e = nI j ∧ r = 0)) (xW g) (xA g)) 0 0 (xA g) := by
  refine x_enter 0 [(0, .ref (xa g 11)), (1, .int e)] (by decide) rfl (Nat.le_of_ble_eq_true rfl) rfl (fun E M => ?_)
  refine z_iload_n M.1 1 dX0_bad_0 rfl ?_
  refine z_if_lt M.1 10 dX0_bad_1 (by decide) (fun h1 => ?_) (fun h1 => ?_)
  · refine z_iconst M.1 (nI 1) dX0_bad_10 (by decide) ?_
    refine z_goto M.1 15 dX0_bad_11 (by decide) ?_
    exact x_retz M dX0_bad_15 (by first | rfl | decide) ⟨rfl, Or.inl ⟨Or.inl h1, rfl⟩⟩
  · refine z_iload_n M.1 1 dX0_bad_4 rfl ?_
    refine z_bipush M.1 (nI 8) dX0_bad_5 (by decide) ?_
    refine z_icmp_lt M.1 14 dX0_bad_7 (by decide) (fun h7 => ?_) (fun h7 => ?_)
    · refine z_iconst M.1 (nI 0) dX0_bad_14 (by decide) ?_
      exact x_retz M dX0_bad_15 (by first | rfl | decide) ⟨rfl, by
          rcases pk_ix e (n := 8) (by decide) with q | q | ⟨j, hj, rfl⟩
          · exact absurd q h1
          · exact absurd h7 (Int32.not_lt.mpr q)
          · exact Or.inr ⟨j, hj, rfl, rfl⟩⟩
    · refine z_iconst M.1 (nI 1) dX0_bad_10 (by decide) ?_
      refine z_goto M.1 15 dX0_bad_11 (by decide) ?_
      exact x_retz M dX0_bad_15 (by first | rfl | decide) ⟨rfl, Or.inl ⟨Or.inr (Int32.not_lt.mp h7), rfl⟩⟩
theorem k_bad {E : EV} {cc : ByteArray} {lv : List (Nat × Value)} {pc : Nat} {rest : List Value} {g : XA} {σ : XS} {nL d : Nat} {ret : Option FieldType} {Qc : Array Value → State → Outcome → State → Prop} {e : Int32} (M : xM E cc nL ret d g Qc) (hd : 0 < d) (dg : decode cc pc = .ok (.invokevirtual 76, 3)) (hW : (rest.map fun v => v.category).sum ≤ 8) (kb : (e < 0 ∨ nI 8 ≤ e) → Az E (xI g (eS E) σ) lv (pc + 3) (.int 1 :: rest)) (kg : ∀ j, j < 8 → e = nI j → Az E (xI g (eS E) σ) lv (pc + 3) (.int (nI 0) :: rest)) : Az E (xI g (eS E) σ) lv pc (.int e :: .ref (xa g 11) :: rest) :=
  x_calli M (fun l => c_bad l g σ e) (lw_V q77 q79 qs0 q19 q80) (show yX0_bad.cls = RX0 ∧ yX0_bad.cls ≠ "java/lang/invoke/MethodHandle" ∧ yX0_bad.cls ≠ "java/lang/invoke/VarHandle" ∧ (parseMethodDescriptor yX0_bad.desc).map (fun d => d.parameters.length) = some 1 from by decide +kernel) hd (by decide) rfl hW dg (fun r u h => by
    obtain ⟨rfl, ⟨h, rfl⟩ | ⟨j, hj, h, rfl⟩⟩ := h
    · exact kb h
    · exact kg j hj h)
theorem c_fold (l : Launch) (g : XA) (σ : XS) (h : Int32) : Met l yX0_fold (ws_ yX0_fold cX0_fold 3 (some .int)) (rmk 0) (va_Pc [.ref (xa g 11), .int h] (xW g σ)) (va_Qi (fun (r : Int32) (σ' : XS) => σ' = σ ∧ r = foldI h) (xW g) (xA g)) 0 0 (xA g) := by
  refine x_enter 0 [(0, .ref (xa g 11)), (1, .int h)] (by decide) rfl (Nat.le_of_ble_eq_true rfl) rfl (fun E M => ?_)
  refine z_iload_n M.1 1 dX0_fold_0 rfl ?_
  refine z_iconst M.1 (nI 1) dX0_fold_1 (by decide) ?_
  refine z_ishl M.1 dX0_fold_2 ?_
  refine z_istore_n M.1 M.2.2.2.2.1 [(0, .ref (xa g 11)), (1, .int (h)), (2, .int ((h) <<< ((nI (1)) &&& 31)))] [1, 2, 0] dX0_fold_3 (by decide) rfl ?_
  refine z_iload_n M.1 1 dX0_fold_4 rfl ?_
  refine z_if_ge M.1 15 dX0_fold_5 (by decide) (fun h5 => ?_) (fun h5 => ?_)
  · refine z_iload_n M.1 2 dX0_fold_15 rfl ?_
    exact x_reti M dX0_fold_16 ⟨rfl, by unfold foldI; rw [if_neg (Int32.not_lt.mpr h5)]⟩
  · refine z_iload_n M.1 2 dX0_fold_8 rfl ?_
    refine z_ldc M.1 q109 dX0_fold_9 ?_
    refine z_ixor M.1 dX0_fold_11 ?_
    refine z_goto M.1 16 dX0_fold_12 (by decide) ?_
    exact x_reti M dX0_fold_16 ⟨rfl, by unfold foldI; rw [if_pos (Int32.not_le.mp h5)]⟩
theorem k_fold {E : EV} {cc : ByteArray} {lv : List (Nat × Value)} {pc : Nat} {rest : List Value} {g : XA} {σ : XS} {nL d : Nat} {ret : Option FieldType} {Qc : Array Value → State → Outcome → State → Prop} {h : Int32} (M : xM E cc nL ret d g Qc) (hd : 0 < d) (dg : decode cc pc = .ok (.invokevirtual 36, 3)) (hW : (rest.map fun v => v.category).sum ≤ 8) (kk : Az E (xI g (eS E) σ) lv (pc + 3) (.int (foldI h) :: rest)) : Az E (xI g (eS E) σ) lv pc (.int h :: .ref (xa g 11) :: rest) :=
  x_calli M (fun l => c_fold l g σ h) (lw_V q105 q107 qs7 q19 q108) (show yX0_fold.cls = RX0 ∧ yX0_fold.cls ≠ "java/lang/invoke/MethodHandle" ∧ yX0_fold.cls ≠ "java/lang/invoke/VarHandle" ∧ (parseMethodDescriptor yX0_fold.desc).map (fun d => d.parameters.length) = some 1 from by decide +kernel) hd (by decide) rfl hW dg (fun r u q => by
    obtain ⟨rfl, rfl⟩ := q
    exact kk)
theorem l_checkOf {E : EV} {g : XA} {σ : XS} {k : Nat} (M : xM E cX0_checkOf 4 (some .int) 1 g (va_Qi (fun (r : Int32) (σ' : XS) => σ' = σ ∧ r = chk (σ 8) k) (xW g) (xA g))) (hk : k ≤ 4) : ∀ n i, i + n = k → Az E (xI g (eS E) σ) [(0, .ref (xa g 11)), (1, .int (nI k)), (2, .int (chk (σ 8) i)), (3, .int (nI i))] 4 [] := by
  intro n
  induction n with
  | zero =>
    intro i hi
    refine z_iload_n M.1 3 dX0_checkOf_4 rfl ?_
    refine z_iload_n M.1 1 dX0_checkOf_5 rfl ?_
    refine z_icmp_geN M.1 28 dX0_checkOf_6 (by decide) (by omega) (by omega) (fun h6 => ?_) (fun h6 => absurd h6 (by omega))
    refine z_iload_n M.1 2 dX0_checkOf_28 rfl ?_
    rw [show i = k by omega]
    exact x_reti M dX0_checkOf_29 ⟨rfl, rfl⟩
  | succ n ih =>
    intro i hi
    refine z_iload_n M.1 3 dX0_checkOf_4 rfl ?_
    refine z_iload_n M.1 1 dX0_checkOf_5 rfl ?_
    refine z_icmp_geN M.1 28 dX0_checkOf_6 (by decide) (by omega) (by omega) (fun h6 => absurd h6 (by omega)) (fun h6 => ?_)
    refine z_aload_n M.1 0 dX0_checkOf_9 rfl ?_
    refine z_iload_n M.1 2 dX0_checkOf_10 rfl ?_
    refine k_fold M (by decide) dX0_checkOf_11 (Nat.le_of_ble_eq_true rfl) ?_
    refine z_aload_n M.1 0 dX0_checkOf_14 rfl ?_
    refine x_get8 M.1 dX0_checkOf_15 ?_
    refine z_iload_n M.1 3 dX0_checkOf_18 rfl ?_
    refine x_ld8 M.1 dX0_checkOf_19 (by omega) ?_
    refine z_ixor M.1 dX0_checkOf_20 ?_
    refine z_istore_n M.1 M.2.2.2.2.1 [(0, .ref (xa g 11)), (1, .int (nI (k))), (2, .int ((foldI (chk (σ 8) i)) ^^^ (σ 8 (i)))), (3, .int (nI (i)))] [1, 2, 0, 3] dX0_checkOf_21 (by decide) rfl ?_
    refine z_iincN M.1 M.2.2.2.2.1 [(0, .ref (xa g 11)), (1, .int (nI (k))), (2, .int ((foldI (chk (σ 8) i)) ^^^ (σ 8 (i)))), (3, .int (nI (i + 1)))] 3 [1, 2, 3, 0] dX0_checkOf_22 rfl (by decide) rfl ?_
    refine z_goto M.1 4 dX0_checkOf_25 (by decide) ?_
    exact ih (i + 1) (by omega)
theorem c_checkOf (l : Launch) (g : XA) (σ : XS) (k : Nat) (hk : k ≤ 4) : Met l yX0_checkOf (ws_ yX0_checkOf cX0_checkOf 4 (some .int)) (rmk 1) (va_Pc [.ref (xa g 11), .int (nI k)] (xW g σ)) (va_Qi (fun (r : Int32) (σ' : XS) => σ' = σ ∧ r = chk (σ 8) k) (xW g) (xA g)) 0 0 (xA g) := by
  refine x_enter 1 [(0, .ref (xa g 11)), (1, .int (nI k))] (by decide) rfl (Nat.le_of_ble_eq_true rfl) rfl (fun E M => ?_)
  refine z_iconst M.1 (nI 0) dX0_checkOf_0 (by decide) ?_
  refine z_istore_n M.1 M.2.2.2.2.1 [(0, .ref (xa g 11)), (1, .int (nI (k))), (2, .int (nI (0)))] [1, 2, 0] dX0_checkOf_1 (by decide) rfl ?_
  refine z_iconst M.1 (nI 0) dX0_checkOf_2 (by decide) ?_
  refine z_istore_n M.1 M.2.2.2.2.1 [(0, .ref (xa g 11)), (1, .int (nI (k))), (2, .int (nI (0))), (3, .int (nI (0)))] [1, 2, 3, 0] dX0_checkOf_3 (by decide) rfl ?_
  exact l_checkOf M hk k 0 (by omega)
theorem k_checkOf {E : EV} {cc : ByteArray} {lv : List (Nat × Value)} {pc : Nat} {rest : List Value} {g : XA} {σ : XS} {nL d : Nat} {ret : Option FieldType} {Qc : Array Value → State → Outcome → State → Prop} {k : Nat} (M : xM E cc nL ret d g Qc) (hd : 1 < d) (dg : decode cc pc = .ok (.invokevirtual 57, 3)) (hW : (rest.map fun v => v.category).sum ≤ 8) (hk : k ≤ 4) (kk : Az E (xI g (eS E) σ) lv (pc + 3) (.int (chk (σ 8) k) :: rest)) : Az E (xI g (eS E) σ) lv pc (.int (nI k) :: .ref (xa g 11) :: rest) :=
  x_calli M (fun l => c_checkOf l g σ k hk) (lw_V q101 q103 qs6 q19 q104) (show yX0_checkOf.cls = RX0 ∧ yX0_checkOf.cls ≠ "java/lang/invoke/MethodHandle" ∧ yX0_checkOf.cls ≠ "java/lang/invoke/VarHandle" ∧ (parseMethodDescriptor yX0_checkOf.desc).map (fun d => d.parameters.length) = some 1 from by decide +kernel) hd (by decide) rfl hW dg (fun r u q => by
    obtain ⟨rfl, rfl⟩ := q
    exact kk)
theorem l_freeRow {E : EV} {g : XA} {σ : XS} {j : Nat} (M : xM E cX0_freeRow 3 (some .int) 0 g (va_Qi (fun (r : Int32) (σ' : XS) => σ' = σ ∧ ∃ y, y < 12 ∧ r = nI y ∧ σ 1 (j * 12 + y) = 0) (xW g) (xA g))) (hj : j < 5) : ∀ n i, i + n = 12 → (∃ y, i ≤ y ∧ y < 12 ∧ σ 1 (j * 12 + y) = 0) → Az E (xI g (eS E) σ) [(0, .ref (xa g 11)), (1, .int (nI j)), (2, .int (nI i))] 2 [] := by
  intro n
  induction n with
  | zero =>
    intro i hi hx
    obtain ⟨y, h1, h2, h3⟩ := hx
    omega
  | succ n ih =>
    intro i hi hx
    refine z_iload_n M.1 2 dX0_freeRow_2 rfl ?_
    refine z_bipush M.1 (nI 12) dX0_freeRow_3 (by decide) ?_
    refine z_icmp_geN M.1 30 dX0_freeRow_5 (by decide) (by omega) (by omega) (fun h5 => absurd h5 (by omega)) (fun h5 => ?_)
    refine z_aload_n M.1 0 dX0_freeRow_8 rfl ?_
    refine x_get1 M.1 dX0_freeRow_9 ?_
    refine z_iload_n M.1 1 dX0_freeRow_12 rfl ?_
    refine z_bipush M.1 (nI 12) dX0_freeRow_13 (by decide) ?_
    refine z_imulN M.1 dX0_freeRow_15 ?_
    refine z_iload_n M.1 2 dX0_freeRow_16 rfl ?_
    refine z_iaddN M.1 dX0_freeRow_17 ?_
    refine x_ld1 M.1 dX0_freeRow_18 (by omega) ?_
    refine z_if_ne M.1 24 dX0_freeRow_19 (by decide) (fun h19 => ?_) (fun h19 => ?_)
    · refine z_iincN M.1 M.2.2.2.2.1 [(0, .ref (xa g 11)), (1, .int (nI (j))), (2, .int (nI (i + 1)))] 2 [1, 2, 0] dX0_freeRow_24 rfl (by decide) rfl ?_
      refine z_goto M.1 2 dX0_freeRow_27 (by decide) ?_
      obtain ⟨y, h1, h2, h3⟩ := hx
      exact ih (i + 1) (by omega) ⟨y, Nat.lt_of_le_of_ne h1 (fun e => h19 (by rw [e]; exact h3)), h2, h3⟩
    · refine z_iload_n M.1 2 dX0_freeRow_22 rfl ?_
      exact x_reti M dX0_freeRow_23 ⟨rfl, i, by omega, rfl, h19⟩
theorem c_freeRow (l : Launch) (g : XA) (σ : XS) (j : Nat) (hj : j < 5) (hx : ∃ y, y < 12 ∧ σ 1 (j * 12 + y) = 0) : Met l yX0_freeRow (ws_ yX0_freeRow cX0_freeRow 3 (some .int)) (rmk 0) (va_Pc [.ref (xa g 11), .int (nI j)] (xW g σ)) (va_Qi (fun (r : Int32) (σ' : XS) => σ' = σ ∧ ∃ y, y < 12 ∧ r = nI y ∧ σ 1 (j * 12 + y) = 0) (xW g) (xA g)) 0 0 (xA g) := by
  refine x_enter 0 [(0, .ref (xa g 11)), (1, .int (nI j))] (by decide) rfl (Nat.le_of_ble_eq_true rfl) rfl (fun E M => ?_)
  refine z_iconst M.1 (nI 0) dX0_freeRow_0 (by decide) ?_
  refine z_istore_n M.1 M.2.2.2.2.1 [(0, .ref (xa g 11)), (1, .int (nI (j))), (2, .int (nI (0)))] [1, 2, 0] dX0_freeRow_1 (by decide) rfl ?_
  obtain ⟨y, hy, hz⟩ := hx
  exact l_freeRow M hj 12 0 (by omega) ⟨y, Nat.zero_le y, hy, hz⟩
theorem k_freeRow {E : EV} {cc : ByteArray} {lv : List (Nat × Value)} {pc : Nat} {rest : List Value} {g : XA} {σ : XS} {nL d : Nat} {ret : Option FieldType} {Qc : Array Value → State → Outcome → State → Prop} {j : Nat} (M : xM E cc nL ret d g Qc) (hd : 0 < d) (dg : decode cc pc = .ok (.invokevirtual 47, 3)) (hW : (rest.map fun v => v.category).sum ≤ 8) (hj : j < 5) (hx : ∃ y, y < 12 ∧ σ 1 (j * 12 + y) = 0) (kk : ∀ y, y < 12 → σ 1 (j * 12 + y) = 0 → Az E (xI g (eS E) σ) lv (pc + 3) (.int (nI y) :: rest)) : Az E (xI g (eS E) σ) lv pc (.int (nI j) :: .ref (xa g 11) :: rest) :=
  x_calli M (fun l => c_freeRow l g σ j hj hx) (lw_V q93 q95 qs4 q19 q96) (show yX0_freeRow.cls = RX0 ∧ yX0_freeRow.cls ≠ "java/lang/invoke/MethodHandle" ∧ yX0_freeRow.cls ≠ "java/lang/invoke/VarHandle" ∧ (parseMethodDescriptor yX0_freeRow.desc).map (fun d => d.parameters.length) = some 1 from by decide +kernel) hd (by decide) rfl hW dg (fun r u q => by
    obtain ⟨rfl, y, hy, rfl, hz⟩ := q
    exact kk y hy hz)
theorem l_freeRows {E : EV} {g : XA} {σ : XS} {j : Nat} (M : xM E cX0_freeRows 4 (some .int) 0 g (va_Qi (fun (r : Int32) (σ' : XS) => σ' = σ ∧ ∃ y, 0 < y ∧ y ≤ 12 ∧ r = nI y) (xW g) (xA g))) (hj : j < 5) : ∀ n i c, i + n = 12 → c ≤ i → (0 < c ∨ ∃ y, i ≤ y ∧ y < 12 ∧ σ 1 (j * 12 + y) = 0) → Az E (xI g (eS E) σ) [(0, .ref (xa g 11)), (1, .int (nI j)), (2, .int (nI c)), (3, .int (nI i))] 4 [] := by
  intro n
  induction n with
  | zero =>
    intro i c hi hc hx
    refine z_iload_n M.1 3 dX0_freeRows_4 rfl ?_
    refine z_bipush M.1 (nI 12) dX0_freeRows_5 (by decide) ?_
    refine z_icmp_geN M.1 33 dX0_freeRows_7 (by decide) (by omega) (by omega) (fun h7 => ?_) (fun h7 => absurd h7 (by omega))
    refine z_iload_n M.1 2 dX0_freeRows_33 rfl ?_
    refine x_reti M dX0_freeRows_34 ⟨rfl, c, ?_, by omega, rfl⟩
    rcases hx with h | ⟨y, h1, h2, h3⟩
    · exact h
    · omega
  | succ n ih =>
    intro i c hi hc hx
    refine z_iload_n M.1 3 dX0_freeRows_4 rfl ?_
    refine z_bipush M.1 (nI 12) dX0_freeRows_5 (by decide) ?_
    refine z_icmp_geN M.1 33 dX0_freeRows_7 (by decide) (by omega) (by omega) (fun h7 => absurd h7 (by omega)) (fun h7 => ?_)
    refine z_aload_n M.1 0 dX0_freeRows_10 rfl ?_
    refine x_get1 M.1 dX0_freeRows_11 ?_
    refine z_iload_n M.1 1 dX0_freeRows_14 rfl ?_
    refine z_bipush M.1 (nI 12) dX0_freeRows_15 (by decide) ?_
    refine z_imulN M.1 dX0_freeRows_17 ?_
    refine z_iload_n M.1 3 dX0_freeRows_18 rfl ?_
    refine z_iaddN M.1 dX0_freeRows_19 ?_
    refine x_ld1 M.1 dX0_freeRows_20 (by omega) ?_
    refine z_if_ne M.1 27 dX0_freeRows_21 (by decide) (fun h21 => ?_) (fun h21 => ?_)
    · refine z_iincN M.1 M.2.2.2.2.1 [(0, .ref (xa g 11)), (1, .int (nI (j))), (2, .int (nI (c))), (3, .int (nI (i + 1)))] 3 [1, 2, 3, 0] dX0_freeRows_27 rfl (by decide) rfl ?_
      refine z_goto M.1 4 dX0_freeRows_30 (by decide) ?_
      refine ih (i + 1) c (by omega) (by omega) ?_
      rcases hx with h | ⟨y, h1, h2, h3⟩
      · exact Or.inl h
      · exact Or.inr ⟨y, Nat.lt_of_le_of_ne h1 (fun e => h21 (by rw [e]; exact h3)), h2, h3⟩
    · refine z_iincN M.1 M.2.2.2.2.1 [(0, .ref (xa g 11)), (1, .int (nI (j))), (2, .int (nI (c + 1))), (3, .int (nI (i)))] 2 [1, 2, 0, 3] dX0_freeRows_24 rfl (by decide) rfl ?_
      refine z_iincN M.1 M.2.2.2.2.1 [(0, .ref (xa g 11)), (1, .int (nI (j))), (2, .int (nI (c + 1))), (3, .int (nI (i + 1)))] 3 [1, 2, 3, 0] dX0_freeRows_27 rfl (by decide) rfl ?_
      refine z_goto M.1 4 dX0_freeRows_30 (by decide) ?_
      exact ih (i + 1) (c + 1) (by omega) (by omega) (Or.inl (by omega))
theorem c_freeRows (l : Launch) (g : XA) (σ : XS) (j : Nat) (hj : j < 5) (hx : ∃ y, y < 12 ∧ σ 1 (j * 12 + y) = 0) : Met l yX0_freeRows (ws_ yX0_freeRows cX0_freeRows 4 (some .int)) (rmk 0) (va_Pc [.ref (xa g 11), .int (nI j)] (xW g σ)) (va_Qi (fun (r : Int32) (σ' : XS) => σ' = σ ∧ ∃ y, 0 < y ∧ y ≤ 12 ∧ r = nI y) (xW g) (xA g)) 0 0 (xA g) := by
  refine x_enter 0 [(0, .ref (xa g 11)), (1, .int (nI j))] (by decide) rfl (Nat.le_of_ble_eq_true rfl) rfl (fun E M => ?_)
  refine z_iconst M.1 (nI 0) dX0_freeRows_0 (by decide) ?_
  refine z_istore_n M.1 M.2.2.2.2.1 [(0, .ref (xa g 11)), (1, .int (nI (j))), (2, .int (nI (0)))] [1, 2, 0] dX0_freeRows_1 (by decide) rfl ?_
  refine z_iconst M.1 (nI 0) dX0_freeRows_2 (by decide) ?_
  refine z_istore_n M.1 M.2.2.2.2.1 [(0, .ref (xa g 11)), (1, .int (nI (j))), (2, .int (nI (0))), (3, .int (nI (0)))] [1, 2, 3, 0] dX0_freeRows_3 (by decide) rfl ?_
  obtain ⟨y, hy, hz⟩ := hx
  exact l_freeRows M hj 12 0 0 (by omega) (Nat.le_refl 0) (Or.inr ⟨y, Nat.zero_le y, hy, hz⟩)
theorem k_freeRows {E : EV} {cc : ByteArray} {lv : List (Nat × Value)} {pc : Nat} {rest : List Value} {g : XA} {σ : XS} {nL d : Nat} {ret : Option FieldType} {Qc : Array Value → State → Outcome → State → Prop} {j : Nat} (M : xM E cc nL ret d g Qc) (hd : 0 < d) (dg : decode cc pc = .ok (.invokevirtual 44, 3)) (hW : (rest.map fun v => v.category).sum ≤ 8) (hj : j < 5) (hx : ∃ y, y < 12 ∧ σ 1 (j * 12 + y) = 0) (kk : ∀ y, 0 < y → y ≤ 12 → Az E (xI g (eS E) σ) lv (pc + 3) (.int (nI y) :: rest)) : Az E (xI g (eS E) σ) lv pc (.int (nI j) :: .ref (xa g 11) :: rest) :=
  x_calli M (fun l => c_freeRows l g σ j hj hx) (lw_V q89 q91 qs3 q19 q92) (show yX0_freeRows.cls = RX0 ∧ yX0_freeRows.cls ≠ "java/lang/invoke/MethodHandle" ∧ yX0_freeRows.cls ≠ "java/lang/invoke/VarHandle" ∧ (parseMethodDescriptor yX0_freeRows.desc).map (fun d => d.parameters.length) = some 1 from by decide +kernel) hd (by decide) rfl hW dg (fun r u q => by
    obtain ⟨rfl, y, hy, hz, rfl⟩ := q
    exact kk y hy hz)
theorem l_loadWords {E : EV} {g : XA} {σ : XS} {j w : Nat} {p : Nat → Nat} (M : xM E cX0_loadWords 3 none 0 g (va_Qv (fun (σ' : XS) => ∃ f, σ' = wf σ 8 f ∧ ∀ i, i < w → f i = σ 0 (p i)) (xW g) (xA g))) (hx : Ext σ j w p) : ∀ n c f, c + n = w → (∀ i, i < c → f i = σ 0 (p i)) → Az E (xI g (eS E) (wf σ 8 f)) [(0, .ref (xa g 11)), (1, .int (nI j)), (2, .int (nI c))] 2 [] := by
  obtain ⟨hj, hw, h3, h5⟩ := hx
  intro n
  induction n with
  | zero =>
    intro c f hi hf
    refine z_iload_n M.1 2 dX0_loadWords_2 rfl ?_
    refine z_aload_n M.1 0 dX0_loadWords_3 rfl ?_
    refine x_get3 M.1 dX0_loadWords_4 ?_
    refine z_iload_n M.1 1 dX0_loadWords_7 rfl ?_
    refine x_ld3 M.1 dX0_loadWords_8 (by omega) ?_
    refine z_top (nI (w)) (h3) ?_
    refine z_icmp_geN M.1 39 dX0_loadWords_9 (by decide) (by omega) (by omega) (fun h9 => ?_) (fun h9 => absurd h9 (by omega))
    exact x_retv M dX0_loadWords_39 ⟨f, rfl, fun i hi => hf i (by omega)⟩
  | succ n ih =>
    intro c f hi hf
    refine z_iload_n M.1 2 dX0_loadWords_2 rfl ?_
    refine z_aload_n M.1 0 dX0_loadWords_3 rfl ?_
    refine x_get3 M.1 dX0_loadWords_4 ?_
    refine z_iload_n M.1 1 dX0_loadWords_7 rfl ?_
    refine x_ld3 M.1 dX0_loadWords_8 (by omega) ?_
    refine z_top (nI (w)) (h3) ?_
    refine z_icmp_geN M.1 39 dX0_loadWords_9 (by decide) (by omega) (by omega) (fun h9 => absurd h9 (by omega)) (fun h9 => ?_)
    refine z_aload_n M.1 0 dX0_loadWords_12 rfl ?_
    refine x_get8 M.1 dX0_loadWords_13 ?_
    refine z_iload_n M.1 2 dX0_loadWords_16 rfl ?_
    refine z_aload_n M.1 0 dX0_loadWords_17 rfl ?_
    refine x_get0 M.1 dX0_loadWords_18 ?_
    refine z_aload_n M.1 0 dX0_loadWords_21 rfl ?_
    refine x_get5 M.1 dX0_loadWords_22 ?_
    refine z_iload_n M.1 1 dX0_loadWords_25 rfl ?_
    refine z_iconst M.1 (nI 5) dX0_loadWords_26 (by decide) ?_
    refine z_imulN M.1 dX0_loadWords_27 ?_
    refine z_iload_n M.1 2 dX0_loadWords_28 rfl ?_
    refine z_iaddN M.1 dX0_loadWords_29 ?_
    refine x_ld5 M.1 dX0_loadWords_30 (by omega) ?_
    refine z_top (nI (p c)) ((h5 c (by omega)).1) ?_
    refine x_ld0 M.1 dX0_loadWords_31 ((h5 c (by omega)).2) ?_
    refine x_st8 M.1 dX0_loadWords_32 (by omega) ?_
    refine z_I (congrArg (xI g (eS E)) (wr_wf σ 8 f c _)) ?_
    refine z_iincN M.1 M.2.2.2.2.1 [(0, .ref (xa g 11)), (1, .int (nI (j))), (2, .int (nI (c + 1)))] 2 [1, 2, 0] dX0_loadWords_33 rfl (by decide) rfl ?_
    refine z_goto M.1 2 dX0_loadWords_36 (by decide) ?_
    exact ih (c + 1) (upd f c (σ 0 (p c))) (by omega) (fun i hi => by
      by_cases e : i = c
      · rw [e, upd_s]
      · rw [upd_n e]
        exact hf i (by omega))
theorem c_loadWords (l : Launch) (g : XA) (σ : XS) (j w : Nat) (p : Nat → Nat) (hx : Ext σ j w p) : Met l yX0_loadWords (ws_ yX0_loadWords cX0_loadWords 3 none) (rmk 0) (va_Pc [.ref (xa g 11), .int (nI j)] (xW g σ)) (va_Qv (fun (σ' : XS) => ∃ f, σ' = wf σ 8 f ∧ ∀ i, i < w → f i = σ 0 (p i)) (xW g) (xA g)) 0 0 (xA g) := by
  refine x_enter 0 [(0, .ref (xa g 11)), (1, .int (nI j))] (by decide) rfl (Nat.le_of_ble_eq_true rfl) rfl (fun E M => ?_)
  refine z_iconst M.1 (nI 0) dX0_loadWords_0 (by decide) ?_
  refine z_istore_n M.1 M.2.2.2.2.1 [(0, .ref (xa g 11)), (1, .int (nI (j))), (2, .int (nI (0)))] [1, 2, 0] dX0_loadWords_1 (by decide) rfl ?_
  refine z_I (congrArg (xI g (eS E)) (wf_id σ 8).symm) ?_
  exact l_loadWords M hx w 0 (σ 8) (by omega) (fun i hi => absurd hi (Nat.not_lt_zero i))
theorem k_loadWords {E : EV} {cc : ByteArray} {lv : List (Nat × Value)} {pc : Nat} {rest : List Value} {g : XA} {σ : XS} {nL d : Nat} {ret : Option FieldType} {Qc : Array Value → State → Outcome → State → Prop} {j w : Nat} {p : Nat → Nat} (M : xM E cc nL ret d g Qc) (hd : 0 < d) (dg : decode cc pc = .ok (.invokevirtual 60, 3)) (hW : (rest.map fun v => v.category).sum ≤ 8) (hx : Ext σ j w p) (kk : ∀ f, (∀ i, i < w → f i = σ 0 (p i)) → Az E (xI g (eS E) (wf σ 8 f)) lv (pc + 3) rest) : Az E (xI g (eS E) σ) lv pc (.int (nI j) :: .ref (xa g 11) :: rest) :=
  x_callv M (fun l => c_loadWords l g σ j w p hx) (lw_V q126 q128 qs9 q19 q129) (show yX0_loadWords.cls = RX0 ∧ yX0_loadWords.cls ≠ "java/lang/invoke/MethodHandle" ∧ yX0_loadWords.cls ≠ "java/lang/invoke/VarHandle" ∧ (parseMethodDescriptor yX0_loadWords.desc).map (fun d => d.parameters.length) = some 1 from by decide +kernel) hd (by decide) rfl hW dg (fun u q => by
    obtain ⟨f, rfl, hf⟩ := q
    exact kk f hf)
theorem l_rebuilt {E : EV} {g : XA} {σ : XS} {j w t : Nat} {p : Nat → Nat} (M : xM E cX0_rebuilt 5 (some .int) 0 g (va_Qi (fun (r : Int32) (σ' : XS) => σ' = σ ∧ r = xs (fun c => σ 0 (p c)) t (w + 1)) (xW g) (xA g))) (hx : Ext σ j w p) (ht : t < 2 ^ 31) : ∀ n c, c + n = w + 1 → Az E (xI g (eS E) σ) [(0, .ref (xa g 11)), (1, .int (nI j)), (2, .int (nI t)), (3, .int (xs (fun c => σ 0 (p c)) t c)), (4, .int (nI c))] 5 [] := by
  obtain ⟨hj, hw, h3, h5⟩ := hx
  intro n
  induction n with
  | zero =>
    intro c hi
    refine z_iload M.1 4 dX0_rebuilt_5 rfl ?_
    refine z_aload_n M.1 0 dX0_rebuilt_7 rfl ?_
    refine x_get3 M.1 dX0_rebuilt_8 ?_
    refine z_iload_n M.1 1 dX0_rebuilt_11 rfl ?_
    refine x_ld3 M.1 dX0_rebuilt_12 (by omega) ?_
    refine z_top (nI (w)) (h3) ?_
    refine z_icmp_gtN M.1 47 dX0_rebuilt_13 (by decide) (by omega) (by omega) (fun h13 => ?_) (fun h13 => absurd h13 (by omega))
    refine z_iload_n M.1 3 dX0_rebuilt_47 rfl ?_
    rw [show c = w + 1 by omega]
    exact x_reti M dX0_rebuilt_48 ⟨rfl, rfl⟩
  | succ n ih =>
    intro c hi
    refine z_iload M.1 4 dX0_rebuilt_5 rfl ?_
    refine z_aload_n M.1 0 dX0_rebuilt_7 rfl ?_
    refine x_get3 M.1 dX0_rebuilt_8 ?_
    refine z_iload_n M.1 1 dX0_rebuilt_11 rfl ?_
    refine x_ld3 M.1 dX0_rebuilt_12 (by omega) ?_
    refine z_top (nI (w)) (h3) ?_
    refine z_icmp_gtN M.1 47 dX0_rebuilt_13 (by decide) (by omega) (by omega) (fun h13 => absurd h13 (by omega)) (fun h13 => ?_)
    refine z_iload M.1 4 dX0_rebuilt_16 rfl ?_
    refine z_iload_n M.1 2 dX0_rebuilt_18 rfl ?_
    refine z_icmp_eqN M.1 41 dX0_rebuilt_19 (by decide) (by omega) (by omega) (fun h19 => ?_) (fun h19 => ?_)
    · refine z_iincN M.1 M.2.2.2.2.1 [(0, .ref (xa g 11)), (1, .int (nI (j))), (2, .int (nI (t))), (3, .int (xs (fun c => σ 0 (p c)) t c)), (4, .int (nI (c + 1)))] 4 [1, 2, 3, 4, 0] dX0_rebuilt_41 rfl (by decide) rfl ?_
      refine z_goto M.1 5 dX0_rebuilt_44 (by decide) ?_
      have h := ih (c + 1) (by omega)
      rw [show xs (fun c => σ 0 (p c)) t (c + 1) = xs (fun c => σ 0 (p c)) t c from if_pos h19] at h
      exact h
    · refine z_iload_n M.1 3 dX0_rebuilt_22 rfl ?_
      refine z_aload_n M.1 0 dX0_rebuilt_23 rfl ?_
      refine x_get0 M.1 dX0_rebuilt_24 ?_
      refine z_aload_n M.1 0 dX0_rebuilt_27 rfl ?_
      refine x_get5 M.1 dX0_rebuilt_28 ?_
      refine z_iload_n M.1 1 dX0_rebuilt_31 rfl ?_
      refine z_iconst M.1 (nI 5) dX0_rebuilt_32 (by decide) ?_
      refine z_imulN M.1 dX0_rebuilt_33 ?_
      refine z_iload M.1 4 dX0_rebuilt_34 rfl ?_
      refine z_iaddN M.1 dX0_rebuilt_36 ?_
      refine x_ld5 M.1 dX0_rebuilt_37 (by omega) ?_
      refine z_top (nI (p c)) ((h5 c (by omega)).1) ?_
      refine x_ld0 M.1 dX0_rebuilt_38 ((h5 c (by omega)).2) ?_
      refine z_ixor M.1 dX0_rebuilt_39 ?_
      refine z_istore_n M.1 M.2.2.2.2.1 [(0, .ref (xa g 11)), (1, .int (nI (j))), (2, .int (nI (t))), (3, .int ((xs (fun c => σ 0 (p c)) t c) ^^^ (σ 0 (p c)))), (4, .int (nI (c)))] [1, 2, 3, 0, 4] dX0_rebuilt_40 (by decide) rfl ?_
      refine z_iincN M.1 M.2.2.2.2.1 [(0, .ref (xa g 11)), (1, .int (nI (j))), (2, .int (nI (t))), (3, .int ((xs (fun c => σ 0 (p c)) t c) ^^^ (σ 0 (p c)))), (4, .int (nI (c + 1)))] 4 [1, 2, 3, 4, 0] dX0_rebuilt_41 rfl (by decide) rfl ?_
      refine z_goto M.1 5 dX0_rebuilt_44 (by decide) ?_
      have h := ih (c + 1) (by omega)
      rw [show xs (fun c => σ 0 (p c)) t (c + 1) = xs (fun c => σ 0 (p c)) t c ^^^ σ 0 (p c) from if_neg h19] at h
      exact h
theorem c_rebuilt (l : Launch) (g : XA) (σ : XS) (j w t : Nat) (p : Nat → Nat) (hx : Ext σ j w p) (ht : t < 2 ^ 31) : Met l yX0_rebuilt (ws_ yX0_rebuilt cX0_rebuilt 5 (some .int)) (rmk 0) (va_Pc [.ref (xa g 11), .int (nI j), .int (nI t)] (xW g σ)) (va_Qi (fun (r : Int32) (σ' : XS) => σ' = σ ∧ r = xs (fun c => σ 0 (p c)) t (w + 1)) (xW g) (xA g)) 0 0 (xA g) := by
  refine x_enter 0 [(0, .ref (xa g 11)), (1, .int (nI j)), (2, .int (nI t))] (by decide) rfl (Nat.le_of_ble_eq_true rfl) rfl (fun E M => ?_)
  refine z_iconst M.1 (nI 0) dX0_rebuilt_0 (by decide) ?_
  refine z_istore_n M.1 M.2.2.2.2.1 [(0, .ref (xa g 11)), (1, .int (nI (j))), (2, .int (nI (t))), (3, .int (nI (0)))] [1, 2, 3, 0] dX0_rebuilt_1 (by decide) rfl ?_
  refine z_iconst M.1 (nI 0) dX0_rebuilt_2 (by decide) ?_
  refine z_istore M.1 M.2.2.2.2.1 [(0, .ref (xa g 11)), (1, .int (nI (j))), (2, .int (nI (t))), (3, .int (nI (0))), (4, .int (nI (0)))] [1, 2, 3, 4, 0] dX0_rebuilt_3 (by decide) rfl ?_
  exact l_rebuilt M hx ht (w + 1) 0 (by omega)
theorem k_rebuilt {E : EV} {cc : ByteArray} {lv : List (Nat × Value)} {pc : Nat} {rest : List Value} {g : XA} {σ : XS} {nL d : Nat} {ret : Option FieldType} {Qc : Array Value → State → Outcome → State → Prop} {j w t : Nat} {p : Nat → Nat} (M : xM E cc nL ret d g Qc) (hd : 0 < d) (dg : decode cc pc = .ok (.invokevirtual 63, 3)) (hW : (rest.map fun v => v.category).sum ≤ 8) (hx : Ext σ j w p) (ht : t < 2 ^ 31) (kk : Az E (xI g (eS E) σ) lv (pc + 3) (.int (xs (fun c => σ 0 (p c)) t (w + 1)) :: rest)) : Az E (xI g (eS E) σ) lv pc (.int (nI t) :: .int (nI j) :: .ref (xa g 11) :: rest) :=
  x_calli M (fun l => c_rebuilt l g σ j w t p hx ht) (lw_V q130 q132 qs10 q19 q133) (show yX0_rebuilt.cls = RX0 ∧ yX0_rebuilt.cls ≠ "java/lang/invoke/MethodHandle" ∧ yX0_rebuilt.cls ≠ "java/lang/invoke/VarHandle" ∧ (parseMethodDescriptor yX0_rebuilt.desc).map (fun d => d.parameters.length) = some 2 from by decide +kernel) hd (by decide) rfl hW dg (fun r u q => by
    obtain ⟨rfl, rfl⟩ := q
    exact kk)
theorem c_free0 (l : Launch) (g : XA) (σ : XS) (j : Nat) (hj : j < 8) (h3 : σ 3 j = nI 0) : Met l yX0_free (ws_ yX0_free cX0_free 3 none) (rmk 0) (va_Pc [.ref (xa g 11), .int (nI j)] (xW g σ)) (va_Qv (fun (σ' : XS) => σ' = σ) (xW g) (xA g)) 0 0 (xA g) := by
  refine x_enter 0 [(0, .ref (xa g 11)), (1, .int (nI j))] (by decide) rfl (Nat.le_of_ble_eq_true rfl) rfl (fun E M => ?_)
  refine z_aload_n M.1 0 dX0_free_0 rfl ?_
  refine x_get3 M.1 dX0_free_1 ?_
  refine z_iload_n M.1 1 dX0_free_4 rfl ?_
  refine x_ld3 M.1 dX0_free_5 (by omega) ?_
  refine z_top (nI (0)) (h3) ?_
  refine z_if_neN M.1 10 dX0_free_6 (by decide) (by omega) (fun h6 => absurd h6 (by omega)) (fun h6 => ?_)
  exact x_retv M dX0_free_9 rfl
theorem l_free {E : EV} {g : XA} {σ : XS} {j w : Nat} {p : Nat → Nat} (M : xM E cX0_free 3 none 0 g (va_Qv (fun (σ' : XS) => ∃ f, σ' = wr (wf σ 1 f) 3 j (nI 0) ∧ (∀ c, c ≤ w → f (p c) = 0) ∧ ∀ q, (∀ c, c ≤ w → q ≠ p c) → f q = σ 1 q) (xW g) (xA g))) (hx : Ext σ j w p) : ∀ n c f, c + n = w + 1 → (∀ i, i < c → f (p i) = 0) → (∀ q, (∀ i, i < c → q ≠ p i) → f q = σ 1 q) → Az E (xI g (eS E) (wf σ 1 f)) [(0, .ref (xa g 11)), (1, .int (nI j)), (2, .int (nI c))] 12 [] := by
  obtain ⟨hj, hw, h3, h5⟩ := hx
  intro n
  induction n with
  | zero =>
    intro c f hi hf hg
    refine z_iload_n M.1 2 dX0_free_12 rfl ?_
    refine z_aload_n M.1 0 dX0_free_13 rfl ?_
    refine x_get3 M.1 dX0_free_14 ?_
    refine z_iload_n M.1 1 dX0_free_17 rfl ?_
    refine x_ld3 M.1 dX0_free_18 (by omega) ?_
    refine z_top (nI (w)) (h3) ?_
    refine z_icmp_gtN M.1 44 dX0_free_19 (by decide) (by omega) (by omega) (fun h19 => ?_) (fun h19 => absurd h19 (by omega))
    refine z_aload_n M.1 0 dX0_free_44 rfl ?_
    refine x_get3 M.1 dX0_free_45 ?_
    refine z_iload_n M.1 1 dX0_free_48 rfl ?_
    refine z_iconst M.1 (nI 0) dX0_free_49 (by decide) ?_
    refine x_st3 M.1 dX0_free_50 (by omega) ?_
    exact x_retv M dX0_free_51 ⟨f, rfl, fun c hc => hf c (by omega), fun q hq => hg q (fun c hc => hq c (by omega))⟩
  | succ n ih =>
    intro c f hi hf hg
    refine z_iload_n M.1 2 dX0_free_12 rfl ?_
    refine z_aload_n M.1 0 dX0_free_13 rfl ?_
    refine x_get3 M.1 dX0_free_14 ?_
    refine z_iload_n M.1 1 dX0_free_17 rfl ?_
    refine x_ld3 M.1 dX0_free_18 (by omega) ?_
    refine z_top (nI (w)) (h3) ?_
    refine z_icmp_gtN M.1 44 dX0_free_19 (by decide) (by omega) (by omega) (fun h19 => absurd h19 (by omega)) (fun h19 => ?_)
    refine z_aload_n M.1 0 dX0_free_22 rfl ?_
    refine x_get1 M.1 dX0_free_23 ?_
    refine z_aload_n M.1 0 dX0_free_26 rfl ?_
    refine x_get5 M.1 dX0_free_27 ?_
    refine z_iload_n M.1 1 dX0_free_30 rfl ?_
    refine z_iconst M.1 (nI 5) dX0_free_31 (by decide) ?_
    refine z_imulN M.1 dX0_free_32 ?_
    refine z_iload_n M.1 2 dX0_free_33 rfl ?_
    refine z_iaddN M.1 dX0_free_34 ?_
    refine x_ld5 M.1 dX0_free_35 (by omega) ?_
    refine z_top (nI (p c)) ((h5 c (by omega)).1) ?_
    refine z_iconst M.1 (nI 0) dX0_free_36 (by decide) ?_
    refine x_st1 M.1 dX0_free_37 ((h5 c (by omega)).2) ?_
    refine z_I (congrArg (xI g (eS E)) (wr_wf σ 1 f (p c) _)) ?_
    refine z_iincN M.1 M.2.2.2.2.1 [(0, .ref (xa g 11)), (1, .int (nI (j))), (2, .int (nI (c + 1)))] 2 [1, 2, 0] dX0_free_38 rfl (by decide) rfl ?_
    refine z_goto M.1 12 dX0_free_41 (by decide) ?_
    refine ih (c + 1) (upd f (p c) 0) (by omega) (fun i hi => ?_) (fun q hq => ?_)
    · by_cases e : p i = p c
      · rw [e, upd_s]
      · rw [upd_n e]
        exact hf i (Nat.lt_of_le_of_ne (by omega) (fun y => e (by rw [y])))
    · rw [upd_n (hq c (by omega))]
      exact hg q (fun i hi => hq i (by omega))
theorem c_free (l : Launch) (g : XA) (σ : XS) (j w : Nat) (p : Nat → Nat) (hx : Ext σ j w p) (hw : 0 < w) : Met l yX0_free (ws_ yX0_free cX0_free 3 none) (rmk 0) (va_Pc [.ref (xa g 11), .int (nI j)] (xW g σ)) (va_Qv (fun (σ' : XS) => ∃ f, σ' = wr (wf σ 1 f) 3 j (nI 0) ∧ (∀ c, c ≤ w → f (p c) = 0) ∧ ∀ q, (∀ c, c ≤ w → q ≠ p c) → f q = σ 1 q) (xW g) (xA g)) 0 0 (xA g) := by
  refine x_enter 0 [(0, .ref (xa g 11)), (1, .int (nI j))] (by decide) rfl (Nat.le_of_ble_eq_true rfl) rfl (fun E M => ?_)
  refine z_aload_n M.1 0 dX0_free_0 rfl ?_
  refine x_get3 M.1 dX0_free_1 ?_
  refine z_iload_n M.1 1 dX0_free_4 rfl ?_
  have hj8 := hx.1
  refine x_ld3 M.1 dX0_free_5 (by omega) ?_
  refine z_top (nI (w)) (hx.2.2.1) ?_
  have hw4 := hx.2.1
  refine z_if_neN M.1 10 dX0_free_6 (by decide) (by omega) (fun h6 => ?_) (fun h6 => absurd h6 (by omega))
  refine z_iconst M.1 (nI 0) dX0_free_10 (by decide) ?_
  refine z_istore_n M.1 M.2.2.2.2.1 [(0, .ref (xa g 11)), (1, .int (nI (j))), (2, .int (nI (0)))] [1, 2, 0] dX0_free_11 (by decide) rfl ?_
  refine z_I (congrArg (xI g (eS E)) (wf_id σ 1).symm) ?_
  exact l_free M hx (w + 1) 0 (σ 1) (by omega) (fun i hi => absurd hi (Nat.not_lt_zero i)) (fun _ _ => rfl)
theorem k_free0 {E : EV} {cc : ByteArray} {lv : List (Nat × Value)} {pc : Nat} {rest : List Value} {g : XA} {σ : XS} {nL d : Nat} {ret : Option FieldType} {Qc : Array Value → State → Outcome → State → Prop} {j : Nat} (M : xM E cc nL ret d g Qc) (hd : 0 < d) (dg : decode cc pc = .ok (.invokevirtual 54, 3)) (hW : (rest.map fun v => v.category).sum ≤ 8) (hj : j < 8) (h3 : σ 3 j = nI 0) (kk : Az E (xI g (eS E) σ) lv (pc + 3) rest) : Az E (xI g (eS E) σ) lv pc (.int (nI j) :: .ref (xa g 11) :: rest) :=
  x_callv M (fun l => c_free0 l g σ j hj h3) (lw_V q97 q99 qs5 q19 q100) (show yX0_free.cls = RX0 ∧ yX0_free.cls ≠ "java/lang/invoke/MethodHandle" ∧ yX0_free.cls ≠ "java/lang/invoke/VarHandle" ∧ (parseMethodDescriptor yX0_free.desc).map (fun d => d.parameters.length) = some 1 from by decide +kernel) hd (by decide) rfl hW dg (fun u q => by
    obtain rfl := q
    exact kk)
theorem k_free {E : EV} {cc : ByteArray} {lv : List (Nat × Value)} {pc : Nat} {rest : List Value} {g : XA} {σ : XS} {nL d : Nat} {ret : Option FieldType} {Qc : Array Value → State → Outcome → State → Prop} {j w : Nat} {p : Nat → Nat} (M : xM E cc nL ret d g Qc) (hd : 0 < d) (dg : decode cc pc = .ok (.invokevirtual 54, 3)) (hW : (rest.map fun v => v.category).sum ≤ 8) (hx : Ext σ j w p) (hw : 0 < w) (kk : ∀ f, (∀ c, c ≤ w → f (p c) = 0) → (∀ q, (∀ c, c ≤ w → q ≠ p c) → f q = σ 1 q) → Az E (xI g (eS E) (wr (wf σ 1 f) 3 j (nI 0))) lv (pc + 3) rest) : Az E (xI g (eS E) σ) lv pc (.int (nI j) :: .ref (xa g 11) :: rest) :=
  x_callv M (fun l => c_free l g σ j w p hx hw) (lw_V q97 q99 qs5 q19 q100) (show yX0_free.cls = RX0 ∧ yX0_free.cls ≠ "java/lang/invoke/MethodHandle" ∧ yX0_free.cls ≠ "java/lang/invoke/VarHandle" ∧ (parseMethodDescriptor yX0_free.desc).map (fun d => d.parameters.length) = some 1 from by decide +kernel) hd (by decide) rfl hW dg (fun u q => by
    obtain ⟨f, rfl, h1, h2⟩ := q
    exact kk f h1 h2)
theorem c_mendN (l : Launch) (g : XA) (σ : XS) (j : Nat) (c : Int32) (hc : c < 0) : Met l yX0_mendData (ws_ yX0_mendData cX0_mendData 3 none) (rmk 0) (va_Pc [.ref (xa g 11), .int (nI j), .int c] (xW g σ)) (va_Qv (fun (σ' : XS) => σ' = σ) (xW g) (xA g)) 0 0 (xA g) := by
  refine x_enter 0 [(0, .ref (xa g 11)), (1, .int (nI j)), (2, .int c)] (by decide) rfl (Nat.le_of_ble_eq_true rfl) rfl (fun E M => ?_)
  refine z_iload_n M.1 2 dX0_mendData_0 rfl ?_
  refine z_if_lt M.1 35 dX0_mendData_1 (by decide) (fun h1 => ?_) (fun h1 => absurd h1 (not_not_intro hc))
  exact x_retv M dX0_mendData_35 rfl
theorem c_mendT (l : Launch) (g : XA) (σ : XS) (j w t : Nat) (p : Nat → Nat) (hx : Ext σ j w p) (ht : t ≤ w) (ht4 : t < 4) : Met l yX0_mendData (ws_ yX0_mendData cX0_mendData 3 none) (rmk 0) (va_Pc [.ref (xa g 11), .int (nI j), .int (nI t)] (xW g σ)) (va_Qv (fun (σ' : XS) => σ' = wr (wr σ 0 (p t) (σ 8 t)) 9 0 (σ 9 0 + nI 1)) (xW g) (xA g)) 0 0 (xA g) := by
  refine x_enter 0 [(0, .ref (xa g 11)), (1, .int (nI j)), (2, .int (nI t))] (by decide) rfl (Nat.le_of_ble_eq_true rfl) rfl (fun E M => ?_)
  obtain ⟨hj, hw, h3, h5⟩ := hx
  refine z_iload_n M.1 2 dX0_mendData_0 rfl ?_
  refine z_if_ltN M.1 35 dX0_mendData_1 (by decide) (by omega) ?_
  refine z_aload_n M.1 0 dX0_mendData_4 rfl ?_
  refine x_get0 M.1 dX0_mendData_5 ?_
  refine z_aload_n M.1 0 dX0_mendData_8 rfl ?_
  refine x_get5 M.1 dX0_mendData_9 ?_
  refine z_iload_n M.1 1 dX0_mendData_12 rfl ?_
  refine z_iconst M.1 (nI 5) dX0_mendData_13 (by decide) ?_
  refine z_imulN M.1 dX0_mendData_14 ?_
  refine z_iload_n M.1 2 dX0_mendData_15 rfl ?_
  refine z_iaddN M.1 dX0_mendData_16 ?_
  refine x_ld5 M.1 dX0_mendData_17 (by omega) ?_
  refine z_top (nI (p t)) ((h5 t ht).1) ?_
  refine z_aload_n M.1 0 dX0_mendData_18 rfl ?_
  refine x_get8 M.1 dX0_mendData_19 ?_
  refine z_iload_n M.1 2 dX0_mendData_22 rfl ?_
  refine x_ld8 M.1 dX0_mendData_23 (by omega) ?_
  refine x_st0 M.1 dX0_mendData_24 ((h5 t ht).2) ?_
  refine z_aload_n M.1 0 dX0_mendData_25 rfl ?_
  refine z_dup M.1 dX0_mendData_26 rfl ?_
  refine x_get9 M.1 dX0_mendData_27 ?_
  refine z_iconst M.1 (nI 1) dX0_mendData_30 (by decide) ?_
  refine z_iadd M.1 dX0_mendData_31 ?_
  refine x_put9 M.1 dX0_mendData_32 ?_
  exact x_retv M dX0_mendData_35 rfl
theorem k_mendN {E : EV} {cc : ByteArray} {lv : List (Nat × Value)} {pc : Nat} {rest : List Value} {g : XA} {σ : XS} {nL d : Nat} {ret : Option FieldType} {Qc : Array Value → State → Outcome → State → Prop} {j : Nat} {c : Int32} (M : xM E cc nL ret d g Qc) (hd : 0 < d) (dg : decode cc pc = .ok (.invokevirtual 84, 3)) (hW : (rest.map fun v => v.category).sum ≤ 8) (hc : c < 0) (kk : Az E (xI g (eS E) σ) lv (pc + 3) rest) : Az E (xI g (eS E) σ) lv pc (.int c :: .int (nI j) :: .ref (xa g 11) :: rest) :=
  x_callv M (fun l => c_mendN l g σ j c hc) (lw_V q134 q136 qs11 q19 q137) (show yX0_mendData.cls = RX0 ∧ yX0_mendData.cls ≠ "java/lang/invoke/MethodHandle" ∧ yX0_mendData.cls ≠ "java/lang/invoke/VarHandle" ∧ (parseMethodDescriptor yX0_mendData.desc).map (fun d => d.parameters.length) = some 2 from by decide +kernel) hd (by decide) rfl hW dg (fun u q => by
    obtain rfl := q
    exact kk)
theorem k_mendT {E : EV} {cc : ByteArray} {lv : List (Nat × Value)} {pc : Nat} {rest : List Value} {g : XA} {σ : XS} {nL d : Nat} {ret : Option FieldType} {Qc : Array Value → State → Outcome → State → Prop} {j w t : Nat} {p : Nat → Nat} (M : xM E cc nL ret d g Qc) (hd : 0 < d) (dg : decode cc pc = .ok (.invokevirtual 84, 3)) (hW : (rest.map fun v => v.category).sum ≤ 8) (hx : Ext σ j w p) (ht : t ≤ w) (ht4 : t < 4) (kk : Az E (xI g (eS E) (wr (wr σ 0 (p t) (σ 8 t)) 9 0 (σ 9 0 + nI 1))) lv (pc + 3) rest) : Az E (xI g (eS E) σ) lv pc (.int (nI t) :: .int (nI j) :: .ref (xa g 11) :: rest) :=
  x_callv M (fun l => c_mendT l g σ j w t p hx ht ht4) (lw_V q134 q136 qs11 q19 q137) (show yX0_mendData.cls = RX0 ∧ yX0_mendData.cls ≠ "java/lang/invoke/MethodHandle" ∧ yX0_mendData.cls ≠ "java/lang/invoke/VarHandle" ∧ (parseMethodDescriptor yX0_mendData.desc).map (fun d => d.parameters.length) = some 2 from by decide +kernel) hd (by decide) rfl hW dg (fun u q => by
    obtain rfl := q
    exact kk)
end
section
/-! SelfHealStripes: recover, faulty -/
set_option maxRecDepth 100000
theorem l_recover {E : EV} {g : XA} {σ : XS} {j w c0 : Nat} {p : Nat → Nat} {v : Nat → Int32} {m h : Int32} (M : xM E cX0_recover 7 (some .int) 2 g (va_Qi (fun (r : Int32) (σ' : XS) => ∃ f, σ' = wf σ 8 f ∧ (∀ i, i < w → f i = v i) ∧ ((m = 0 ∨ c0 = w) ∧ r = -1 ∨ m ≠ 0 ∧ c0 < w ∧ r = nI c0)) (xW g) (xA g))) (hx : St σ j w p v m c0) (hm : m ≠ 0) (hcw : c0 < w) : ∀ n c f, c + n = c0 → (∀ i, i < w → f i = v i ^^^ sg m c0 i) → Az E (xI g (eS E) (wf σ 8 f)) [(0, .ref (xa g 11)), (1, .int (nI j)), (2, .int (nI w)), (3, .int h), (4, .int (nI c))] 33 [] := by
  obtain ⟨hj, hw, h3, h5⟩ := hx.1
  obtain ⟨-, hw0, hc0, h4, hcl⟩ := id hx
  intro n
  induction n with
  | zero =>
    intro c f hi hf
    refine z_iload M.1 4 dX0_recover_33 rfl ?_
    refine z_iload_n M.1 2 dX0_recover_35 rfl ?_
    refine z_icmp_geN M.1 98 dX0_recover_36 (by decide) (by omega) (by omega) (fun h36 => absurd h36 (by omega)) (fun h36 => ?_)
    refine z_aload_n M.1 0 dX0_recover_39 rfl ?_
    refine x_get8 M.1 dX0_recover_40 ?_
    refine z_iload M.1 4 dX0_recover_43 rfl ?_
    refine x_ld8 M.1 dX0_recover_45 (by omega) ?_
    refine z_istore M.1 M.2.2.2.2.1 [(0, .ref (xa g 11)), (1, .int (nI (j))), (2, .int (nI (w))), (3, .int (h)), (4, .int (nI (c))), (5, .int ((wf σ 8 f) 8 (c)))] [1, 2, 3, 4, 5, 0] dX0_recover_46 (by decide) rfl ?_
    refine z_aload_n M.1 0 dX0_recover_48 rfl ?_
    refine x_get8 M.1 dX0_recover_49 ?_
    refine z_iload M.1 4 dX0_recover_52 rfl ?_
    refine z_aload_n M.1 0 dX0_recover_54 rfl ?_
    refine z_iload_n M.1 1 dX0_recover_55 rfl ?_
    refine z_iload M.1 4 dX0_recover_56 rfl ?_
    refine k_rebuilt M (by decide) dX0_recover_58 (Nat.le_of_ble_eq_true rfl) (hx.1) (by omega) ?_
    refine z_top (tv v w c ^^^ (if c = c0 then 0 else m)) (xs_ok hcl hc0 (by omega)) ?_
    refine x_st8 M.1 dX0_recover_61 (by omega) ?_
    refine z_I (congrArg (xI g (eS E)) (wr_wf σ 8 f c _)) ?_
    refine z_aload_n M.1 0 dX0_recover_62 rfl ?_
    refine z_iload_n M.1 2 dX0_recover_63 rfl ?_
    refine k_checkOf M (by decide) dX0_recover_64 (Nat.le_of_ble_eq_true rfl) (by omega) ?_
    refine z_istore M.1 M.2.2.2.2.1 [(0, .ref (xa g 11)), (1, .int (nI (j))), (2, .int (nI (w))), (3, .int (h)), (4, .int (nI (c))), (5, .int ((wf σ 8 f) 8 (c))), (6, .int (chk ((wf σ 8 (upd f c (tv v w c ^^^ (if c = c0 then 0 else m)))) 8) (w)))] [1, 2, 3, 4, 5, 6, 0] dX0_recover_67 (by decide) rfl ?_
    refine z_iload M.1 6 dX0_recover_69 rfl ?_
    refine z_aload_n M.1 0 dX0_recover_71 rfl ?_
    refine x_get4 M.1 dX0_recover_72 ?_
    refine z_iload_n M.1 1 dX0_recover_75 rfl ?_
    refine x_ld4 M.1 dX0_recover_76 (by omega) ?_
    refine z_top (chk v w) (h4) ?_
    refine z_icmp_ne M.1 83 dX0_recover_77 (by decide) (fun h77 => absurd h77 (not_not_intro (chk_congr w (fun i hi => by
          by_cases e : i = c
          · rw [e]
            exact (upd_s f c _).trans (by rw [if_pos (by omega), tv_lt (by omega), xr_0])
          · refine (upd_n e).trans ?_
            rw [hf i hi, sg_n (by omega), xr_0])))) (fun h77 => ?_)
    refine z_iload M.1 4 dX0_recover_80 rfl ?_
    refine x_reti M dX0_recover_82 ⟨_, rfl, fun i hi => ?_, Or.inr ⟨hm, hcw, by rw [show c = c0 by omega]⟩⟩
    by_cases e : i = c
    · rw [e, upd_s, if_pos (by omega), tv_lt (by omega), xr_0]
    · rw [upd_n e, hf i hi, sg_n (by omega), xr_0]
  | succ n ih =>
    intro c f hi hf
    refine z_iload M.1 4 dX0_recover_33 rfl ?_
    refine z_iload_n M.1 2 dX0_recover_35 rfl ?_
    refine z_icmp_geN M.1 98 dX0_recover_36 (by decide) (by omega) (by omega) (fun h36 => absurd h36 (by omega)) (fun h36 => ?_)
    refine z_aload_n M.1 0 dX0_recover_39 rfl ?_
    refine x_get8 M.1 dX0_recover_40 ?_
    refine z_iload M.1 4 dX0_recover_43 rfl ?_
    refine x_ld8 M.1 dX0_recover_45 (by omega) ?_
    refine z_istore M.1 M.2.2.2.2.1 [(0, .ref (xa g 11)), (1, .int (nI (j))), (2, .int (nI (w))), (3, .int (h)), (4, .int (nI (c))), (5, .int ((wf σ 8 f) 8 (c)))] [1, 2, 3, 4, 5, 0] dX0_recover_46 (by decide) rfl ?_
    refine z_aload_n M.1 0 dX0_recover_48 rfl ?_
    refine x_get8 M.1 dX0_recover_49 ?_
    refine z_iload M.1 4 dX0_recover_52 rfl ?_
    refine z_aload_n M.1 0 dX0_recover_54 rfl ?_
    refine z_iload_n M.1 1 dX0_recover_55 rfl ?_
    refine z_iload M.1 4 dX0_recover_56 rfl ?_
    refine k_rebuilt M (by decide) dX0_recover_58 (Nat.le_of_ble_eq_true rfl) (hx.1) (by omega) ?_
    refine z_top (tv v w c ^^^ (if c = c0 then 0 else m)) (xs_ok hcl hc0 (by omega)) ?_
    refine x_st8 M.1 dX0_recover_61 (by omega) ?_
    refine z_I (congrArg (xI g (eS E)) (wr_wf σ 8 f c _)) ?_
    refine z_aload_n M.1 0 dX0_recover_62 rfl ?_
    refine z_iload_n M.1 2 dX0_recover_63 rfl ?_
    refine k_checkOf M (by decide) dX0_recover_64 (Nat.le_of_ble_eq_true rfl) (by omega) ?_
    refine z_istore M.1 M.2.2.2.2.1 [(0, .ref (xa g 11)), (1, .int (nI (j))), (2, .int (nI (w))), (3, .int (h)), (4, .int (nI (c))), (5, .int ((wf σ 8 f) 8 (c))), (6, .int (chk ((wf σ 8 (upd f c (tv v w c ^^^ (if c = c0 then 0 else m)))) 8) (w)))] [1, 2, 3, 4, 5, 6, 0] dX0_recover_67 (by decide) rfl ?_
    refine z_iload M.1 6 dX0_recover_69 rfl ?_
    refine z_aload_n M.1 0 dX0_recover_71 rfl ?_
    refine x_get4 M.1 dX0_recover_72 ?_
    refine z_iload_n M.1 1 dX0_recover_75 rfl ?_
    refine x_ld4 M.1 dX0_recover_76 (by omega) ?_
    refine z_top (chk v w) (h4) ?_
    refine z_icmp_ne M.1 83 dX0_recover_77 (by decide) (fun h77 => ?_) (fun h77 => absurd h77 (fun q => hm (chk_two (f := upd f c (tv v w c ^^^ (if c = c0 then 0 else m))) (v := v) (c := c) (b := c0) (w := w) (fun i hi => by
          by_cases e : i = c
          · rw [e, upd_s, if_neg (by omega), tv_lt (by omega), sg_s, sg_n (by omega), xr_0]
          · rw [upd_n e, hf i hi, sg_n e, xr_z]) (by omega) hcw hw (by omega) q)))
    refine z_aload_n M.1 0 dX0_recover_83 rfl ?_
    refine x_get8 M.1 dX0_recover_84 ?_
    refine z_iload M.1 4 dX0_recover_87 rfl ?_
    refine z_iload M.1 5 dX0_recover_89 rfl ?_
    refine x_st8 M.1 dX0_recover_91 (by omega) ?_
    refine z_I (congrArg (xI g (eS E)) (wr_wf σ 8 (upd f c (tv v w c ^^^ (if c = c0 then 0 else m))) c _)) ?_
    refine z_iincN M.1 M.2.2.2.2.1 [(0, .ref (xa g 11)), (1, .int (nI (j))), (2, .int (nI (w))), (3, .int (h)), (4, .int (nI (c + 1))), (5, .int ((wf σ 8 f) 8 (c))), (6, .int (chk ((wf σ 8 (upd f c (tv v w c ^^^ (if c = c0 then 0 else m)))) 8) (w)))] 4 [1, 2, 3, 4, 0, 5, 6] dX0_recover_92 rfl (by decide) rfl ?_
    refine z_goto M.1 33 dX0_recover_95 (by decide) ?_
    refine z_sub [0, 1, 2, 3, 4] rfl ?_
    refine ih (c + 1) _ (by omega) (fun i hi => ?_)
    by_cases e : i = c
    · rw [e, upd_s]
      exact hf c (by omega)
    · rw [upd_n e, upd_n e]
      exact hf i hi
theorem c_recover (l : Launch) (g : XA) (σ : XS) (j w c0 : Nat) (p : Nat → Nat) (v : Nat → Int32) (m : Int32) (hx : St σ j w p v m c0) : Met l yX0_recover (ws_ yX0_recover cX0_recover 7 (some .int)) (rmk 2) (va_Pc [.ref (xa g 11), .int (nI j)] (xW g σ)) (va_Qi (fun (r : Int32) (σ' : XS) => ∃ f, σ' = wf σ 8 f ∧ (∀ i, i < w → f i = v i) ∧ ((m = 0 ∨ c0 = w) ∧ r = -1 ∨ m ≠ 0 ∧ c0 < w ∧ r = nI c0)) (xW g) (xA g)) 0 0 (xA g) := by
  refine x_enter 2 [(0, .ref (xa g 11)), (1, .int (nI j))] (by decide) rfl (Nat.le_of_ble_eq_true rfl) rfl (fun E M => ?_)
  obtain ⟨hj, hw, h3, h5⟩ := hx.1
  obtain ⟨-, hw0, hc0, h4, hcl⟩ := id hx
  refine z_aload_n M.1 0 dX0_recover_0 rfl ?_
  refine x_get3 M.1 dX0_recover_1 ?_
  refine z_iload_n M.1 1 dX0_recover_4 rfl ?_
  refine x_ld3 M.1 dX0_recover_5 (by omega) ?_
  refine z_top (nI (w)) (h3) ?_
  refine z_istore_n M.1 M.2.2.2.2.1 [(0, .ref (xa g 11)), (1, .int (nI (j))), (2, .int (nI (w)))] [1, 2, 0] dX0_recover_6 (by decide) rfl ?_
  refine z_aload_n M.1 0 dX0_recover_7 rfl ?_
  refine z_iload_n M.1 1 dX0_recover_8 rfl ?_
  refine k_loadWords M (by decide) dX0_recover_9 (Nat.le_of_ble_eq_true rfl) (hx.1) (fun f hf => ?_)
  have hF : ∀ i, i < w → f i = v i ^^^ sg m c0 i := fun i hi => by rw [hf i hi, hcl i (by omega), tv_lt hi]
  have hV : m = 0 ∨ c0 = w → ∀ i, i < w → f i = v i := fun q i hi => by
    rcases q with q | q
    · rw [hF i hi, q, sg_0, xr_0]
    · rw [hF i hi, sg_n (by omega), xr_0]
  refine z_aload_n M.1 0 dX0_recover_12 rfl ?_
  refine z_iload_n M.1 2 dX0_recover_13 rfl ?_
  refine k_checkOf M (by decide) dX0_recover_14 (Nat.le_of_ble_eq_true rfl) (by omega) ?_
  refine z_istore_n M.1 M.2.2.2.2.1 [(0, .ref (xa g 11)), (1, .int (nI (j))), (2, .int (nI (w))), (3, .int (chk ((wf σ 8 f) 8) (w)))] [1, 2, 3, 0] dX0_recover_17 (by decide) rfl ?_
  refine z_iload_n M.1 3 dX0_recover_18 rfl ?_
  refine z_aload_n M.1 0 dX0_recover_19 rfl ?_
  refine x_get4 M.1 dX0_recover_20 ?_
  refine z_iload_n M.1 1 dX0_recover_23 rfl ?_
  refine x_ld4 M.1 dX0_recover_24 (by omega) ?_
  refine z_top (chk v w) (h4) ?_
  refine z_icmp_ne M.1 30 dX0_recover_25 (by decide) (fun h25 => ?_) (fun h25 => ?_)
  · refine z_iconst M.1 (nI 0) dX0_recover_30 (by decide) ?_
    refine z_istore M.1 M.2.2.2.2.1 [(0, .ref (xa g 11)), (1, .int (nI (j))), (2, .int (nI (w))), (3, .int (chk ((wf σ 8 f) 8) (w))), (4, .int (nI (0)))] [1, 2, 3, 4, 0] dX0_recover_31 (by decide) rfl ?_
    have q : ¬ (m = 0 ∨ c0 = w) := fun q => h25 (chk_congr w (hV q))
    exact l_recover M hx (fun e => q (Or.inl e)) (Nat.lt_of_le_of_ne hc0 (fun e => q (Or.inr e))) c0 0 f (by omega) hF
  · refine z_iconst M.1 (-1) dX0_recover_28 (by decide) ?_
    have q : m = 0 ∨ c0 = w := by
      by_cases e : c0 = w
      · exact Or.inr e
      · exact Or.inl ((chk_one hF (by omega)).mp h25)
    exact x_reti M dX0_recover_29 ⟨f, rfl, hV q, Or.inl ⟨q, rfl⟩⟩
theorem k_recover {E : EV} {cc : ByteArray} {lv : List (Nat × Value)} {pc : Nat} {rest : List Value} {g : XA} {σ : XS} {nL d : Nat} {ret : Option FieldType} {Qc : Array Value → State → Outcome → State → Prop} {j w c0 : Nat} {p : Nat → Nat} {v : Nat → Int32} {m : Int32} (M : xM E cc nL ret d g Qc) (hd : 2 < d) (dg : decode cc pc = .ok (.invokevirtual 67, 3)) (hW : (rest.map fun v => v.category).sum ≤ 8) (hx : St σ j w p v m c0) (k1 : ∀ f, (∀ i, i < w → f i = v i) → (m = 0 ∨ c0 = w) → Az E (xI g (eS E) (wf σ 8 f)) lv (pc + 3) (.int (-1) :: rest)) (k2 : ∀ f, (∀ i, i < w → f i = v i) → m ≠ 0 → c0 < w → Az E (xI g (eS E) (wf σ 8 f)) lv (pc + 3) (.int (nI c0) :: rest)) : Az E (xI g (eS E) σ) lv pc (.int (nI j) :: .ref (xa g 11) :: rest) :=
  x_calli M (fun l => c_recover l g σ j w c0 p v m hx) (lw_V q122 q124 qs8 q19 q125) (show yX0_recover.cls = RX0 ∧ yX0_recover.cls ≠ "java/lang/invoke/MethodHandle" ∧ yX0_recover.cls ≠ "java/lang/invoke/VarHandle" ∧ (parseMethodDescriptor yX0_recover.desc).map (fun d => d.parameters.length) = some 1 from by decide +kernel) hd (by decide) rfl hW dg (fun r u q => by
    obtain ⟨f, rfl, hf, ⟨hm, rfl⟩ | ⟨hm, hc, rfl⟩⟩ := q
    · exact k1 f hf hm
    · exact k2 f hf hm hc)
theorem c_faulty (l : Launch) (g : XA) (σ : XS) (j w c0 : Nat) (p : Nat → Nat) (v : Nat → Int32) (m : Int32) (hx : St σ j w p v m c0) : Met l yX0_faulty (ws_ yX0_faulty cX0_faulty 4 (some .int)) (rmk 3) (va_Pc [.ref (xa g 11), .int (nI j)] (xW g σ)) (va_Qi (fun (r : Int32) (σ' : XS) => ∃ f, σ' = wf σ 8 f ∧ (∀ i, i < w → f i = v i) ∧ (m = 0 ∧ r = -5 ∨ m ≠ 0 ∧ r = nI c0)) (xW g) (xA g)) 0 0 (xA g) := by
  refine x_enter 3 [(0, .ref (xa g 11)), (1, .int (nI j))] (by decide) rfl (Nat.le_of_ble_eq_true rfl) rfl (fun E M => ?_)
  obtain ⟨hj, hw, h3, h5⟩ := hx.1
  obtain ⟨-, hw0, hc0, h4, hcl⟩ := id hx
  refine z_aload_n M.1 0 dX0_faulty_0 rfl ?_
  refine z_iload_n M.1 1 dX0_faulty_1 rfl ?_
  refine k_recover M (by decide) dX0_faulty_2 (Nat.le_of_ble_eq_true rfl) (hx) (fun f hf hm => ?_) (fun f hf hm hc => ?_)
  · refine z_istore_n M.1 M.2.2.2.2.1 [(0, .ref (xa g 11)), (1, .int (nI (j))), (2, .int ((-1)))] [1, 2, 0] dX0_faulty_5 (by decide) rfl ?_
    refine z_iload_n M.1 2 dX0_faulty_6 rfl ?_
    refine z_if_lt M.1 12 dX0_faulty_7 (by decide) (fun h7 => ?_) (fun h7 => absurd h7 (not_not_intro (by decide)))
    refine z_aload_n M.1 0 dX0_faulty_12 rfl ?_
    refine z_iload_n M.1 1 dX0_faulty_13 rfl ?_
    refine z_aload_n M.1 0 dX0_faulty_14 rfl ?_
    refine x_get3 M.1 dX0_faulty_15 ?_
    refine z_iload_n M.1 1 dX0_faulty_18 rfl ?_
    refine x_ld3 M.1 dX0_faulty_19 (by omega) ?_
    refine z_top (nI (w)) (h3) ?_
    refine k_rebuilt M (by decide) dX0_faulty_20 (Nat.le_of_ble_eq_true rfl) (hx.1) (by omega) ?_
    refine z_top (tv v w w) (by
      refine (xs_ok hcl hc0 (Nat.le_refl w)).trans ?_
      rcases hm with hm | hm
      · rw [hm, ite_self, xr_0]
      · rw [if_pos hm.symm, xr_0]) ?_
    refine z_istore_n M.1 M.2.2.2.2.1 [(0, .ref (xa g 11)), (1, .int (nI (j))), (2, .int ((-1))), (3, .int (tv v w w))] [1, 2, 3, 0] dX0_faulty_23 (by decide) rfl ?_
    refine z_iload_n M.1 3 dX0_faulty_24 rfl ?_
    refine z_aload_n M.1 0 dX0_faulty_25 rfl ?_
    refine x_get0 M.1 dX0_faulty_26 ?_
    refine z_aload_n M.1 0 dX0_faulty_29 rfl ?_
    refine x_get5 M.1 dX0_faulty_30 ?_
    refine z_iload_n M.1 1 dX0_faulty_33 rfl ?_
    refine z_iconst M.1 (nI 5) dX0_faulty_34 (by decide) ?_
    refine z_imulN M.1 dX0_faulty_35 ?_
    refine z_aload_n M.1 0 dX0_faulty_36 rfl ?_
    refine x_get3 M.1 dX0_faulty_37 ?_
    refine z_iload_n M.1 1 dX0_faulty_40 rfl ?_
    refine x_ld3 M.1 dX0_faulty_41 (by omega) ?_
    refine z_top (nI (w)) (h3) ?_
    refine z_iaddN M.1 dX0_faulty_42 ?_
    refine x_ld5 M.1 dX0_faulty_43 (by omega) ?_
    refine z_top (nI (p w)) ((h5 w (Nat.le_refl w)).1) ?_
    refine x_ld0 M.1 dX0_faulty_44 ((h5 w (Nat.le_refl w)).2) ?_
    refine z_top (tv v w w ^^^ sg m c0 w) (hcl w (Nat.le_refl w)) ?_
    refine z_icmp_ne M.1 53 dX0_faulty_45 (by decide) (fun h45 => ?_) (fun h45 => ?_)
    · refine z_aload_n M.1 0 dX0_faulty_53 rfl ?_
      refine x_get3 M.1 dX0_faulty_54 ?_
      refine z_iload_n M.1 1 dX0_faulty_57 rfl ?_
      refine x_ld3 M.1 dX0_faulty_58 (by omega) ?_
      refine z_top (nI (w)) (h3) ?_
      have hm0 : m ≠ 0 := fun e => h45 (by rw [e, sg_0, xr_0])
      refine x_reti M dX0_faulty_59 ⟨f, rfl, hf, Or.inr ⟨hm0, ?_⟩⟩
      rcases hm with hm | hm
      · exact absurd hm hm0
      · rw [hm]
    · refine z_bipush M.1 (-5) dX0_faulty_48 (by decide) ?_
      refine z_goto M.1 59 dX0_faulty_50 (by decide) ?_
      refine x_reti M dX0_faulty_59 ⟨f, rfl, hf, Or.inl ⟨?_, rfl⟩⟩
      rcases hm with hm | hm
      · exact hm
      · have e := xr_i (a := tv v w w) (b := 0) (c := sg m c0 w) ((xr_0 _).trans h45)
        rw [hm, sg_s] at e
        exact e.symm
  · refine z_istore_n M.1 M.2.2.2.2.1 [(0, .ref (xa g 11)), (1, .int (nI (j))), (2, .int (nI (c0)))] [1, 2, 0] dX0_faulty_5 (by decide) rfl ?_
    refine z_iload_n M.1 2 dX0_faulty_6 rfl ?_
    refine z_if_ltN M.1 12 dX0_faulty_7 (by decide) (by omega) ?_
    refine z_iload_n M.1 2 dX0_faulty_10 rfl ?_
    exact x_reti M dX0_faulty_11 ⟨f, rfl, hf, Or.inr ⟨hm, rfl⟩⟩
theorem k_faulty {E : EV} {cc : ByteArray} {lv : List (Nat × Value)} {pc : Nat} {rest : List Value} {g : XA} {σ : XS} {nL d : Nat} {ret : Option FieldType} {Qc : Array Value → State → Outcome → State → Prop} {j w c0 : Nat} {p : Nat → Nat} {v : Nat → Int32} {m : Int32} (M : xM E cc nL ret d g Qc) (hd : 3 < d) (dg : decode cc pc = .ok (.invokevirtual 87, 3)) (hW : (rest.map fun v => v.category).sum ≤ 8) (hx : St σ j w p v m c0) (k1 : ∀ f, (∀ i, i < w → f i = v i) → m = 0 → Az E (xI g (eS E) (wf σ 8 f)) lv (pc + 3) (.int (-5) :: rest)) (k2 : ∀ f, (∀ i, i < w → f i = v i) → m ≠ 0 → Az E (xI g (eS E) (wf σ 8 f)) lv (pc + 3) (.int (nI c0) :: rest)) : Az E (xI g (eS E) σ) lv pc (.int (nI j) :: .ref (xa g 11) :: rest) :=
  x_calli M (fun l => c_faulty l g σ j w c0 p v m hx) (lw_V q142 q144 qs12 q19 q145) (show yX0_faulty.cls = RX0 ∧ yX0_faulty.cls ≠ "java/lang/invoke/MethodHandle" ∧ yX0_faulty.cls ≠ "java/lang/invoke/VarHandle" ∧ (parseMethodDescriptor yX0_faulty.desc).map (fun d => d.parameters.length) = some 1 from by decide +kernel) hd (by decide) rfl hW dg (fun r u q => by
    obtain ⟨f, rfl, hf, ⟨hm, rfl⟩ | ⟨hm, rfl⟩⟩ := q
    · exact k1 f hf hm
    · exact k2 f hf hm)
end
section
/-! SelfHealStripes: choose, place -/
set_option maxRecDepth 100000
theorem z_if_geN {E : EV} {cc : ByteArray} {own : String} {I : Heap → List Loc → Prop} {lv : List (Nat × Value)} {pc : Nat} {st : List Value} (S : Fx E cc own) {a : Nat} {off : Int} (tgt : Nat) (dg : decode cc pc = .ok (.ifCond .ge off, 3)) (ht : (pc : Int) + off = (tgt : Int)) (ha : a < 2 ^ 31) (kt : Az E I lv tgt st) : Az E I lv pc (.int (nI a) :: st) := z_if_ge S tgt dg ht (fun _ => kt) (fun h => absurd (nI_pos' ha) h)
def ub (u d : Nat) : Nat := u / 2 ^ d % 2
def pcn (u : Nat) : Nat := u % 2 + u / 2 % 2 + u / 4 % 2 + u / 8 % 2 + u / 16 % 2
theorem ub_i : ∀ u, u < 32 → ∀ d, d < 5 → (((nI u >>> (nI d &&& 31)) &&& nI 1 = 0) ↔ ub u d = 0) := by decide +kernel
theorem ub_or : ∀ u, u < 32 → ∀ d, d < 5 → nI u ||| (nI 1 <<< (nI d &&& 31)) = nI (u ||| 2 ^ d) ∧ u ||| 2 ^ d < 32 ∧ ub (u ||| 2 ^ d) d = 1 := by decide +kernel
theorem ub_pc : ∀ u, u < 32 → ∀ d, d < 5 → ub u d = 0 → pcn (u ||| 2 ^ d) = pcn u + 1 := by decide +kernel
theorem ub_k : ∀ u, u < 32 → ∀ d, d < 5 → ∀ b, b < 5 → ub u b = 1 → ub (u ||| 2 ^ d) b = 1 := by decide +kernel
theorem ub_ex : ∀ u, u < 32 → pcn u < 5 → ∃ d, d < 5 ∧ ub u d = 0 := by
  have h : ∀ u, u < 32 → pcn u < 5 → ub u 0 = 0 ∨ ub u 1 = 0 ∨ ub u 2 = 0 ∨ ub u 3 = 0 ∨ ub u 4 = 0 := by decide +kernel
  intro u hu hp
  rcases h u hu hp with q | q | q | q | q
  · exact ⟨0, by decide, q⟩
  · exact ⟨1, by decide, q⟩
  · exact ⟨2, by decide, q⟩
  · exact ⟨3, by decide, q⟩
  · exact ⟨4, by decide, q⟩
theorem l_chooseI {E : EV} {g : XA} {σ : XS} {k u c t : Nat} {h : Nat → Int32} {Qc : Array Value → State → Outcome → State → Prop} (M : xM E cX0_choose 9 none 1 g Qc) (hu : u < 32) (hp : pcn u < 5) (ht5 : t < 5) (ht : σ 2 0 = nI t) (hfr : ∀ d, d < 5 → ∃ y, y < 12 ∧ σ 1 (d * 12 + y) = 0)
    (K : ∀ d, d < 5 → ub u d = 0 → ∀ mo, Az E (xI g (eS E) (wf σ 10 h)) [(0, .ref (xa g 11)), (1, .int (nI k)), (2, .int (nI u)), (3, .int (nI c)), (4, .int (nI d)), (5, .int (nI mo)), (6, .int (nI 5))] 73 []) : ∀ n i b mo, i + n = 5 → mo ≤ 12 → ((b = -1 ∧ mo = 0 ∧ ∀ i', i' < i → ub u ((t + i') % 5) ≠ 0) ∨ ∃ d, d < 5 ∧ b = nI d ∧ ub u d = 0) → Az E (xI g (eS E) (wf σ 10 h)) [(0, .ref (xa g 11)), (1, .int (nI k)), (2, .int (nI u)), (3, .int (nI c)), (4, .int b), (5, .int (nI mo)), (6, .int (nI i))] 18 [] := by
  intro n
  induction n with
  | zero =>
    intro i b mo hi hmo hb
    refine z_iload M.1 6 dX0_choose_18 rfl ?_
    refine z_iconst M.1 (nI 5) dX0_choose_20 (by decide) ?_
    refine z_icmp_geN M.1 73 dX0_choose_21 (by decide) (by omega) (by omega) (fun h21 => ?_) (fun h21 => absurd h21 (by omega))
    rw [show i = 5 by omega]
    rcases hb with ⟨h1, h2, h3⟩ | ⟨d, hd, rfl, h2⟩
    · obtain ⟨d, hd, h4⟩ := ub_ex u hu hp
      refine absurd h4 ?_
      have e := h3 ((d + 5 - t) % 5) (by omega)
      rw [show (t + (d + 5 - t) % 5) % 5 = d by omega] at e
      exact e
    · exact K d hd h2 mo
  | succ n ih =>
    intro i b mo hi hmo hb
    refine z_iload M.1 6 dX0_choose_18 rfl ?_
    refine z_iconst M.1 (nI 5) dX0_choose_20 (by decide) ?_
    refine z_icmp_geN M.1 73 dX0_choose_21 (by decide) (by omega) (by omega) (fun h21 => absurd h21 (by omega)) (fun h21 => ?_)
    refine z_aload_n M.1 0 dX0_choose_24 rfl ?_
    refine x_get2 M.1 dX0_choose_25 ?_
    refine z_top (nI (t)) (ht) ?_
    refine z_iload M.1 6 dX0_choose_28 rfl ?_
    refine z_iaddN M.1 dX0_choose_30 ?_
    refine z_iconst M.1 (nI 5) dX0_choose_31 (by decide) ?_
    refine z_irem M.1 dX0_choose_32 (by decide) ?_
    refine z_top (nI ((t + i) % 5)) (pk_rem (by omega) (by decide) (by decide)) ?_
    refine z_istore M.1 M.2.2.2.2.1 [(0, .ref (xa g 11)), (1, .int (nI (k))), (2, .int (nI (u))), (3, .int (nI (c))), (4, .int (b)), (5, .int (nI (mo))), (6, .int (nI (i))), (7, .int (nI ((t + i) % 5)))] [1, 2, 3, 4, 5, 6, 7, 0] dX0_choose_33 (by decide) rfl ?_
    refine z_aload_n M.1 0 dX0_choose_35 rfl ?_
    refine z_iload M.1 7 dX0_choose_36 rfl ?_
    refine k_freeRows M (by decide) dX0_choose_38 (Nat.le_of_ble_eq_true rfl) (by omega) (hfr _ (by omega)) (fun y hy0 hy => ?_)
    refine z_istore M.1 M.2.2.2.2.1 [(0, .ref (xa g 11)), (1, .int (nI (k))), (2, .int (nI (u))), (3, .int (nI (c))), (4, .int (b)), (5, .int (nI (mo))), (6, .int (nI (i))), (7, .int (nI ((t + i) % 5))), (8, .int (nI (y)))] [1, 2, 3, 4, 5, 6, 7, 8, 0] dX0_choose_41 (by decide) rfl ?_
    refine z_iload_n M.1 2 dX0_choose_43 rfl ?_
    refine z_iload M.1 7 dX0_choose_44 rfl ?_
    refine z_ishr M.1 dX0_choose_46 ?_
    refine z_iconst M.1 (nI 1) dX0_choose_47 (by decide) ?_
    refine z_iand M.1 dX0_choose_48 ?_
    refine z_if_ne M.1 67 dX0_choose_49 (by decide) (fun h49 => ?_) (fun h49 => ?_)
    · refine z_iincN M.1 M.2.2.2.2.1 [(0, .ref (xa g 11)), (1, .int (nI (k))), (2, .int (nI (u))), (3, .int (nI (c))), (4, .int (b)), (5, .int (nI (mo))), (6, .int (nI (i + 1))), (7, .int (nI ((t + i) % 5))), (8, .int (nI (y)))] 6 [1, 2, 3, 4, 5, 6, 0, 7, 8] dX0_choose_67 rfl (by decide) rfl ?_
      refine z_goto M.1 18 dX0_choose_70 (by decide) ?_
      refine z_sub [0, 1, 2, 3, 4, 5, 6] rfl ?_
      refine ih (i + 1) b mo (by omega) hmo ?_
      rcases hb with ⟨h1, h2, h3⟩ | h1
      · refine Or.inl ⟨h1, h2, fun i' hi' => ?_⟩
        by_cases e : i' = i
        · rw [e]
          exact fun q => h49 ((ub_i u hu _ (by omega)).mpr q)
        · exact h3 i' (by omega)
      · exact Or.inr h1
    · refine z_iload M.1 8 dX0_choose_52 rfl ?_
      refine z_iload M.1 5 dX0_choose_54 rfl ?_
      refine z_icmp_leN M.1 67 dX0_choose_56 (by decide) (by omega) (by omega) (fun h56 => ?_) (fun h56 => ?_)
      · refine z_iincN M.1 M.2.2.2.2.1 [(0, .ref (xa g 11)), (1, .int (nI (k))), (2, .int (nI (u))), (3, .int (nI (c))), (4, .int (b)), (5, .int (nI (mo))), (6, .int (nI (i + 1))), (7, .int (nI ((t + i) % 5))), (8, .int (nI (y)))] 6 [1, 2, 3, 4, 5, 6, 0, 7, 8] dX0_choose_67 rfl (by decide) rfl ?_
        refine z_goto M.1 18 dX0_choose_70 (by decide) ?_
        refine z_sub [0, 1, 2, 3, 4, 5, 6] rfl ?_
        refine ih (i + 1) b mo (by omega) hmo ?_
        rcases hb with ⟨h1, h2, h3⟩ | h1
        · omega
        · exact Or.inr h1
      · refine z_iload M.1 7 dX0_choose_59 rfl ?_
        refine z_istore M.1 M.2.2.2.2.1 [(0, .ref (xa g 11)), (1, .int (nI (k))), (2, .int (nI (u))), (3, .int (nI (c))), (4, .int (nI ((t + i) % 5))), (5, .int (nI (mo))), (6, .int (nI (i))), (7, .int (nI ((t + i) % 5))), (8, .int (nI (y)))] [1, 2, 3, 4, 0, 5, 6, 7, 8] dX0_choose_61 (by decide) rfl ?_
        refine z_iload M.1 8 dX0_choose_63 rfl ?_
        refine z_istore M.1 M.2.2.2.2.1 [(0, .ref (xa g 11)), (1, .int (nI (k))), (2, .int (nI (u))), (3, .int (nI (c))), (4, .int (nI ((t + i) % 5))), (5, .int (nI (y))), (6, .int (nI (i))), (7, .int (nI ((t + i) % 5))), (8, .int (nI (y)))] [1, 2, 3, 4, 5, 0, 6, 7, 8] dX0_choose_65 (by decide) rfl ?_
        refine z_iincN M.1 M.2.2.2.2.1 [(0, .ref (xa g 11)), (1, .int (nI (k))), (2, .int (nI (u))), (3, .int (nI (c))), (4, .int (nI ((t + i) % 5))), (5, .int (nI (y))), (6, .int (nI (i + 1))), (7, .int (nI ((t + i) % 5))), (8, .int (nI (y)))] 6 [1, 2, 3, 4, 5, 6, 0, 7, 8] dX0_choose_67 rfl (by decide) rfl ?_
        refine z_goto M.1 18 dX0_choose_70 (by decide) ?_
        refine z_sub [0, 1, 2, 3, 4, 5, 6] rfl ?_
        exact ih (i + 1) (nI ((t + i) % 5)) y (by omega) hy (Or.inr ⟨(t + i) % 5, by omega, rfl, (ub_i u hu _ (by omega)).mp h49⟩)
theorem l_choose {E : EV} {g : XA} {σ : XS} {k t : Nat} (M : xM E cX0_choose 9 none 1 g (va_Qv (fun (σ' : XS) => ∃ (h : Nat → Int32) (q : Nat → Nat) (t' : Nat), σ' = wr (wf σ 10 h) 2 0 (nI t') ∧ t' < 5 ∧ (∀ c, c < k → h c = nI (q c) ∧ q c < 60 ∧ σ 1 (q c) = 0) ∧ ∀ c c', c < k → c' < k → q c / 12 = q c' / 12 → c = c') (xW g) (xA g))) (hk : k ≤ 5) (ht5 : t < 5) (ht : σ 2 0 = nI t) (hfr : ∀ d, d < 5 → ∃ y, y < 12 ∧ σ 1 (d * 12 + y) = 0) : ∀ n c u (h : Nat → Int32) (q : Nat → Nat), c + n = k → u < 32 → pcn u = c → ((∀ i, i < c → h i = nI (q i) ∧ q i < 60 ∧ σ 1 (q i) = 0 ∧ ub u (q i / 12) = 1) ∧ ∀ i i', i < c → i' < c → q i / 12 = q i' / 12 → i = i') → Az E (xI g (eS E) (wf σ 10 h)) [(0, .ref (xa g 11)), (1, .int (nI k)), (2, .int (nI u)), (3, .int (nI c))] 4 [] := by
  intro n
  induction n with
  | zero =>
    intro c u h q hi hu hp hq
    refine z_iload_n M.1 3 dX0_choose_4 rfl ?_
    refine z_iload_n M.1 1 dX0_choose_5 rfl ?_
    refine z_icmp_geN M.1 121 dX0_choose_6 (by decide) (by omega) (by omega) (fun h6 => ?_) (fun h6 => absurd h6 (by omega))
    refine z_aload_n M.1 0 dX0_choose_121 rfl ?_
    refine z_aload_n M.1 0 dX0_choose_122 rfl ?_
    refine x_get2 M.1 dX0_choose_123 ?_
    refine z_top (nI (t)) (ht) ?_
    refine z_iconst M.1 (nI 1) dX0_choose_126 (by decide) ?_
    refine z_iaddN M.1 dX0_choose_127 ?_
    refine z_iconst M.1 (nI 5) dX0_choose_128 (by decide) ?_
    refine z_icmp_neN M.1 136 dX0_choose_129 (by decide) (by omega) (by omega) (fun h129 => ?_) (fun h129 => ?_)
    · refine z_aload_n M.1 0 dX0_choose_136 rfl ?_
      refine x_get2 M.1 dX0_choose_137 ?_
      refine z_top (nI (t)) (ht) ?_
      refine z_iconst M.1 (nI 1) dX0_choose_140 (by decide) ?_
      refine z_iaddN M.1 dX0_choose_141 ?_
      refine x_put2 M.1 dX0_choose_142 ?_
      exact x_retv M dX0_choose_145 ⟨h, q, t + 1, rfl, by omega, fun i hi => ⟨(hq.1 i (by omega)).1, (hq.1 i (by omega)).2.1, (hq.1 i (by omega)).2.2.1⟩, fun i i' hi hi' => hq.2 i i' (by omega) (by omega)⟩
    · refine z_iconst M.1 (nI 0) dX0_choose_132 (by decide) ?_
      refine z_goto M.1 142 dX0_choose_133 (by decide) ?_
      refine x_put2 M.1 dX0_choose_142 ?_
      exact x_retv M dX0_choose_145 ⟨h, q, 0, rfl, by omega, fun i hi => ⟨(hq.1 i (by omega)).1, (hq.1 i (by omega)).2.1, (hq.1 i (by omega)).2.2.1⟩, fun i i' hi hi' => hq.2 i i' (by omega) (by omega)⟩
  | succ n ih =>
    intro c u h q hi hu hp hq
    refine z_iload_n M.1 3 dX0_choose_4 rfl ?_
    refine z_iload_n M.1 1 dX0_choose_5 rfl ?_
    refine z_icmp_geN M.1 121 dX0_choose_6 (by decide) (by omega) (by omega) (fun h6 => absurd h6 (by omega)) (fun h6 => ?_)
    refine z_iconst M.1 (-1) dX0_choose_9 (by decide) ?_
    refine z_istore M.1 M.2.2.2.2.1 [(0, .ref (xa g 11)), (1, .int (nI (k))), (2, .int (nI (u))), (3, .int (nI (c))), (4, .int ((-1)))] [1, 2, 3, 4, 0] dX0_choose_10 (by decide) rfl ?_
    refine z_iconst M.1 (nI 0) dX0_choose_12 (by decide) ?_
    refine z_istore M.1 M.2.2.2.2.1 [(0, .ref (xa g 11)), (1, .int (nI (k))), (2, .int (nI (u))), (3, .int (nI (c))), (4, .int ((-1))), (5, .int (nI (0)))] [1, 2, 3, 4, 5, 0] dX0_choose_13 (by decide) rfl ?_
    refine z_iconst M.1 (nI 0) dX0_choose_15 (by decide) ?_
    refine z_istore M.1 M.2.2.2.2.1 [(0, .ref (xa g 11)), (1, .int (nI (k))), (2, .int (nI (u))), (3, .int (nI (c))), (4, .int ((-1))), (5, .int (nI (0))), (6, .int (nI (0)))] [1, 2, 3, 4, 5, 6, 0] dX0_choose_16 (by decide) rfl ?_
    refine l_chooseI M hu (by omega) ht5 ht hfr (fun d hd hbit mo => ?_) 5 0 (-1) 0 (by omega) (by omega) (Or.inl ⟨rfl, rfl, fun i hi => absurd hi (Nat.not_lt_zero i)⟩)
    refine z_iload M.1 4 dX0_choose_73 rfl ?_
    refine z_if_geN M.1 82 dX0_choose_75 (by decide) (by omega) ?_
    refine z_iload M.1 4 dX0_choose_82 rfl ?_
    refine z_istore M.1 M.2.2.2.2.1 [(0, .ref (xa g 11)), (1, .int (nI (k))), (2, .int (nI (u))), (3, .int (nI (c))), (4, .int (nI (d))), (5, .int (nI (mo))), (6, .int (nI (d)))] [1, 2, 3, 4, 5, 6, 0] dX0_choose_84 (by decide) rfl ?_
    refine z_aload_n M.1 0 dX0_choose_86 rfl ?_
    refine z_iload M.1 6 dX0_choose_87 rfl ?_
    refine k_freeRow M (by decide) dX0_choose_89 (Nat.le_of_ble_eq_true rfl) (by omega) (hfr _ hd) (fun y hy hyf => ?_)
    refine z_istore M.1 M.2.2.2.2.1 [(0, .ref (xa g 11)), (1, .int (nI (k))), (2, .int (nI (u))), (3, .int (nI (c))), (4, .int (nI (d))), (5, .int (nI (mo))), (6, .int (nI (d))), (7, .int (nI (y)))] [1, 2, 3, 4, 5, 6, 7, 0] dX0_choose_92 (by decide) rfl ?_
    refine z_aload_n M.1 0 dX0_choose_94 rfl ?_
    refine x_get10 M.1 dX0_choose_95 ?_
    refine z_iload_n M.1 3 dX0_choose_98 rfl ?_
    refine z_iload M.1 6 dX0_choose_99 rfl ?_
    refine z_bipush M.1 (nI 12) dX0_choose_101 (by decide) ?_
    refine z_imulN M.1 dX0_choose_103 ?_
    refine z_iload M.1 7 dX0_choose_104 rfl ?_
    refine z_iaddN M.1 dX0_choose_106 ?_
    refine x_st10 M.1 dX0_choose_107 (by omega) ?_
    refine z_I (congrArg (xI g (eS E)) (wr_wf σ 10 h c _)) ?_
    refine z_iload_n M.1 2 dX0_choose_108 rfl ?_
    refine z_iconst M.1 (nI 1) dX0_choose_109 (by decide) ?_
    refine z_iload M.1 6 dX0_choose_110 rfl ?_
    refine z_ishl M.1 dX0_choose_112 ?_
    refine z_ior M.1 dX0_choose_113 ?_
    refine z_top (nI (u ||| 2 ^ d)) ((ub_or u hu d hd).1) ?_
    refine z_istore_n M.1 M.2.2.2.2.1 [(0, .ref (xa g 11)), (1, .int (nI (k))), (2, .int (nI (u ||| 2 ^ d))), (3, .int (nI (c))), (4, .int (nI (d))), (5, .int (nI (mo))), (6, .int (nI (d))), (7, .int (nI (y)))] [1, 2, 0, 3, 4, 5, 6, 7] dX0_choose_114 (by decide) rfl ?_
    refine z_iincN M.1 M.2.2.2.2.1 [(0, .ref (xa g 11)), (1, .int (nI (k))), (2, .int (nI (u ||| 2 ^ d))), (3, .int (nI (c + 1))), (4, .int (nI (d))), (5, .int (nI (mo))), (6, .int (nI (d))), (7, .int (nI (y)))] 3 [1, 2, 3, 0, 4, 5, 6, 7] dX0_choose_115 rfl (by decide) rfl ?_
    refine z_goto M.1 4 dX0_choose_118 (by decide) ?_
    refine z_sub [0, 1, 2, 3] rfl ?_
    refine ih (c + 1) (u ||| 2 ^ d) (upd h c (nI (d * 12 + y))) (va_up q c (d * 12 + y)) (by omega) (ub_or u hu d hd).2.1 (by rw [ub_pc u hu d hd hbit, hp]) ⟨fun i hi => ?_, fun i i' hi hi' e => ?_⟩
    · by_cases e : i = c
      · rw [e, upd_s, va_up_s, show (d * 12 + y) / 12 = d by omega]
        exact ⟨rfl, by omega, hyf, (ub_or u hu d hd).2.2⟩
      · rw [upd_n e, va_up_n e]
        obtain ⟨a1, a2, a3, a4⟩ := hq.1 i (by omega)
        exact ⟨a1, a2, a3, ub_k u hu d hd _ (by omega) a4⟩
    · by_cases e1 : i = c
      · by_cases e2 : i' = c
        · omega
        · rw [e1, va_up_s, va_up_n e2, show (d * 12 + y) / 12 = d by omega] at e
          have a := (hq.1 i' (by omega)).2.2.2
          rw [← e, hbit] at a
          exact absurd a (by decide)
      · by_cases e2 : i' = c
        · rw [e2, va_up_s, va_up_n e1, show (d * 12 + y) / 12 = d by omega] at e
          have a := (hq.1 i (by omega)).2.2.2
          rw [e, hbit] at a
          exact absurd a (by decide)
        · rw [va_up_n e1, va_up_n e2] at e
          exact hq.2 i i' (by omega) (by omega) e
theorem c_choose (l : Launch) (g : XA) (σ : XS) (k t : Nat) (hk : k ≤ 5) (ht5 : t < 5) (ht : σ 2 0 = nI t) (hfr : ∀ d, d < 5 → ∃ y, y < 12 ∧ σ 1 (d * 12 + y) = 0) : Met l yX0_choose (ws_ yX0_choose cX0_choose 9 none) (rmk 1) (va_Pc [.ref (xa g 11), .int (nI k)] (xW g σ)) (va_Qv (fun (σ' : XS) => ∃ (h : Nat → Int32) (q : Nat → Nat) (t' : Nat), σ' = wr (wf σ 10 h) 2 0 (nI t') ∧ t' < 5 ∧ (∀ c, c < k → h c = nI (q c) ∧ q c < 60 ∧ σ 1 (q c) = 0) ∧ ∀ c c', c < k → c' < k → q c / 12 = q c' / 12 → c = c') (xW g) (xA g)) 0 0 (xA g) := by
  refine x_enter 1 [(0, .ref (xa g 11)), (1, .int (nI k))] (by decide) rfl (Nat.le_of_ble_eq_true rfl) rfl (fun E M => ?_)
  refine z_iconst M.1 (nI 0) dX0_choose_0 (by decide) ?_
  refine z_istore_n M.1 M.2.2.2.2.1 [(0, .ref (xa g 11)), (1, .int (nI (k))), (2, .int (nI (0)))] [1, 2, 0] dX0_choose_1 (by decide) rfl ?_
  refine z_iconst M.1 (nI 0) dX0_choose_2 (by decide) ?_
  refine z_istore_n M.1 M.2.2.2.2.1 [(0, .ref (xa g 11)), (1, .int (nI (k))), (2, .int (nI (0))), (3, .int (nI (0)))] [1, 2, 3, 0] dX0_choose_3 (by decide) rfl ?_
  refine z_I (congrArg (xI g (eS E)) (wf_id σ 10).symm) ?_
  exact l_choose M hk ht5 ht hfr k 0 0 (σ 10) (fun _ => 0) (by omega) (by decide) (by decide) ⟨fun i hi => absurd hi (Nat.not_lt_zero i), fun i i' hi => absurd hi (Nat.not_lt_zero i)⟩
theorem k_choose {E : EV} {cc : ByteArray} {lv : List (Nat × Value)} {pc : Nat} {rest : List Value} {g : XA} {σ : XS} {nL d : Nat} {ret : Option FieldType} {Qc : Array Value → State → Outcome → State → Prop} {k t : Nat} (M : xM E cc nL ret d g Qc) (hd : 1 < d) (dg : decode cc pc = .ok (.invokevirtual 50, 3)) (hW : (rest.map fun v => v.category).sum ≤ 8) (hk : k ≤ 5) (ht5 : t < 5) (ht : σ 2 0 = nI t) (hfr : ∀ d, d < 5 → ∃ y, y < 12 ∧ σ 1 (d * 12 + y) = 0) (kk : ∀ (h : Nat → Int32) (q : Nat → Nat) (t' : Nat), t' < 5 → (∀ c, c < k → h c = nI (q c) ∧ q c < 60 ∧ σ 1 (q c) = 0) → (∀ c c', c < k → c' < k → q c / 12 = q c' / 12 → c = c') → Az E (xI g (eS E) (wr (wf σ 10 h) 2 0 (nI t'))) lv (pc + 3) rest) : Az E (xI g (eS E) σ) lv pc (.int (nI k) :: .ref (xa g 11) :: rest) :=
  x_callv M (fun l => c_choose l g σ k t hk ht5 ht hfr) (lw_V q85 q87 qs2 q19 q88) (show yX0_choose.cls = RX0 ∧ yX0_choose.cls ≠ "java/lang/invoke/MethodHandle" ∧ yX0_choose.cls ≠ "java/lang/invoke/VarHandle" ∧ (parseMethodDescriptor yX0_choose.desc).map (fun d => d.parameters.length) = some 1 from by decide +kernel) hd (by decide) rfl hW dg (fun u z => by
    obtain ⟨h, q, t', rfl, h1, h2, h3⟩ := z
    exact kk h q t' h1 h2 h3)
end
section
/-! SelfHealStripes: place -/
set_option maxRecDepth 100000
theorem l_place1 {E : EV} {g : XA} {τ : XS} {j k : Nat} {q : Nat → Nat} {Qc : Array Value → State → Outcome → State → Prop} (M : xM E cX0_place 5 none 2 g Qc) (hj : j < 8) (hk : k ≤ 4) (hq : ∀ c, c ≤ k → τ 10 c = nI (q c) ∧ q c < 60) (hqi : ∀ c c', c ≤ k → c' ≤ k → q c = q c' → c = c')
    (K : ∀ f, (∀ i, i < k → f (q i) = τ 8 i) → (∀ x, (∀ i, i < k → x ≠ q i) → f x = τ 0 x) → Az E (xI g (eS E) (wf τ 0 f)) [(0, .ref (xa g 11)), (1, .int (nI j)), (2, .int (nI k)), (3, .int (par (τ 8) k)), (4, .int (nI k))] 53 []) : ∀ n c f, c + n = k → (∀ i, i < c → f (q i) = τ 8 i) → (∀ x, (∀ i, i < c → x ≠ q i) → f x = τ 0 x) → Az E (xI g (eS E) (wf τ 0 f)) [(0, .ref (xa g 11)), (1, .int (nI j)), (2, .int (nI k)), (3, .int (par (τ 8) c)), (4, .int (nI c))] 12 [] := by
  intro n
  induction n with
  | zero =>
    intro c f hi hf hg
    refine z_iload M.1 4 dX0_place_12 rfl ?_
    refine z_iload_n M.1 2 dX0_place_14 rfl ?_
    refine z_icmp_geN M.1 53 dX0_place_15 (by decide) (by omega) (by omega) (fun h15 => ?_) (fun h15 => absurd h15 (by omega))
    rw [show c = k by omega] at hf hg ⊢
    exact K f hf hg
  | succ n ih =>
    intro c f hi hf hg
    refine z_iload M.1 4 dX0_place_12 rfl ?_
    refine z_iload_n M.1 2 dX0_place_14 rfl ?_
    refine z_icmp_geN M.1 53 dX0_place_15 (by decide) (by omega) (by omega) (fun h15 => absurd h15 (by omega)) (fun h15 => ?_)
    refine z_aload_n M.1 0 dX0_place_18 rfl ?_
    refine x_get0 M.1 dX0_place_19 ?_
    refine z_aload_n M.1 0 dX0_place_22 rfl ?_
    refine x_get10 M.1 dX0_place_23 ?_
    refine z_iload M.1 4 dX0_place_26 rfl ?_
    refine x_ld10 M.1 dX0_place_28 (by omega) ?_
    refine z_top (nI (q c)) ((hq c (by omega)).1) ?_
    refine z_aload_n M.1 0 dX0_place_29 rfl ?_
    refine x_get8 M.1 dX0_place_30 ?_
    refine z_iload M.1 4 dX0_place_33 rfl ?_
    refine x_ld8 M.1 dX0_place_35 (by omega) ?_
    refine x_st0 M.1 dX0_place_36 ((hq c (by omega)).2) ?_
    refine z_I (congrArg (xI g (eS E)) (wr_wf τ 0 f (q c) _)) ?_
    refine z_iload_n M.1 3 dX0_place_37 rfl ?_
    refine z_aload_n M.1 0 dX0_place_38 rfl ?_
    refine x_get8 M.1 dX0_place_39 ?_
    refine z_iload M.1 4 dX0_place_42 rfl ?_
    refine x_ld8 M.1 dX0_place_44 (by omega) ?_
    refine z_ixor M.1 dX0_place_45 ?_
    refine z_istore_n M.1 M.2.2.2.2.1 [(0, .ref (xa g 11)), (1, .int (nI (j))), (2, .int (nI (k))), (3, .int ((par (τ 8) c) ^^^ ((wf τ 0 (upd f (q c) (τ 8 c))) 8 (c)))), (4, .int (nI (c)))] [1, 2, 3, 0, 4] dX0_place_46 (by decide) rfl ?_
    refine z_iincN M.1 M.2.2.2.2.1 [(0, .ref (xa g 11)), (1, .int (nI (j))), (2, .int (nI (k))), (3, .int ((par (τ 8) c) ^^^ ((wf τ 0 (upd f (q c) (τ 8 c))) 8 (c)))), (4, .int (nI (c + 1)))] 4 [1, 2, 3, 4, 0] dX0_place_47 rfl (by decide) rfl ?_
    refine z_goto M.1 12 dX0_place_50 (by decide) ?_
    refine ih (c + 1) (upd f (q c) (τ 8 c)) (by omega) (fun i hi => ?_) (fun x hx => ?_)
    · by_cases e : i = c
      · rw [e, upd_s]
      · rw [upd_n (fun z => e (hqi i c (by omega) (by omega) z))]
        exact hf i (by omega)
    · rw [upd_n (hx c (by omega))]
      exact hg x (fun i hi => hx i (by omega))
theorem l_place2 {E : EV} {g : XA} {τ : XS} {j k : Nat} {q : Nat → Nat} {Qc : Array Value → State → Outcome → State → Prop} {P : Int32} (M : xM E cX0_place 5 none 2 g Qc) (hj : j < 8) (hk : k ≤ 4) (hq : ∀ c, c ≤ k → τ 10 c = nI (q c) ∧ q c < 60)
    (K : ∀ f, (∀ i, i ≤ k → f (q i) = 1) → (∀ x, (∀ i, i ≤ k → x ≠ q i) → f x = τ 1 x) → Az E (xI g (eS E) (wf τ 1 f)) [(0, .ref (xa g 11)), (1, .int (nI j)), (2, .int (nI k)), (3, .int P), (4, .int (nI (k + 1)))] 93 []) : ∀ n c f, c + n = k + 1 → (∀ i, i < c → f (q i) = 1) → (∀ x, (∀ i, i < c → x ≠ q i) → f x = τ 1 x) → Az E (xI g (eS E) (wf τ 1 f)) [(0, .ref (xa g 11)), (1, .int (nI j)), (2, .int (nI k)), (3, .int P), (4, .int (nI c))] 68 [] := by
  intro n
  induction n with
  | zero =>
    intro c f hi hf hg
    refine z_iload M.1 4 dX0_place_68 rfl ?_
    refine z_iload_n M.1 2 dX0_place_70 rfl ?_
    refine z_icmp_gtN M.1 93 dX0_place_71 (by decide) (by omega) (by omega) (fun h71 => ?_) (fun h71 => absurd h71 (by omega))
    rw [show c = k + 1 by omega]
    exact K f (fun i hi => hf i (by omega)) (fun x hx => hg x (fun i hi => hx i (by omega)))
  | succ n ih =>
    intro c f hi hf hg
    refine z_iload M.1 4 dX0_place_68 rfl ?_
    refine z_iload_n M.1 2 dX0_place_70 rfl ?_
    refine z_icmp_gtN M.1 93 dX0_place_71 (by decide) (by omega) (by omega) (fun h71 => absurd h71 (by omega)) (fun h71 => ?_)
    refine z_aload_n M.1 0 dX0_place_74 rfl ?_
    refine x_get1 M.1 dX0_place_75 ?_
    refine z_aload_n M.1 0 dX0_place_78 rfl ?_
    refine x_get10 M.1 dX0_place_79 ?_
    refine z_iload M.1 4 dX0_place_82 rfl ?_
    refine x_ld10 M.1 dX0_place_84 (by omega) ?_
    refine z_top (nI (q c)) ((hq c (by omega)).1) ?_
    refine z_iconst M.1 (nI 1) dX0_place_85 (by decide) ?_
    refine x_st1 M.1 dX0_place_86 ((hq c (by omega)).2) ?_
    refine z_I (congrArg (xI g (eS E)) (wr_wf τ 1 f (q c) _)) ?_
    refine z_iincN M.1 M.2.2.2.2.1 [(0, .ref (xa g 11)), (1, .int (nI (j))), (2, .int (nI (k))), (3, .int (P)), (4, .int (nI (c + 1)))] 4 [1, 2, 3, 4, 0] dX0_place_87 rfl (by decide) rfl ?_
    refine z_goto M.1 68 dX0_place_90 (by decide) ?_
    refine ih (c + 1) (upd f (q c) 1) (by omega) (fun i hi => ?_) (fun x hx => ?_)
    · by_cases e : q i = q c
      · rw [e, upd_s]
      · rw [upd_n e]
        exact hf i (Nat.lt_of_le_of_ne (by omega) (fun y => e (by rw [y])))
    · rw [upd_n (hx c (by omega))]
      exact hg x (fun i hi => hx i (by omega))
theorem l_place3 {E : EV} {g : XA} {τ : XS} {j k : Nat} {q : Nat → Nat} {Qc : Array Value → State → Outcome → State → Prop} {P : Int32} (M : xM E cX0_place 5 none 2 g Qc) (hj : j < 8) (hk : k ≤ 4) (hq : ∀ c, c ≤ k → τ 10 c = nI (q c) ∧ q c < 60)
    (K : ∀ f, (∀ i, i ≤ k → f (j * 5 + i) = nI (q i)) → (∀ x, (∀ i, i ≤ k → x ≠ j * 5 + i) → f x = τ 5 x) → Az E (xI g (eS E) (wf τ 5 f)) [(0, .ref (xa g 11)), (1, .int (nI j)), (2, .int (nI k)), (3, .int P), (4, .int (nI (k + 1)))] 149 []) : ∀ n c f, c + n = k + 1 → (∀ i, i < c → f (j * 5 + i) = nI (q i)) → (∀ x, (∀ i, i < c → x ≠ j * 5 + i) → f x = τ 5 x) → Az E (xI g (eS E) (wf τ 5 f)) [(0, .ref (xa g 11)), (1, .int (nI j)), (2, .int (nI k)), (3, .int P), (4, .int (nI c))] 119 [] := by
  intro n
  induction n with
  | zero =>
    intro c f hi hf hg
    refine z_iload M.1 4 dX0_place_119 rfl ?_
    refine z_iload_n M.1 2 dX0_place_121 rfl ?_
    refine z_icmp_gtN M.1 149 dX0_place_122 (by decide) (by omega) (by omega) (fun h122 => ?_) (fun h122 => absurd h122 (by omega))
    rw [show c = k + 1 by omega]
    exact K f (fun i hi => hf i (by omega)) (fun x hx => hg x (fun i hi => hx i (by omega)))
  | succ n ih =>
    intro c f hi hf hg
    refine z_iload M.1 4 dX0_place_119 rfl ?_
    refine z_iload_n M.1 2 dX0_place_121 rfl ?_
    refine z_icmp_gtN M.1 149 dX0_place_122 (by decide) (by omega) (by omega) (fun h122 => absurd h122 (by omega)) (fun h122 => ?_)
    refine z_aload_n M.1 0 dX0_place_125 rfl ?_
    refine x_get5 M.1 dX0_place_126 ?_
    refine z_iload_n M.1 1 dX0_place_129 rfl ?_
    refine z_iconst M.1 (nI 5) dX0_place_130 (by decide) ?_
    refine z_imulN M.1 dX0_place_131 ?_
    refine z_iload M.1 4 dX0_place_132 rfl ?_
    refine z_iaddN M.1 dX0_place_134 ?_
    refine z_aload_n M.1 0 dX0_place_135 rfl ?_
    refine x_get10 M.1 dX0_place_136 ?_
    refine z_iload M.1 4 dX0_place_139 rfl ?_
    refine x_ld10 M.1 dX0_place_141 (by omega) ?_
    refine z_top (nI (q c)) ((hq c (by omega)).1) ?_
    refine x_st5 M.1 dX0_place_142 (by omega) ?_
    refine z_I (congrArg (xI g (eS E)) (wr_wf τ 5 f (j * 5 + c) _)) ?_
    refine z_iincN M.1 M.2.2.2.2.1 [(0, .ref (xa g 11)), (1, .int (nI (j))), (2, .int (nI (k))), (3, .int (P)), (4, .int (nI (c + 1)))] 4 [1, 2, 3, 4, 0] dX0_place_143 rfl (by decide) rfl ?_
    refine z_goto M.1 119 dX0_place_146 (by decide) ?_
    refine ih (c + 1) (upd f (j * 5 + c) (nI (q c))) (by omega) (fun i hi => ?_) (fun x hx => ?_)
    · by_cases e : i = c
      · rw [e, upd_s]
      · rw [upd_n (by omega)]
        exact hf i (by omega)
    · rw [upd_n (hx c (by omega))]
      exact hg x (fun i hi => hx i (by omega))
theorem k_freeA {E : EV} {cc : ByteArray} {lv : List (Nat × Value)} {pc : Nat} {rest : List Value} {g : XA} {σ : XS} {nL d : Nat} {ret : Option FieldType} {Qc : Array Value → State → Outcome → State → Prop} {j w : Nat} {p : Nat → Nat} (M : xM E cc nL ret d g Qc) (hd : 0 < d) (dg : decode cc pc = .ok (.invokevirtual 54, 3)) (hW : (rest.map fun v => v.category).sum ≤ 8) (hj : j < 8) (h3 : σ 3 j = nI w) (hx : 0 < w → Ext σ j w p)
    (kk : ∀ f, (0 < w → ∀ c, c ≤ w → f (p c) = 0) → (∀ q, (0 < w → ∀ c, c ≤ w → q ≠ p c) → f q = σ 1 q) → Az E (xI g (eS E) (wr (wf σ 1 f) 3 j (nI 0))) lv (pc + 3) rest) : Az E (xI g (eS E) σ) lv pc (.int (nI j) :: .ref (xa g 11) :: rest) := by
  rcases Nat.eq_zero_or_pos w with h | h
  · subst h
    refine k_free0 M hd dg hW hj h3 ?_
    refine z_I (congrArg (xI g (eS E)) ?_) (kk (σ 1) (fun q => absurd q (Nat.lt_irrefl 0)) (fun _ _ => rfl))
    rw [wf_id]
    funext a b
    by_cases ha : a = 3
    · subst ha
      by_cases hb : b = j
      · rw [hb, wr_s, h3]
      · rw [wr_i hb]
    · rw [wr_n ha]
  · exact k_free M hd dg hW (hx h) h (fun f h1 h2 => kk f (fun _ => h1) (fun q hq => h2 q (hq h)))
set_option maxHeartbeats 4000000 in
theorem c_place (l : Launch) (g : XA) (σ : XS) (j k : Nat) (w : Nat → Nat) (p : Nat → Nat → Nat) (v : Nat → Nat → Int32) (m : Nat → Int32) (c0 : Nat → Nat) (G : Geo σ w p) (D : Dat σ w p v m c0) (hj : j < 8) (hk : k ≤ 4) (hk0 : 0 < k) : Met l yX0_place (ws_ yX0_place cX0_place 5 none) (rmk 2) (va_Pc [.ref (xa g 11), .int (nI j), .int (nI k)] (xW g σ)) (va_Qv (fun (σ' : XS) => Inv σ' (va_up w j k) (va_up v j (σ 8)) (va_up m j 0) (va_up c0 j 0) ∧ σ' 6 = σ 6 ∧ σ' 7 = σ 7 ∧ σ' 9 = σ 9) (xW g) (xA g)) 0 0 (xA g) := by
  obtain ⟨t, ht5, ht⟩ := G.2.2.2.2.2
  refine x_enter 2 [(0, .ref (xa g 11)), (1, .int (nI j)), (2, .int (nI k))] (by decide) rfl (Nat.le_of_ble_eq_true rfl) rfl (fun E M => ?_)
  refine z_aload_n M.1 0 dX0_place_0 rfl ?_
  refine z_iload_n M.1 2 dX0_place_1 rfl ?_
  refine z_iconst M.1 (nI 1) dX0_place_2 (by decide) ?_
  refine z_iaddN M.1 dX0_place_3 ?_
  refine k_choose M (by decide) dX0_place_4 (Nat.le_of_ble_eq_true rfl) (by omega) ht5 ht (fun d hd => G.free hd) (fun h q t' ht' hh hqd => ?_)
  refine z_iconst M.1 (nI 0) dX0_place_7 (by decide) ?_
  refine z_istore_n M.1 M.2.2.2.2.1 [(0, .ref (xa g 11)), (1, .int (nI (j))), (2, .int (nI (k))), (3, .int (nI (0)))] [1, 2, 3, 0] dX0_place_8 (by decide) rfl ?_
  refine z_iconst M.1 (nI 0) dX0_place_9 (by decide) ?_
  refine z_istore M.1 M.2.2.2.2.1 [(0, .ref (xa g 11)), (1, .int (nI (j))), (2, .int (nI (k))), (3, .int (nI (0))), (4, .int (nI (0)))] [1, 2, 3, 4, 0] dX0_place_10 (by decide) rfl ?_
  obtain ⟨τ, hτ⟩ : ∃ τ, τ = wr (wf σ 10 h) 2 0 (nI t') := ⟨_, rfl⟩
  have hq1 : ∀ c, c ≤ k → τ 10 c = nI (q c) ∧ q c < 60 := fun c hc => by rw [hτ]; exact ⟨(hh c (by omega)).1, (hh c (by omega)).2.1⟩
  have hqi : ∀ c c', c ≤ k → c' ≤ k → q c = q c' → c = c' := fun c c' hc hc' e => hqd c c' (by omega) (by omega) (by rw [e])
  rw [← hτ]
  refine z_I (congrArg (xI g (eS E)) (wf_id τ 0).symm) ?_
  refine l_place1 M hj hk hq1 hqi (fun f0 hf1 hf2 => ?_) k 0 (τ 0) (by omega) (fun i hi => absurd hi (Nat.not_lt_zero i)) (fun _ _ => rfl)
  refine z_aload_n M.1 0 dX0_place_53 rfl ?_
  refine x_get0 M.1 dX0_place_54 ?_
  refine z_aload_n M.1 0 dX0_place_57 rfl ?_
  refine x_get10 M.1 dX0_place_58 ?_
  refine z_iload_n M.1 2 dX0_place_61 rfl ?_
  refine x_ld10 M.1 dX0_place_62 (by omega) ?_
  refine z_top (nI (q k)) ((hq1 k (Nat.le_refl k)).1) ?_
  refine z_iload_n M.1 3 dX0_place_63 rfl ?_
  refine x_st0 M.1 dX0_place_64 ((hq1 k (Nat.le_refl k)).2) ?_
  refine z_I (congrArg (xI g (eS E)) (wr_wf τ 0 f0 (q k) _)) ?_
  refine z_iconst M.1 (nI 0) dX0_place_65 (by decide) ?_
  refine z_istore M.1 M.2.2.2.2.1 [(0, .ref (xa g 11)), (1, .int (nI (j))), (2, .int (nI (k))), (3, .int (par (τ 8) k)), (4, .int (nI (0)))] [1, 2, 3, 4, 0] dX0_place_66 (by decide) rfl ?_
  refine z_I (congrArg (xI g (eS E)) (wf_id _ 1).symm) ?_
  refine l_place2 (τ := wf τ 0 (upd f0 (q k) (par (τ 8) k))) M hj hk hq1 (fun f1 ht1 ht2 => ?_) (k + 1) 0 _ (by omega) (fun i hi => absurd hi (Nat.not_lt_zero i)) (fun _ _ => rfl)
  refine z_aload_n M.1 0 dX0_place_93 rfl ?_
  refine z_iload_n M.1 1 dX0_place_94 rfl ?_
  refine k_freeA (w := w j) (p := p j) M (by decide) dX0_place_95 (Nat.le_of_ble_eq_true rfl) hj (by rw [hτ]; exact (G.1 j hj).2) (fun hw => by rw [hτ]; exact G.ext hj hw) (fun f2 hu1 hu2 => ?_)
  refine z_aload_n M.1 0 dX0_place_98 rfl ?_
  refine x_get3 M.1 dX0_place_99 ?_
  refine z_iload_n M.1 1 dX0_place_102 rfl ?_
  refine z_iload_n M.1 2 dX0_place_103 rfl ?_
  refine x_st3 M.1 dX0_place_104 (by omega) ?_
  refine z_aload_n M.1 0 dX0_place_105 rfl ?_
  refine x_get4 M.1 dX0_place_106 ?_
  refine z_iload_n M.1 1 dX0_place_109 rfl ?_
  refine z_aload_n M.1 0 dX0_place_110 rfl ?_
  refine z_iload_n M.1 2 dX0_place_111 rfl ?_
  refine k_checkOf M (by decide) dX0_place_112 (Nat.le_of_ble_eq_true rfl) (by omega) ?_
  refine x_st4 M.1 dX0_place_115 (by omega) ?_
  refine z_iconst M.1 (nI 0) dX0_place_116 (by decide) ?_
  refine z_istore M.1 M.2.2.2.2.1 [(0, .ref (xa g 11)), (1, .int (nI (j))), (2, .int (nI (k))), (3, .int (par (τ 8) k)), (4, .int (nI (0)))] [1, 2, 3, 4, 0] dX0_place_117 (by decide) rfl ?_
  refine z_I (congrArg (xI g (eS E)) (wf_id _ 5).symm) ?_
  refine l_place3 (τ := (wr (wr (wr (wf (wf (wf τ 0 (upd f0 (q k) (par (τ 8) k))) 1 f1) 1 f2) 3 j (nI 0)) 3 j (nI k)) 4 j (chk (τ 8) k))) M hj hk hq1 (fun f5 hs1 hs2 => ?_) (k + 1) 0 _ (by omega) (fun i hi => absurd hi (Nat.not_lt_zero i)) (fun _ _ => rfl)
  subst hτ
  refine x_retv M dX0_place_149 ⟨⟨va_up p j q, ?_⟩, rfl, rfl, rfl⟩
  refine place_ok (u := σ 8) G D hj hk hk0 (fun c hc => ⟨(hh c (by omega)).2.1, (hh c (by omega)).2.2⟩) (fun c c' hc hc' => hqd c c' (by omega) (by omega)) (fun c hc => ?_) (fun x hx => ?_) (fun c hc => ?_) (fun hw c hc => hu1 hw c hc) (fun x hx hy => ?_) ⟨t', ht', rfl⟩ ?_ (fun e he => ?_) ?_ (fun e he => ?_) (fun c hc => hs1 c hc) (fun e he c hc => ?_)
  · show upd f0 (q k) (par (σ 8) k) (q c) = tv (σ 8) k c
    by_cases e : c = k
    · rw [e, upd_s, tv_w]
    · rw [upd_n (fun z => e (hqi c k hc (Nat.le_refl k) z)), tv_lt (by omega)]
      exact hf1 c (by omega)
  · show upd f0 (q k) (par (σ 8) k) x = σ 0 x
    rw [upd_n (hx k (Nat.le_refl k))]
    exact hf2 x (fun i hi => hx i (by omega))
  · show f2 (q c) ≠ 0
    have e : f2 (q c) = f1 (q c) := hu2 (q c) (fun hw c' hc' z => (G.2.1 j hj hw c' hc').2.2 (by rw [← z]; exact (hh c (by omega)).2.2))
    rw [e, ht1 c hc]
    decide
  · show f2 x = σ 1 x
    exact (hu2 x hy).trans (ht2 x hx)
  · show upd (upd (σ 3) j (nI 0)) j (nI k) j = nI k
    rw [upd_s]
  · show upd (upd (σ 3) j (nI 0)) j (nI k) e = σ 3 e
    rw [upd_n he, upd_n he]
  · show upd (σ 4) j (chk (σ 8) k) j = chk (σ 8) k
    rw [upd_s]
  · show upd (σ 4) j (chk (σ 8) k) e = σ 4 e
    rw [upd_n he]
  · show f5 (e * 5 + c) = σ 5 (e * 5 + c)
    exact hs2 _ (fun i hi => by omega)
theorem k_place {E : EV} {cc : ByteArray} {lv : List (Nat × Value)} {pc : Nat} {rest : List Value} {g : XA} {σ : XS} {nL d : Nat} {ret : Option FieldType} {Qc : Array Value → State → Outcome → State → Prop} {j k : Nat} {w : Nat → Nat} {p : Nat → Nat → Nat} {v : Nat → Nat → Int32} {m : Nat → Int32} {c0 : Nat → Nat} (M : xM E cc nL ret d g Qc) (hd : 2 < d) (dg : decode cc pc = .ok (.invokevirtual 80, 3)) (hW : (rest.map fun v => v.category).sum ≤ 8) (G : Geo σ w p) (D : Dat σ w p v m c0) (hj : j < 8) (hk : k ≤ 4) (hk0 : 0 < k) (kk : ∀ σ' : XS, Inv σ' (va_up w j k) (va_up v j (σ 8)) (va_up m j 0) (va_up c0 j 0) → σ' 6 = σ 6 → σ' 7 = σ 7 → σ' 9 = σ 9 → Az E (xI g (eS E) σ') lv (pc + 3) rest) : Az E (xI g (eS E) σ) lv pc (.int (nI k) :: .int (nI j) :: .ref (xa g 11) :: rest) :=
  x_callv M (fun l => c_place l g σ j k w p v m c0 G D hj hk hk0) (lw_V q81 q83 qs1 q19 q84) (show yX0_place.cls = RX0 ∧ yX0_place.cls ≠ "java/lang/invoke/MethodHandle" ∧ yX0_place.cls ≠ "java/lang/invoke/VarHandle" ∧ (parseMethodDescriptor yX0_place.desc).map (fun d => d.parameters.length) = some 2 from by decide +kernel) hd (by decide) rfl hW dg (fun u z => by
    obtain ⟨h1, h2, h3, h4⟩ := z
    exact kk u h1 h2 h3 h4)
end
section
/-! SelfHealStripes: the calls, first half -/
set_option maxRecDepth 100000
def Kp (σ σ' : XS) : Prop := σ' 6 = σ 6 ∧ σ' 7 = σ 7 ∧ σ' 9 = σ 9
theorem va_up_id {α : Type} (f : Nat → α) (k : Nat) : va_up f k (f k) = f := by
  funext q
  by_cases h : q = k
  · rw [h, va_up_s]
  · rw [va_up_n h]
theorem nI_ne5 {a : Nat} (h : a < 2 ^ 31) : nI a ≠ -5 := fun e => by
  have q := nI_pos h
  rw [e] at q
  exact q (by decide)
theorem ix_of {x : Int32} {n : Nat} (hn : n < 2 ^ 31) (h0 : ¬ x < 0) (h : x < nI n) : ∃ a, a < n ∧ x = nI a := by
  rcases pk_ix x hn with q | q | q
  · exact absurd q h0
  · exact absurd h (Int32.not_lt.mpr q)
  · exact q
theorem ix_le {x : Int32} {n : Nat} (hn : n < 1000) (h0 : ¬ x < 0) (h : x ≤ nI n) : ∃ a, a ≤ n ∧ x = nI a := by
  rcases pk_ix x (n := n + 1) (by omega) with q | q | ⟨a, h1, h2⟩
  · exact absurd q h0
  · exact absurd ((nI_leI (by omega) (by omega)).mp (Int32.le_trans q h)) (by omega)
  · exact ⟨a, by omega, h2⟩
def dsum (v : Nat → Int32) : Nat → Int32
  | 0 => 0
  | n + 1 => dsum v n + nI (n + 1) * v n
set_option maxHeartbeats 4000000 in
theorem c_draft (l : Launch) (g : XA) (σ : XS) (k : Nat) (x : Int32) (hk4 : k ≤ 4) (hk : σ 6 0 = nI k) : Met l yX0_draft (ws_ yX0_draft cX0_draft 2 (some .int)) (rmk 0) (va_Pc [.ref (xa g 11), .int x] (xW g σ)) (va_Qi (fun (r : Int32) (σ' : XS) => (k = 4 ∧ r = -2 ∧ σ' = σ) ∨ (k < 4 ∧ r = nI (k + 1) ∧ σ' = wr (wr σ 7 k x) 6 0 (nI (k + 1)))) (xW g) (xA g)) 0 0 (xA g) := by
  refine x_enter 0 [(0, .ref (xa g 11)), (1, .int x)] (by decide) rfl (Nat.le_of_ble_eq_true rfl) rfl (fun E M => ?_)
  refine z_aload_n M.1 0 dX0_draft_0 rfl ?_
  refine x_get6 M.1 dX0_draft_1 ?_
  refine z_top (nI (k)) (hk) ?_
  refine z_iconst M.1 (nI 4) dX0_draft_4 (by decide) ?_
  refine z_icmp_neN M.1 11 dX0_draft_5 (by decide) (by omega) (by omega) (fun h5 => ?_) (fun h5 => ?_)
  · refine z_aload_n M.1 0 dX0_draft_11 rfl ?_
    refine x_get7 M.1 dX0_draft_12 ?_
    refine z_aload_n M.1 0 dX0_draft_15 rfl ?_
    refine x_get6 M.1 dX0_draft_16 ?_
    refine z_top (nI (k)) (hk) ?_
    refine z_iload_n M.1 1 dX0_draft_19 rfl ?_
    refine x_st7 M.1 dX0_draft_20 (by omega) ?_
    refine z_aload_n M.1 0 dX0_draft_21 rfl ?_
    refine z_dup M.1 dX0_draft_22 rfl ?_
    refine x_get6 M.1 dX0_draft_23 ?_
    refine z_top (nI (k)) (hk) ?_
    refine z_iconst M.1 (nI 1) dX0_draft_26 (by decide) ?_
    refine z_iaddN M.1 dX0_draft_27 ?_
    refine x_put6 M.1 dX0_draft_28 ?_
    refine z_aload_n M.1 0 dX0_draft_31 rfl ?_
    refine x_get6 M.1 dX0_draft_32 ?_
    refine z_top (nI (k + 1)) (wr_s _ 6 0 _) ?_
    exact x_reti M dX0_draft_35 (Or.inr ⟨by omega, rfl, rfl⟩)
  · refine z_bipush M.1 (-2) dX0_draft_8 (by decide) ?_
    exact x_reti M dX0_draft_10 (Or.inl ⟨h5, rfl, rfl⟩)
set_option maxHeartbeats 4000000 in
theorem c_scrap (l : Launch) (g : XA) (σ : XS)  : Met l yX0_scrap (ws_ yX0_scrap cX0_scrap 1 none) (rmk 0) (va_Pc [.ref (xa g 11)] (xW g σ)) (va_Qv (fun (σ' : XS) => σ' = wr σ 6 0 (nI 0)) (xW g) (xA g)) 0 0 (xA g) := by
  refine x_enter 0 [(0, .ref (xa g 11))] (by decide) rfl (Nat.le_of_ble_eq_true rfl) rfl (fun E M => ?_)
  refine z_aload_n M.1 0 dX0_scrap_0 rfl ?_
  refine z_iconst M.1 (nI 0) dX0_scrap_1 (by decide) ?_
  refine x_put6 M.1 dX0_scrap_2 ?_
  exact x_retv M dX0_scrap_5 rfl
set_option maxHeartbeats 4000000 in
theorem c_healed (l : Launch) (g : XA) (σ : XS)  : Met l yX0_healed (ws_ yX0_healed cX0_healed 1 (some .int)) (rmk 0) (va_Pc [.ref (xa g 11)] (xW g σ)) (va_Qi (fun (r : Int32) (σ' : XS) => σ' = σ ∧ r = σ 9 0) (xW g) (xA g)) 0 0 (xA g) := by
  refine x_enter 0 [(0, .ref (xa g 11))] (by decide) rfl (Nat.le_of_ble_eq_true rfl) rfl (fun E M => ?_)
  refine z_aload_n M.1 0 dX0_healed_0 rfl ?_
  refine x_get9 M.1 dX0_healed_1 ?_
  exact x_reti M dX0_healed_4 ⟨rfl, rfl⟩
set_option maxHeartbeats 4000000 in
theorem c_size (l : Launch) (g : XA) (σ : XS) (e : Int32) (w : Nat → Nat) (v : Nat → Nat → Int32) (m : Nat → Int32) (c0 : Nat → Nat) (hI : Inv σ w v m c0) : Met l yX0_size (ws_ yX0_size cX0_size 2 (some .int)) (rmk 1) (va_Pc [.ref (xa g 11), .int e] (xW g σ)) (va_Qi (fun (r : Int32) (σ' : XS) => σ' = σ ∧ ((e < 0 ∨ nI 8 ≤ e) ∧ r = -1 ∨ ∃ j, j < 8 ∧ e = nI j ∧ r = nI (w j))) (xW g) (xA g)) 0 0 (xA g) := by
  refine x_enter 1 [(0, .ref (xa g 11)), (1, .int e)] (by decide) rfl (Nat.le_of_ble_eq_true rfl) rfl (fun E M => ?_)
  obtain ⟨p, G, D⟩ := hI
  refine z_aload_n M.1 0 dX0_size_0 rfl ?_
  refine z_iload_n M.1 1 dX0_size_1 rfl ?_
  refine k_bad M (by decide) dX0_size_2 (Nat.le_of_ble_eq_true rfl) (fun hbad => ?_) (fun j hj he => ?_)
  · refine z_top (nI 1) rfl ?_
    refine z_if_eqN M.1 12 dX0_size_5 (by decide) (by omega) (fun h5 => absurd h5 (by decide)) (fun h5 => ?_)
    refine z_iconst M.1 (-1) dX0_size_8 (by decide) ?_
    refine z_goto M.1 18 dX0_size_9 (by decide) ?_
    exact x_reti M dX0_size_18 ⟨rfl, Or.inl ⟨hbad, rfl⟩⟩
  · subst he
    have hw4 := (G.1 j hj).1
    refine z_if_eqN M.1 12 dX0_size_5 (by decide) (by omega) (fun h5 => ?_) (fun h5 => absurd h5 (by decide))
    refine z_aload_n M.1 0 dX0_size_12 rfl ?_
    refine x_get3 M.1 dX0_size_13 ?_
    refine z_iload_n M.1 1 dX0_size_16 rfl ?_
    refine x_ld3 M.1 dX0_size_17 (by omega) ?_
    refine z_top (nI (w j)) ((G.1 j hj).2) ?_
    exact x_reti M dX0_size_18 ⟨rfl, Or.inr ⟨j, hj, rfl, rfl⟩⟩
set_option maxHeartbeats 4000000 in
theorem c_delete (l : Launch) (g : XA) (σ : XS) (e : Int32) (w : Nat → Nat) (v : Nat → Nat → Int32) (m : Nat → Int32) (c0 : Nat → Nat) (hI : Inv σ w v m c0) : Met l yX0_delete (ws_ yX0_delete cX0_delete 3 (some .int)) (rmk 1) (va_Pc [.ref (xa g 11), .int e] (xW g σ)) (va_Qi (fun (r : Int32) (σ' : XS) => (e < 0 ∨ nI 8 ≤ e) ∧ r = -1 ∧ σ' = σ ∨ ∃ j, j < 8 ∧ e = nI j ∧ (w j = 0 ∧ r = -3 ∧ σ' = σ ∨ 0 < w j ∧ r = nI (w j) ∧ Kp σ σ' ∧ Inv σ' (va_up w j 0) v m c0)) (xW g) (xA g)) 0 0 (xA g) := by
  refine x_enter 1 [(0, .ref (xa g 11)), (1, .int e)] (by decide) rfl (Nat.le_of_ble_eq_true rfl) rfl (fun E M => ?_)
  obtain ⟨p, G, D⟩ := hI
  refine z_aload_n M.1 0 dX0_delete_0 rfl ?_
  refine z_iload_n M.1 1 dX0_delete_1 rfl ?_
  refine k_bad M (by decide) dX0_delete_2 (Nat.le_of_ble_eq_true rfl) (fun hbad => ?_) (fun j hj he => ?_)
  · refine z_top (nI 1) rfl ?_
    refine z_if_eqN M.1 10 dX0_delete_5 (by decide) (by omega) (fun h5 => absurd h5 (by decide)) (fun h5 => ?_)
    refine z_iconst M.1 (-1) dX0_delete_8 (by decide) ?_
    exact x_reti M dX0_delete_9 (Or.inl ⟨hbad, rfl, rfl⟩)
  · subst he
    have hw4 := (G.1 j hj).1
    refine z_if_eqN M.1 10 dX0_delete_5 (by decide) (by omega) (fun h5 => ?_) (fun h5 => absurd h5 (by decide))
    refine z_aload_n M.1 0 dX0_delete_10 rfl ?_
    refine x_get3 M.1 dX0_delete_11 ?_
    refine z_iload_n M.1 1 dX0_delete_14 rfl ?_
    refine x_ld3 M.1 dX0_delete_15 (by omega) ?_
    refine z_top (nI (w j)) ((G.1 j hj).2) ?_
    refine z_if_neN M.1 22 dX0_delete_16 (by decide) (by omega) (fun h16 => ?_) (fun h16 => ?_)
    · refine z_aload_n M.1 0 dX0_delete_22 rfl ?_
      refine x_get3 M.1 dX0_delete_23 ?_
      refine z_iload_n M.1 1 dX0_delete_26 rfl ?_
      refine x_ld3 M.1 dX0_delete_27 (by omega) ?_
      refine z_top (nI (w j)) ((G.1 j hj).2) ?_
      refine z_istore_n M.1 M.2.2.2.2.1 [(0, .ref (xa g 11)), (1, .int (nI (j))), (2, .int (nI (w j)))] [1, 2, 0] dX0_delete_28 (by decide) rfl ?_
      refine z_aload_n M.1 0 dX0_delete_29 rfl ?_
      refine z_iload_n M.1 1 dX0_delete_30 rfl ?_
      refine k_free M (by decide) dX0_delete_31 (Nat.le_of_ble_eq_true rfl) (G.ext hj h16) h16 (fun f hf1 hf2 => ?_)
      refine z_iload_n M.1 2 dX0_delete_34 rfl ?_
      refine x_reti M dX0_delete_35 (Or.inr ⟨j, hj, rfl, Or.inr ⟨h16, rfl, ⟨rfl, rfl, rfl⟩, p, ?_⟩⟩)
      refine free_ok G D hj h16 rfl rfl rfl rfl hf1 hf2 ?_ (fun e he => ?_)
      · show upd (σ 3) j (nI 0) j = nI 0
        rw [upd_s]
      · show upd (σ 3) j (nI 0) e = σ 3 e
        rw [upd_n he]
    · refine z_bipush M.1 (-3) dX0_delete_19 (by decide) ?_
      exact x_reti M dX0_delete_21 (Or.inr ⟨j, hj, rfl, Or.inl ⟨h16, rfl, rfl⟩⟩)
set_option maxHeartbeats 4000000 in
theorem c_damaged (l : Launch) (g : XA) (σ : XS) (e : Int32) (w : Nat → Nat) (v : Nat → Nat → Int32) (m : Nat → Int32) (c0 : Nat → Nat) (hI : Inv σ w v m c0) : Met l yX0_damaged (ws_ yX0_damaged cX0_damaged 2 (some .int)) (rmk 4) (va_Pc [.ref (xa g 11), .int e] (xW g σ)) (va_Qi (fun (r : Int32) (σ' : XS) => (e < 0 ∨ nI 8 ≤ e) ∧ r = -1 ∧ σ' = σ ∨ ∃ j, j < 8 ∧ e = nI j ∧ (w j = 0 ∧ r = -3 ∧ σ' = σ ∨ 0 < w j ∧ (m j = 0 ∧ r = -5 ∨ m j ≠ 0 ∧ r = nI (c0 j)) ∧ Kp σ σ' ∧ Inv σ' w v m c0)) (xW g) (xA g)) 0 0 (xA g) := by
  refine x_enter 4 [(0, .ref (xa g 11)), (1, .int e)] (by decide) rfl (Nat.le_of_ble_eq_true rfl) rfl (fun E M => ?_)
  obtain ⟨p, G, D⟩ := hI
  refine z_aload_n M.1 0 dX0_damaged_0 rfl ?_
  refine z_iload_n M.1 1 dX0_damaged_1 rfl ?_
  refine k_bad M (by decide) dX0_damaged_2 (Nat.le_of_ble_eq_true rfl) (fun hbad => ?_) (fun j hj he => ?_)
  · refine z_top (nI 1) rfl ?_
    refine z_if_eqN M.1 10 dX0_damaged_5 (by decide) (by omega) (fun h5 => absurd h5 (by decide)) (fun h5 => ?_)
    refine z_iconst M.1 (-1) dX0_damaged_8 (by decide) ?_
    exact x_reti M dX0_damaged_9 (Or.inl ⟨hbad, rfl, rfl⟩)
  · subst he
    have hw4 := (G.1 j hj).1
    refine z_if_eqN M.1 10 dX0_damaged_5 (by decide) (by omega) (fun h5 => ?_) (fun h5 => absurd h5 (by decide))
    refine z_aload_n M.1 0 dX0_damaged_10 rfl ?_
    refine x_get3 M.1 dX0_damaged_11 ?_
    refine z_iload_n M.1 1 dX0_damaged_14 rfl ?_
    refine x_ld3 M.1 dX0_damaged_15 (by omega) ?_
    refine z_top (nI (w j)) ((G.1 j hj).2) ?_
    refine z_if_neN M.1 24 dX0_damaged_16 (by decide) (by omega) (fun h16 => ?_) (fun h16 => ?_)
    · refine z_aload_n M.1 0 dX0_damaged_24 rfl ?_
      refine z_iload_n M.1 1 dX0_damaged_25 rfl ?_
      refine k_faulty M (by decide) dX0_damaged_26 (Nat.le_of_ble_eq_true rfl) (G.st D hj h16) (fun f hf hm => ?_) (fun f hf hm => ?_)
      · exact x_reti M dX0_damaged_29 (Or.inr ⟨j, hj, rfl, Or.inr ⟨h16, Or.inl ⟨hm, rfl⟩, ⟨rfl, rfl, rfl⟩, p, G.by rfl rfl rfl rfl, D.by rfl rfl⟩⟩)
      · exact x_reti M dX0_damaged_29 (Or.inr ⟨j, hj, rfl, Or.inr ⟨h16, Or.inr ⟨hm, rfl⟩, ⟨rfl, rfl, rfl⟩, p, G.by rfl rfl rfl rfl, D.by rfl rfl⟩⟩)
    · refine z_bipush M.1 (-3) dX0_damaged_19 (by decide) ?_
      refine z_goto M.1 29 dX0_damaged_21 (by decide) ?_
      exact x_reti M dX0_damaged_29 (Or.inr ⟨j, hj, rfl, Or.inl ⟨h16, rfl, rfl⟩⟩)
set_option maxHeartbeats 4000000 in
theorem c_read (l : Launch) (g : XA) (σ : XS) (e i : Int32) (w : Nat → Nat) (v : Nat → Nat → Int32) (m : Nat → Int32) (c0 : Nat → Nat) (hI : Inv σ w v m c0) : Met l yX0_read (ws_ yX0_read cX0_read 4 (some .int)) (rmk 3) (va_Pc [.ref (xa g 11), .int e, .int i] (xW g σ)) (va_Qi (fun (r : Int32) (σ' : XS) => (e < 0 ∨ nI 8 ≤ e) ∧ r = 0 ∧ σ' = σ ∨ ∃ j, j < 8 ∧ e = nI j ∧ ((i < 0 ∨ nI (w j) ≤ i) ∧ r = 0 ∧ σ' = σ ∨ ∃ a, a < w j ∧ i = nI a ∧ r = v j a ∧ σ' 6 = σ 6 ∧ σ' 7 = σ 7 ∧ ((m j = 0 ∨ c0 j = w j) ∧ σ' 9 = σ 9 ∧ Inv σ' w v m c0 ∨ m j ≠ 0 ∧ c0 j < w j ∧ σ' 9 0 = σ 9 0 + nI 1 ∧ Inv σ' w v (va_up m j 0) c0))) (xW g) (xA g)) 0 0 (xA g) := by
  refine x_enter 3 [(0, .ref (xa g 11)), (1, .int e), (2, .int i)] (by decide) rfl (Nat.le_of_ble_eq_true rfl) rfl (fun E M => ?_)
  obtain ⟨p, G, D⟩ := hI
  refine z_aload_n M.1 0 dX0_read_0 rfl ?_
  refine z_iload_n M.1 1 dX0_read_1 rfl ?_
  refine k_bad M (by decide) dX0_read_2 (Nat.le_of_ble_eq_true rfl) (fun hbad => ?_) (fun j hj he => ?_)
  · refine z_top (nI 1) rfl ?_
    refine z_if_neN M.1 22 dX0_read_5 (by decide) (by omega) (fun h5 => ?_) (fun h5 => absurd h5 (by decide))
    refine z_iconst M.1 (nI 0) dX0_read_22 (by decide) ?_
    exact x_reti M dX0_read_23 (Or.inl ⟨hbad, rfl, rfl⟩)
  · subst he
    have hw4 := (G.1 j hj).1
    refine z_if_neN M.1 22 dX0_read_5 (by decide) (by omega) (fun h5 => absurd h5 (by decide)) (fun h5 => ?_)
    refine z_iload_n M.1 2 dX0_read_8 rfl ?_
    refine z_if_lt M.1 22 dX0_read_9 (by decide) (fun h9 => ?_) (fun h9 => ?_)
    · refine z_iconst M.1 (nI 0) dX0_read_22 (by decide) ?_
      exact x_reti M dX0_read_23 (Or.inr ⟨j, hj, rfl, Or.inl ⟨Or.inl h9, rfl, rfl⟩⟩)
    · refine z_iload_n M.1 2 dX0_read_12 rfl ?_
      refine z_aload_n M.1 0 dX0_read_13 rfl ?_
      refine x_get3 M.1 dX0_read_14 ?_
      refine z_iload_n M.1 1 dX0_read_17 rfl ?_
      refine x_ld3 M.1 dX0_read_18 (by omega) ?_
      refine z_top (nI (w j)) ((G.1 j hj).2) ?_
      refine z_icmp_lt M.1 24 dX0_read_19 (by decide) (fun h19 => ?_) (fun h19 => ?_)
      · obtain ⟨a, ha, rfl⟩ := ix_of (by omega) h9 h19
        refine z_aload_n M.1 0 dX0_read_24 rfl ?_
        refine z_iload_n M.1 1 dX0_read_25 rfl ?_
        refine k_recover M (by decide) dX0_read_26 (Nat.le_of_ble_eq_true rfl) (G.st D hj (by omega)) (fun f hf hm => ?_) (fun f hf hm hc => ?_)
        · refine z_istore_n M.1 M.2.2.2.2.1 [(0, .ref (xa g 11)), (1, .int (nI (j))), (2, .int (nI (a))), (3, .int ((-1)))] [1, 2, 3, 0] dX0_read_29 (by decide) rfl ?_
          refine z_aload_n M.1 0 dX0_read_30 rfl ?_
          refine z_iload_n M.1 1 dX0_read_31 rfl ?_
          refine z_iload_n M.1 3 dX0_read_32 rfl ?_
          refine k_mendN M (by decide) dX0_read_33 (Nat.le_of_ble_eq_true rfl) (by decide) ?_
          refine z_aload_n M.1 0 dX0_read_36 rfl ?_
          refine x_get8 M.1 dX0_read_37 ?_
          refine z_iload_n M.1 2 dX0_read_40 rfl ?_
          refine x_ld8 M.1 dX0_read_41 (by omega) ?_
          exact x_reti M dX0_read_42 (Or.inr ⟨j, hj, rfl, Or.inr ⟨a, ha, rfl, hf a ha, rfl, rfl, Or.inl ⟨hm, rfl, p, G.by rfl rfl rfl rfl, D.by rfl rfl⟩⟩⟩)
        · refine z_istore_n M.1 M.2.2.2.2.1 [(0, .ref (xa g 11)), (1, .int (nI (j))), (2, .int (nI (a))), (3, .int (nI (c0 j)))] [1, 2, 3, 0] dX0_read_29 (by decide) rfl ?_
          refine z_aload_n M.1 0 dX0_read_30 rfl ?_
          refine z_iload_n M.1 1 dX0_read_31 rfl ?_
          refine z_iload_n M.1 3 dX0_read_32 rfl ?_
          refine k_mendT (p := p j) M (by decide) dX0_read_33 (Nat.le_of_ble_eq_true rfl) (G.ext hj (by omega)) (by omega) (by omega) ?_
          refine z_aload_n M.1 0 dX0_read_36 rfl ?_
          refine x_get8 M.1 dX0_read_37 ?_
          refine z_iload_n M.1 2 dX0_read_40 rfl ?_
          refine x_ld8 M.1 dX0_read_41 (by omega) ?_
          refine x_reti M dX0_read_42 (Or.inr ⟨j, hj, rfl, Or.inr ⟨a, ha, rfl, hf a ha, rfl, rfl, Or.inr ⟨hm, hc, wr_s _ 9 0 _, p, G.by rfl rfl rfl rfl, ?_⟩⟩⟩)
          have h := cell_ok (σ' := (wr (wr (wf σ 8 f) 0 (p j (c0 j)) (f (c0 j))) 9 0 (σ 9 0 + nI 1))) (x := 0) G D hj (by omega) (Nat.le_of_lt hc) (Or.inr rfl) rfl (by
            show upd (σ 0) (p j (c0 j)) (f (c0 j)) = _
            rw [hf _ hc, tv_lt hc, xr_0])
          rw [va_up_id] at h
          exact h
      · refine z_iconst M.1 (nI 0) dX0_read_22 (by decide) ?_
        exact x_reti M dX0_read_23 (Or.inr ⟨j, hj, rfl, Or.inl ⟨Or.inr (Int32.not_lt.mp h19), rfl, rfl⟩⟩)
theorem l_put {E : EV} {g : XA} {σ : XS} {j k : Nat} {Qc : Array Value → State → Outcome → State → Prop} (M : xM E cX0_put 3 (some .int) 3 g Qc) (hk4 : k ≤ 4) (hk : σ 6 0 = nI k) (K : ∀ f, (∀ i, i < k → f i = σ 7 i) → Az E (xI g (eS E) (wf σ 8 f)) [(0, .ref (xa g 11)), (1, .int (nI j)), (2, .int (nI k))] 48 []) : ∀ n c f, c + n = k → (∀ i, i < c → f i = σ 7 i) → Az E (xI g (eS E) (wf σ 8 f)) [(0, .ref (xa g 11)), (1, .int (nI j)), (2, .int (nI c))] 22 [] := by
  intro n
  induction n with
  | zero =>
    intro c f hi hf
    refine z_iload_n M.1 2 dX0_put_22 rfl ?_
    refine z_aload_n M.1 0 dX0_put_23 rfl ?_
    refine x_get6 M.1 dX0_put_24 ?_
    refine z_top (nI (k)) (hk) ?_
    refine z_icmp_geN M.1 48 dX0_put_27 (by decide) (by omega) (by omega) (fun h27 => ?_) (fun h27 => absurd h27 (by omega))
    rw [show c = k by omega] at hf ⊢
    exact K f hf
  | succ n ih =>
    intro c f hi hf
    refine z_iload_n M.1 2 dX0_put_22 rfl ?_
    refine z_aload_n M.1 0 dX0_put_23 rfl ?_
    refine x_get6 M.1 dX0_put_24 ?_
    refine z_top (nI (k)) (hk) ?_
    refine z_icmp_geN M.1 48 dX0_put_27 (by decide) (by omega) (by omega) (fun h27 => absurd h27 (by omega)) (fun h27 => ?_)
    refine z_aload_n M.1 0 dX0_put_30 rfl ?_
    refine x_get8 M.1 dX0_put_31 ?_
    refine z_iload_n M.1 2 dX0_put_34 rfl ?_
    refine z_aload_n M.1 0 dX0_put_35 rfl ?_
    refine x_get7 M.1 dX0_put_36 ?_
    refine z_iload_n M.1 2 dX0_put_39 rfl ?_
    refine x_ld7 M.1 dX0_put_40 (by omega) ?_
    refine x_st8 M.1 dX0_put_41 (by omega) ?_
    refine z_I (congrArg (xI g (eS E)) (wr_wf σ 8 f c _)) ?_
    refine z_iincN M.1 M.2.2.2.2.1 [(0, .ref (xa g 11)), (1, .int (nI (j))), (2, .int (nI (c + 1)))] 2 [1, 2, 0] dX0_put_42 rfl (by decide) rfl ?_
    refine z_goto M.1 22 dX0_put_45 (by decide) ?_
    refine ih (c + 1) (upd f c (σ 7 c)) (by omega) (fun i hi => ?_)
    by_cases e : i = c
    · rw [e, upd_s]
    · rw [upd_n e]
      exact hf i (by omega)
set_option maxHeartbeats 4000000 in
theorem c_put (l : Launch) (g : XA) (σ : XS) (e : Int32) (k : Nat) (hk4 : k ≤ 4) (hk : σ 6 0 = nI k) (w : Nat → Nat) (v : Nat → Nat → Int32) (m : Nat → Int32) (c0 : Nat → Nat) (hI : Inv σ w v m c0) : Met l yX0_put (ws_ yX0_put cX0_put 3 (some .int)) (rmk 3) (va_Pc [.ref (xa g 11), .int e] (xW g σ)) (va_Qi (fun (r : Int32) (σ' : XS) => (e < 0 ∨ nI 8 ≤ e) ∧ r = -1 ∧ σ' = σ ∨ ∃ j, j < 8 ∧ e = nI j ∧ (k = 0 ∧ r = -3 ∧ σ' = σ ∨ 0 < k ∧ r = nI k ∧ σ' 6 0 = nI 0 ∧ σ' 9 = σ 9 ∧ ∃ u, (∀ i, i < k → u i = σ 7 i) ∧ Inv σ' (va_up w j k) (va_up v j u) (va_up m j 0) (va_up c0 j 0))) (xW g) (xA g)) 0 0 (xA g) := by
  refine x_enter 3 [(0, .ref (xa g 11)), (1, .int e)] (by decide) rfl (Nat.le_of_ble_eq_true rfl) rfl (fun E M => ?_)
  obtain ⟨p, G, D⟩ := hI
  refine z_aload_n M.1 0 dX0_put_0 rfl ?_
  refine z_iload_n M.1 1 dX0_put_1 rfl ?_
  refine k_bad M (by decide) dX0_put_2 (Nat.le_of_ble_eq_true rfl) (fun hbad => ?_) (fun j hj he => ?_)
  · refine z_top (nI 1) rfl ?_
    refine z_if_eqN M.1 10 dX0_put_5 (by decide) (by omega) (fun h5 => absurd h5 (by decide)) (fun h5 => ?_)
    refine z_iconst M.1 (-1) dX0_put_8 (by decide) ?_
    exact x_reti M dX0_put_9 (Or.inl ⟨hbad, rfl, rfl⟩)
  · subst he
    refine z_if_eqN M.1 10 dX0_put_5 (by decide) (by omega) (fun h5 => ?_) (fun h5 => absurd h5 (by decide))
    refine z_aload_n M.1 0 dX0_put_10 rfl ?_
    refine x_get6 M.1 dX0_put_11 ?_
    refine z_top (nI (k)) (hk) ?_
    refine z_if_neN M.1 20 dX0_put_14 (by decide) (by omega) (fun h14 => ?_) (fun h14 => ?_)
    · refine z_iconst M.1 (nI 0) dX0_put_20 (by decide) ?_
      refine z_istore_n M.1 M.2.2.2.2.1 [(0, .ref (xa g 11)), (1, .int (nI (j))), (2, .int (nI (0)))] [1, 2, 0] dX0_put_21 (by decide) rfl ?_
      refine z_I (congrArg (xI g (eS E)) (wf_id σ 8).symm) ?_
      refine l_put M hk4 hk (fun f hf => ?_) k 0 (σ 8) (by omega) (fun i hi => absurd hi (Nat.not_lt_zero i))
      refine z_aload_n M.1 0 dX0_put_48 rfl ?_
      refine x_get6 M.1 dX0_put_49 ?_
      refine z_top (nI (k)) (hk) ?_
      refine z_istore_n M.1 M.2.2.2.2.1 [(0, .ref (xa g 11)), (1, .int (nI (j))), (2, .int (nI (k)))] [1, 2, 0] dX0_put_52 (by decide) rfl ?_
      refine z_aload_n M.1 0 dX0_put_53 rfl ?_
      refine z_iconst M.1 (nI 0) dX0_put_54 (by decide) ?_
      refine x_put6 M.1 dX0_put_55 ?_
      refine z_aload_n M.1 0 dX0_put_58 rfl ?_
      refine z_iload_n M.1 1 dX0_put_59 rfl ?_
      refine z_iload_n M.1 2 dX0_put_60 rfl ?_
      refine k_place M (by decide) dX0_put_61 (Nat.le_of_ble_eq_true rfl) (G.by rfl rfl rfl rfl) (D.by rfl rfl) hj (hk4) (h14) (fun σ' hI' h6 h7 h9 => ?_)
      refine z_iload_n M.1 2 dX0_put_64 rfl ?_
      exact x_reti M dX0_put_65 (Or.inr ⟨j, hj, rfl, Or.inr ⟨h14, rfl, by rw [h6]; exact wr_s _ 6 0 _, h9, f, hf, hI'⟩⟩)
    · refine z_bipush M.1 (-3) dX0_put_17 (by decide) ?_
      exact x_reti M dX0_put_19 (Or.inr ⟨j, hj, rfl, Or.inl ⟨h14, rfl, rfl⟩⟩)
theorem l_digest {E : EV} {g : XA} {τ : XS} {j n0 : Nat} {u : Nat → Int32} {Qc : Array Value → State → Outcome → State → Prop} (M : xM E cX0_digest 4 (some .int) 3 g Qc) (hj : j < 8) (hn : n0 ≤ 4) (h3 : τ 3 j = nI n0) (hu : ∀ i, i < n0 → τ 8 i = u i) (K : Az E (xI g (eS E) τ) [(0, .ref (xa g 11)), (1, .int (nI j)), (2, .int (dsum u n0)), (3, .int (nI n0))] 58 []) : ∀ n c, c + n = n0 → Az E (xI g (eS E) τ) [(0, .ref (xa g 11)), (1, .int (nI j)), (2, .int (dsum u c)), (3, .int (nI c))] 29 [] := by
  intro n
  induction n with
  | zero =>
    intro c hi
    refine z_iload_n M.1 3 dX0_digest_29 rfl ?_
    refine z_aload_n M.1 0 dX0_digest_30 rfl ?_
    refine x_get3 M.1 dX0_digest_31 ?_
    refine z_iload_n M.1 1 dX0_digest_34 rfl ?_
    refine x_ld3 M.1 dX0_digest_35 (by omega) ?_
    refine z_top (nI (n0)) (h3) ?_
    refine z_icmp_geN M.1 58 dX0_digest_36 (by decide) (by omega) (by omega) (fun h36 => ?_) (fun h36 => absurd h36 (by omega))
    rw [show c = n0 by omega]
    exact K
  | succ n ih =>
    intro c hi
    refine z_iload_n M.1 3 dX0_digest_29 rfl ?_
    refine z_aload_n M.1 0 dX0_digest_30 rfl ?_
    refine x_get3 M.1 dX0_digest_31 ?_
    refine z_iload_n M.1 1 dX0_digest_34 rfl ?_
    refine x_ld3 M.1 dX0_digest_35 (by omega) ?_
    refine z_top (nI (n0)) (h3) ?_
    refine z_icmp_geN M.1 58 dX0_digest_36 (by decide) (by omega) (by omega) (fun h36 => absurd h36 (by omega)) (fun h36 => ?_)
    refine z_iload_n M.1 2 dX0_digest_39 rfl ?_
    refine z_iload_n M.1 3 dX0_digest_40 rfl ?_
    refine z_iconst M.1 (nI 1) dX0_digest_41 (by decide) ?_
    refine z_iaddN M.1 dX0_digest_42 ?_
    refine z_aload_n M.1 0 dX0_digest_43 rfl ?_
    refine x_get8 M.1 dX0_digest_44 ?_
    refine z_iload_n M.1 3 dX0_digest_47 rfl ?_
    refine x_ld8 M.1 dX0_digest_48 (by omega) ?_
    refine z_imul M.1 dX0_digest_49 ?_
    refine z_iadd M.1 dX0_digest_50 ?_
    refine z_top (dsum u (c + 1)) (by rw [hu c (by omega)]; rfl) ?_
    refine z_istore_n M.1 M.2.2.2.2.1 [(0, .ref (xa g 11)), (1, .int (nI (j))), (2, .int (dsum u (c + 1))), (3, .int (nI (c)))] [1, 2, 0, 3] dX0_digest_51 (by decide) rfl ?_
    refine z_iincN M.1 M.2.2.2.2.1 [(0, .ref (xa g 11)), (1, .int (nI (j))), (2, .int (dsum u (c + 1))), (3, .int (nI (c + 1)))] 3 [1, 2, 3, 0] dX0_digest_52 rfl (by decide) rfl ?_
    refine z_goto M.1 29 dX0_digest_55 (by decide) ?_
    exact ih (c + 1) (by omega)
set_option maxHeartbeats 4000000 in
theorem c_digest (l : Launch) (g : XA) (σ : XS) (e : Int32) (w : Nat → Nat) (v : Nat → Nat → Int32) (m : Nat → Int32) (c0 : Nat → Nat) (hI : Inv σ w v m c0) : Met l yX0_digest (ws_ yX0_digest cX0_digest 4 (some .int)) (rmk 3) (va_Pc [.ref (xa g 11), .int e] (xW g σ)) (va_Qi (fun (r : Int32) (σ' : XS) => (e < 0 ∨ nI 8 ≤ e) ∧ r = 0 ∧ σ' = σ ∨ ∃ j, j < 8 ∧ e = nI j ∧ r = dsum (v j) (w j) ∧ Kp σ σ' ∧ Inv σ' w v m c0) (xW g) (xA g)) 0 0 (xA g) := by
  refine x_enter 3 [(0, .ref (xa g 11)), (1, .int e)] (by decide) rfl (Nat.le_of_ble_eq_true rfl) rfl (fun E M => ?_)
  obtain ⟨p, G, D⟩ := hI
  refine z_aload_n M.1 0 dX0_digest_0 rfl ?_
  refine z_iload_n M.1 1 dX0_digest_1 rfl ?_
  refine k_bad M (by decide) dX0_digest_2 (Nat.le_of_ble_eq_true rfl) (fun hbad => ?_) (fun j hj he => ?_)
  · refine z_top (nI 1) rfl ?_
    refine z_if_neN M.1 17 dX0_digest_5 (by decide) (by omega) (fun h5 => ?_) (fun h5 => absurd h5 (by decide))
    refine z_iconst M.1 (nI 0) dX0_digest_17 (by decide) ?_
    exact x_reti M dX0_digest_18 (Or.inl ⟨hbad, rfl, rfl⟩)
  · subst he
    have hw4 := (G.1 j hj).1
    refine z_if_neN M.1 17 dX0_digest_5 (by decide) (by omega) (fun h5 => absurd h5 (by decide)) (fun h5 => ?_)
    refine z_aload_n M.1 0 dX0_digest_8 rfl ?_
    refine x_get3 M.1 dX0_digest_9 ?_
    refine z_iload_n M.1 1 dX0_digest_12 rfl ?_
    refine x_ld3 M.1 dX0_digest_13 (by omega) ?_
    refine z_top (nI (w j)) ((G.1 j hj).2) ?_
    refine z_if_neN M.1 19 dX0_digest_14 (by decide) (by omega) (fun h14 => ?_) (fun h14 => ?_)
    · refine z_aload_n M.1 0 dX0_digest_19 rfl ?_
      refine z_iload_n M.1 1 dX0_digest_20 rfl ?_
      refine k_recover M (by decide) dX0_digest_21 (Nat.le_of_ble_eq_true rfl) (G.st D hj h14) (fun f hf hm => ?_) (fun f hf hm hc => ?_)
      · refine z_pop M.1 dX0_digest_24 rfl ?_
        refine z_iconst M.1 (nI 0) dX0_digest_25 (by decide) ?_
        refine z_istore_n M.1 M.2.2.2.2.1 [(0, .ref (xa g 11)), (1, .int (nI (j))), (2, .int (nI (0)))] [1, 2, 0] dX0_digest_26 (by decide) rfl ?_
        refine z_iconst M.1 (nI 0) dX0_digest_27 (by decide) ?_
        refine z_istore_n M.1 M.2.2.2.2.1 [(0, .ref (xa g 11)), (1, .int (nI (j))), (2, .int (nI (0))), (3, .int (nI (0)))] [1, 2, 3, 0] dX0_digest_28 (by decide) rfl ?_
        refine l_digest (τ := wf σ 8 f) (u := v j) M hj hw4 (G.1 j hj).2 hf ?_ (w j) 0 (by omega)
        refine z_iload_n M.1 2 dX0_digest_58 rfl ?_
        exact x_reti M dX0_digest_59 (Or.inr ⟨j, hj, rfl, rfl, ⟨rfl, rfl, rfl⟩, p, G.by rfl rfl rfl rfl, D.by rfl rfl⟩)
      · refine z_pop M.1 dX0_digest_24 rfl ?_
        refine z_iconst M.1 (nI 0) dX0_digest_25 (by decide) ?_
        refine z_istore_n M.1 M.2.2.2.2.1 [(0, .ref (xa g 11)), (1, .int (nI (j))), (2, .int (nI (0)))] [1, 2, 0] dX0_digest_26 (by decide) rfl ?_
        refine z_iconst M.1 (nI 0) dX0_digest_27 (by decide) ?_
        refine z_istore_n M.1 M.2.2.2.2.1 [(0, .ref (xa g 11)), (1, .int (nI (j))), (2, .int (nI (0))), (3, .int (nI (0)))] [1, 2, 3, 0] dX0_digest_28 (by decide) rfl ?_
        refine l_digest (τ := wf σ 8 f) (u := v j) M hj hw4 (G.1 j hj).2 hf ?_ (w j) 0 (by omega)
        refine z_iload_n M.1 2 dX0_digest_58 rfl ?_
        exact x_reti M dX0_digest_59 (Or.inr ⟨j, hj, rfl, rfl, ⟨rfl, rfl, rfl⟩, p, G.by rfl rfl rfl rfl, D.by rfl rfl⟩)
    · refine z_iconst M.1 (nI 0) dX0_digest_17 (by decide) ?_
      exact x_reti M dX0_digest_18 (Or.inr ⟨j, hj, rfl, by rw [h14]; rfl, ⟨rfl, rfl, rfl⟩, p, G, D⟩)
end
section
/-! SelfHealStripes: the calls, second half -/
set_option maxRecDepth 100000
theorem sg_m {m : Int32} {c t : Nat} (h : m = 0 ∨ c = t) (a : Int32) : a ^^^ sg m c t = a ^^^ m := by
  rcases h with h | h
  · rw [h, sg_0]
  · rw [h, sg_s]
set_option maxHeartbeats 4000000 in
theorem c_damage (l : Launch) (g : XA) (σ : XS) (e c x : Int32) (w : Nat → Nat) (v : Nat → Nat → Int32) (m : Nat → Int32) (c0 : Nat → Nat) (hI : Inv σ w v m c0) : Met l yX0_damage (ws_ yX0_damage cX0_damage 7 (some .int)) (rmk 4) (va_Pc [.ref (xa g 11), .int e, .int c, .int x] (xW g σ)) (va_Qi (fun (r : Int32) (σ' : XS) => (e < 0 ∨ nI 8 ≤ e) ∧ r = -1 ∧ σ' = σ ∨ ∃ j, j < 8 ∧ e = nI j ∧ (w j = 0 ∧ r = -3 ∧ σ' = σ ∨ 0 < w j ∧ ((c < 0 ∨ nI (w j) < c) ∧ r = -1 ∧ σ' = σ ∨ ∃ t, t ≤ w j ∧ c = nI t ∧ Kp σ σ' ∧ (m j ≠ 0 ∧ c0 j ≠ t ∧ r = -4 ∧ Inv σ' w v m c0 ∨ (m j = 0 ∨ c0 j = t) ∧ (m j ^^^ x = 0 ∧ r = nI 0 ∨ m j ^^^ x ≠ 0 ∧ r = nI 1) ∧ Inv σ' w v (va_up m j (m j ^^^ x)) (va_up c0 j t))))) (xW g) (xA g)) 0 0 (xA g) := by
  refine x_enter 4 [(0, .ref (xa g 11)), (1, .int e), (2, .int c), (3, .int x)] (by decide) rfl (Nat.le_of_ble_eq_true rfl) rfl (fun E M => ?_)
  obtain ⟨p, G, D⟩ := hI
  refine z_aload_n M.1 0 dX0_damage_0 rfl ?_
  refine z_iload_n M.1 1 dX0_damage_1 rfl ?_
  refine k_bad M (by decide) dX0_damage_2 (Nat.le_of_ble_eq_true rfl) (fun hbad => ?_) (fun j hj he => ?_)
  · refine z_top (nI 1) rfl ?_
    refine z_if_eqN M.1 10 dX0_damage_5 (by decide) (by omega) (fun h5 => absurd h5 (by decide)) (fun h5 => ?_)
    refine z_iconst M.1 (-1) dX0_damage_8 (by decide) ?_
    exact x_reti M dX0_damage_9 (Or.inl ⟨hbad, rfl, rfl⟩)
  · subst he
    have hw4 := (G.1 j hj).1
    refine z_if_eqN M.1 10 dX0_damage_5 (by decide) (by omega) (fun h5 => ?_) (fun h5 => absurd h5 (by decide))
    refine z_aload_n M.1 0 dX0_damage_10 rfl ?_
    refine x_get3 M.1 dX0_damage_11 ?_
    refine z_iload_n M.1 1 dX0_damage_14 rfl ?_
    refine x_ld3 M.1 dX0_damage_15 (by omega) ?_
    refine z_top (nI (w j)) ((G.1 j hj).2) ?_
    refine z_if_neN M.1 22 dX0_damage_16 (by decide) (by omega) (fun h16 => ?_) (fun h16 => ?_)
    · refine z_iload_n M.1 2 dX0_damage_22 rfl ?_
      refine z_if_lt M.1 36 dX0_damage_23 (by decide) (fun h23 => ?_) (fun h23 => ?_)
      · refine z_iconst M.1 (-1) dX0_damage_36 (by decide) ?_
        exact x_reti M dX0_damage_37 (Or.inr ⟨j, hj, rfl, Or.inr ⟨h16, Or.inl ⟨Or.inl h23, rfl, rfl⟩⟩⟩)
      · refine z_iload_n M.1 2 dX0_damage_26 rfl ?_
        refine z_aload_n M.1 0 dX0_damage_27 rfl ?_
        refine x_get3 M.1 dX0_damage_28 ?_
        refine z_iload_n M.1 1 dX0_damage_31 rfl ?_
        refine x_ld3 M.1 dX0_damage_32 (by omega) ?_
        refine z_top (nI (w j)) ((G.1 j hj).2) ?_
        refine z_icmp_le M.1 38 dX0_damage_33 (by decide) (fun h33 => ?_) (fun h33 => ?_)
        · obtain ⟨t, ht, rfl⟩ := ix_le (by omega) h23 h33
          have hc04 := (D j hj h16).1
          refine z_aload_n M.1 0 dX0_damage_38 rfl ?_
          refine z_iload_n M.1 1 dX0_damage_39 rfl ?_
          refine k_faulty M (by decide) dX0_damage_40 (Nat.le_of_ble_eq_true rfl) (G.st D hj h16) (fun f hf hm => ?_) (fun f hf hm => ?_)
          · refine z_istore M.1 M.2.2.2.2.1 [(0, .ref (xa g 11)), (1, .int (nI (j))), (2, .int (nI (t))), (3, .int (x)), (4, .int ((-5)))] [1, 2, 3, 4, 0] dX0_damage_43 (by decide) rfl ?_
            refine z_iload M.1 4 dX0_damage_45 rfl ?_
            refine z_bipush M.1 (-5) dX0_damage_47 (by decide) ?_
            refine z_icmp_eq M.1 61 dX0_damage_49 (by decide) (fun h49 => ?_) (fun h49 => absurd h49 (not_not_intro rfl))
            have hmt : m j = 0 ∨ c0 j = t := Or.inl hm
            refine z_aload_n M.1 0 dX0_damage_61 rfl ?_
            refine x_get5 M.1 dX0_damage_62 ?_
            refine z_iload_n M.1 1 dX0_damage_65 rfl ?_
            refine z_iconst M.1 (nI 5) dX0_damage_66 (by decide) ?_
            refine z_imulN M.1 dX0_damage_67 ?_
            refine z_iload_n M.1 2 dX0_damage_68 rfl ?_
            refine z_iaddN M.1 dX0_damage_69 ?_
            refine x_ld5 M.1 dX0_damage_70 (by omega) ?_
            refine z_top (nI (p j t)) ((G.2.1 j hj h16 t ht).1) ?_
            refine z_istore M.1 M.2.2.2.2.1 [(0, .ref (xa g 11)), (1, .int (nI (j))), (2, .int (nI (t))), (3, .int (x)), (4, .int ((-5))), (5, .int (nI (p j t)))] [1, 2, 3, 4, 5, 0] dX0_damage_71 (by decide) rfl ?_
            refine z_aload_n M.1 0 dX0_damage_73 rfl ?_
            refine x_get0 M.1 dX0_damage_74 ?_
            refine z_iload M.1 5 dX0_damage_77 rfl ?_
            refine z_aload_n M.1 0 dX0_damage_79 rfl ?_
            refine x_get0 M.1 dX0_damage_80 ?_
            refine z_iload M.1 5 dX0_damage_83 rfl ?_
            refine x_ld0 M.1 dX0_damage_85 ((G.2.1 j hj h16 t ht).2.1) ?_
            refine z_top (tv (v j) (w j) t ^^^ m j) (((D j hj h16).2.2 t ht).trans (sg_m hmt _)) ?_
            refine z_iload_n M.1 3 dX0_damage_86 rfl ?_
            refine z_ixor M.1 dX0_damage_87 ?_
            refine z_top (tv (v j) (w j) t ^^^ (m j ^^^ x)) (xr_a _ _ _) ?_
            refine x_st0 M.1 dX0_damage_88 ((G.2.1 j hj h16 t ht).2.1) ?_
            have G2 : Geo (wr (wf σ 8 f) 0 (p j t) (tv (v j) (w j) t ^^^ (m j ^^^ x))) w p := G.by rfl rfl rfl rfl
            have D2 : Dat (wr (wf σ 8 f) 0 (p j t) (tv (v j) (w j) t ^^^ (m j ^^^ x))) w p v (va_up m j (m j ^^^ x)) (va_up c0 j t) := cell_ok G D hj h16 ht hmt rfl rfl
            have S2 : St (wr (wf σ 8 f) 0 (p j t) (tv (v j) (w j) t ^^^ (m j ^^^ x))) j (w j) (p j) (v j) (m j ^^^ x) t := by
              have h := G2.st D2 hj h16
              rw [va_up_s, va_up_s] at h
              exact h
            refine z_aload_n M.1 0 dX0_damage_89 rfl ?_
            refine z_iload_n M.1 1 dX0_damage_90 rfl ?_
            refine k_faulty M (by decide) dX0_damage_91 (Nat.le_of_ble_eq_true rfl) (S2) (fun f2 hf2 hm2 => ?_) (fun f2 hf2 hm2 => ?_)
            · refine z_istore M.1 M.2.2.2.2.1 [(0, .ref (xa g 11)), (1, .int (nI (j))), (2, .int (nI (t))), (3, .int (x)), (4, .int ((-5))), (5, .int (nI (p j t))), (6, .int ((-5)))] [1, 2, 3, 4, 5, 6, 0] dX0_damage_94 (by decide) rfl ?_
              refine z_iload M.1 6 dX0_damage_96 rfl ?_
              refine z_iload_n M.1 2 dX0_damage_98 rfl ?_
              refine z_icmp_ne M.1 106 dX0_damage_99 (by decide) (fun h99 => ?_) (fun h99 => absurd h99 (fun q => nI_ne5 (by omega) q.symm))
              refine z_iconst M.1 (nI 0) dX0_damage_106 (by decide) ?_
              exact x_reti M dX0_damage_107 (Or.inr ⟨j, hj, rfl, Or.inr ⟨h16, Or.inr ⟨t, ht, rfl, ⟨rfl, rfl, rfl⟩, Or.inr ⟨hmt, Or.inl ⟨hm2, rfl⟩, p, G2.by rfl rfl rfl rfl, D2.by rfl rfl⟩⟩⟩⟩)
            · refine z_istore M.1 M.2.2.2.2.1 [(0, .ref (xa g 11)), (1, .int (nI (j))), (2, .int (nI (t))), (3, .int (x)), (4, .int ((-5))), (5, .int (nI (p j t))), (6, .int (nI (t)))] [1, 2, 3, 4, 5, 6, 0] dX0_damage_94 (by decide) rfl ?_
              refine z_iload M.1 6 dX0_damage_96 rfl ?_
              refine z_iload_n M.1 2 dX0_damage_98 rfl ?_
              refine z_icmp_neN M.1 106 dX0_damage_99 (by decide) (by omega) (by omega) (fun h99 => absurd h99 (by omega)) (fun h99 => ?_)
              refine z_iconst M.1 (nI 1) dX0_damage_102 (by decide) ?_
              refine z_goto M.1 107 dX0_damage_103 (by decide) ?_
              exact x_reti M dX0_damage_107 (Or.inr ⟨j, hj, rfl, Or.inr ⟨h16, Or.inr ⟨t, ht, rfl, ⟨rfl, rfl, rfl⟩, Or.inr ⟨hmt, Or.inr ⟨hm2, rfl⟩, p, G2.by rfl rfl rfl rfl, D2.by rfl rfl⟩⟩⟩⟩)
          · refine z_istore M.1 M.2.2.2.2.1 [(0, .ref (xa g 11)), (1, .int (nI (j))), (2, .int (nI (t))), (3, .int (x)), (4, .int (nI (c0 j)))] [1, 2, 3, 4, 0] dX0_damage_43 (by decide) rfl ?_
            refine z_iload M.1 4 dX0_damage_45 rfl ?_
            refine z_bipush M.1 (-5) dX0_damage_47 (by decide) ?_
            refine z_icmp_eq M.1 61 dX0_damage_49 (by decide) (fun h49 => absurd h49 (nI_ne5 (by omega))) (fun h49 => ?_)
            refine z_iload M.1 4 dX0_damage_52 rfl ?_
            refine z_iload_n M.1 2 dX0_damage_54 rfl ?_
            refine z_icmp_eqN M.1 61 dX0_damage_55 (by decide) (by omega) (by omega) (fun h55 => ?_) (fun h55 => ?_)
            · have hmt : m j = 0 ∨ c0 j = t := Or.inr h55
              refine z_aload_n M.1 0 dX0_damage_61 rfl ?_
              refine x_get5 M.1 dX0_damage_62 ?_
              refine z_iload_n M.1 1 dX0_damage_65 rfl ?_
              refine z_iconst M.1 (nI 5) dX0_damage_66 (by decide) ?_
              refine z_imulN M.1 dX0_damage_67 ?_
              refine z_iload_n M.1 2 dX0_damage_68 rfl ?_
              refine z_iaddN M.1 dX0_damage_69 ?_
              refine x_ld5 M.1 dX0_damage_70 (by omega) ?_
              refine z_top (nI (p j t)) ((G.2.1 j hj h16 t ht).1) ?_
              refine z_istore M.1 M.2.2.2.2.1 [(0, .ref (xa g 11)), (1, .int (nI (j))), (2, .int (nI (t))), (3, .int (x)), (4, .int (nI (c0 j))), (5, .int (nI (p j t)))] [1, 2, 3, 4, 5, 0] dX0_damage_71 (by decide) rfl ?_
              refine z_aload_n M.1 0 dX0_damage_73 rfl ?_
              refine x_get0 M.1 dX0_damage_74 ?_
              refine z_iload M.1 5 dX0_damage_77 rfl ?_
              refine z_aload_n M.1 0 dX0_damage_79 rfl ?_
              refine x_get0 M.1 dX0_damage_80 ?_
              refine z_iload M.1 5 dX0_damage_83 rfl ?_
              refine x_ld0 M.1 dX0_damage_85 ((G.2.1 j hj h16 t ht).2.1) ?_
              refine z_top (tv (v j) (w j) t ^^^ m j) (((D j hj h16).2.2 t ht).trans (sg_m hmt _)) ?_
              refine z_iload_n M.1 3 dX0_damage_86 rfl ?_
              refine z_ixor M.1 dX0_damage_87 ?_
              refine z_top (tv (v j) (w j) t ^^^ (m j ^^^ x)) (xr_a _ _ _) ?_
              refine x_st0 M.1 dX0_damage_88 ((G.2.1 j hj h16 t ht).2.1) ?_
              have G2 : Geo (wr (wf σ 8 f) 0 (p j t) (tv (v j) (w j) t ^^^ (m j ^^^ x))) w p := G.by rfl rfl rfl rfl
              have D2 : Dat (wr (wf σ 8 f) 0 (p j t) (tv (v j) (w j) t ^^^ (m j ^^^ x))) w p v (va_up m j (m j ^^^ x)) (va_up c0 j t) := cell_ok G D hj h16 ht hmt rfl rfl
              have S2 : St (wr (wf σ 8 f) 0 (p j t) (tv (v j) (w j) t ^^^ (m j ^^^ x))) j (w j) (p j) (v j) (m j ^^^ x) t := by
                have h := G2.st D2 hj h16
                rw [va_up_s, va_up_s] at h
                exact h
              refine z_aload_n M.1 0 dX0_damage_89 rfl ?_
              refine z_iload_n M.1 1 dX0_damage_90 rfl ?_
              refine k_faulty M (by decide) dX0_damage_91 (Nat.le_of_ble_eq_true rfl) (S2) (fun f2 hf2 hm2 => ?_) (fun f2 hf2 hm2 => ?_)
              · refine z_istore M.1 M.2.2.2.2.1 [(0, .ref (xa g 11)), (1, .int (nI (j))), (2, .int (nI (t))), (3, .int (x)), (4, .int (nI (c0 j))), (5, .int (nI (p j t))), (6, .int ((-5)))] [1, 2, 3, 4, 5, 6, 0] dX0_damage_94 (by decide) rfl ?_
                refine z_iload M.1 6 dX0_damage_96 rfl ?_
                refine z_iload_n M.1 2 dX0_damage_98 rfl ?_
                refine z_icmp_ne M.1 106 dX0_damage_99 (by decide) (fun h99 => ?_) (fun h99 => absurd h99 (fun q => nI_ne5 (by omega) q.symm))
                refine z_iconst M.1 (nI 0) dX0_damage_106 (by decide) ?_
                exact x_reti M dX0_damage_107 (Or.inr ⟨j, hj, rfl, Or.inr ⟨h16, Or.inr ⟨t, ht, rfl, ⟨rfl, rfl, rfl⟩, Or.inr ⟨hmt, Or.inl ⟨hm2, rfl⟩, p, G2.by rfl rfl rfl rfl, D2.by rfl rfl⟩⟩⟩⟩)
              · refine z_istore M.1 M.2.2.2.2.1 [(0, .ref (xa g 11)), (1, .int (nI (j))), (2, .int (nI (t))), (3, .int (x)), (4, .int (nI (c0 j))), (5, .int (nI (p j t))), (6, .int (nI (t)))] [1, 2, 3, 4, 5, 6, 0] dX0_damage_94 (by decide) rfl ?_
                refine z_iload M.1 6 dX0_damage_96 rfl ?_
                refine z_iload_n M.1 2 dX0_damage_98 rfl ?_
                refine z_icmp_neN M.1 106 dX0_damage_99 (by decide) (by omega) (by omega) (fun h99 => absurd h99 (by omega)) (fun h99 => ?_)
                refine z_iconst M.1 (nI 1) dX0_damage_102 (by decide) ?_
                refine z_goto M.1 107 dX0_damage_103 (by decide) ?_
                exact x_reti M dX0_damage_107 (Or.inr ⟨j, hj, rfl, Or.inr ⟨h16, Or.inr ⟨t, ht, rfl, ⟨rfl, rfl, rfl⟩, Or.inr ⟨hmt, Or.inr ⟨hm2, rfl⟩, p, G2.by rfl rfl rfl rfl, D2.by rfl rfl⟩⟩⟩⟩)
            · refine z_bipush M.1 (-4) dX0_damage_58 (by decide) ?_
              exact x_reti M dX0_damage_60 (Or.inr ⟨j, hj, rfl, Or.inr ⟨h16, Or.inr ⟨t, ht, rfl, ⟨rfl, rfl, rfl⟩, Or.inl ⟨hm, h55, rfl, p, G.by rfl rfl rfl rfl, D.by rfl rfl⟩⟩⟩⟩)
        · refine z_iconst M.1 (-1) dX0_damage_36 (by decide) ?_
          exact x_reti M dX0_damage_37 (Or.inr ⟨j, hj, rfl, Or.inr ⟨h16, Or.inl ⟨Or.inr (Int32.not_le.mp h33), rfl, rfl⟩⟩⟩)
    · refine z_bipush M.1 (-3) dX0_damage_19 (by decide) ?_
      exact x_reti M dX0_damage_21 (Or.inr ⟨j, hj, rfl, Or.inl ⟨h16, rfl, rfl⟩⟩)
set_option maxHeartbeats 4000000 in
theorem c_scrubOne (l : Launch) (g : XA) (σ : XS) (j : Nat) (w : Nat → Nat) (p : Nat → Nat → Nat) (v : Nat → Nat → Int32) (m : Nat → Int32) (c0 : Nat → Nat) (G : Geo σ w p) (D : Dat σ w p v m c0) (hj : j < 8) (hw0 : 0 < w j) : Met l yX0_scrubOne (ws_ yX0_scrubOne cX0_scrubOne 3 none) (rmk 4) (va_Pc [.ref (xa g 11), .int (nI j)] (xW g σ)) (va_Qv (fun (σ' : XS) => σ' 6 = σ 6 ∧ σ' 7 = σ 7 ∧ Geo σ' w p ∧ Dat σ' w p v (va_up m j 0) c0 ∧ (m j = 0 ∧ σ' 9 0 = σ 9 0 ∨ m j ≠ 0 ∧ σ' 9 0 = σ 9 0 + nI 1)) (xW g) (xA g)) 0 0 (xA g) := by
  refine x_enter 4 [(0, .ref (xa g 11)), (1, .int (nI j))] (by decide) rfl (Nat.le_of_ble_eq_true rfl) rfl (fun E M => ?_)
  have hw4 := (G.1 j hj).1
  have hc0 := (D j hj hw0).1
  refine z_aload_n M.1 0 dX0_scrubOne_0 rfl ?_
  refine z_iload_n M.1 1 dX0_scrubOne_1 rfl ?_
  refine k_faulty M (by decide) dX0_scrubOne_2 (Nat.le_of_ble_eq_true rfl) (G.st D hj hw0) (fun f hf hm => ?_) (fun f hf hm => ?_)
  · refine z_istore_n M.1 M.2.2.2.2.1 [(0, .ref (xa g 11)), (1, .int (nI (j))), (2, .int ((-5)))] [1, 2, 0] dX0_scrubOne_5 (by decide) rfl ?_
    refine z_iload_n M.1 2 dX0_scrubOne_6 rfl ?_
    refine z_aload_n M.1 0 dX0_scrubOne_7 rfl ?_
    refine x_get3 M.1 dX0_scrubOne_8 ?_
    refine z_iload_n M.1 1 dX0_scrubOne_11 rfl ?_
    refine x_ld3 M.1 dX0_scrubOne_12 (by omega) ?_
    refine z_top (nI (w j)) ((G.1 j hj).2) ?_
    refine z_icmp_ne M.1 50 dX0_scrubOne_13 (by decide) (fun h13 => ?_) (fun h13 => absurd h13 (fun q => nI_ne5 (by omega) q.symm))
    refine z_aload_n M.1 0 dX0_scrubOne_50 rfl ?_
    refine z_iload_n M.1 1 dX0_scrubOne_51 rfl ?_
    refine z_iload_n M.1 2 dX0_scrubOne_52 rfl ?_
    refine k_mendN M (by decide) dX0_scrubOne_53 (Nat.le_of_ble_eq_true rfl) (by decide) ?_
    refine x_retv M dX0_scrubOne_56 ⟨rfl, rfl, G.by rfl rfl rfl rfl, ?_, Or.inl ⟨hm, rfl⟩⟩
    rw [← hm, va_up_id]
    exact D.by rfl rfl
  · refine z_istore_n M.1 M.2.2.2.2.1 [(0, .ref (xa g 11)), (1, .int (nI (j))), (2, .int (nI (c0 j)))] [1, 2, 0] dX0_scrubOne_5 (by decide) rfl ?_
    refine z_iload_n M.1 2 dX0_scrubOne_6 rfl ?_
    refine z_aload_n M.1 0 dX0_scrubOne_7 rfl ?_
    refine x_get3 M.1 dX0_scrubOne_8 ?_
    refine z_iload_n M.1 1 dX0_scrubOne_11 rfl ?_
    refine x_ld3 M.1 dX0_scrubOne_12 (by omega) ?_
    refine z_top (nI (w j)) ((G.1 j hj).2) ?_
    refine z_icmp_neN M.1 50 dX0_scrubOne_13 (by decide) (by omega) (by omega) (fun h13 => ?_) (fun h13 => ?_)
    · refine z_aload_n M.1 0 dX0_scrubOne_50 rfl ?_
      refine z_iload_n M.1 1 dX0_scrubOne_51 rfl ?_
      refine z_iload_n M.1 2 dX0_scrubOne_52 rfl ?_
      refine k_mendT (p := p j) M (by decide) dX0_scrubOne_53 (Nat.le_of_ble_eq_true rfl) (G.ext hj (by omega)) (by omega) (by omega) ?_
      refine x_retv M dX0_scrubOne_56 ⟨rfl, rfl, G.by rfl rfl rfl rfl, ?_, Or.inr ⟨hm, wr_s _ 9 0 _⟩⟩
      have h := cell_ok (σ' := (wr (wr (wf σ 8 f) 0 (p j (c0 j)) (f (c0 j))) 9 0 (σ 9 0 + nI 1))) (x := 0) G D hj hw0 hc0 (Or.inr rfl) rfl (by
        show upd (σ 0) (p j (c0 j)) (f (c0 j)) = _
        rw [hf _ (by omega), tv_lt (by omega), xr_0])
      rw [va_up_id] at h
      exact h
    · refine z_aload_n M.1 0 dX0_scrubOne_16 rfl ?_
      refine x_get0 M.1 dX0_scrubOne_17 ?_
      refine z_aload_n M.1 0 dX0_scrubOne_20 rfl ?_
      refine x_get5 M.1 dX0_scrubOne_21 ?_
      refine z_iload_n M.1 1 dX0_scrubOne_24 rfl ?_
      refine z_iconst M.1 (nI 5) dX0_scrubOne_25 (by decide) ?_
      refine z_imulN M.1 dX0_scrubOne_26 ?_
      refine z_iload_n M.1 2 dX0_scrubOne_27 rfl ?_
      refine z_iaddN M.1 dX0_scrubOne_28 ?_
      refine x_ld5 M.1 dX0_scrubOne_29 (by omega) ?_
      refine z_top (nI (p j (c0 j))) ((G.2.1 j hj hw0 _ hc0).1) ?_
      refine z_aload_n M.1 0 dX0_scrubOne_30 rfl ?_
      refine z_iload_n M.1 1 dX0_scrubOne_31 rfl ?_
      refine z_iload_n M.1 2 dX0_scrubOne_32 rfl ?_
      refine k_rebuilt M (by decide) dX0_scrubOne_33 (Nat.le_of_ble_eq_true rfl) (G.ext hj hw0) (by omega) ?_
      refine z_top (tv (v j) (w j) (c0 j) ^^^ 0) ((xs_ok (D j hj hw0).2.2 hc0 hc0).trans (by rw [if_pos rfl])) ?_
      refine x_st0 M.1 dX0_scrubOne_36 ((G.2.1 j hj hw0 _ hc0).2.1) ?_
      refine z_aload_n M.1 0 dX0_scrubOne_37 rfl ?_
      refine z_dup M.1 dX0_scrubOne_38 rfl ?_
      refine x_get9 M.1 dX0_scrubOne_39 ?_
      refine z_iconst M.1 (nI 1) dX0_scrubOne_42 (by decide) ?_
      refine z_iadd M.1 dX0_scrubOne_43 ?_
      refine x_put9 M.1 dX0_scrubOne_44 ?_
      refine z_goto M.1 56 dX0_scrubOne_47 (by decide) ?_
      refine x_retv M dX0_scrubOne_56 ⟨rfl, rfl, G.by rfl rfl rfl rfl, ?_, Or.inr ⟨hm, wr_s _ 9 0 _⟩⟩
      have h := cell_ok (σ' := (wr (wr (wf σ 8 f) 0 (p j (c0 j)) (tv (v j) (w j) (c0 j) ^^^ 0)) 9 0 (σ 9 0 + nI 1))) (x := 0) G D hj hw0 hc0 (Or.inr rfl) rfl rfl
      rw [va_up_id] at h
      exact h
theorem k_scrubOne {E : EV} {cc : ByteArray} {lv : List (Nat × Value)} {pc : Nat} {rest : List Value} {g : XA} {σ : XS} {nL d : Nat} {ret : Option FieldType} {Qc : Array Value → State → Outcome → State → Prop} {j : Nat} {p : Nat → Nat → Nat} {w : Nat → Nat} {v : Nat → Nat → Int32} {m : Nat → Int32} {c0 : Nat → Nat} (M : xM E cc nL ret d g Qc) (hd : 4 < d) (dg : decode cc pc = .ok (.invokevirtual 90, 3)) (hW : (rest.map fun v => v.category).sum ≤ 8) (G : Geo σ w p) (D : Dat σ w p v m c0) (hj : j < 8) (hw0 : 0 < w j) (kk : ∀ σ' : XS, σ' 6 = σ 6 → σ' 7 = σ 7 → Geo σ' w p → Dat σ' w p v (va_up m j 0) c0 → (m j = 0 ∧ σ' 9 0 = σ 9 0 ∨ m j ≠ 0 ∧ σ' 9 0 = σ 9 0 + nI 1) → Az E (xI g (eS E) σ') lv (pc + 3) rest) : Az E (xI g (eS E) σ) lv pc (.int (nI j) :: .ref (xa g 11) :: rest) :=
  x_callv M (fun l => c_scrubOne l g σ j w p v m c0 G D hj hw0) (lw_V q154 q156 qs13 q19 q157) (show yX0_scrubOne.cls = RX0 ∧ yX0_scrubOne.cls ≠ "java/lang/invoke/MethodHandle" ∧ yX0_scrubOne.cls ≠ "java/lang/invoke/VarHandle" ∧ (parseMethodDescriptor yX0_scrubOne.desc).map (fun d => d.parameters.length) = some 1 from by decide +kernel) hd (by decide) rfl hW dg (fun u z => by
    obtain ⟨h1, h2, h3, h4, h5⟩ := z
    exact kk u h1 h2 h3 h4 h5)
def cnt (w : Nat → Nat) (m : Nat → Int32) : Nat → Nat
  | 0 => 0
  | e + 1 => cnt w m e + (if 0 < w e ∧ m e ≠ 0 then 1 else 0)
theorem cnt_le (w : Nat → Nat) (m : Nat → Int32) : ∀ e, cnt w m e ≤ e
  | 0 => Nat.le_refl 0
  | e + 1 => by
    show cnt w m e + (if 0 < w e ∧ m e ≠ 0 then 1 else 0) ≤ e + 1
    have h := cnt_le w m e
    split <;> omega
theorem cnt_y {w : Nat → Nat} {m : Nat → Int32} {e : Nat} (h : 0 < w e ∧ m e ≠ 0) : cnt w m (e + 1) = cnt w m e + 1 := by
  show cnt w m e + (if 0 < w e ∧ m e ≠ 0 then 1 else 0) = _
  rw [if_pos h]
theorem cnt_n {w : Nat → Nat} {m : Nat → Int32} {e : Nat} (h : ¬ (0 < w e ∧ m e ≠ 0)) : cnt w m (e + 1) = cnt w m e := by
  show cnt w m e + (if 0 < w e ∧ m e ≠ 0 then 1 else 0) = _
  rw [if_neg h]
  rfl
theorem sub_c (B x : Int32) : (B + x) - B = x := by grind
theorem add_a (B : Int32) (n : Nat) : (B + nI n) + nI 1 = B + nI (n + 1) := by rw [← nI_add]; grind
theorem l_scrub {E : EV} {g : XA} {σ : XS} {p : Nat → Nat → Nat} {w : Nat → Nat} {v : Nat → Nat → Int32} {m : Nat → Int32} {c0 : Nat → Nat} (M : xM E cX0_scrub 3 (some .int) 5 g (va_Qi (fun (r : Int32) (σ' : XS) => r = nI (cnt w m 8) ∧ σ' 6 = σ 6 ∧ σ' 7 = σ 7 ∧ σ' 9 0 = σ 9 0 + nI (cnt w m 8) ∧ Inv σ' w v (fun _ => 0) c0) (xW g) (xA g))) : ∀ n e (τ : XS) (me : Nat → Int32), e + n = 8 → Geo τ w p → Dat τ w p v me c0 → τ 6 = σ 6 → τ 7 = σ 7 → τ 9 0 = σ 9 0 + nI (cnt w m e) → (∀ x, x < e → 0 < w x → me x = 0) → (∀ x, e ≤ x → me x = m x) → Az E (xI g (eS E) τ) [(0, .ref (xa g 11)), (1, .int (σ 9 0)), (2, .int (nI e))] 7 [] := by
  intro n
  induction n with
  | zero =>
    intro e τ me hi GT DT t6 t7 t9 a1 a2
    refine z_iload_n M.1 2 dX0_scrub_7 rfl ?_
    refine z_bipush M.1 (nI 8) dX0_scrub_8 (by decide) ?_
    refine z_icmp_geN M.1 33 dX0_scrub_10 (by decide) (by omega) (by omega) (fun h10 => ?_) (fun h10 => absurd h10 (by omega))
    refine z_aload_n M.1 0 dX0_scrub_33 rfl ?_
    refine x_get9 M.1 dX0_scrub_34 ?_
    refine z_top (σ 9 0 + nI (cnt w m e)) (t9) ?_
    refine z_iload_n M.1 1 dX0_scrub_37 rfl ?_
    refine z_isub M.1 dX0_scrub_38 ?_
    refine z_top (nI (cnt w m e)) (sub_c _ _) ?_
    obtain rfl : e = 8 := by omega
    exact x_reti M dX0_scrub_39 ⟨rfl, t6, t7, t9, p, GT, DT.congr (fun _ _ _ _ _ => rfl) (fun x hx hw => a1 x hx hw) (fun x hx hw => ⟨(DT x hx hw).1, fun _ => rfl⟩)⟩
  | succ n ih =>
    intro e τ me hi GT DT t6 t7 t9 a1 a2
    refine z_iload_n M.1 2 dX0_scrub_7 rfl ?_
    refine z_bipush M.1 (nI 8) dX0_scrub_8 (by decide) ?_
    refine z_icmp_geN M.1 33 dX0_scrub_10 (by decide) (by omega) (by omega) (fun h10 => absurd h10 (by omega)) (fun h10 => ?_)
    refine z_aload_n M.1 0 dX0_scrub_13 rfl ?_
    refine x_get3 M.1 dX0_scrub_14 ?_
    refine z_iload_n M.1 2 dX0_scrub_17 rfl ?_
    refine x_ld3 M.1 dX0_scrub_18 (by omega) ?_
    refine z_top (nI (w e)) ((GT.1 e (by omega)).2) ?_
    have hw4 := (GT.1 e (by omega)).1
    refine z_if_leN M.1 27 dX0_scrub_19 (by decide) (by omega) (fun h19 => ?_) (fun h19 => ?_)
    · refine z_iincN M.1 M.2.2.2.2.1 [(0, .ref (xa g 11)), (1, .int (σ 9 0)), (2, .int (nI (e + 1)))] 2 [1, 2, 0] dX0_scrub_27 rfl (by decide) rfl ?_
      refine z_goto M.1 7 dX0_scrub_30 (by decide) ?_
      refine ih (e + 1) τ me (by omega) GT DT t6 t7 ?_ (fun x hx hw => ?_) (fun x hx => a2 x (by omega))
      · rw [t9, cnt_n (fun z => by omega)]
      · by_cases y : x = e
        · rw [y] at hw
          omega
        · exact a1 x (by omega) hw
    · refine z_aload_n M.1 0 dX0_scrub_22 rfl ?_
      refine z_iload_n M.1 2 dX0_scrub_23 rfl ?_
      refine k_scrubOne M (by decide) dX0_scrub_24 (Nat.le_of_ble_eq_true rfl) GT DT (by omega) h19 (fun τ' u6 u7 GU DU u9 => ?_)
      refine z_iincN M.1 M.2.2.2.2.1 [(0, .ref (xa g 11)), (1, .int (σ 9 0)), (2, .int (nI (e + 1)))] 2 [1, 2, 0] dX0_scrub_27 rfl (by decide) rfl ?_
      refine z_goto M.1 7 dX0_scrub_30 (by decide) ?_
      refine ih (e + 1) τ' (va_up me e 0) (by omega) GU DU (u6.trans t6) (u7.trans t7) ?_ (fun x hx hw => ?_) (fun x hx => ?_)
      · rw [a2 e (Nat.le_refl e)] at u9
        rcases u9 with ⟨q, u9⟩ | ⟨q, u9⟩
        · rw [u9, t9, cnt_n (fun z => z.2 q)]
        · rw [u9, t9, cnt_y ⟨h19, q⟩, add_a]
      · by_cases y : x = e
        · rw [y, va_up_s]
        · rw [va_up_n y]
          exact a1 x (by omega) hw
      · rw [va_up_n (by omega)]
        exact a2 x (by omega)
set_option maxHeartbeats 4000000 in
theorem c_scrub (l : Launch) (g : XA) (σ : XS) (w : Nat → Nat) (v : Nat → Nat → Int32) (m : Nat → Int32) (c0 : Nat → Nat) (hI : Inv σ w v m c0) : Met l yX0_scrub (ws_ yX0_scrub cX0_scrub 3 (some .int)) (rmk 5) (va_Pc [.ref (xa g 11)] (xW g σ)) (va_Qi (fun (r : Int32) (σ' : XS) => r = nI (cnt w m 8) ∧ σ' 6 = σ 6 ∧ σ' 7 = σ 7 ∧ σ' 9 0 = σ 9 0 + nI (cnt w m 8) ∧ Inv σ' w v (fun _ => 0) c0) (xW g) (xA g)) 0 0 (xA g) := by
  refine x_enter 5 [(0, .ref (xa g 11))] (by decide) rfl (Nat.le_of_ble_eq_true rfl) rfl (fun E M => ?_)
  obtain ⟨p, G, D⟩ := hI
  refine z_aload_n M.1 0 dX0_scrub_0 rfl ?_
  refine x_get9 M.1 dX0_scrub_1 ?_
  refine z_istore_n M.1 M.2.2.2.2.1 [(0, .ref (xa g 11)), (1, .int (σ 9 0))] [1, 0] dX0_scrub_4 (by decide) rfl ?_
  refine z_iconst M.1 (nI 0) dX0_scrub_5 (by decide) ?_
  refine z_istore_n M.1 M.2.2.2.2.1 [(0, .ref (xa g 11)), (1, .int (σ 9 0)), (2, .int (nI (0)))] [1, 2, 0] dX0_scrub_6 (by decide) rfl ?_
  exact l_scrub M 8 0 σ m (by omega) G D rfl rfl (by show σ 9 0 = σ 9 0 + nI 0; rw [nI_0]; grind) (fun x hx => absurd hx (Nat.not_lt_zero x)) (fun _ _ => rfl)
theorem l_anyDamaged {E : EV} {g : XA} {σ : XS} {p : Nat → Nat → Nat} {w : Nat → Nat} {v : Nat → Nat → Int32} {m : Nat → Int32} {c0 : Nat → Nat} (M : xM E cX0_anyDamaged 4 (some .boolean) 4 g (va_Qi (fun (r : Int32) (σ' : XS) => ∃ f, σ' = wf σ 8 f ∧ ((∃ x, x < 8 ∧ 0 < w x ∧ m x ≠ 0) ∧ r = nI 1 ∨ (∀ x, x < 8 → 0 < w x → m x = 0) ∧ r = nI 0)) (xW g) (xA g))) (G : Geo σ w p) (D : Dat σ w p v m c0) : ∀ n e b f, e + n = 8 → (b = 1 ∧ (∃ x, x < 8 ∧ 0 < w x ∧ m x ≠ 0) ∨ b = 0 ∧ ∀ x, x < e → 0 < w x → m x = 0) → Az E (xI g (eS E) (wf σ 8 f)) [(0, .ref (xa g 11)), (1, .int (nI b)), (2, .int (nI e))] 4 [] := by
  intro n
  induction n with
  | zero =>
    intro e b f hi hb
    refine z_iload_n M.1 2 dX0_anyDamaged_4 rfl ?_
    refine z_bipush M.1 (nI 8) dX0_anyDamaged_5 (by decide) ?_
    refine z_icmp_geN M.1 47 dX0_anyDamaged_7 (by decide) (by omega) (by omega) (fun h7 => ?_) (fun h7 => absurd h7 (by omega))
    refine z_iload_n M.1 1 dX0_anyDamaged_47 rfl ?_
    rcases hb with ⟨rfl, hb⟩ | ⟨rfl, hb⟩
    · exact x_retz M dX0_anyDamaged_48 (by first | rfl | decide) ⟨f, rfl, Or.inl ⟨hb, rfl⟩⟩
    · exact x_retz M dX0_anyDamaged_48 (by first | rfl | decide) ⟨f, rfl, Or.inr ⟨fun x hx => hb x (by omega), rfl⟩⟩
  | succ n ih =>
    intro e b f hi hb
    refine z_iload_n M.1 2 dX0_anyDamaged_4 rfl ?_
    refine z_bipush M.1 (nI 8) dX0_anyDamaged_5 (by decide) ?_
    refine z_icmp_geN M.1 47 dX0_anyDamaged_7 (by decide) (by omega) (by omega) (fun h7 => absurd h7 (by omega)) (fun h7 => ?_)
    refine z_aload_n M.1 0 dX0_anyDamaged_10 rfl ?_
    refine x_get3 M.1 dX0_anyDamaged_11 ?_
    refine z_iload_n M.1 2 dX0_anyDamaged_14 rfl ?_
    refine x_ld3 M.1 dX0_anyDamaged_15 (by omega) ?_
    refine z_top (nI (w e)) ((G.1 e (by omega)).2) ?_
    have hw4 := (G.1 e (by omega)).1
    have hb1 : b ≤ 1 := by rcases hb with ⟨h1, -⟩ | ⟨h1, -⟩ <;> omega
    refine z_if_leN M.1 41 dX0_anyDamaged_16 (by decide) (by omega) (fun h16 => ?_) (fun h16 => ?_)
    · refine z_iincN M.1 M.2.2.2.2.1 [(0, .ref (xa g 11)), (1, .int (nI (b))), (2, .int (nI (e + 1)))] 2 [1, 2, 0] dX0_anyDamaged_41 rfl (by decide) rfl ?_
      refine z_goto M.1 4 dX0_anyDamaged_44 (by decide) ?_
      refine ih (e + 1) b f (by omega) ?_
      rcases hb with hb | ⟨h1, h2⟩
      · exact Or.inl hb
      · refine Or.inr ⟨h1, fun x hx hw => ?_⟩
        by_cases y : x = e
        · rw [y] at hw
          omega
        · exact h2 x (by omega) hw
    · have hc0 := (D e (by omega) h16).1
      refine z_aload_n M.1 0 dX0_anyDamaged_19 rfl ?_
      refine z_iload_n M.1 2 dX0_anyDamaged_20 rfl ?_
      refine k_faulty M (by decide) dX0_anyDamaged_21 (Nat.le_of_ble_eq_true rfl) (G.st D (show e < 8 by omega) h16) (fun f2 hf2 hm => ?_) (fun f2 hf2 hm => ?_)
      · refine z_I (congrArg (xI g (eS E)) (wf_wf σ 8 f f2)) ?_
        refine z_istore_n M.1 M.2.2.2.2.1 [(0, .ref (xa g 11)), (1, .int (nI (b))), (2, .int (nI (e))), (3, .int ((-5)))] [1, 2, 3, 0] dX0_anyDamaged_24 (by decide) rfl ?_
        refine z_iload_n M.1 1 dX0_anyDamaged_25 rfl ?_
        refine z_if_neN M.1 35 dX0_anyDamaged_26 (by decide) (by omega) (fun h26 => ?_) (fun h26 => ?_)
        · refine z_iconst M.1 (nI 1) dX0_anyDamaged_35 (by decide) ?_
          refine z_goto M.1 40 dX0_anyDamaged_36 (by decide) ?_
          refine z_istore_n M.1 M.2.2.2.2.1 [(0, .ref (xa g 11)), (1, .int (nI (1))), (2, .int (nI (e))), (3, .int ((-5)))] [1, 0, 2, 3] dX0_anyDamaged_40 (by decide) rfl ?_
          refine z_iincN M.1 M.2.2.2.2.1 [(0, .ref (xa g 11)), (1, .int (nI (1))), (2, .int (nI (e + 1))), (3, .int ((-5)))] 2 [1, 2, 0, 3] dX0_anyDamaged_41 rfl (by decide) rfl ?_
          refine z_goto M.1 4 dX0_anyDamaged_44 (by decide) ?_
          refine z_sub [0, 1, 2] rfl ?_
          refine ih (e + 1) 1 f2 (by omega) ?_
          rcases hb with ⟨h1, h2⟩ | ⟨h1, h2⟩
          · exact Or.inl ⟨rfl, h2⟩
          · omega
        · refine z_iload_n M.1 3 dX0_anyDamaged_29 rfl ?_
          refine z_bipush M.1 (-5) dX0_anyDamaged_30 (by decide) ?_
          refine z_icmp_eq M.1 39 dX0_anyDamaged_32 (by decide) (fun h32 => ?_) (fun h32 => absurd h32 (not_not_intro rfl))
          refine z_iconst M.1 (nI 0) dX0_anyDamaged_39 (by decide) ?_
          refine z_istore_n M.1 M.2.2.2.2.1 [(0, .ref (xa g 11)), (1, .int (nI (0))), (2, .int (nI (e))), (3, .int ((-5)))] [1, 0, 2, 3] dX0_anyDamaged_40 (by decide) rfl ?_
          refine z_iincN M.1 M.2.2.2.2.1 [(0, .ref (xa g 11)), (1, .int (nI (0))), (2, .int (nI (e + 1))), (3, .int ((-5)))] 2 [1, 2, 0, 3] dX0_anyDamaged_41 rfl (by decide) rfl ?_
          refine z_goto M.1 4 dX0_anyDamaged_44 (by decide) ?_
          refine z_sub [0, 1, 2] rfl ?_
          refine ih (e + 1) 0 f2 (by omega) ?_
          rcases hb with ⟨h1, h2⟩ | ⟨h1, h2⟩
          · omega
          · refine Or.inr ⟨rfl, fun x hx hw => ?_⟩
            by_cases y : x = e
            · rw [y]
              exact hm
            · exact h2 x (by omega) hw
      · refine z_I (congrArg (xI g (eS E)) (wf_wf σ 8 f f2)) ?_
        refine z_istore_n M.1 M.2.2.2.2.1 [(0, .ref (xa g 11)), (1, .int (nI (b))), (2, .int (nI (e))), (3, .int (nI (c0 e)))] [1, 2, 3, 0] dX0_anyDamaged_24 (by decide) rfl ?_
        refine z_iload_n M.1 1 dX0_anyDamaged_25 rfl ?_
        refine z_if_neN M.1 35 dX0_anyDamaged_26 (by decide) (by omega) (fun h26 => ?_) (fun h26 => ?_)
        · refine z_iconst M.1 (nI 1) dX0_anyDamaged_35 (by decide) ?_
          refine z_goto M.1 40 dX0_anyDamaged_36 (by decide) ?_
          refine z_istore_n M.1 M.2.2.2.2.1 [(0, .ref (xa g 11)), (1, .int (nI (1))), (2, .int (nI (e))), (3, .int (nI (c0 e)))] [1, 0, 2, 3] dX0_anyDamaged_40 (by decide) rfl ?_
          refine z_iincN M.1 M.2.2.2.2.1 [(0, .ref (xa g 11)), (1, .int (nI (1))), (2, .int (nI (e + 1))), (3, .int (nI (c0 e)))] 2 [1, 2, 0, 3] dX0_anyDamaged_41 rfl (by decide) rfl ?_
          refine z_goto M.1 4 dX0_anyDamaged_44 (by decide) ?_
          refine z_sub [0, 1, 2] rfl ?_
          refine ih (e + 1) 1 f2 (by omega) ?_
          rcases hb with ⟨h1, h2⟩ | ⟨h1, h2⟩
          · exact Or.inl ⟨rfl, h2⟩
          · omega
        · refine z_iload_n M.1 3 dX0_anyDamaged_29 rfl ?_
          refine z_bipush M.1 (-5) dX0_anyDamaged_30 (by decide) ?_
          refine z_icmp_eq M.1 39 dX0_anyDamaged_32 (by decide) (fun h32 => absurd h32 (nI_ne5 (by omega))) (fun h32 => ?_)
          refine z_iconst M.1 (nI 1) dX0_anyDamaged_35 (by decide) ?_
          refine z_goto M.1 40 dX0_anyDamaged_36 (by decide) ?_
          refine z_istore_n M.1 M.2.2.2.2.1 [(0, .ref (xa g 11)), (1, .int (nI (1))), (2, .int (nI (e))), (3, .int (nI (c0 e)))] [1, 0, 2, 3] dX0_anyDamaged_40 (by decide) rfl ?_
          refine z_iincN M.1 M.2.2.2.2.1 [(0, .ref (xa g 11)), (1, .int (nI (1))), (2, .int (nI (e + 1))), (3, .int (nI (c0 e)))] 2 [1, 2, 0, 3] dX0_anyDamaged_41 rfl (by decide) rfl ?_
          refine z_goto M.1 4 dX0_anyDamaged_44 (by decide) ?_
          refine z_sub [0, 1, 2] rfl ?_
          exact ih (e + 1) 1 f2 (by omega) (Or.inl ⟨rfl, e, by omega, h16, hm⟩)
theorem c_anyDamaged (l : Launch) (g : XA) (σ : XS) (w : Nat → Nat) (p : Nat → Nat → Nat) (v : Nat → Nat → Int32) (m : Nat → Int32) (c0 : Nat → Nat) (G : Geo σ w p) (D : Dat σ w p v m c0) : Met l yX0_anyDamaged (ws_ yX0_anyDamaged cX0_anyDamaged 4 (some .boolean)) (rmk 4) (va_Pc [.ref (xa g 11)] (xW g σ)) (va_Qi (fun (r : Int32) (σ' : XS) => ∃ f, σ' = wf σ 8 f ∧ ((∃ x, x < 8 ∧ 0 < w x ∧ m x ≠ 0) ∧ r = nI 1 ∨ (∀ x, x < 8 → 0 < w x → m x = 0) ∧ r = nI 0)) (xW g) (xA g)) 0 0 (xA g) := by
  refine x_enter 4 [(0, .ref (xa g 11))] (by decide) rfl (Nat.le_of_ble_eq_true rfl) rfl (fun E M => ?_)
  refine z_iconst M.1 (nI 0) dX0_anyDamaged_0 (by decide) ?_
  refine z_istore_n M.1 M.2.2.2.2.1 [(0, .ref (xa g 11)), (1, .int (nI (0)))] [1, 0] dX0_anyDamaged_1 (by decide) rfl ?_
  refine z_iconst M.1 (nI 0) dX0_anyDamaged_2 (by decide) ?_
  refine z_istore_n M.1 M.2.2.2.2.1 [(0, .ref (xa g 11)), (1, .int (nI (0))), (2, .int (nI (0)))] [1, 2, 0] dX0_anyDamaged_3 (by decide) rfl ?_
  refine z_I (congrArg (xI g (eS E)) (wf_id σ 8).symm) ?_
  exact l_anyDamaged M G D 8 0 0 (σ 8) (by omega) (Or.inr ⟨rfl, fun x hx => absurd hx (Nat.not_lt_zero x)⟩)
theorem k_anyDamaged {E : EV} {cc : ByteArray} {lv : List (Nat × Value)} {pc : Nat} {rest : List Value} {g : XA} {σ : XS} {nL d : Nat} {ret : Option FieldType} {Qc : Array Value → State → Outcome → State → Prop} {p : Nat → Nat → Nat} {w : Nat → Nat} {v : Nat → Nat → Int32} {m : Nat → Int32} {c0 : Nat → Nat} (M : xM E cc nL ret d g Qc) (hd : 4 < d) (dg : decode cc pc = .ok (.invokevirtual 93, 3)) (hW : (rest.map fun v => v.category).sum ≤ 8) (G : Geo σ w p) (D : Dat σ w p v m c0) (k1 : ∀ f, (∃ x, x < 8 ∧ 0 < w x ∧ m x ≠ 0) → Az E (xI g (eS E) (wf σ 8 f)) lv (pc + 3) (.int (nI 1) :: rest)) (k2 : ∀ f, (∀ x, x < 8 → 0 < w x → m x = 0) → Az E (xI g (eS E) (wf σ 8 f)) lv (pc + 3) (.int (nI 0) :: rest)) : Az E (xI g (eS E) σ) lv pc (.ref (xa g 11) :: rest) :=
  x_calli M (fun l => c_anyDamaged l g σ w p v m c0 G D) (lw_V q166 q168 qs14 q19 q169) (show yX0_anyDamaged.cls = RX0 ∧ yX0_anyDamaged.cls ≠ "java/lang/invoke/MethodHandle" ∧ yX0_anyDamaged.cls ≠ "java/lang/invoke/VarHandle" ∧ (parseMethodDescriptor yX0_anyDamaged.desc).map (fun d => d.parameters.length) = some 0 from by decide +kernel) hd (by decide) rfl hW dg (fun r u q => by
    obtain ⟨f, rfl, ⟨hb, rfl⟩ | ⟨hb, rfl⟩⟩ := q
    · exact k1 f hb
    · exact k2 f hb)
end
section
/-! SelfHealStripes: resupply, lose, copy -/
set_option maxRecDepth 100000
theorem l_resupply {E : EV} {g : XA} {σ : XS} {j w dd : Nat} {p : Nat → Nat} {v : Nat → Int32} (M : xM E cX0_resupply 5 none 1 g (va_Qv (fun (σ' : XS) => ∃ f, σ' = wf σ 0 f ∧ (∀ c, c ≤ w → f (p c) = tv v w c) ∧ ∀ x, (∀ c, c ≤ w → x ≠ p c) → f x = σ 0 x) (xW g) (xA g))) (hx : Ext σ j w p) (hdd : dd < 5) (hdis : ∀ c c', c ≤ w → c' ≤ w → p c / 12 = p c' / 12 → c = c') : ∀ n c f, c + n = w + 1 → (∀ i, i < c → f (p i) = tv v w i) → (∀ i, i ≤ w → p i / 12 ≠ dd → f (p i) = tv v w i) → (∀ x, (∀ i, i < c → x ≠ p i) → f x = σ 0 x) → Az E (xI g (eS E) (wf σ 0 f)) [(0, .ref (xa g 11)), (1, .int (nI j)), (2, .int (nI dd)), (3, .int (nI c))] 2 [] := by
  obtain ⟨hj, hw, h3, h5⟩ := id hx
  intro n
  induction n with
  | zero =>
    intro c f hi ha hb he
    refine z_iload_n M.1 3 dX0_resupply_2 rfl ?_
    refine z_aload_n M.1 0 dX0_resupply_3 rfl ?_
    refine x_get3 M.1 dX0_resupply_4 ?_
    refine z_iload_n M.1 1 dX0_resupply_7 rfl ?_
    refine x_ld3 M.1 dX0_resupply_8 (by omega) ?_
    refine z_top (nI (w)) (h3) ?_
    refine z_icmp_gtN M.1 64 dX0_resupply_9 (by decide) (by omega) (by omega) (fun h9 => ?_) (fun h9 => absurd h9 (by omega))
    exact x_retv M dX0_resupply_64 ⟨f, rfl, fun i hi => ha i (by omega), fun x hx => he x (fun i hi => hx i (by omega))⟩
  | succ n ih =>
    intro c f hi ha hb he
    refine z_iload_n M.1 3 dX0_resupply_2 rfl ?_
    refine z_aload_n M.1 0 dX0_resupply_3 rfl ?_
    refine x_get3 M.1 dX0_resupply_4 ?_
    refine z_iload_n M.1 1 dX0_resupply_7 rfl ?_
    refine x_ld3 M.1 dX0_resupply_8 (by omega) ?_
    refine z_top (nI (w)) (h3) ?_
    refine z_icmp_gtN M.1 64 dX0_resupply_9 (by decide) (by omega) (by omega) (fun h9 => absurd h9 (by omega)) (fun h9 => ?_)
    refine z_aload_n M.1 0 dX0_resupply_12 rfl ?_
    refine x_get5 M.1 dX0_resupply_13 ?_
    refine z_iload_n M.1 1 dX0_resupply_16 rfl ?_
    refine z_iconst M.1 (nI 5) dX0_resupply_17 (by decide) ?_
    refine z_imulN M.1 dX0_resupply_18 ?_
    refine z_iload_n M.1 3 dX0_resupply_19 rfl ?_
    refine z_iaddN M.1 dX0_resupply_20 ?_
    refine x_ld5 M.1 dX0_resupply_21 (by omega) ?_
    refine z_top (nI (p c)) ((h5 c (by omega)).1) ?_
    refine z_istore M.1 M.2.2.2.2.1 [(0, .ref (xa g 11)), (1, .int (nI (j))), (2, .int (nI (dd))), (3, .int (nI (c))), (4, .int (nI (p c)))] [1, 2, 3, 4, 0] dX0_resupply_22 (by decide) rfl ?_
    have h60 := (h5 c (by omega)).2
    refine z_iload M.1 4 dX0_resupply_24 rfl ?_
    refine z_iload_n M.1 2 dX0_resupply_26 rfl ?_
    refine z_bipush M.1 (nI 12) dX0_resupply_27 (by decide) ?_
    refine z_imulN M.1 dX0_resupply_29 ?_
    refine z_icmp_ltN M.1 58 dX0_resupply_30 (by decide) (by omega) (by omega) (fun h30 => ?_) (fun h30 => ?_)
    · refine z_iincN M.1 M.2.2.2.2.1 [(0, .ref (xa g 11)), (1, .int (nI (j))), (2, .int (nI (dd))), (3, .int (nI (c + 1))), (4, .int (nI (p c)))] 3 [1, 2, 3, 0, 4] dX0_resupply_58 rfl (by decide) rfl ?_
      refine z_goto M.1 2 dX0_resupply_61 (by decide) ?_
      refine z_sub [0, 1, 2, 3] rfl ?_
      refine ih (c + 1) f (by omega) (fun i hi => ?_) hb (fun x hx => he x (fun i hi => hx i (by omega)))
      by_cases y : i = c
      · rw [y]
        exact hb c (by omega) (by omega)
      · exact ha i (by omega)
    · refine z_iload M.1 4 dX0_resupply_33 rfl ?_
      refine z_iload_n M.1 2 dX0_resupply_35 rfl ?_
      refine z_bipush M.1 (nI 12) dX0_resupply_36 (by decide) ?_
      refine z_imulN M.1 dX0_resupply_38 ?_
      refine z_bipush M.1 (nI 12) dX0_resupply_39 (by decide) ?_
      refine z_iaddN M.1 dX0_resupply_41 ?_
      refine z_icmp_geN M.1 58 dX0_resupply_42 (by decide) (by omega) (by omega) (fun h42 => ?_) (fun h42 => ?_)
      · refine z_iincN M.1 M.2.2.2.2.1 [(0, .ref (xa g 11)), (1, .int (nI (j))), (2, .int (nI (dd))), (3, .int (nI (c + 1))), (4, .int (nI (p c)))] 3 [1, 2, 3, 0, 4] dX0_resupply_58 rfl (by decide) rfl ?_
        refine z_goto M.1 2 dX0_resupply_61 (by decide) ?_
        refine z_sub [0, 1, 2, 3] rfl ?_
        refine ih (c + 1) f (by omega) (fun i hi => ?_) hb (fun x hx => he x (fun i hi => hx i (by omega)))
        by_cases y : i = c
        · rw [y]
          exact hb c (by omega) (by omega)
        · exact ha i (by omega)
      · refine z_aload_n M.1 0 dX0_resupply_45 rfl ?_
        refine x_get0 M.1 dX0_resupply_46 ?_
        refine z_iload M.1 4 dX0_resupply_49 rfl ?_
        refine z_aload_n M.1 0 dX0_resupply_51 rfl ?_
        refine z_iload_n M.1 1 dX0_resupply_52 rfl ?_
        refine z_iload_n M.1 3 dX0_resupply_53 rfl ?_
        refine k_rebuilt M (by decide) dX0_resupply_54 (Nat.le_of_ble_eq_true rfl) (hx) (by omega) ?_
        refine z_top (tv v w c) ((xs_ok (f := fun i => f (p i)) (v := v) (m := tv v w c ^^^ f (p c)) (c := c) (fun i hi => by
            by_cases y : i = c
            · rw [y, sg_s, xr_k]
            · rw [sg_n y, xr_0]
              exact hb i hi (fun z => y (hdis i c hi (by omega) (by omega)))) (by omega) (by omega)).trans (by rw [if_pos rfl, xr_0])) ?_
        refine x_st0 M.1 dX0_resupply_57 (by omega) ?_
        refine z_I (congrArg (xI g (eS E)) (wr_wf σ 0 f (p c) _)) ?_
        refine z_iincN M.1 M.2.2.2.2.1 [(0, .ref (xa g 11)), (1, .int (nI (j))), (2, .int (nI (dd))), (3, .int (nI (c + 1))), (4, .int (nI (p c)))] 3 [1, 2, 3, 0, 4] dX0_resupply_58 rfl (by decide) rfl ?_
        refine z_goto M.1 2 dX0_resupply_61 (by decide) ?_
        refine z_sub [0, 1, 2, 3] rfl ?_
        refine ih (c + 1) (upd f (p c) (tv v w c)) (by omega) (fun i hi => ?_) (fun i hi hn => ?_) (fun x hx => ?_)
        · by_cases y : i = c
          · rw [y, upd_s]
          · rw [upd_n (fun z => y (hdis i c (by omega) (by omega) (by rw [z])))]
            exact ha i (by omega)
        · rw [upd_n (fun z => hn (by rw [z]; omega))]
          exact hb i hi hn
        · rw [upd_n (hx c (by omega))]
          exact he x (fun i hi => hx i (by omega))
theorem c_resupply (l : Launch) (g : XA) (σ : XS) (j w dd : Nat) (p : Nat → Nat) (v : Nat → Int32) (hx : Ext σ j w p) (hdd : dd < 5) (hdis : ∀ c c', c ≤ w → c' ≤ w → p c / 12 = p c' / 12 → c = c') (h0 : ∀ c, c ≤ w → p c / 12 ≠ dd → σ 0 (p c) = tv v w c) : Met l yX0_resupply (ws_ yX0_resupply cX0_resupply 5 none) (rmk 1) (va_Pc [.ref (xa g 11), .int (nI j), .int (nI dd)] (xW g σ)) (va_Qv (fun (σ' : XS) => ∃ f, σ' = wf σ 0 f ∧ (∀ c, c ≤ w → f (p c) = tv v w c) ∧ ∀ x, (∀ c, c ≤ w → x ≠ p c) → f x = σ 0 x) (xW g) (xA g)) 0 0 (xA g) := by
  refine x_enter 1 [(0, .ref (xa g 11)), (1, .int (nI j)), (2, .int (nI dd))] (by decide) rfl (Nat.le_of_ble_eq_true rfl) rfl (fun E M => ?_)
  refine z_iconst M.1 (nI 0) dX0_resupply_0 (by decide) ?_
  refine z_istore_n M.1 M.2.2.2.2.1 [(0, .ref (xa g 11)), (1, .int (nI (j))), (2, .int (nI (dd))), (3, .int (nI (0)))] [1, 2, 3, 0] dX0_resupply_1 (by decide) rfl ?_
  refine z_I (congrArg (xI g (eS E)) (wf_id σ 0).symm) ?_
  exact l_resupply M hx hdd hdis (w + 1) 0 (σ 0) (by omega) (fun i hi => absurd hi (Nat.not_lt_zero i)) h0 (fun _ _ => rfl)
theorem k_resupply {E : EV} {cc : ByteArray} {lv : List (Nat × Value)} {pc : Nat} {rest : List Value} {g : XA} {σ : XS} {nL d : Nat} {ret : Option FieldType} {Qc : Array Value → State → Outcome → State → Prop} {j w dd : Nat} {p : Nat → Nat} {v : Nat → Int32} (M : xM E cc nL ret d g Qc) (hd : 1 < d) (dg : decode cc pc = .ok (.invokevirtual 97, 3)) (hW : (rest.map fun v => v.category).sum ≤ 8) (hx : Ext σ j w p) (hdd : dd < 5) (hdis : ∀ c c', c ≤ w → c' ≤ w → p c / 12 = p c' / 12 → c = c') (h0 : ∀ c, c ≤ w → p c / 12 ≠ dd → σ 0 (p c) = tv v w c) (kk : ∀ f, (∀ c, c ≤ w → f (p c) = tv v w c) → (∀ x, (∀ c, c ≤ w → x ≠ p c) → f x = σ 0 x) → Az E (xI g (eS E) (wf σ 0 f)) lv (pc + 3) rest) : Az E (xI g (eS E) σ) lv pc (.int (nI dd) :: .int (nI j) :: .ref (xa g 11) :: rest) :=
  x_callv M (fun l => c_resupply l g σ j w dd p v hx hdd hdis h0) (lw_V q170 q172 qs15 q19 q173) (show yX0_resupply.cls = RX0 ∧ yX0_resupply.cls ≠ "java/lang/invoke/MethodHandle" ∧ yX0_resupply.cls ≠ "java/lang/invoke/VarHandle" ∧ (parseMethodDescriptor yX0_resupply.desc).map (fun d => d.parameters.length) = some 2 from by decide +kernel) hd (by decide) rfl hW dg (fun u z => by
    obtain ⟨f, rfl, h1, h2⟩ := z
    exact kk f h1 h2)
theorem l_lose1 {E : EV} {g : XA} {τ : XS} {dd : Nat} {Qc : Array Value → State → Outcome → State → Prop} (M : xM E cX0_lose 4 (some .int) 5 g Qc) (hdd : dd < 5) (K : ∀ f, (∀ x, x / 12 ≠ dd → f x = τ 0 x) → Az E (xI g (eS E) (wf τ 0 f)) [(0, .ref (xa g 11)), (1, .int (nI dd)), (2, .int (nI 0)), (3, .int (nI 12))] 51 []) : ∀ n r f, r + n = 12 → (∀ x, x / 12 ≠ dd → f x = τ 0 x) → Az E (xI g (eS E) (wf τ 0 f)) [(0, .ref (xa g 11)), (1, .int (nI dd)), (2, .int (nI 0)), (3, .int (nI r))] 25 [] := by
  intro n
  induction n with
  | zero =>
    intro r f hi hf
    refine z_iload_n M.1 3 dX0_lose_25 rfl ?_
    refine z_bipush M.1 (nI 12) dX0_lose_26 (by decide) ?_
    refine z_icmp_geN M.1 51 dX0_lose_28 (by decide) (by omega) (by omega) (fun h28 => ?_) (fun h28 => absurd h28 (by omega))
    rw [show r = 12 by omega]
    exact K f hf
  | succ n ih =>
    intro r f hi hf
    refine z_iload_n M.1 3 dX0_lose_25 rfl ?_
    refine z_bipush M.1 (nI 12) dX0_lose_26 (by decide) ?_
    refine z_icmp_geN M.1 51 dX0_lose_28 (by decide) (by omega) (by omega) (fun h28 => absurd h28 (by omega)) (fun h28 => ?_)
    refine z_aload_n M.1 0 dX0_lose_31 rfl ?_
    refine x_get0 M.1 dX0_lose_32 ?_
    refine z_iload_n M.1 1 dX0_lose_35 rfl ?_
    refine z_bipush M.1 (nI 12) dX0_lose_36 (by decide) ?_
    refine z_imulN M.1 dX0_lose_38 ?_
    refine z_iload_n M.1 3 dX0_lose_39 rfl ?_
    refine z_iaddN M.1 dX0_lose_40 ?_
    refine z_iconst M.1 (-1) dX0_lose_41 (by decide) ?_
    refine z_iload_n M.1 3 dX0_lose_42 rfl ?_
    refine z_isub M.1 dX0_lose_43 ?_
    refine x_st0 M.1 dX0_lose_44 (by omega) ?_
    refine z_I (congrArg (xI g (eS E)) (wr_wf τ 0 f (dd * 12 + r) _)) ?_
    refine z_iincN M.1 M.2.2.2.2.1 [(0, .ref (xa g 11)), (1, .int (nI (dd))), (2, .int (nI (0))), (3, .int (nI (r + 1)))] 3 [1, 2, 3, 0] dX0_lose_45 rfl (by decide) rfl ?_
    refine z_goto M.1 25 dX0_lose_48 (by decide) ?_
    refine ih (r + 1) _ (by omega) (fun x hx => ?_)
    rw [upd_n (fun z => hx (by omega))]
    exact hf x hx
theorem l_lose2 {E : EV} {g : XA} {τ : XS} {dd : Nat} {p : Nat → Nat → Nat} {w : Nat → Nat} {v : Nat → Nat → Int32} {Qc : Array Value → State → Outcome → State → Prop} (M : xM E cX0_lose 4 (some .int) 5 g Qc) (hdd : dd < 5) (GT : Geo τ w p) (K : ∀ f, (∀ x, x < 8 → 0 < w x → ∀ c, c ≤ w x → f (p x c) = tv (v x) (w x) c) → Az E (xI g (eS E) (wf τ 0 f)) [(0, .ref (xa g 11)), (1, .int (nI dd)), (2, .int (nI 0)), (3, .int (nI 8))] 80 []) : ∀ n e f, e + n = 8 → (∀ x, x < 8 → 0 < w x → ∀ c, c ≤ w x → (x < e ∨ p x c / 12 ≠ dd) → f (p x c) = tv (v x) (w x) c) → Az E (xI g (eS E) (wf τ 0 f)) [(0, .ref (xa g 11)), (1, .int (nI dd)), (2, .int (nI 0)), (3, .int (nI e))] 53 [] := by
  intro n
  induction n with
  | zero =>
    intro e f hi hf
    refine z_iload_n M.1 3 dX0_lose_53 rfl ?_
    refine z_bipush M.1 (nI 8) dX0_lose_54 (by decide) ?_
    refine z_icmp_geN M.1 80 dX0_lose_56 (by decide) (by omega) (by omega) (fun h56 => ?_) (fun h56 => absurd h56 (by omega))
    rw [show e = 8 by omega]
    exact K f (fun x hx hw c hc => hf x hx hw c hc (Or.inl (by omega)))
  | succ n ih =>
    intro e f hi hf
    refine z_iload_n M.1 3 dX0_lose_53 rfl ?_
    refine z_bipush M.1 (nI 8) dX0_lose_54 (by decide) ?_
    refine z_icmp_geN M.1 80 dX0_lose_56 (by decide) (by omega) (by omega) (fun h56 => absurd h56 (by omega)) (fun h56 => ?_)
    refine z_aload_n M.1 0 dX0_lose_59 rfl ?_
    refine x_get3 M.1 dX0_lose_60 ?_
    refine z_iload_n M.1 3 dX0_lose_63 rfl ?_
    refine x_ld3 M.1 dX0_lose_64 (by omega) ?_
    refine z_top (nI (w e)) ((GT.1 e (by omega)).2) ?_
    have hw4 := (GT.1 e (by omega)).1
    refine z_if_leN M.1 74 dX0_lose_65 (by decide) (by omega) (fun h65 => ?_) (fun h65 => ?_)
    · refine z_iincN M.1 M.2.2.2.2.1 [(0, .ref (xa g 11)), (1, .int (nI (dd))), (2, .int (nI (0))), (3, .int (nI (e + 1)))] 3 [1, 2, 3, 0] dX0_lose_74 rfl (by decide) rfl ?_
      refine z_goto M.1 53 dX0_lose_77 (by decide) ?_
      refine ih (e + 1) f (by omega) (fun x hx hw c hc hn => hf x hx hw c hc ?_)
      by_cases y : x = e
      · rw [y] at hw
        omega
      · omega
    · refine z_aload_n M.1 0 dX0_lose_68 rfl ?_
      refine z_iload_n M.1 3 dX0_lose_69 rfl ?_
      refine z_iload_n M.1 1 dX0_lose_70 rfl ?_
      refine k_resupply (p := p e) (v := v e) M (by decide) dX0_lose_71 (Nat.le_of_ble_eq_true rfl) (GT.ext (show e < 8 by omega) h65) hdd (GT.2.2.1 e (by omega) h65) (fun c hc hn => hf e (by omega) h65 c hc (Or.inr hn)) (fun f2 g1 g2 => ?_)
      refine z_I (congrArg (xI g (eS E)) (wf_wf τ 0 f f2)) ?_
      refine z_iincN M.1 M.2.2.2.2.1 [(0, .ref (xa g 11)), (1, .int (nI (dd))), (2, .int (nI (0))), (3, .int (nI (e + 1)))] 3 [1, 2, 3, 0] dX0_lose_74 rfl (by decide) rfl ?_
      refine z_goto M.1 53 dX0_lose_77 (by decide) ?_
      refine ih (e + 1) f2 (by omega) (fun x hx hw c hc hn => ?_)
      by_cases y : x = e
      · subst y
        exact g1 c hc
      · rw [show f2 (p x c) = f (p x c) from g2 _ (fun c' hc' => GT.2.2.2.1 x e hx (by omega) y hw h65 c c' hc hc')]
        exact hf x hx hw c hc (by omega)
set_option maxHeartbeats 4000000 in
theorem c_lose (l : Launch) (g : XA) (σ : XS) (d : Int32) (w : Nat → Nat) (v : Nat → Nat → Int32) (m : Nat → Int32) (c0 : Nat → Nat) (hI : Inv σ w v m c0) : Met l yX0_lose (ws_ yX0_lose cX0_lose 4 (some .int)) (rmk 5) (va_Pc [.ref (xa g 11), .int d] (xW g σ)) (va_Qi (fun (r : Int32) (σ' : XS) => (d < 0 ∨ nI 5 ≤ d) ∧ r = -1 ∧ σ' = σ ∨ ∃ dd, dd < 5 ∧ d = nI dd ∧ Kp σ σ' ∧ Inv σ' w v m c0 ∧ ((∃ x, x < 8 ∧ 0 < w x ∧ m x ≠ 0) ∧ r = -4 ∨ (∀ x, x < 8 → 0 < w x → m x = 0) ∧ r = 0)) (xW g) (xA g)) 0 0 (xA g) := by
  refine x_enter 5 [(0, .ref (xa g 11)), (1, .int d)] (by decide) rfl (Nat.le_of_ble_eq_true rfl) rfl (fun E M => ?_)
  obtain ⟨p, G, D⟩ := hI
  refine z_iload_n M.1 1 dX0_lose_0 rfl ?_
  refine z_if_lt M.1 9 dX0_lose_1 (by decide) (fun h1 => ?_) (fun h1 => ?_)
  · refine z_iconst M.1 (-1) dX0_lose_9 (by decide) ?_
    exact x_reti M dX0_lose_10 (Or.inl ⟨Or.inl h1, rfl, rfl⟩)
  · refine z_iload_n M.1 1 dX0_lose_4 rfl ?_
    refine z_iconst M.1 (nI 5) dX0_lose_5 (by decide) ?_
    refine z_icmp_lt M.1 11 dX0_lose_6 (by decide) (fun h6 => ?_) (fun h6 => ?_)
    · obtain ⟨dd, hdd, rfl⟩ := ix_of (by decide) h1 h6
      refine z_aload_n M.1 0 dX0_lose_11 rfl ?_
      refine k_anyDamaged M (by decide) dX0_lose_12 (Nat.le_of_ble_eq_true rfl) G D (fun f8 hany => ?_) (fun f8 hany => ?_)
      · refine z_istore_n M.1 M.2.2.2.2.1 [(0, .ref (xa g 11)), (1, .int (nI (dd))), (2, .int (nI (1)))] [1, 2, 0] dX0_lose_15 (by decide) rfl ?_
        refine z_iload_n M.1 2 dX0_lose_16 rfl ?_
        refine z_if_eqN M.1 23 dX0_lose_17 (by decide) (by omega) (fun h17 => absurd h17 (by decide)) (fun h17 => ?_)
        refine z_bipush M.1 (-4) dX0_lose_20 (by decide) ?_
        exact x_reti M dX0_lose_22 (Or.inr ⟨dd, hdd, rfl, ⟨rfl, rfl, rfl⟩, ⟨p, G.by rfl rfl rfl rfl, D.by rfl rfl⟩, Or.inl ⟨hany, rfl⟩⟩)
      · refine z_istore_n M.1 M.2.2.2.2.1 [(0, .ref (xa g 11)), (1, .int (nI (dd))), (2, .int (nI (0)))] [1, 2, 0] dX0_lose_15 (by decide) rfl ?_
        refine z_iload_n M.1 2 dX0_lose_16 rfl ?_
        refine z_if_eqN M.1 23 dX0_lose_17 (by decide) (by omega) (fun h17 => ?_) (fun h17 => absurd h17 (by decide))
        refine z_iconst M.1 (nI 0) dX0_lose_23 (by decide) ?_
        refine z_istore_n M.1 M.2.2.2.2.1 [(0, .ref (xa g 11)), (1, .int (nI (dd))), (2, .int (nI (0))), (3, .int (nI (0)))] [1, 2, 3, 0] dX0_lose_24 (by decide) rfl ?_
        have GT : Geo (wf σ 8 f8) w p := G.by rfl rfl rfl rfl
        refine z_I (congrArg (xI g (eS E)) (wf_id (wf σ 8 f8) 0).symm) ?_
        refine l_lose1 M hdd (fun f hf => ?_) 12 0 _ (by omega) (fun _ _ => rfl)
        refine z_iconst M.1 (nI 0) dX0_lose_51 (by decide) ?_
        refine z_istore_n M.1 M.2.2.2.2.1 [(0, .ref (xa g 11)), (1, .int (nI (dd))), (2, .int (nI (0))), (3, .int (nI (0)))] [1, 2, 3, 0] dX0_lose_52 (by decide) rfl ?_
        refine l_lose2 (v := v) M hdd GT (fun f3 hf3 => ?_) 8 0 f (by omega) (fun x hx hw c hc hn => ?_)
        · refine z_iconst M.1 (nI 0) dX0_lose_80 (by decide) ?_
          refine x_reti M dX0_lose_81 (Or.inr ⟨dd, hdd, rfl, ⟨rfl, rfl, rfl⟩, ⟨p, G.by rfl rfl rfl rfl, fun x hx hw => ⟨(D x hx hw).1, (D x hx hw).2.1, fun c hc => ?_⟩⟩, Or.inr ⟨hany, rfl⟩⟩)
          rw [hany x hx hw, sg_0, xr_0]
          exact hf3 x hx hw c hc
        · rcases hn with hn | hn
          · exact absurd hn (Nat.not_lt_zero x)
          · rw [hf _ hn]
            refine ((D x hx hw).2.2 c hc).trans ?_
            rw [hany x hx hw, sg_0, xr_0]
    · refine z_iconst M.1 (-1) dX0_lose_9 (by decide) ?_
      exact x_reti M dX0_lose_10 (Or.inl ⟨Or.inr (Int32.not_lt.mp h6), rfl, rfl⟩)
set_option maxHeartbeats 4000000 in
theorem c_copy (l : Launch) (g : XA) (σ : XS) (e1 e2 : Int32) (w : Nat → Nat) (v : Nat → Nat → Int32) (m : Nat → Int32) (c0 : Nat → Nat) (hI : Inv σ w v m c0) : Met l yX0_copy (ws_ yX0_copy cX0_copy 5 (some .int)) (rmk 4) (va_Pc [.ref (xa g 11), .int e1, .int e2] (xW g σ)) (va_Qi (fun (r : Int32) (σ' : XS) => ((e1 < 0 ∨ nI 8 ≤ e1) ∨ (e2 < 0 ∨ nI 8 ≤ e2)) ∧ r = -1 ∧ σ' = σ ∨ ∃ a b, a < 8 ∧ b < 8 ∧ e1 = nI a ∧ e2 = nI b ∧ Kp σ σ' ∧ (w a = 0 ∧ r = 0 ∧ Inv σ' (va_up w b 0) v m c0 ∨ 0 < w a ∧ m a ≠ 0 ∧ r = -4 ∧ Inv σ' w v m c0 ∨ 0 < w a ∧ m a = 0 ∧ r = nI (w a) ∧ ∃ u, (∀ i, i < w a → u i = v a i) ∧ Inv σ' (va_up w b (w a)) (va_up v b u) (va_up m b 0) (va_up c0 b 0))) (xW g) (xA g)) 0 0 (xA g) := by
  refine x_enter 4 [(0, .ref (xa g 11)), (1, .int e1), (2, .int e2)] (by decide) rfl (Nat.le_of_ble_eq_true rfl) rfl (fun E M => ?_)
  obtain ⟨p, G, D⟩ := hI
  refine z_aload_n M.1 0 dX0_copy_0 rfl ?_
  refine z_iload_n M.1 1 dX0_copy_1 rfl ?_
  refine k_bad M (by decide) dX0_copy_2 (Nat.le_of_ble_eq_true rfl) (fun hbad => ?_) (fun a ha he => ?_)
  · refine z_top (nI 1) rfl ?_
    refine z_if_neN M.1 16 dX0_copy_5 (by decide) (by omega) (fun h5 => ?_) (fun h5 => absurd h5 (by decide))
    refine z_iconst M.1 (-1) dX0_copy_16 (by decide) ?_
    exact x_reti M dX0_copy_17 (Or.inl ⟨Or.inl hbad, rfl, rfl⟩)
  · subst he
    have hw4 := (G.1 a ha).1
    refine z_if_neN M.1 16 dX0_copy_5 (by decide) (by omega) (fun h5 => absurd h5 (by decide)) (fun h5 => ?_)
    refine z_aload_n M.1 0 dX0_copy_8 rfl ?_
    refine z_iload_n M.1 2 dX0_copy_9 rfl ?_
    refine k_bad M (by decide) dX0_copy_10 (Nat.le_of_ble_eq_true rfl) (fun hbad => ?_) (fun b hb he => ?_)
    · refine z_top (nI 1) rfl ?_
      refine z_if_eqN M.1 18 dX0_copy_13 (by decide) (by omega) (fun h13 => absurd h13 (by decide)) (fun h13 => ?_)
      refine z_iconst M.1 (-1) dX0_copy_16 (by decide) ?_
      exact x_reti M dX0_copy_17 (Or.inl ⟨Or.inr hbad, rfl, rfl⟩)
    · subst he
      refine z_if_eqN M.1 18 dX0_copy_13 (by decide) (by omega) (fun h13 => ?_) (fun h13 => absurd h13 (by decide))
      refine z_aload_n M.1 0 dX0_copy_18 rfl ?_
      refine x_get3 M.1 dX0_copy_19 ?_
      refine z_iload_n M.1 1 dX0_copy_22 rfl ?_
      refine x_ld3 M.1 dX0_copy_23 (by omega) ?_
      refine z_top (nI (w a)) ((G.1 a ha).2) ?_
      refine z_if_neN M.1 34 dX0_copy_24 (by decide) (by omega) (fun h24 => ?_) (fun h24 => ?_)
      · have hc04 := (D a ha h24).1
        refine z_aload_n M.1 0 dX0_copy_34 rfl ?_
        refine z_iload_n M.1 1 dX0_copy_35 rfl ?_
        refine k_faulty M (by decide) dX0_copy_36 (Nat.le_of_ble_eq_true rfl) (G.st D ha h24) (fun f hf hm => ?_) (fun f hf hm => ?_)
        · refine z_istore_n M.1 M.2.2.2.2.1 [(0, .ref (xa g 11)), (1, .int (nI (a))), (2, .int (nI (b))), (3, .int ((-5)))] [1, 2, 3, 0] dX0_copy_39 (by decide) rfl ?_
          refine z_iload_n M.1 3 dX0_copy_40 rfl ?_
          refine z_bipush M.1 (-5) dX0_copy_41 (by decide) ?_
          refine z_icmp_eq M.1 49 dX0_copy_43 (by decide) (fun h43 => ?_) (fun h43 => absurd h43 (not_not_intro rfl))
          refine z_aload_n M.1 0 dX0_copy_49 rfl ?_
          refine x_get3 M.1 dX0_copy_50 ?_
          refine z_iload_n M.1 1 dX0_copy_53 rfl ?_
          refine x_ld3 M.1 dX0_copy_54 (by omega) ?_
          refine z_top (nI (w a)) ((G.1 a ha).2) ?_
          refine z_istore M.1 M.2.2.2.2.1 [(0, .ref (xa g 11)), (1, .int (nI (a))), (2, .int (nI (b))), (3, .int ((-5))), (4, .int (nI (w a)))] [1, 2, 3, 4, 0] dX0_copy_55 (by decide) rfl ?_
          refine z_aload_n M.1 0 dX0_copy_57 rfl ?_
          refine z_iload_n M.1 2 dX0_copy_58 rfl ?_
          refine z_iload M.1 4 dX0_copy_59 rfl ?_
          refine k_place M (by decide) dX0_copy_61 (Nat.le_of_ble_eq_true rfl) (G.by rfl rfl rfl rfl) (D.by rfl rfl) hb (hw4) (h24) (fun σ' hI' h6 h7 h9 => ?_)
          refine z_iload M.1 4 dX0_copy_64 rfl ?_
          exact x_reti M dX0_copy_66 (Or.inr ⟨a, b, ha, hb, rfl, rfl, ⟨h6, h7, h9⟩, Or.inr (Or.inr ⟨h24, hm, rfl, f, hf, hI'⟩)⟩)
        · refine z_istore_n M.1 M.2.2.2.2.1 [(0, .ref (xa g 11)), (1, .int (nI (a))), (2, .int (nI (b))), (3, .int (nI (c0 a)))] [1, 2, 3, 0] dX0_copy_39 (by decide) rfl ?_
          refine z_iload_n M.1 3 dX0_copy_40 rfl ?_
          refine z_bipush M.1 (-5) dX0_copy_41 (by decide) ?_
          refine z_icmp_eq M.1 49 dX0_copy_43 (by decide) (fun h43 => absurd h43 (nI_ne5 (by omega))) (fun h43 => ?_)
          refine z_bipush M.1 (-4) dX0_copy_46 (by decide) ?_
          exact x_reti M dX0_copy_48 (Or.inr ⟨a, b, ha, hb, rfl, rfl, ⟨rfl, rfl, rfl⟩, Or.inr (Or.inl ⟨h24, hm, rfl, p, G.by rfl rfl rfl rfl, D.by rfl rfl⟩)⟩)
      · refine z_aload_n M.1 0 dX0_copy_27 rfl ?_
        refine z_iload_n M.1 2 dX0_copy_28 rfl ?_
        rcases Nat.eq_zero_or_pos (w b) with hb0 | hb0
        · refine k_free0 M (by decide) dX0_copy_29 (Nat.le_of_ble_eq_true rfl) hb (by rw [← hb0]; exact (G.1 b hb).2) ?_
          refine z_iconst M.1 (nI 0) dX0_copy_32 (by decide) ?_
          exact x_reti M dX0_copy_33 (Or.inr ⟨a, b, ha, hb, rfl, rfl, ⟨rfl, rfl, rfl⟩, Or.inl ⟨h24, rfl, by rw [← hb0, va_up_id]; exact ⟨p, G, D⟩⟩⟩)
        · refine k_free M (by decide) dX0_copy_29 (Nat.le_of_ble_eq_true rfl) (G.ext hb hb0) hb0 (fun f hf1 hf2 => ?_)
          refine z_iconst M.1 (nI 0) dX0_copy_32 (by decide) ?_
          refine x_reti M dX0_copy_33 (Or.inr ⟨a, b, ha, hb, rfl, rfl, ⟨rfl, rfl, rfl⟩, Or.inl ⟨h24, rfl, p, ?_⟩⟩)
          refine free_ok G D hb hb0 rfl rfl rfl rfl hf1 hf2 ?_ (fun e he => ?_)
          · show upd (σ 3) b (nI 0) b = nI 0
            rw [upd_s]
          · show upd (σ 3) b (nI 0) e = σ 3 e
            rw [upd_n he]
end
section
/-! SelfHealStripesModel -/
set_option maxRecDepth 100000
theorem eb {x : Int32} {n : Nat} {B : Prop} {C : Nat → Prop} (hn : n < 2 ^ 31) (hb : x < 0 ∨ nI n ≤ x) (h : B) : (x < 0 ∨ nI n ≤ x → B) ∧ ∀ j, j < n → x = nI j → C j := by
  refine ⟨fun _ => h, fun j hj he => ?_⟩
  subst he
  rcases hb with q | q
  · exact absurd q (nI_pos (by omega))
  · exact absurd ((nI_leI (by omega) (by omega)).mp q) (by omega)
theorem eg {j n : Nat} {B : Prop} {C : Nat → Prop} (hn : n < 2 ^ 31) (hj : j < n) (h : C j) : (nI j < 0 ∨ nI n ≤ nI j → B) ∧ ∀ i, i < n → nI j = nI i → C i := by
  refine ⟨fun hb => ?_, fun i hi he => ?_⟩
  · rcases hb with q | q
    · exact absurd q (nI_pos (by omega))
    · exact absurd ((nI_leI (by omega) (by omega)).mp q) (by omega)
  · rw [← nI_inj (by omega) (by omega) he]
    exact h
theorem fb {x : Int32} {n : Nat} {B : Prop} {C : Nat → Prop} (hn : n < 1000) (hb : x < 0 ∨ nI n < x) (h : B) : (x < 0 ∨ nI n < x → B) ∧ ∀ j, j ≤ n → x = nI j → C j := by
  refine ⟨fun _ => h, fun j hj he => ?_⟩
  subst he
  rcases hb with q | q
  · exact absurd q (nI_pos (by omega))
  · exact absurd ((nI_ltI (by omega) (by omega)).mp q) (by omega)
theorem fg {j n : Nat} {B : Prop} {C : Nat → Prop} (hn : n < 1000) (hj : j ≤ n) (h : C j) : (nI j < 0 ∨ nI n < nI j → B) ∧ ∀ i, i ≤ n → nI j = nI i → C i := by
  refine ⟨fun hb => ?_, fun i hi he => ?_⟩
  · rcases hb with q | q
    · exact absurd q (nI_pos (by omega))
    · exact absurd ((nI_ltI (by omega) (by omega)).mp q) (by omega)
  · rw [← nI_inj (by omega) (by omega) he]
    exact h
theorem n_isExtent (l : Launch) (g : XA) (σ : XS) (e : Int32) : Met l yX1_isExtent (ws_ yX1_isExtent cX1_isExtent 2 (some .boolean)) (rmk 0) (va_Pc [.ref (xa g 7), .int e] (mW g σ)) (va_Qi (fun (r : Int32) (σ' : XS) => σ' = σ ∧ ((e < 0 ∨ nI 8 ≤ e) ∧ r = nI 0 ∨ ∃ j, j < 8 ∧ e = nI j ∧ r = nI 1)) (mW g) (mA g)) 0 0 (mA g) := by
  refine m_enter 0 [(0, .ref (xa g 7)), (1, .int e)] (by decide) rfl (Nat.le_of_ble_eq_true rfl) rfl (fun E M => ?_)
  refine z_iload_n M.1 1 dX1_isExtent_0 rfl ?_
  refine z_if_lt M.1 14 dX1_isExtent_1 (by decide) (fun h1 => ?_) (fun h1 => ?_)
  · refine z_iconst M.1 (nI 0) dX1_isExtent_14 (by decide) ?_
    exact m_retz M dX1_isExtent_15 (by first | rfl | decide) ⟨rfl, Or.inl ⟨Or.inl h1, rfl⟩⟩
  · refine z_iload_n M.1 1 dX1_isExtent_4 rfl ?_
    refine z_bipush M.1 (nI 7) dX1_isExtent_5 (by decide) ?_
    refine z_icmp_gt M.1 14 dX1_isExtent_7 (by decide) (fun h7 => ?_) (fun h7 => ?_)
    · refine z_iconst M.1 (nI 0) dX1_isExtent_14 (by decide) ?_
      exact m_retz M dX1_isExtent_15 (by first | rfl | decide) ⟨rfl, by
        rcases pk_ix e (n := 8) (by decide) with q | q | ⟨j, hj, rfl⟩
        · exact absurd q h1
        · exact Or.inl ⟨Or.inr q, rfl⟩
        · exact absurd ((nI_ltI (by decide) (by omega)).mp h7) (by omega)⟩
    · refine z_iconst M.1 (nI 1) dX1_isExtent_10 (by decide) ?_
      refine z_goto M.1 15 dX1_isExtent_11 (by decide) ?_
      exact m_retz M dX1_isExtent_15 (by first | rfl | decide) ⟨rfl, by
        rcases pk_ix e (n := 8) (by decide) with q | q | ⟨j, hj, rfl⟩
        · exact absurd q h1
        · exact absurd (Int32.le_trans q (Int32.not_lt.mp h7)) (by decide)
        · exact Or.inr ⟨j, hj, rfl, rfl⟩⟩
theorem h_isExtent {E : EV} {cc : ByteArray} {lv : List (Nat × Value)} {pc : Nat} {rest : List Value} {g : XA} {σ : XS} {nL d : Nat} {ret : Option FieldType} {Qc : Array Value → State → Outcome → State → Prop} {e : Int32} (M : mM E cc nL ret d g Qc) (hd : 0 < d) (dg : decode cc pc = .ok (.invokevirtual 29, 3)) (hW : (rest.map fun v => v.category).sum ≤ 8) (kb : (e < 0 ∨ nI 8 ≤ e) → Az E (mI g (eS E) σ) lv (pc + 3) (.int (nI 0) :: rest)) (kg : ∀ j, j < 8 → e = nI j → Az E (mI g (eS E) σ) lv (pc + 3) (.int (nI 1) :: rest)) : Az E (mI g (eS E) σ) lv pc (.int e :: .ref (xa g 7) :: rest) :=
  m_calli M (fun l => n_isExtent l g σ e) (lw_V q222 q224 qs16 q20 q225) (show yX1_isExtent.cls = RX1 ∧ yX1_isExtent.cls ≠ "java/lang/invoke/MethodHandle" ∧ yX1_isExtent.cls ≠ "java/lang/invoke/VarHandle" ∧ (parseMethodDescriptor yX1_isExtent.desc).map (fun d => d.parameters.length) = some 1 from by decide +kernel) hd (by decide) rfl hW dg (fun r u h => by
    obtain ⟨rfl, ⟨h, rfl⟩ | ⟨j, hj, h, rfl⟩⟩ := h
    · exact kb h
    · exact kg j hj h)
set_option maxHeartbeats 4000000 in
theorem n_draft (l : Launch) (g : XA) (σ : XS) (x : Int32) (k : Nat) (hk4 : k ≤ 4) (hk : σ 1 0 = nI k) : Met l yX1_draft (ws_ yX1_draft cX1_draft 2 (some .int)) (rmk 0) (va_Pc [.ref (xa g 7), .int x] (mW g σ)) (va_Qi (fun (r : Int32) (σ' : XS) => (k = 4 → r = -2 ∧ σ' = σ) ∧ (¬ k = 4 → r = nI (k + 1) ∧ σ' = wr (wr σ 0 k x) 1 0 (nI (k + 1)))) (mW g) (mA g)) 0 0 (mA g) := by
  refine m_enter 0 [(0, .ref (xa g 7)), (1, .int x)] (by decide) rfl (Nat.le_of_ble_eq_true rfl) rfl (fun E M => ?_)
  refine z_aload_n M.1 0 dX1_draft_0 rfl ?_
  refine m_get1 M.1 dX1_draft_1 ?_
  refine z_top (nI (k)) (hk) ?_
  refine z_iconst M.1 (nI 4) dX1_draft_4 (by decide) ?_
  refine z_icmp_neN M.1 11 dX1_draft_5 (by decide) (by omega) (by omega) (fun h5 => ?_) (fun h5 => ?_)
  · refine z_aload_n M.1 0 dX1_draft_11 rfl ?_
    refine m_get0 M.1 dX1_draft_12 ?_
    refine z_aload_n M.1 0 dX1_draft_15 rfl ?_
    refine m_get1 M.1 dX1_draft_16 ?_
    refine z_top (nI (k)) (hk) ?_
    refine z_iload_n M.1 1 dX1_draft_19 rfl ?_
    refine m_st0 M.1 dX1_draft_20 (by omega) ?_
    refine z_aload_n M.1 0 dX1_draft_21 rfl ?_
    refine z_dup M.1 dX1_draft_22 rfl ?_
    refine m_get1 M.1 dX1_draft_23 ?_
    refine z_top (nI (k)) (hk) ?_
    refine z_iconst M.1 (nI 1) dX1_draft_26 (by decide) ?_
    refine z_iaddN M.1 dX1_draft_27 ?_
    refine m_put1 M.1 dX1_draft_28 ?_
    refine z_aload_n M.1 0 dX1_draft_31 rfl ?_
    refine m_get1 M.1 dX1_draft_32 ?_
    refine z_top (nI (k + 1)) (wr_s _ 1 0 _) ?_
    exact m_reti M dX1_draft_35 (br_f h5 ⟨rfl, rfl⟩)
  · refine z_bipush M.1 (-2) dX1_draft_8 (by decide) ?_
    exact m_reti M dX1_draft_10 (br_t h5 ⟨rfl, rfl⟩)
set_option maxHeartbeats 4000000 in
theorem n_scrap (l : Launch) (g : XA) (σ : XS)  : Met l yX1_scrap (ws_ yX1_scrap cX1_scrap 1 none) (rmk 0) (va_Pc [.ref (xa g 7)] (mW g σ)) (va_Qv (fun (σ' : XS) => σ' = wr σ 1 0 (nI 0)) (mW g) (mA g)) 0 0 (mA g) := by
  refine m_enter 0 [(0, .ref (xa g 7))] (by decide) rfl (Nat.le_of_ble_eq_true rfl) rfl (fun E M => ?_)
  refine z_aload_n M.1 0 dX1_scrap_0 rfl ?_
  refine z_iconst M.1 (nI 0) dX1_scrap_1 (by decide) ?_
  refine m_put1 M.1 dX1_scrap_2 ?_
  exact m_retv M dX1_scrap_5 rfl
set_option maxHeartbeats 4000000 in
theorem n_healed (l : Launch) (g : XA) (σ : XS)  : Met l yX1_healed (ws_ yX1_healed cX1_healed 1 (some .int)) (rmk 0) (va_Pc [.ref (xa g 7)] (mW g σ)) (va_Qi (fun (r : Int32) (σ' : XS) => σ' = σ ∧ r = σ 6 0) (mW g) (mA g)) 0 0 (mA g) := by
  refine m_enter 0 [(0, .ref (xa g 7))] (by decide) rfl (Nat.le_of_ble_eq_true rfl) rfl (fun E M => ?_)
  refine z_aload_n M.1 0 dX1_healed_0 rfl ?_
  refine m_get6 M.1 dX1_healed_1 ?_
  exact m_reti M dX1_healed_4 ⟨rfl, rfl⟩
set_option maxHeartbeats 4000000 in
theorem n_size (l : Launch) (g : XA) (σ : XS) (e : Int32) (w : Nat → Nat) (hs : ∀ e, e < 8 → w e ≤ 4 ∧ σ 3 e = nI (w e)) : Met l yX1_size (ws_ yX1_size cX1_size 2 (some .int)) (rmk 1) (va_Pc [.ref (xa g 7), .int e] (mW g σ)) (va_Qi (fun (r : Int32) (σ' : XS) => σ' = σ ∧ ((e < 0 ∨ nI 8 ≤ e → r = -1) ∧ ∀ j, j < 8 → e = nI j → r = nI (w j))) (mW g) (mA g)) 0 0 (mA g) := by
  refine m_enter 1 [(0, .ref (xa g 7)), (1, .int e)] (by decide) rfl (Nat.le_of_ble_eq_true rfl) rfl (fun E M => ?_)
  refine z_aload_n M.1 0 dX1_size_0 rfl ?_
  refine z_iload_n M.1 1 dX1_size_1 rfl ?_
  refine h_isExtent M (by decide) dX1_size_2 (Nat.le_of_ble_eq_true rfl) (fun hbad => ?_) (fun j hj he => ?_)
  · refine z_if_eqN M.1 17 dX1_size_5 (by decide) (by omega) (fun h5 => ?_) (fun h5 => absurd h5 (by decide))
    refine z_iconst M.1 (-1) dX1_size_17 (by decide) ?_
    exact m_reti M dX1_size_18 ⟨rfl, eb (by decide) hbad rfl⟩
  · subst he
    have hw4 := (hs j hj).1
    refine z_if_eqN M.1 17 dX1_size_5 (by decide) (by omega) (fun h5 => absurd h5 (by decide)) (fun h5 => ?_)
    refine z_aload_n M.1 0 dX1_size_8 rfl ?_
    refine m_get3 M.1 dX1_size_9 ?_
    refine z_iload_n M.1 1 dX1_size_12 rfl ?_
    refine m_ld3 M.1 dX1_size_13 (by omega) ?_
    refine z_top (nI (w j)) ((hs j hj).2) ?_
    refine z_goto M.1 18 dX1_size_14 (by decide) ?_
    exact m_reti M dX1_size_18 ⟨rfl, eg (by decide) hj rfl⟩
set_option maxHeartbeats 4000000 in
theorem n_delete (l : Launch) (g : XA) (σ : XS) (e : Int32) (w : Nat → Nat) (hs : ∀ e, e < 8 → w e ≤ 4 ∧ σ 3 e = nI (w e)) : Met l yX1_delete (ws_ yX1_delete cX1_delete 3 (some .int)) (rmk 1) (va_Pc [.ref (xa g 7), .int e] (mW g σ)) (va_Qi (fun (r : Int32) (σ' : XS) => (e < 0 ∨ nI 8 ≤ e → r = -1 ∧ σ' = σ) ∧ ∀ j, j < 8 → e = nI j → ((w j = 0 → r = -3 ∧ σ' = σ) ∧ (¬ w j = 0 → r = nI (w j) ∧ σ' = wr (wr σ 3 j (nI 0)) 5 j (nI 0)))) (mW g) (mA g)) 0 0 (mA g) := by
  refine m_enter 1 [(0, .ref (xa g 7)), (1, .int e)] (by decide) rfl (Nat.le_of_ble_eq_true rfl) rfl (fun E M => ?_)
  refine z_aload_n M.1 0 dX1_delete_0 rfl ?_
  refine z_iload_n M.1 1 dX1_delete_1 rfl ?_
  refine h_isExtent M (by decide) dX1_delete_2 (Nat.le_of_ble_eq_true rfl) (fun hbad => ?_) (fun j hj he => ?_)
  · refine z_if_neN M.1 10 dX1_delete_5 (by decide) (by omega) (fun h5 => absurd h5 (by decide)) (fun h5 => ?_)
    refine z_iconst M.1 (-1) dX1_delete_8 (by decide) ?_
    exact m_reti M dX1_delete_9 (eb (by decide) hbad ⟨rfl, rfl⟩)
  · subst he
    have hw4 := (hs j hj).1
    refine z_if_neN M.1 10 dX1_delete_5 (by decide) (by omega) (fun h5 => ?_) (fun h5 => absurd h5 (by decide))
    refine z_aload_n M.1 0 dX1_delete_10 rfl ?_
    refine m_get3 M.1 dX1_delete_11 ?_
    refine z_iload_n M.1 1 dX1_delete_14 rfl ?_
    refine m_ld3 M.1 dX1_delete_15 (by omega) ?_
    refine z_top (nI (w j)) ((hs j hj).2) ?_
    refine z_if_neN M.1 22 dX1_delete_16 (by decide) (by omega) (fun h16 => ?_) (fun h16 => ?_)
    · refine z_aload_n M.1 0 dX1_delete_22 rfl ?_
      refine m_get3 M.1 dX1_delete_23 ?_
      refine z_iload_n M.1 1 dX1_delete_26 rfl ?_
      refine m_ld3 M.1 dX1_delete_27 (by omega) ?_
      refine z_top (nI (w j)) ((hs j hj).2) ?_
      refine z_istore_n M.1 M.2.2.2.2.1 [(0, .ref (xa g 7)), (1, .int (nI (j))), (2, .int (nI (w j)))] [1, 2, 0] dX1_delete_28 (by decide) rfl ?_
      refine z_aload_n M.1 0 dX1_delete_29 rfl ?_
      refine m_get3 M.1 dX1_delete_30 ?_
      refine z_iload_n M.1 1 dX1_delete_33 rfl ?_
      refine z_iconst M.1 (nI 0) dX1_delete_34 (by decide) ?_
      refine m_st3 M.1 dX1_delete_35 (by omega) ?_
      refine z_aload_n M.1 0 dX1_delete_36 rfl ?_
      refine m_get5 M.1 dX1_delete_37 ?_
      refine z_iload_n M.1 1 dX1_delete_40 rfl ?_
      refine z_iconst M.1 (nI 0) dX1_delete_41 (by decide) ?_
      refine m_st5 M.1 dX1_delete_42 (by omega) ?_
      refine z_iload_n M.1 2 dX1_delete_43 rfl ?_
      exact m_reti M dX1_delete_44 (eg (by decide) hj (br_f (by omega) ⟨rfl, rfl⟩))
    · refine z_bipush M.1 (-3) dX1_delete_19 (by decide) ?_
      exact m_reti M dX1_delete_21 (eg (by decide) hj (br_t h16 ⟨rfl, rfl⟩))
set_option maxHeartbeats 4000000 in
theorem n_damaged (l : Launch) (g : XA) (σ : XS) (e : Int32) (w : Nat → Nat) (hs : ∀ e, e < 8 → w e ≤ 4 ∧ σ 3 e = nI (w e)) : Met l yX1_damaged (ws_ yX1_damaged cX1_damaged 2 (some .int)) (rmk 1) (va_Pc [.ref (xa g 7), .int e] (mW g σ)) (va_Qi (fun (r : Int32) (σ' : XS) => σ' = σ ∧ ((e < 0 ∨ nI 8 ≤ e → r = -1) ∧ ∀ j, j < 8 → e = nI j → ((w j = 0 → r = -3) ∧ (¬ w j = 0 → (σ 5 j = 0 → r = -5) ∧ (¬ σ 5 j = 0 → r = σ 4 j))))) (mW g) (mA g)) 0 0 (mA g) := by
  refine m_enter 1 [(0, .ref (xa g 7)), (1, .int e)] (by decide) rfl (Nat.le_of_ble_eq_true rfl) rfl (fun E M => ?_)
  refine z_aload_n M.1 0 dX1_damaged_0 rfl ?_
  refine z_iload_n M.1 1 dX1_damaged_1 rfl ?_
  refine h_isExtent M (by decide) dX1_damaged_2 (Nat.le_of_ble_eq_true rfl) (fun hbad => ?_) (fun j hj he => ?_)
  · refine z_if_neN M.1 10 dX1_damaged_5 (by decide) (by omega) (fun h5 => absurd h5 (by decide)) (fun h5 => ?_)
    refine z_iconst M.1 (-1) dX1_damaged_8 (by decide) ?_
    exact m_reti M dX1_damaged_9 ⟨rfl, eb (by decide) hbad rfl⟩
  · subst he
    have hw4 := (hs j hj).1
    refine z_if_neN M.1 10 dX1_damaged_5 (by decide) (by omega) (fun h5 => ?_) (fun h5 => absurd h5 (by decide))
    refine z_aload_n M.1 0 dX1_damaged_10 rfl ?_
    refine m_get3 M.1 dX1_damaged_11 ?_
    refine z_iload_n M.1 1 dX1_damaged_14 rfl ?_
    refine m_ld3 M.1 dX1_damaged_15 (by omega) ?_
    refine z_top (nI (w j)) ((hs j hj).2) ?_
    refine z_if_neN M.1 22 dX1_damaged_16 (by decide) (by omega) (fun h16 => ?_) (fun h16 => ?_)
    · refine z_aload_n M.1 0 dX1_damaged_22 rfl ?_
      refine m_get5 M.1 dX1_damaged_23 ?_
      refine z_iload_n M.1 1 dX1_damaged_26 rfl ?_
      refine m_ld5 M.1 dX1_damaged_27 (by omega) ?_
      refine z_if_eq M.1 40 dX1_damaged_28 (by decide) (fun h28 => ?_) (fun h28 => ?_)
      · refine z_bipush M.1 (-5) dX1_damaged_40 (by decide) ?_
        exact m_reti M dX1_damaged_42 ⟨rfl, eg (by decide) hj (br_f (by omega) (br_t h28 rfl))⟩
      · refine z_aload_n M.1 0 dX1_damaged_31 rfl ?_
        refine m_get4 M.1 dX1_damaged_32 ?_
        refine z_iload_n M.1 1 dX1_damaged_35 rfl ?_
        refine m_ld4 M.1 dX1_damaged_36 (by omega) ?_
        refine z_goto M.1 42 dX1_damaged_37 (by decide) ?_
        exact m_reti M dX1_damaged_42 ⟨rfl, eg (by decide) hj (br_f (by omega) (br_f h28 rfl))⟩
    · refine z_bipush M.1 (-3) dX1_damaged_19 (by decide) ?_
      exact m_reti M dX1_damaged_21 ⟨rfl, eg (by decide) hj (br_t h16 rfl)⟩
set_option maxHeartbeats 4000000 in
theorem n_read (l : Launch) (g : XA) (σ : XS) (e i : Int32) (w : Nat → Nat) (hs : ∀ e, e < 8 → w e ≤ 4 ∧ σ 3 e = nI (w e)) : Met l yX1_read (ws_ yX1_read cX1_read 3 (some .int)) (rmk 1) (va_Pc [.ref (xa g 7), .int e, .int i] (mW g σ)) (va_Qi (fun (r : Int32) (σ' : XS) => (e < 0 ∨ nI 8 ≤ e → r = 0 ∧ σ' = σ) ∧ ∀ j, j < 8 → e = nI j → ((i < 0 ∨ nI (w j) ≤ i → r = 0 ∧ σ' = σ) ∧ ∀ a, a < w j → i = nI a → r = σ 2 (4 * j + a) ∧ (σ 5 j = 0 ∨ σ 4 j = nI (w j) → σ' = σ) ∧ (¬ (σ 5 j = 0 ∨ σ 4 j = nI (w j)) → σ' = wr (wr σ 5 j (nI 0)) 6 0 (σ 6 0 + nI 1)))) (mW g) (mA g)) 0 0 (mA g) := by
  refine m_enter 1 [(0, .ref (xa g 7)), (1, .int e), (2, .int i)] (by decide) rfl (Nat.le_of_ble_eq_true rfl) rfl (fun E M => ?_)
  refine z_aload_n M.1 0 dX1_read_0 rfl ?_
  refine z_iload_n M.1 1 dX1_read_1 rfl ?_
  refine h_isExtent M (by decide) dX1_read_2 (Nat.le_of_ble_eq_true rfl) (fun hbad => ?_) (fun j hj he => ?_)
  · refine z_if_eqN M.1 22 dX1_read_5 (by decide) (by omega) (fun h5 => ?_) (fun h5 => absurd h5 (by decide))
    refine z_iconst M.1 (nI 0) dX1_read_22 (by decide) ?_
    exact m_reti M dX1_read_23 (eb (by decide) hbad ⟨rfl, rfl⟩)
  · subst he
    have hw4 := (hs j hj).1
    refine z_if_eqN M.1 22 dX1_read_5 (by decide) (by omega) (fun h5 => absurd h5 (by decide)) (fun h5 => ?_)
    refine z_iload_n M.1 2 dX1_read_8 rfl ?_
    refine z_if_lt M.1 22 dX1_read_9 (by decide) (fun h9 => ?_) (fun h9 => ?_)
    · refine z_iconst M.1 (nI 0) dX1_read_22 (by decide) ?_
      exact m_reti M dX1_read_23 (eg (by decide) hj (eb (by omega) (Or.inl h9) ⟨rfl, rfl⟩))
    · refine z_iload_n M.1 2 dX1_read_12 rfl ?_
      refine z_aload_n M.1 0 dX1_read_13 rfl ?_
      refine m_get3 M.1 dX1_read_14 ?_
      refine z_iload_n M.1 1 dX1_read_17 rfl ?_
      refine m_ld3 M.1 dX1_read_18 (by omega) ?_
      refine z_top (nI (w j)) ((hs j hj).2) ?_
      refine z_icmp_lt M.1 24 dX1_read_19 (by decide) (fun h19 => ?_) (fun h19 => ?_)
      · obtain ⟨a, ha, rfl⟩ := ix_of (by omega) h9 h19
        refine z_aload_n M.1 0 dX1_read_24 rfl ?_
        refine m_get5 M.1 dX1_read_25 ?_
        refine z_iload_n M.1 1 dX1_read_28 rfl ?_
        refine m_ld5 M.1 dX1_read_29 (by omega) ?_
        refine z_if_eq M.1 65 dX1_read_30 (by decide) (fun h30 => ?_) (fun h30 => ?_)
        · refine z_aload_n M.1 0 dX1_read_65 rfl ?_
          refine m_get2 M.1 dX1_read_66 ?_
          refine z_iconst M.1 (nI 4) dX1_read_69 (by decide) ?_
          refine z_iload_n M.1 1 dX1_read_70 rfl ?_
          refine z_imulN M.1 dX1_read_71 ?_
          refine z_iload_n M.1 2 dX1_read_72 rfl ?_
          refine z_iaddN M.1 dX1_read_73 ?_
          refine m_ld2 M.1 dX1_read_74 (by omega) ?_
          exact m_reti M dX1_read_75 (eg (by decide) hj (eg (by omega) ha ⟨rfl, br_t (Or.inl h30) rfl⟩))
        · refine z_aload_n M.1 0 dX1_read_33 rfl ?_
          refine m_get4 M.1 dX1_read_34 ?_
          refine z_iload_n M.1 1 dX1_read_37 rfl ?_
          refine m_ld4 M.1 dX1_read_38 (by omega) ?_
          refine z_aload_n M.1 0 dX1_read_39 rfl ?_
          refine m_get3 M.1 dX1_read_40 ?_
          refine z_iload_n M.1 1 dX1_read_43 rfl ?_
          refine m_ld3 M.1 dX1_read_44 (by omega) ?_
          refine z_top (nI (w j)) ((hs j hj).2) ?_
          refine z_icmp_eq M.1 65 dX1_read_45 (by decide) (fun h45 => ?_) (fun h45 => ?_)
          · refine z_aload_n M.1 0 dX1_read_65 rfl ?_
            refine m_get2 M.1 dX1_read_66 ?_
            refine z_iconst M.1 (nI 4) dX1_read_69 (by decide) ?_
            refine z_iload_n M.1 1 dX1_read_70 rfl ?_
            refine z_imulN M.1 dX1_read_71 ?_
            refine z_iload_n M.1 2 dX1_read_72 rfl ?_
            refine z_iaddN M.1 dX1_read_73 ?_
            refine m_ld2 M.1 dX1_read_74 (by omega) ?_
            exact m_reti M dX1_read_75 (eg (by decide) hj (eg (by omega) ha ⟨rfl, br_t (Or.inr h45) rfl⟩))
          · refine z_aload_n M.1 0 dX1_read_48 rfl ?_
            refine m_get5 M.1 dX1_read_49 ?_
            refine z_iload_n M.1 1 dX1_read_52 rfl ?_
            refine z_iconst M.1 (nI 0) dX1_read_53 (by decide) ?_
            refine m_st5 M.1 dX1_read_54 (by omega) ?_
            refine z_aload_n M.1 0 dX1_read_55 rfl ?_
            refine z_dup M.1 dX1_read_56 rfl ?_
            refine m_get6 M.1 dX1_read_57 ?_
            refine z_iconst M.1 (nI 1) dX1_read_60 (by decide) ?_
            refine z_iadd M.1 dX1_read_61 ?_
            refine m_put6 M.1 dX1_read_62 ?_
            refine z_aload_n M.1 0 dX1_read_65 rfl ?_
            refine m_get2 M.1 dX1_read_66 ?_
            refine z_iconst M.1 (nI 4) dX1_read_69 (by decide) ?_
            refine z_iload_n M.1 1 dX1_read_70 rfl ?_
            refine z_imulN M.1 dX1_read_71 ?_
            refine z_iload_n M.1 2 dX1_read_72 rfl ?_
            refine z_iaddN M.1 dX1_read_73 ?_
            refine m_ld2 M.1 dX1_read_74 (by omega) ?_
            exact m_reti M dX1_read_75 (eg (by decide) hj (eg (by omega) ha ⟨rfl, br_f (fun q => q.elim h30 h45) rfl⟩))
      · refine z_iconst M.1 (nI 0) dX1_read_22 (by decide) ?_
        exact m_reti M dX1_read_23 (eg (by decide) hj (eb (by omega) (Or.inr (Int32.not_lt.mp h19)) ⟨rfl, rfl⟩))
set_option maxHeartbeats 4000000 in
theorem n_damage (l : Launch) (g : XA) (σ : XS) (e c x : Int32) (w : Nat → Nat) (hs : ∀ e, e < 8 → w e ≤ 4 ∧ σ 3 e = nI (w e)) : Met l yX1_damage (ws_ yX1_damage cX1_damage 4 (some .int)) (rmk 1) (va_Pc [.ref (xa g 7), .int e, .int c, .int x] (mW g σ)) (va_Qi (fun (r : Int32) (σ' : XS) => (e < 0 ∨ nI 8 ≤ e → r = -1 ∧ σ' = σ) ∧ ∀ j, j < 8 → e = nI j → ((w j = 0 → r = -3 ∧ σ' = σ) ∧ (¬ w j = 0 → (c < 0 ∨ nI (w j) < c → r = -1 ∧ σ' = σ) ∧ ∀ t, t ≤ w j → c = nI t → (¬ (σ 5 j = 0 ∨ σ 4 j = nI t) → r = -4 ∧ σ' = σ) ∧ (¬ ¬ (σ 5 j = 0 ∨ σ 4 j = nI t) → σ' = wr (wr σ 4 j (nI t)) 5 j (σ 5 j ^^^ x) ∧ (σ 5 j ^^^ x = 0 → r = nI 0) ∧ (¬ σ 5 j ^^^ x = 0 → r = nI 1))))) (mW g) (mA g)) 0 0 (mA g) := by
  refine m_enter 1 [(0, .ref (xa g 7)), (1, .int e), (2, .int c), (3, .int x)] (by decide) rfl (Nat.le_of_ble_eq_true rfl) rfl (fun E M => ?_)
  refine z_aload_n M.1 0 dX1_damage_0 rfl ?_
  refine z_iload_n M.1 1 dX1_damage_1 rfl ?_
  refine h_isExtent M (by decide) dX1_damage_2 (Nat.le_of_ble_eq_true rfl) (fun hbad => ?_) (fun j hj he => ?_)
  · refine z_if_neN M.1 10 dX1_damage_5 (by decide) (by omega) (fun h5 => absurd h5 (by decide)) (fun h5 => ?_)
    refine z_iconst M.1 (-1) dX1_damage_8 (by decide) ?_
    exact m_reti M dX1_damage_9 (eb (by decide) hbad ⟨rfl, rfl⟩)
  · subst he
    have hw4 := (hs j hj).1
    refine z_if_neN M.1 10 dX1_damage_5 (by decide) (by omega) (fun h5 => ?_) (fun h5 => absurd h5 (by decide))
    refine z_aload_n M.1 0 dX1_damage_10 rfl ?_
    refine m_get3 M.1 dX1_damage_11 ?_
    refine z_iload_n M.1 1 dX1_damage_14 rfl ?_
    refine m_ld3 M.1 dX1_damage_15 (by omega) ?_
    refine z_top (nI (w j)) ((hs j hj).2) ?_
    refine z_if_neN M.1 22 dX1_damage_16 (by decide) (by omega) (fun h16 => ?_) (fun h16 => ?_)
    · refine z_iload_n M.1 2 dX1_damage_22 rfl ?_
      refine z_if_lt M.1 36 dX1_damage_23 (by decide) (fun h23 => ?_) (fun h23 => ?_)
      · refine z_iconst M.1 (-1) dX1_damage_36 (by decide) ?_
        exact m_reti M dX1_damage_37 (eg (by decide) hj (br_f (by omega) (fb (by omega) (Or.inl h23) ⟨rfl, rfl⟩)))
      · refine z_iload_n M.1 2 dX1_damage_26 rfl ?_
        refine z_aload_n M.1 0 dX1_damage_27 rfl ?_
        refine m_get3 M.1 dX1_damage_28 ?_
        refine z_iload_n M.1 1 dX1_damage_31 rfl ?_
        refine m_ld3 M.1 dX1_damage_32 (by omega) ?_
        refine z_top (nI (w j)) ((hs j hj).2) ?_
        refine z_icmp_le M.1 38 dX1_damage_33 (by decide) (fun h33 => ?_) (fun h33 => ?_)
        · obtain ⟨t, ht, rfl⟩ := ix_le (by omega) h23 h33
          refine z_aload_n M.1 0 dX1_damage_38 rfl ?_
          refine m_get5 M.1 dX1_damage_39 ?_
          refine z_iload_n M.1 1 dX1_damage_42 rfl ?_
          refine m_ld5 M.1 dX1_damage_43 (by omega) ?_
          refine z_if_eq M.1 60 dX1_damage_44 (by decide) (fun h44 => ?_) (fun h44 => ?_)
          · refine z_aload_n M.1 0 dX1_damage_60 rfl ?_
            refine m_get4 M.1 dX1_damage_61 ?_
            refine z_iload_n M.1 1 dX1_damage_64 rfl ?_
            refine z_iload_n M.1 2 dX1_damage_65 rfl ?_
            refine m_st4 M.1 dX1_damage_66 (by omega) ?_
            refine z_aload_n M.1 0 dX1_damage_67 rfl ?_
            refine m_get5 M.1 dX1_damage_68 ?_
            refine z_iload_n M.1 1 dX1_damage_71 rfl ?_
            refine z_aload_n M.1 0 dX1_damage_72 rfl ?_
            refine m_get5 M.1 dX1_damage_73 ?_
            refine z_iload_n M.1 1 dX1_damage_76 rfl ?_
            refine m_ld5 M.1 dX1_damage_77 (by omega) ?_
            refine z_iload_n M.1 3 dX1_damage_78 rfl ?_
            refine z_ixor M.1 dX1_damage_79 ?_
            refine m_st5 M.1 dX1_damage_80 (by omega) ?_
            refine z_aload_n M.1 0 dX1_damage_81 rfl ?_
            refine m_get5 M.1 dX1_damage_82 ?_
            refine z_iload_n M.1 1 dX1_damage_85 rfl ?_
            refine m_ld5 M.1 dX1_damage_86 (by omega) ?_
            refine z_top (σ 5 j ^^^ x) (wr_s _ 5 j _) ?_
            refine z_if_eq M.1 94 dX1_damage_87 (by decide) (fun h87 => ?_) (fun h87 => ?_)
            · refine z_iconst M.1 (nI 0) dX1_damage_94 (by decide) ?_
              exact m_reti M dX1_damage_95 (eg (by decide) hj (br_f (by omega) (fg (by omega) ht (br_f (not_not_intro (Or.inl h44)) ⟨rfl, br_t h87 rfl⟩))))
            · refine z_iconst M.1 (nI 1) dX1_damage_90 (by decide) ?_
              refine z_goto M.1 95 dX1_damage_91 (by decide) ?_
              exact m_reti M dX1_damage_95 (eg (by decide) hj (br_f (by omega) (fg (by omega) ht (br_f (not_not_intro (Or.inl h44)) ⟨rfl, br_f h87 rfl⟩))))
          · refine z_aload_n M.1 0 dX1_damage_47 rfl ?_
            refine m_get4 M.1 dX1_damage_48 ?_
            refine z_iload_n M.1 1 dX1_damage_51 rfl ?_
            refine m_ld4 M.1 dX1_damage_52 (by omega) ?_
            refine z_iload_n M.1 2 dX1_damage_53 rfl ?_
            refine z_icmp_eq M.1 60 dX1_damage_54 (by decide) (fun h54 => ?_) (fun h54 => ?_)
            · refine z_aload_n M.1 0 dX1_damage_60 rfl ?_
              refine m_get4 M.1 dX1_damage_61 ?_
              refine z_iload_n M.1 1 dX1_damage_64 rfl ?_
              refine z_iload_n M.1 2 dX1_damage_65 rfl ?_
              refine m_st4 M.1 dX1_damage_66 (by omega) ?_
              refine z_aload_n M.1 0 dX1_damage_67 rfl ?_
              refine m_get5 M.1 dX1_damage_68 ?_
              refine z_iload_n M.1 1 dX1_damage_71 rfl ?_
              refine z_aload_n M.1 0 dX1_damage_72 rfl ?_
              refine m_get5 M.1 dX1_damage_73 ?_
              refine z_iload_n M.1 1 dX1_damage_76 rfl ?_
              refine m_ld5 M.1 dX1_damage_77 (by omega) ?_
              refine z_iload_n M.1 3 dX1_damage_78 rfl ?_
              refine z_ixor M.1 dX1_damage_79 ?_
              refine m_st5 M.1 dX1_damage_80 (by omega) ?_
              refine z_aload_n M.1 0 dX1_damage_81 rfl ?_
              refine m_get5 M.1 dX1_damage_82 ?_
              refine z_iload_n M.1 1 dX1_damage_85 rfl ?_
              refine m_ld5 M.1 dX1_damage_86 (by omega) ?_
              refine z_top (σ 5 j ^^^ x) (wr_s _ 5 j _) ?_
              refine z_if_eq M.1 94 dX1_damage_87 (by decide) (fun h87 => ?_) (fun h87 => ?_)
              · refine z_iconst M.1 (nI 0) dX1_damage_94 (by decide) ?_
                exact m_reti M dX1_damage_95 (eg (by decide) hj (br_f (by omega) (fg (by omega) ht (br_f (not_not_intro (Or.inr h54)) ⟨rfl, br_t h87 rfl⟩))))
              · refine z_iconst M.1 (nI 1) dX1_damage_90 (by decide) ?_
                refine z_goto M.1 95 dX1_damage_91 (by decide) ?_
                exact m_reti M dX1_damage_95 (eg (by decide) hj (br_f (by omega) (fg (by omega) ht (br_f (not_not_intro (Or.inr h54)) ⟨rfl, br_f h87 rfl⟩))))
            · refine z_bipush M.1 (-4) dX1_damage_57 (by decide) ?_
              exact m_reti M dX1_damage_59 (eg (by decide) hj (br_f (by omega) (fg (by omega) ht (br_t (fun q => q.elim h44 h54) ⟨rfl, rfl⟩))))
        · refine z_iconst M.1 (-1) dX1_damage_36 (by decide) ?_
          exact m_reti M dX1_damage_37 (eg (by decide) hj (br_f (by omega) (fb (by omega) (Or.inr (Int32.not_le.mp h33)) ⟨rfl, rfl⟩)))
    · refine z_bipush M.1 (-3) dX1_damage_19 (by decide) ?_
      exact m_reti M dX1_damage_21 (eg (by decide) hj (br_t h16 ⟨rfl, rfl⟩))
def mcn (f : Nat → Int32) : Nat → Nat
  | 0 => 0
  | e + 1 => mcn f e + (if f e ≠ 0 then 1 else 0)
theorem mcn_y {f : Nat → Int32} {e : Nat} (h : f e ≠ 0) : mcn f (e + 1) = mcn f e + 1 := by
  show mcn f e + (if f e ≠ 0 then 1 else 0) = _
  rw [if_pos h]
theorem mcn_n {f : Nat → Int32} {e : Nat} (h : f e = 0) : mcn f (e + 1) = mcn f e := by
  show mcn f e + (if f e ≠ 0 then 1 else 0) = _
  rw [if_neg (not_not_intro h)]
  rfl
theorem mcn_le (f : Nat → Int32) : ∀ e, mcn f e ≤ e
  | 0 => Nat.le_refl 0
  | e + 1 => by
    show mcn f e + (if f e ≠ 0 then 1 else 0) ≤ e + 1
    have h := mcn_le f e
    split <;> omega
theorem i_damagedExtents {E : EV} {g : XA} {σ : XS} (M : mM E cX1_damagedExtents 3 (some .int) 0 g (va_Qi (fun (r : Int32) (σ' : XS) => σ' = σ ∧ r = nI (mcn (σ 5) 8)) (mW g) (mA g))) : ∀ n e, e + n = 8 → Az E (mI g (eS E) σ) [(0, .ref (xa g 7)), (1, .int (nI (mcn (σ 5) e))), (2, .int (nI e))] 4 [] := by
  intro n
  induction n with
  | zero =>
    intro e hi
    refine z_iload_n M.1 2 dX1_damagedExtents_4 rfl ?_
    refine z_bipush M.1 (nI 8) dX1_damagedExtents_5 (by decide) ?_
    refine z_icmp_geN M.1 28 dX1_damagedExtents_7 (by decide) (by omega) (by omega) (fun h7 => ?_) (fun h7 => absurd h7 (by omega))
    refine z_iload_n M.1 1 dX1_damagedExtents_28 rfl ?_
    obtain rfl : e = 8 := by omega
    exact m_reti M dX1_damagedExtents_29 ⟨rfl, rfl⟩
  | succ n ih =>
    intro e hi
    refine z_iload_n M.1 2 dX1_damagedExtents_4 rfl ?_
    refine z_bipush M.1 (nI 8) dX1_damagedExtents_5 (by decide) ?_
    refine z_icmp_geN M.1 28 dX1_damagedExtents_7 (by decide) (by omega) (by omega) (fun h7 => absurd h7 (by omega)) (fun h7 => ?_)
    refine z_aload_n M.1 0 dX1_damagedExtents_10 rfl ?_
    refine m_get5 M.1 dX1_damagedExtents_11 ?_
    refine z_iload_n M.1 2 dX1_damagedExtents_14 rfl ?_
    refine m_ld5 M.1 dX1_damagedExtents_15 (by omega) ?_
    refine z_if_eq M.1 22 dX1_damagedExtents_16 (by decide) (fun h16 => ?_) (fun h16 => ?_)
    · refine z_iincN M.1 M.2.2.2.2.1 [(0, .ref (xa g 7)), (1, .int (nI (mcn (σ 5) e))), (2, .int (nI (e + 1)))] 2 [1, 2, 0] dX1_damagedExtents_22 rfl (by decide) rfl ?_
      refine z_goto M.1 4 dX1_damagedExtents_25 (by decide) ?_
      have h := ih (e + 1) (by omega)
      rw [mcn_n h16] at h
      exact h
    · refine z_iincN M.1 M.2.2.2.2.1 [(0, .ref (xa g 7)), (1, .int (nI (mcn (σ 5) e + 1))), (2, .int (nI (e)))] 1 [1, 0, 2] dX1_damagedExtents_19 rfl (by decide) rfl ?_
      refine z_iincN M.1 M.2.2.2.2.1 [(0, .ref (xa g 7)), (1, .int (nI (mcn (σ 5) e + 1))), (2, .int (nI (e + 1)))] 2 [1, 2, 0] dX1_damagedExtents_22 rfl (by decide) rfl ?_
      refine z_goto M.1 4 dX1_damagedExtents_25 (by decide) ?_
      have h := ih (e + 1) (by omega)
      rw [mcn_y h16] at h
      exact h
set_option maxHeartbeats 4000000 in
theorem n_damagedExtents (l : Launch) (g : XA) (σ : XS)  : Met l yX1_damagedExtents (ws_ yX1_damagedExtents cX1_damagedExtents 3 (some .int)) (rmk 0) (va_Pc [.ref (xa g 7)] (mW g σ)) (va_Qi (fun (r : Int32) (σ' : XS) => σ' = σ ∧ r = nI (mcn (σ 5) 8)) (mW g) (mA g)) 0 0 (mA g) := by
  refine m_enter 0 [(0, .ref (xa g 7))] (by decide) rfl (Nat.le_of_ble_eq_true rfl) rfl (fun E M => ?_)
  refine z_iconst M.1 (nI 0) dX1_damagedExtents_0 (by decide) ?_
  refine z_istore_n M.1 M.2.2.2.2.1 [(0, .ref (xa g 7)), (1, .int (nI (0)))] [1, 0] dX1_damagedExtents_1 (by decide) rfl ?_
  refine z_iconst M.1 (nI 0) dX1_damagedExtents_2 (by decide) ?_
  refine z_istore_n M.1 M.2.2.2.2.1 [(0, .ref (xa g 7)), (1, .int (nI (0))), (2, .int (nI (0)))] [1, 2, 0] dX1_damagedExtents_3 (by decide) rfl ?_
  exact i_damagedExtents M 8 0 (by omega)
theorem h_damagedExtents {E : EV} {cc : ByteArray} {lv : List (Nat × Value)} {pc : Nat} {rest : List Value} {g : XA} {σ : XS} {nL d : Nat} {ret : Option FieldType} {Qc : Array Value → State → Outcome → State → Prop} (M : mM E cc nL ret d g Qc) (hd : 0 < d) (dg : decode cc pc = .ok (.invokevirtual 36, 3)) (hW : (rest.map fun v => v.category).sum ≤ 8) (kk : Az E (mI g (eS E) σ) lv (pc + 3) (.int (nI (mcn (σ 5) 8)) :: rest)) : Az E (mI g (eS E) σ) lv pc (.ref (xa g 7) :: rest) :=
  m_calli M (fun l => n_damagedExtents l g σ) (lw_V q250 q252 qs17 q20 q253) (show yX1_damagedExtents.cls = RX1 ∧ yX1_damagedExtents.cls ≠ "java/lang/invoke/MethodHandle" ∧ yX1_damagedExtents.cls ≠ "java/lang/invoke/VarHandle" ∧ (parseMethodDescriptor yX1_damagedExtents.desc).map (fun d => d.parameters.length) = some 0 from by decide +kernel) hd (by decide) rfl hW dg (fun r u h => by
    obtain ⟨rfl, rfl⟩ := h
    exact kk)
set_option maxHeartbeats 4000000 in
theorem n_lose (l : Launch) (g : XA) (σ : XS) (d : Int32) : Met l yX1_lose (ws_ yX1_lose cX1_lose 2 (some .int)) (rmk 1) (va_Pc [.ref (xa g 7), .int d] (mW g σ)) (va_Qi (fun (r : Int32) (σ' : XS) => σ' = σ ∧ ((d < 0 ∨ nI 5 ≤ d → r = -1) ∧ ∀ dd, dd < 5 → d = nI dd → (mcn (σ 5) 8 = 0 → r = 0) ∧ (¬ mcn (σ 5) 8 = 0 → r = -4))) (mW g) (mA g)) 0 0 (mA g) := by
  refine m_enter 1 [(0, .ref (xa g 7)), (1, .int d)] (by decide) rfl (Nat.le_of_ble_eq_true rfl) rfl (fun E M => ?_)
  refine z_iload_n M.1 1 dX1_lose_0 rfl ?_
  refine z_if_lt M.1 9 dX1_lose_1 (by decide) (fun h1 => ?_) (fun h1 => ?_)
  · refine z_iconst M.1 (-1) dX1_lose_9 (by decide) ?_
    exact m_reti M dX1_lose_10 ⟨rfl, eb (by decide) (Or.inl h1) rfl⟩
  · refine z_iload_n M.1 1 dX1_lose_4 rfl ?_
    refine z_iconst M.1 (nI 4) dX1_lose_5 (by decide) ?_
    refine z_icmp_le M.1 11 dX1_lose_6 (by decide) (fun h6 => ?_) (fun h6 => ?_)
    · obtain ⟨dd, hdd, rfl⟩ : ∃ dd, dd < 5 ∧ d = nI dd := by
        obtain ⟨a, h1, h2⟩ := ix_le (by decide) h1 h6
        exact ⟨a, by omega, h2⟩
      have hcn := mcn_le (σ 5) 8
      refine z_aload_n M.1 0 dX1_lose_11 rfl ?_
      refine h_damagedExtents M (by decide) dX1_lose_12 (Nat.le_of_ble_eq_true rfl) ?_
      refine z_if_leN M.1 23 dX1_lose_15 (by decide) (by omega) (fun h15 => ?_) (fun h15 => ?_)
      · refine z_iconst M.1 (nI 0) dX1_lose_23 (by decide) ?_
        exact m_reti M dX1_lose_24 ⟨rfl, eg (by decide) hdd (br_t h15 rfl)⟩
      · refine z_bipush M.1 (-4) dX1_lose_18 (by decide) ?_
        refine z_goto M.1 24 dX1_lose_20 (by decide) ?_
        exact m_reti M dX1_lose_24 ⟨rfl, eg (by decide) hdd (br_f (by omega) rfl)⟩
    · refine z_iconst M.1 (-1) dX1_lose_9 (by decide) ?_
      exact m_reti M dX1_lose_10 ⟨rfl, eb (by decide) (by
        rcases pk_ix d (n := 5) (by decide) with q | q | ⟨a, ha, rfl⟩
        · exact Or.inl q
        · exact Or.inr q
        · exact absurd ((nI_leI (a := a) (b := 4) (by omega) (by decide)).mpr (by omega)) h6) rfl⟩
theorem i_scrub {E : EV} {g : XA} {σ : XS} (M : mM E cX1_scrub 3 (some .int) 1 g (va_Qi (fun (r : Int32) (σ' : XS) => r = nI (mcn (σ 5) 8) ∧ ∃ f, (∀ e, e < 8 → f e = 0) ∧ σ' = wr (wf σ 5 f) 6 0 (σ 6 0 + nI (mcn (σ 5) 8))) (mW g) (mA g))) : ∀ n e f, e + n = 8 → (∀ x, x < e → f x = 0) → Az E (mI g (eS E) (wf σ 5 f)) [(0, .ref (xa g 7)), (1, .int (nI (mcn (σ 5) 8))), (2, .int (nI e))] 7 [] := by
  intro n
  induction n with
  | zero =>
    intro e f hi hf
    refine z_iload_n M.1 2 dX1_scrub_7 rfl ?_
    refine z_bipush M.1 (nI 8) dX1_scrub_8 (by decide) ?_
    refine z_icmp_geN M.1 26 dX1_scrub_10 (by decide) (by omega) (by omega) (fun h10 => ?_) (fun h10 => absurd h10 (by omega))
    refine z_aload_n M.1 0 dX1_scrub_26 rfl ?_
    refine z_aload_n M.1 0 dX1_scrub_27 rfl ?_
    refine m_get6 M.1 dX1_scrub_28 ?_
    refine z_iload_n M.1 1 dX1_scrub_31 rfl ?_
    refine z_iadd M.1 dX1_scrub_32 ?_
    refine m_put6 M.1 dX1_scrub_33 ?_
    refine z_iload_n M.1 1 dX1_scrub_36 rfl ?_
    exact m_reti M dX1_scrub_37 ⟨rfl, f, fun x hx => hf x (by omega), rfl⟩
  | succ n ih =>
    intro e f hi hf
    refine z_iload_n M.1 2 dX1_scrub_7 rfl ?_
    refine z_bipush M.1 (nI 8) dX1_scrub_8 (by decide) ?_
    refine z_icmp_geN M.1 26 dX1_scrub_10 (by decide) (by omega) (by omega) (fun h10 => absurd h10 (by omega)) (fun h10 => ?_)
    refine z_aload_n M.1 0 dX1_scrub_13 rfl ?_
    refine m_get5 M.1 dX1_scrub_14 ?_
    refine z_iload_n M.1 2 dX1_scrub_17 rfl ?_
    refine z_iconst M.1 (nI 0) dX1_scrub_18 (by decide) ?_
    refine m_st5 M.1 dX1_scrub_19 (by omega) ?_
    refine z_I (congrArg (mI g (eS E)) (wr_wf σ 5 f e _)) ?_
    refine z_iincN M.1 M.2.2.2.2.1 [(0, .ref (xa g 7)), (1, .int (nI (mcn (σ 5) 8))), (2, .int (nI (e + 1)))] 2 [1, 2, 0] dX1_scrub_20 rfl (by decide) rfl ?_
    refine z_goto M.1 7 dX1_scrub_23 (by decide) ?_
    refine ih (e + 1) (upd f e (nI 0)) (by omega) (fun x hx => ?_)
    by_cases y : x = e
    · rw [y, upd_s]
      rfl
    · rw [upd_n y]
      exact hf x (by omega)
set_option maxHeartbeats 4000000 in
theorem n_scrub (l : Launch) (g : XA) (σ : XS)  : Met l yX1_scrub (ws_ yX1_scrub cX1_scrub 3 (some .int)) (rmk 1) (va_Pc [.ref (xa g 7)] (mW g σ)) (va_Qi (fun (r : Int32) (σ' : XS) => r = nI (mcn (σ 5) 8) ∧ ∃ f, (∀ e, e < 8 → f e = 0) ∧ σ' = wr (wf σ 5 f) 6 0 (σ 6 0 + nI (mcn (σ 5) 8))) (mW g) (mA g)) 0 0 (mA g) := by
  refine m_enter 1 [(0, .ref (xa g 7))] (by decide) rfl (Nat.le_of_ble_eq_true rfl) rfl (fun E M => ?_)
  refine z_aload_n M.1 0 dX1_scrub_0 rfl ?_
  refine h_damagedExtents M (by decide) dX1_scrub_1 (Nat.le_of_ble_eq_true rfl) ?_
  refine z_istore_n M.1 M.2.2.2.2.1 [(0, .ref (xa g 7)), (1, .int (nI (mcn (σ 5) 8)))] [1, 0] dX1_scrub_4 (by decide) rfl ?_
  refine z_iconst M.1 (nI 0) dX1_scrub_5 (by decide) ?_
  refine z_istore_n M.1 M.2.2.2.2.1 [(0, .ref (xa g 7)), (1, .int (nI (mcn (σ 5) 8))), (2, .int (nI (0)))] [1, 2, 0] dX1_scrub_6 (by decide) rfl ?_
  refine z_I (congrArg (mI g (eS E)) (wf_id σ 5).symm) ?_
  exact i_scrub M 8 0 (σ 5) (by omega) (fun x hx => absurd hx (Nat.not_lt_zero x))
theorem i_put {E : EV} {g : XA} {σ : XS} {j k : Nat} {Qc : Array Value → State → Outcome → State → Prop} (M : mM E cX1_put 3 (some .int) 1 g Qc) (hj : j < 8) (hk4 : k ≤ 4) (hk : σ 1 0 = nI k) (K : ∀ f, (∀ i, i < k → f (4 * j + i) = σ 0 i) → (∀ q, (∀ i, i < k → q ≠ 4 * j + i) → f q = σ 2 q) → Az E (mI g (eS E) (wf σ 2 f)) [(0, .ref (xa g 7)), (1, .int (nI j)), (2, .int (nI k))] 52 []) : ∀ n c f, c + n = k → (∀ i, i < c → f (4 * j + i) = σ 0 i) → (∀ q, (∀ i, i < c → q ≠ 4 * j + i) → f q = σ 2 q) → Az E (mI g (eS E) (wf σ 2 f)) [(0, .ref (xa g 7)), (1, .int (nI j)), (2, .int (nI c))] 22 [] := by
  intro n
  induction n with
  | zero =>
    intro c f hi hf hg
    refine z_iload_n M.1 2 dX1_put_22 rfl ?_
    refine z_aload_n M.1 0 dX1_put_23 rfl ?_
    refine m_get1 M.1 dX1_put_24 ?_
    refine z_top (nI (k)) (hk) ?_
    refine z_icmp_geN M.1 52 dX1_put_27 (by decide) (by omega) (by omega) (fun h27 => ?_) (fun h27 => absurd h27 (by omega))
    rw [show c = k by omega] at hf hg ⊢
    exact K f hf hg
  | succ n ih =>
    intro c f hi hf hg
    refine z_iload_n M.1 2 dX1_put_22 rfl ?_
    refine z_aload_n M.1 0 dX1_put_23 rfl ?_
    refine m_get1 M.1 dX1_put_24 ?_
    refine z_top (nI (k)) (hk) ?_
    refine z_icmp_geN M.1 52 dX1_put_27 (by decide) (by omega) (by omega) (fun h27 => absurd h27 (by omega)) (fun h27 => ?_)
    refine z_aload_n M.1 0 dX1_put_30 rfl ?_
    refine m_get2 M.1 dX1_put_31 ?_
    refine z_iconst M.1 (nI 4) dX1_put_34 (by decide) ?_
    refine z_iload_n M.1 1 dX1_put_35 rfl ?_
    refine z_imulN M.1 dX1_put_36 ?_
    refine z_iload_n M.1 2 dX1_put_37 rfl ?_
    refine z_iaddN M.1 dX1_put_38 ?_
    refine z_aload_n M.1 0 dX1_put_39 rfl ?_
    refine m_get0 M.1 dX1_put_40 ?_
    refine z_iload_n M.1 2 dX1_put_43 rfl ?_
    refine m_ld0 M.1 dX1_put_44 (by omega) ?_
    refine m_st2 M.1 dX1_put_45 (by omega) ?_
    refine z_I (congrArg (mI g (eS E)) (wr_wf σ 2 f (4 * j + c) _)) ?_
    refine z_iincN M.1 M.2.2.2.2.1 [(0, .ref (xa g 7)), (1, .int (nI (j))), (2, .int (nI (c + 1)))] 2 [1, 2, 0] dX1_put_46 rfl (by decide) rfl ?_
    refine z_goto M.1 22 dX1_put_49 (by decide) ?_
    refine ih (c + 1) (upd f (4 * j + c) (σ 0 c)) (by omega) (fun i hi => ?_) (fun q hq => ?_)
    · by_cases e : i = c
      · rw [e, upd_s]
      · rw [upd_n (by omega)]
        exact hf i (by omega)
    · rw [upd_n (hq c (by omega))]
      exact hg q (fun i hi => hq i (by omega))
set_option maxHeartbeats 4000000 in
theorem n_put (l : Launch) (g : XA) (σ : XS) (e : Int32) (k : Nat) (hk4 : k ≤ 4) (hk : σ 1 0 = nI k) : Met l yX1_put (ws_ yX1_put cX1_put 3 (some .int)) (rmk 1) (va_Pc [.ref (xa g 7), .int e] (mW g σ)) (va_Qi (fun (r : Int32) (σ' : XS) => (e < 0 ∨ nI 8 ≤ e → r = -1 ∧ σ' = σ) ∧ ∀ j, j < 8 → e = nI j → ((k = 0 → r = -3 ∧ σ' = σ) ∧ (¬ k = 0 → r = nI k ∧ ∃ f, (∀ i, i < k → f (4 * j + i) = σ 0 i) ∧ (∀ q, (∀ i, i < k → q ≠ 4 * j + i) → f q = σ 2 q) ∧ σ' = wr (wr (wr (wf σ 2 f) 3 j (nI k)) 5 j (nI 0)) 1 0 (nI 0)))) (mW g) (mA g)) 0 0 (mA g) := by
  refine m_enter 1 [(0, .ref (xa g 7)), (1, .int e)] (by decide) rfl (Nat.le_of_ble_eq_true rfl) rfl (fun E M => ?_)
  refine z_aload_n M.1 0 dX1_put_0 rfl ?_
  refine z_iload_n M.1 1 dX1_put_1 rfl ?_
  refine h_isExtent M (by decide) dX1_put_2 (Nat.le_of_ble_eq_true rfl) (fun hbad => ?_) (fun j hj he => ?_)
  · refine z_if_neN M.1 10 dX1_put_5 (by decide) (by omega) (fun h5 => absurd h5 (by decide)) (fun h5 => ?_)
    refine z_iconst M.1 (-1) dX1_put_8 (by decide) ?_
    exact m_reti M dX1_put_9 (eb (by decide) hbad ⟨rfl, rfl⟩)
  · subst he
    refine z_if_neN M.1 10 dX1_put_5 (by decide) (by omega) (fun h5 => ?_) (fun h5 => absurd h5 (by decide))
    refine z_aload_n M.1 0 dX1_put_10 rfl ?_
    refine m_get1 M.1 dX1_put_11 ?_
    refine z_top (nI (k)) (hk) ?_
    refine z_if_neN M.1 20 dX1_put_14 (by decide) (by omega) (fun h14 => ?_) (fun h14 => ?_)
    · refine z_iconst M.1 (nI 0) dX1_put_20 (by decide) ?_
      refine z_istore_n M.1 M.2.2.2.2.1 [(0, .ref (xa g 7)), (1, .int (nI (j))), (2, .int (nI (0)))] [1, 2, 0] dX1_put_21 (by decide) rfl ?_
      refine z_I (congrArg (mI g (eS E)) (wf_id σ 2).symm) ?_
      refine i_put M hj hk4 hk (fun f hf hg => ?_) k 0 (σ 2) (by omega) (fun i hi => absurd hi (Nat.not_lt_zero i)) (fun _ _ => rfl)
      refine z_aload_n M.1 0 dX1_put_52 rfl ?_
      refine m_get3 M.1 dX1_put_53 ?_
      refine z_iload_n M.1 1 dX1_put_56 rfl ?_
      refine z_aload_n M.1 0 dX1_put_57 rfl ?_
      refine m_get1 M.1 dX1_put_58 ?_
      refine z_top (nI (k)) (hk) ?_
      refine m_st3 M.1 dX1_put_61 (by omega) ?_
      refine z_aload_n M.1 0 dX1_put_62 rfl ?_
      refine m_get5 M.1 dX1_put_63 ?_
      refine z_iload_n M.1 1 dX1_put_66 rfl ?_
      refine z_iconst M.1 (nI 0) dX1_put_67 (by decide) ?_
      refine m_st5 M.1 dX1_put_68 (by omega) ?_
      refine z_aload_n M.1 0 dX1_put_69 rfl ?_
      refine z_iconst M.1 (nI 0) dX1_put_70 (by decide) ?_
      refine m_put1 M.1 dX1_put_71 ?_
      refine z_aload_n M.1 0 dX1_put_74 rfl ?_
      refine m_get3 M.1 dX1_put_75 ?_
      refine z_iload_n M.1 1 dX1_put_78 rfl ?_
      refine m_ld3 M.1 dX1_put_79 (by omega) ?_
      refine z_top (nI (k)) (wr_s _ 3 j _) ?_
      exact m_reti M dX1_put_80 (eg (by decide) hj (br_f (by omega) ⟨rfl, f, hf, hg, rfl⟩))
    · refine z_bipush M.1 (-3) dX1_put_17 (by decide) ?_
      exact m_reti M dX1_put_19 (eg (by decide) hj (br_t h14 ⟨rfl, rfl⟩))
theorem nbad {j : Nat} (hj : j < 8) : ¬ (nI j < 0 ∨ nI 8 ≤ nI j) := fun h => by
  rcases h with q | q
  · exact nI_pos (by omega) q
  · exact absurd ((nI_leI (by decide) (by omega)).mp q) (by omega)
theorem cb {x y : Int32} {B : Prop} {C : Nat → Nat → Prop} (hb : (x < 0 ∨ nI 8 ≤ x) ∨ (y < 0 ∨ nI 8 ≤ y)) (h : B) : ((x < 0 ∨ nI 8 ≤ x) ∨ (y < 0 ∨ nI 8 ≤ y) → B) ∧ ∀ a b, a < 8 → b < 8 → x = nI a → y = nI b → C a b := by
  refine ⟨fun _ => h, fun a b ha hb' he hf => ?_⟩
  subst he hf
  rcases hb with q | q
  · exact absurd q (nbad ha)
  · exact absurd q (nbad hb')
theorem cg {a b : Nat} {B : Prop} {C : Nat → Nat → Prop} (ha : a < 8) (hb : b < 8) (h : C a b) : ((nI a < 0 ∨ nI 8 ≤ nI a) ∨ (nI b < 0 ∨ nI 8 ≤ nI b) → B) ∧ ∀ c d, c < 8 → d < 8 → nI a = nI c → nI b = nI d → C c d := by
  refine ⟨fun q => ?_, fun c d hc hd he hf => ?_⟩
  · rcases q with q | q
    · exact absurd q (nbad ha)
    · exact absurd q (nbad hb)
  · rw [← nI_inj (by omega) (by omega) he, ← nI_inj (by omega) (by omega) hf]
    exact h
theorem i_copy {E : EV} {g : XA} {σ : XS} {a b : Nat} {Qc : Array Value → State → Outcome → State → Prop} (M : mM E cX1_copy 4 (some .int) 1 g Qc) (ha : a < 8) (hb : b < 8) (K : ∀ f, (∀ i, i < 4 → f (4 * b + i) = σ 2 (4 * a + i)) → (∀ q, (∀ i, i < 4 → q ≠ 4 * b + i) → f q = σ 2 q) → Az E (mI g (eS E) (wf σ 2 f)) [(0, .ref (xa g 7)), (1, .int (nI a)), (2, .int (nI b)), (3, .int (nI 4))] 63 []) : ∀ n c f, c + n = 4 → (∀ i, i < c → f (4 * b + i) = σ 2 (4 * a + i)) → (∀ q, (∀ i, i < c → q ≠ 4 * b + i) → f q = σ 2 q) → Az E (mI g (eS E) (wf σ 2 f)) [(0, .ref (xa g 7)), (1, .int (nI a)), (2, .int (nI b)), (3, .int (nI c))] 32 [] := by
  intro n
  induction n with
  | zero =>
    intro c f hi hf hg
    refine z_iload_n M.1 3 dX1_copy_32 rfl ?_
    refine z_iconst M.1 (nI 4) dX1_copy_33 (by decide) ?_
    refine z_icmp_geN M.1 63 dX1_copy_34 (by decide) (by omega) (by omega) (fun h34 => ?_) (fun h34 => absurd h34 (by omega))
    rw [show c = 4 by omega] at hf hg ⊢
    exact K f hf hg
  | succ n ih =>
    intro c f hi hf hg
    refine z_iload_n M.1 3 dX1_copy_32 rfl ?_
    refine z_iconst M.1 (nI 4) dX1_copy_33 (by decide) ?_
    refine z_icmp_geN M.1 63 dX1_copy_34 (by decide) (by omega) (by omega) (fun h34 => absurd h34 (by omega)) (fun h34 => ?_)
    refine z_aload_n M.1 0 dX1_copy_37 rfl ?_
    refine m_get2 M.1 dX1_copy_38 ?_
    refine z_iconst M.1 (nI 4) dX1_copy_41 (by decide) ?_
    refine z_iload_n M.1 2 dX1_copy_42 rfl ?_
    refine z_imulN M.1 dX1_copy_43 ?_
    refine z_iload_n M.1 3 dX1_copy_44 rfl ?_
    refine z_iaddN M.1 dX1_copy_45 ?_
    refine z_aload_n M.1 0 dX1_copy_46 rfl ?_
    refine m_get2 M.1 dX1_copy_47 ?_
    refine z_iconst M.1 (nI 4) dX1_copy_50 (by decide) ?_
    refine z_iload_n M.1 1 dX1_copy_51 rfl ?_
    refine z_imulN M.1 dX1_copy_52 ?_
    refine z_iload_n M.1 3 dX1_copy_53 rfl ?_
    refine z_iaddN M.1 dX1_copy_54 ?_
    refine m_ld2 M.1 dX1_copy_55 (by omega) ?_
    refine z_top (σ 2 (4 * a + c)) (hg _ (fun i hi => by omega)) ?_
    refine m_st2 M.1 dX1_copy_56 (by omega) ?_
    refine z_I (congrArg (mI g (eS E)) (wr_wf σ 2 f (4 * b + c) _)) ?_
    refine z_iincN M.1 M.2.2.2.2.1 [(0, .ref (xa g 7)), (1, .int (nI (a))), (2, .int (nI (b))), (3, .int (nI (c + 1)))] 3 [1, 2, 3, 0] dX1_copy_57 rfl (by decide) rfl ?_
    refine z_goto M.1 32 dX1_copy_60 (by decide) ?_
    refine ih (c + 1) (upd f (4 * b + c) (σ 2 (4 * a + c))) (by omega) (fun i hi => ?_) (fun q hq => ?_)
    · by_cases e : i = c
      · rw [e, upd_s]
      · rw [upd_n (by omega)]
        exact hf i (by omega)
    · rw [upd_n (hq c (by omega))]
      exact hg q (fun i hi => hq i (by omega))
set_option maxHeartbeats 4000000 in
theorem n_copy (l : Launch) (g : XA) (σ : XS) (e1 e2 : Int32) (w : Nat → Nat) (hs : ∀ e, e < 8 → w e ≤ 4 ∧ σ 3 e = nI (w e)) : Met l yX1_copy (ws_ yX1_copy cX1_copy 4 (some .int)) (rmk 1) (va_Pc [.ref (xa g 7), .int e1, .int e2] (mW g σ)) (va_Qi (fun (r : Int32) (σ' : XS) => ((e1 < 0 ∨ nI 8 ≤ e1) ∨ (e2 < 0 ∨ nI 8 ≤ e2) → r = -1 ∧ σ' = σ) ∧ ∀ a b, a < 8 → b < 8 → e1 = nI a → e2 = nI b → (σ 5 a = 0 → r = nI (w a) ∧ ∃ f, (∀ i, i < 4 → f (4 * b + i) = σ 2 (4 * a + i)) ∧ (∀ q, (∀ i, i < 4 → q ≠ 4 * b + i) → f q = σ 2 q) ∧ σ' = wr (wr (wf σ 2 f) 3 b (nI (w a))) 5 b (nI 0)) ∧ (¬ σ 5 a = 0 → r = -4 ∧ σ' = σ)) (mW g) (mA g)) 0 0 (mA g) := by
  refine m_enter 1 [(0, .ref (xa g 7)), (1, .int e1), (2, .int e2)] (by decide) rfl (Nat.le_of_ble_eq_true rfl) rfl (fun E M => ?_)
  refine z_aload_n M.1 0 dX1_copy_0 rfl ?_
  refine z_iload_n M.1 1 dX1_copy_1 rfl ?_
  refine h_isExtent M (by decide) dX1_copy_2 (Nat.le_of_ble_eq_true rfl) (fun hbad => ?_) (fun a ha he => ?_)
  · refine z_if_eqN M.1 16 dX1_copy_5 (by decide) (by omega) (fun h5 => ?_) (fun h5 => absurd h5 (by decide))
    refine z_iconst M.1 (-1) dX1_copy_16 (by decide) ?_
    exact m_reti M dX1_copy_17 (cb (Or.inl hbad) ⟨rfl, rfl⟩)
  · subst he
    refine z_if_eqN M.1 16 dX1_copy_5 (by decide) (by omega) (fun h5 => absurd h5 (by decide)) (fun h5 => ?_)
    refine z_aload_n M.1 0 dX1_copy_8 rfl ?_
    refine z_iload_n M.1 2 dX1_copy_9 rfl ?_
    refine h_isExtent M (by decide) dX1_copy_10 (Nat.le_of_ble_eq_true rfl) (fun hbad => ?_) (fun b hb he => ?_)
    · refine z_if_neN M.1 18 dX1_copy_13 (by decide) (by omega) (fun h13 => absurd h13 (by decide)) (fun h13 => ?_)
      refine z_iconst M.1 (-1) dX1_copy_16 (by decide) ?_
      exact m_reti M dX1_copy_17 (cb (Or.inr hbad) ⟨rfl, rfl⟩)
    · subst he
      refine z_if_neN M.1 18 dX1_copy_13 (by decide) (by omega) (fun h13 => ?_) (fun h13 => absurd h13 (by decide))
      refine z_aload_n M.1 0 dX1_copy_18 rfl ?_
      refine m_get5 M.1 dX1_copy_19 ?_
      refine z_iload_n M.1 1 dX1_copy_22 rfl ?_
      refine m_ld5 M.1 dX1_copy_23 (by omega) ?_
      refine z_if_eq M.1 30 dX1_copy_24 (by decide) (fun h24 => ?_) (fun h24 => ?_)
      · refine z_iconst M.1 (nI 0) dX1_copy_30 (by decide) ?_
        refine z_istore_n M.1 M.2.2.2.2.1 [(0, .ref (xa g 7)), (1, .int (nI (a))), (2, .int (nI (b))), (3, .int (nI (0)))] [1, 2, 3, 0] dX1_copy_31 (by decide) rfl ?_
        refine z_I (congrArg (mI g (eS E)) (wf_id σ 2).symm) ?_
        refine i_copy M ha hb (fun f hf hg => ?_) 4 0 (σ 2) (by omega) (fun i hi => absurd hi (Nat.not_lt_zero i)) (fun _ _ => rfl)
        refine z_aload_n M.1 0 dX1_copy_63 rfl ?_
        refine m_get3 M.1 dX1_copy_64 ?_
        refine z_iload_n M.1 2 dX1_copy_67 rfl ?_
        refine z_aload_n M.1 0 dX1_copy_68 rfl ?_
        refine m_get3 M.1 dX1_copy_69 ?_
        refine z_iload_n M.1 1 dX1_copy_72 rfl ?_
        refine m_ld3 M.1 dX1_copy_73 (by omega) ?_
        refine z_top (nI (w a)) ((hs a ha).2) ?_
        refine m_st3 M.1 dX1_copy_74 (by omega) ?_
        refine z_aload_n M.1 0 dX1_copy_75 rfl ?_
        refine m_get5 M.1 dX1_copy_76 ?_
        refine z_iload_n M.1 2 dX1_copy_79 rfl ?_
        refine z_iconst M.1 (nI 0) dX1_copy_80 (by decide) ?_
        refine m_st5 M.1 dX1_copy_81 (by omega) ?_
        refine z_aload_n M.1 0 dX1_copy_82 rfl ?_
        refine m_get3 M.1 dX1_copy_83 ?_
        refine z_iload_n M.1 1 dX1_copy_86 rfl ?_
        refine m_ld3 M.1 dX1_copy_87 (by omega) ?_
        refine z_top (nI (w a)) (by
            show upd (σ 3) b (nI (w a)) a = nI (w a)
            by_cases y : a = b
            · rw [y, upd_s]
            · rw [upd_n y]
              exact (hs a ha).2) ?_
        exact m_reti M dX1_copy_88 (cg ha hb (br_t h24 ⟨rfl, f, hf, hg, rfl⟩))
      · refine z_bipush M.1 (-4) dX1_copy_27 (by decide) ?_
        exact m_reti M dX1_copy_29 (cg ha hb (br_f h24 ⟨rfl, rfl⟩))
theorem i_digest {E : EV} {g : XA} {σ : XS} {j : Nat} {w : Nat → Nat} (M : mM E cX1_digest 4 (some .int) 1 g (va_Qi (fun (r : Int32) (σ' : XS) => σ' = σ ∧ ((nI j < 0 ∨ nI 8 ≤ nI j → r = 0) ∧ ∀ i, i < 8 → nI j = nI i → r = dsum (fun c => σ 2 (4 * i + c)) (w i))) (mW g) (mA g))) (hj : j < 8) (hs : ∀ e, e < 8 → w e ≤ 4 ∧ σ 3 e = nI (w e)) : ∀ n c, c + n = w j → Az E (mI g (eS E) σ) [(0, .ref (xa g 7)), (1, .int (nI j)), (2, .int (dsum (fun i => σ 2 (4 * j + i)) c)), (3, .int (nI c))] 14 [] := by
  have hw4 := (hs j hj).1
  intro n
  induction n with
  | zero =>
    intro c hi
    refine z_iload_n M.1 3 dX1_digest_14 rfl ?_
    refine z_aload_n M.1 0 dX1_digest_15 rfl ?_
    refine m_get3 M.1 dX1_digest_16 ?_
    refine z_iload_n M.1 1 dX1_digest_19 rfl ?_
    refine m_ld3 M.1 dX1_digest_20 (by omega) ?_
    refine z_top (nI (w j)) ((hs j hj).2) ?_
    refine z_icmp_geN M.1 47 dX1_digest_21 (by decide) (by omega) (by omega) (fun h21 => ?_) (fun h21 => absurd h21 (by omega))
    refine z_iload_n M.1 2 dX1_digest_47 rfl ?_
    rw [show c = w j by omega]
    exact m_reti M dX1_digest_48 ⟨rfl, eg (by decide) hj rfl⟩
  | succ n ih =>
    intro c hi
    refine z_iload_n M.1 3 dX1_digest_14 rfl ?_
    refine z_aload_n M.1 0 dX1_digest_15 rfl ?_
    refine m_get3 M.1 dX1_digest_16 ?_
    refine z_iload_n M.1 1 dX1_digest_19 rfl ?_
    refine m_ld3 M.1 dX1_digest_20 (by omega) ?_
    refine z_top (nI (w j)) ((hs j hj).2) ?_
    refine z_icmp_geN M.1 47 dX1_digest_21 (by decide) (by omega) (by omega) (fun h21 => absurd h21 (by omega)) (fun h21 => ?_)
    refine z_iload_n M.1 2 dX1_digest_24 rfl ?_
    refine z_iload_n M.1 3 dX1_digest_25 rfl ?_
    refine z_iconst M.1 (nI 1) dX1_digest_26 (by decide) ?_
    refine z_iaddN M.1 dX1_digest_27 ?_
    refine z_aload_n M.1 0 dX1_digest_28 rfl ?_
    refine m_get2 M.1 dX1_digest_29 ?_
    refine z_iconst M.1 (nI 4) dX1_digest_32 (by decide) ?_
    refine z_iload_n M.1 1 dX1_digest_33 rfl ?_
    refine z_imulN M.1 dX1_digest_34 ?_
    refine z_iload_n M.1 3 dX1_digest_35 rfl ?_
    refine z_iaddN M.1 dX1_digest_36 ?_
    refine m_ld2 M.1 dX1_digest_37 (by omega) ?_
    refine z_imul M.1 dX1_digest_38 ?_
    refine z_iadd M.1 dX1_digest_39 ?_
    refine z_top (dsum (fun i => σ 2 (4 * j + i)) (c + 1)) (rfl) ?_
    refine z_istore_n M.1 M.2.2.2.2.1 [(0, .ref (xa g 7)), (1, .int (nI (j))), (2, .int (dsum (fun i => σ 2 (4 * j + i)) (c + 1))), (3, .int (nI (c)))] [1, 2, 0, 3] dX1_digest_40 (by decide) rfl ?_
    refine z_iincN M.1 M.2.2.2.2.1 [(0, .ref (xa g 7)), (1, .int (nI (j))), (2, .int (dsum (fun i => σ 2 (4 * j + i)) (c + 1))), (3, .int (nI (c + 1)))] 3 [1, 2, 3, 0] dX1_digest_41 rfl (by decide) rfl ?_
    refine z_goto M.1 14 dX1_digest_44 (by decide) ?_
    exact ih (c + 1) (by omega)
set_option maxHeartbeats 4000000 in
theorem n_digest (l : Launch) (g : XA) (σ : XS) (e : Int32) (w : Nat → Nat) (hs : ∀ e, e < 8 → w e ≤ 4 ∧ σ 3 e = nI (w e)) : Met l yX1_digest (ws_ yX1_digest cX1_digest 4 (some .int)) (rmk 1) (va_Pc [.ref (xa g 7), .int e] (mW g σ)) (va_Qi (fun (r : Int32) (σ' : XS) => σ' = σ ∧ ((e < 0 ∨ nI 8 ≤ e → r = 0) ∧ ∀ j, j < 8 → e = nI j → r = dsum (fun i => σ 2 (4 * j + i)) (w j))) (mW g) (mA g)) 0 0 (mA g) := by
  refine m_enter 1 [(0, .ref (xa g 7)), (1, .int e)] (by decide) rfl (Nat.le_of_ble_eq_true rfl) rfl (fun E M => ?_)
  refine z_aload_n M.1 0 dX1_digest_0 rfl ?_
  refine z_iload_n M.1 1 dX1_digest_1 rfl ?_
  refine h_isExtent M (by decide) dX1_digest_2 (Nat.le_of_ble_eq_true rfl) (fun hbad => ?_) (fun j hj he => ?_)
  · refine z_if_neN M.1 10 dX1_digest_5 (by decide) (by omega) (fun h5 => absurd h5 (by decide)) (fun h5 => ?_)
    refine z_iconst M.1 (nI 0) dX1_digest_8 (by decide) ?_
    exact m_reti M dX1_digest_9 ⟨rfl, eb (by decide) hbad rfl⟩
  · subst he
    have hw4 := (hs j hj).1
    refine z_if_neN M.1 10 dX1_digest_5 (by decide) (by omega) (fun h5 => ?_) (fun h5 => absurd h5 (by decide))
    refine z_iconst M.1 (nI 0) dX1_digest_10 (by decide) ?_
    refine z_istore_n M.1 M.2.2.2.2.1 [(0, .ref (xa g 7)), (1, .int (nI (j))), (2, .int (nI (0)))] [1, 2, 0] dX1_digest_11 (by decide) rfl ?_
    refine z_iconst M.1 (nI 0) dX1_digest_12 (by decide) ?_
    refine z_istore_n M.1 M.2.2.2.2.1 [(0, .ref (xa g 7)), (1, .int (nI (j))), (2, .int (nI (0))), (3, .int (nI (0)))] [1, 2, 3, 0] dX1_digest_13 (by decide) rfl ?_
    exact i_digest M hj hs (w j) 0 (by omega)
end
section
/-! the constructors -/
set_option maxRecDepth 100000
def z0 : XS := fun _ _ => 0
abbrev xB (D : va_G) (h : Nat) (A : Nat → Prop) (u : XA) (t : State) : Prop := u.1 = D ∧ xa u 11 = h ∧ (xa u 2 = h ∧ xa u 6 = h ∧ xa u 9 = h) ∧ va_P D vwCl (xw u z0) t.heap ∧ va_K D vwCl (xt u) t ∧ va_D A (xw u z0)
set_option maxHeartbeats 8000000 in
theorem x_init (l : Launch) (D : va_G) (h sz : Nat) : Met l yX0_init (ws_ yX0_init cX0_init 1 none) ({ frames := 1, cells := 8, slots := 189, locals := 30 } : Room) (va_Pc [.ref h] (fun U => U.heap.size = sz ∧ va_P D vwCl [(h, .inr (0, [.null, .null, .int 0, .null, .null, .null, .int 0, .null, .null, .int 0, .null]))] U.heap ∧ va_K D vwCl [] U ∧ va_D (fun _ => True) [(h, .inr (0, [.null, .null, .int 0, .null, .null, .null, .int 0, .null, .null, .int 0, .null]))])) (va_Qv (fun _ : XA => True) (xB D h (va_A [(h, .inr (0, [.null, .null, .int 0, .null, .null, .null, .int 0, .null, .null, .int 0, .null]))] sz)) (va_A [(h, .inr (0, [.null, .null, .int 0, .null, .null, .null, .int 0, .null, .null, .int 0, .null]))] sz)) 8 189 (va_A [(h, .inr (0, [.null, .null, .int 0, .null, .null, .null, .int 0, .null, .null, .int 0, .null]))] sz) := by
  refine Met.ofW (cc := cX0_init) (maxL := 1) (ret := none) (by decide) rfl ?_
  intro p e s m args below meth c s₁ B hml hv
  obtain ⟨rfl, hsz, hP, hK, hD0⟩ := hv
  have hx := B.exec
  have hb := B.bytes
  have hr := B.returns
  have hts := atoms_spec (ws := ws_ yX0_init cX0_init 1 none) B.pre
  have hts : ∀ w ∈ lw_all, w.before _ s = true := fun w h => hts w (List.mem_cons_of_mem _ h)
  have hown : s.vm.findClass RX0 = some m.cls := findClass_of_methodNamed B.named
  have hlocks := B.notSynchronized
  have hin : meth.name = "<init>" := (name_of_methodNamed B.named B.method).1
  subst hsz
  have hD := hD0.self (sz := s.heap.size)
  generalize hAe : va_A [(h, .inr (0, [.null, .null, .int 0, .null, .null, .null, .int 0, .null, .null, .int 0, .null]))] s.heap.size = A at hD ⊢
  have hA : ∀ q : Nat, s.heap.size ≤ q → A q := fun q h => by rw [← hAe]; exact Or.inr h
  have hS : va_S A s.heap s.heap [] := va_S.rf
  have hP : va_P D vwCl [(h, .inr (0, [.null, .null, .int 0, .null, .null, .null, .int 0, .null, .null, .int 0, .null]))] s.heap := hP
  have hl := lv_entry ([.ref h]) (n := 1) (Nat.le_of_ble_eq_true rfl)
  rw [lg_entry_eq]
  generalize (lg_sl ([.ref h]) ++ List.replicate (1 - (lg_sl ([.ref h])).length) Slot.unset).toArray = ls at hl ⊢
  have hl : lv_has ls 1 [(0, .ref h)] := hl
  refine lv_aload_n hx hb dX0_init_0 rfl (lv_at hl 0 rfl) ?_
  refine W.objInit hx hb hown (hts _ q26) (hts _ q27) (hts _ q28) rfl (by rw [hml]; exact hl.1) rfl dX0_init_1 (Nat.le_of_ble_eq_true rfl) (Nat.le_of_ble_eq_true rfl) ?_
  refine W.eq (g2 := F0 m 4 ls []) rfl ?_
  refine lv_aload_n hx hb dX0_init_4 rfl (lv_at hl 0 rfl) ?_
  refine lv_bipush (v := 60) hx hb dX0_init_5 (by decide) ?_
  refine va_newa (atype := .int) (ty := .int) (N' := 60) (a0 := (60, .inl (fun _ => 0))) hx hb (hts _ q63) rfl hK hP hD hS hA (fun _ => rfl) (by decide) (by decide) (by decide) (Nat.le_of_ble_eq_true rfl) (Nat.le_of_ble_eq_true rfl) dX0_init_7 (fun q0 a0 H hK hP hD hS => ?_)
  have hK : va_K D vwCl [(a0, .int)] s := hK
  have hP : va_P D vwCl [(h, .inr (0, [.null, .null, .int 0, .null, .null, .null, .int 0, .null, .null, .int 0, .null])), (q0, .inl (a0, 60, .inl (fun _ => 0)))] H := hP
  have hD : va_D A [(h, .inr (0, [.null, .null, .int 0, .null, .null, .null, .int 0, .null, .null, .int 0, .null])), (q0, .inl (a0, 60, .inl (fun _ => 0)))] := hD
  refine W.widen (k := 1) (n := 60) (Nat.le_of_ble_eq_true rfl) (Nat.le_of_ble_eq_true rfl) ?_
  refine va_putF (D := D) (ci := 0) (v := .ref q0) (ty := .array .int) (C := RX0) (T := TX0) (N := 11) hx hb hts in_X0 tyX0 tyX0_ok nmX0 hown hK hP hD hS 0 rfl rfl 0 (by decide) (hts _ q29) (fun _ h9 => h9) rfl hin rfl (by decide +kernel) rfl rfl (Nat.le_of_ble_eq_true rfl) dX0_init_9 (fun H locs hP hD hS => ?_)
  have hP : va_P D vwCl [(h, .inr (0, [.ref q0, .null, .int 0, .null, .null, .null, .int 0, .null, .null, .int 0, .null])), (q0, .inl (a0, 60, .inl (fun _ => 0)))] H := hP
  have hD : va_D A [(h, .inr (0, [.ref q0, .null, .int 0, .null, .null, .null, .int 0, .null, .null, .int 0, .null])), (q0, .inl (a0, 60, .inl (fun _ => 0)))] := hD
  refine lv_aload_n hx hb dX0_init_12 rfl (lv_at hl 0 rfl) ?_
  refine lv_bipush (v := 60) hx hb dX0_init_13 (by decide) ?_
  refine va_newa (atype := .boolean) (ty := .boolean) (N' := 60) (a0 := (60, .inl (fun _ => 0))) hx hb (hts _ q64) rfl hK hP hD hS hA (fun _ => rfl) (by decide) (by decide) (by decide) (Nat.le_of_ble_eq_true rfl) (Nat.le_of_ble_eq_true rfl) dX0_init_15 (fun q1 a1 H hK hP hD hS => ?_)
  have hK : va_K D vwCl [(a0, .int), (a1, .boolean)] s := hK
  have hP : va_P D vwCl [(h, .inr (0, [.ref q0, .null, .int 0, .null, .null, .null, .int 0, .null, .null, .int 0, .null])), (q0, .inl (a0, 60, .inl (fun _ => 0))), (q1, .inl (a1, 60, .inl (fun _ => 0)))] H := hP
  have hD : va_D A [(h, .inr (0, [.ref q0, .null, .int 0, .null, .null, .null, .int 0, .null, .null, .int 0, .null])), (q0, .inl (a0, 60, .inl (fun _ => 0))), (q1, .inl (a1, 60, .inl (fun _ => 0)))] := hD
  refine W.widen (k := 2) (n := 120) (Nat.le_of_ble_eq_true rfl) (Nat.le_of_ble_eq_true rfl) ?_
  refine va_putF (D := D) (ci := 0) (v := .ref q1) (ty := .array .boolean) (C := RX0) (T := TX0) (N := 11) hx hb hts in_X0 tyX0 tyX0_ok nmX0 hown hK hP hD hS 0 rfl rfl 1 (by decide) (hts _ q30) (fun _ h9 => h9) rfl hin rfl (by decide +kernel) rfl rfl (Nat.le_of_ble_eq_true rfl) dX0_init_17 (fun H locs hP hD hS => ?_)
  have hP : va_P D vwCl [(h, .inr (0, [.ref q0, .ref q1, .int 0, .null, .null, .null, .int 0, .null, .null, .int 0, .null])), (q0, .inl (a0, 60, .inl (fun _ => 0))), (q1, .inl (a1, 60, .inl (fun _ => 0)))] H := hP
  have hD : va_D A [(h, .inr (0, [.ref q0, .ref q1, .int 0, .null, .null, .null, .int 0, .null, .null, .int 0, .null])), (q0, .inl (a0, 60, .inl (fun _ => 0))), (q1, .inl (a1, 60, .inl (fun _ => 0)))] := hD
  refine lv_aload_n hx hb dX0_init_20 rfl (lv_at hl 0 rfl) ?_
  refine lv_bipush (v := 8) hx hb dX0_init_21 (by decide) ?_
  refine va_newa (atype := .int) (ty := .int) (N' := 8) (a0 := (8, .inl (fun _ => 0))) hx hb (hts _ q63) rfl hK hP hD hS hA (fun _ => rfl) (by decide) (by decide) (by decide) (Nat.le_of_ble_eq_true rfl) (Nat.le_of_ble_eq_true rfl) dX0_init_23 (fun q3 a3 H hK hP hD hS => ?_)
  have hK : va_K D vwCl [(a0, .int), (a1, .boolean), (a3, .int)] s := hK
  have hP : va_P D vwCl [(h, .inr (0, [.ref q0, .ref q1, .int 0, .null, .null, .null, .int 0, .null, .null, .int 0, .null])), (q0, .inl (a0, 60, .inl (fun _ => 0))), (q1, .inl (a1, 60, .inl (fun _ => 0))), (q3, .inl (a3, 8, .inl (fun _ => 0)))] H := hP
  have hD : va_D A [(h, .inr (0, [.ref q0, .ref q1, .int 0, .null, .null, .null, .int 0, .null, .null, .int 0, .null])), (q0, .inl (a0, 60, .inl (fun _ => 0))), (q1, .inl (a1, 60, .inl (fun _ => 0))), (q3, .inl (a3, 8, .inl (fun _ => 0)))] := hD
  refine W.widen (k := 3) (n := 128) (Nat.le_of_ble_eq_true rfl) (Nat.le_of_ble_eq_true rfl) ?_
  refine va_putF (D := D) (ci := 0) (v := .ref q3) (ty := .array .int) (C := RX0) (T := TX0) (N := 11) hx hb hts in_X0 tyX0 tyX0_ok nmX0 hown hK hP hD hS 0 rfl rfl 3 (by decide) (hts _ q32) (fun _ h9 => h9) rfl hin rfl (by decide +kernel) rfl rfl (Nat.le_of_ble_eq_true rfl) dX0_init_25 (fun H locs hP hD hS => ?_)
  have hP : va_P D vwCl [(h, .inr (0, [.ref q0, .ref q1, .int 0, .ref q3, .null, .null, .int 0, .null, .null, .int 0, .null])), (q0, .inl (a0, 60, .inl (fun _ => 0))), (q1, .inl (a1, 60, .inl (fun _ => 0))), (q3, .inl (a3, 8, .inl (fun _ => 0)))] H := hP
  have hD : va_D A [(h, .inr (0, [.ref q0, .ref q1, .int 0, .ref q3, .null, .null, .int 0, .null, .null, .int 0, .null])), (q0, .inl (a0, 60, .inl (fun _ => 0))), (q1, .inl (a1, 60, .inl (fun _ => 0))), (q3, .inl (a3, 8, .inl (fun _ => 0)))] := hD
  refine lv_aload_n hx hb dX0_init_28 rfl (lv_at hl 0 rfl) ?_
  refine lv_bipush (v := 8) hx hb dX0_init_29 (by decide) ?_
  refine va_newa (atype := .int) (ty := .int) (N' := 8) (a0 := (8, .inl (fun _ => 0))) hx hb (hts _ q63) rfl hK hP hD hS hA (fun _ => rfl) (by decide) (by decide) (by decide) (Nat.le_of_ble_eq_true rfl) (Nat.le_of_ble_eq_true rfl) dX0_init_31 (fun q4 a4 H hK hP hD hS => ?_)
  have hK : va_K D vwCl [(a0, .int), (a1, .boolean), (a3, .int), (a4, .int)] s := hK
  have hP : va_P D vwCl [(h, .inr (0, [.ref q0, .ref q1, .int 0, .ref q3, .null, .null, .int 0, .null, .null, .int 0, .null])), (q0, .inl (a0, 60, .inl (fun _ => 0))), (q1, .inl (a1, 60, .inl (fun _ => 0))), (q3, .inl (a3, 8, .inl (fun _ => 0))), (q4, .inl (a4, 8, .inl (fun _ => 0)))] H := hP
  have hD : va_D A [(h, .inr (0, [.ref q0, .ref q1, .int 0, .ref q3, .null, .null, .int 0, .null, .null, .int 0, .null])), (q0, .inl (a0, 60, .inl (fun _ => 0))), (q1, .inl (a1, 60, .inl (fun _ => 0))), (q3, .inl (a3, 8, .inl (fun _ => 0))), (q4, .inl (a4, 8, .inl (fun _ => 0)))] := hD
  refine W.widen (k := 4) (n := 136) (Nat.le_of_ble_eq_true rfl) (Nat.le_of_ble_eq_true rfl) ?_
  refine va_putF (D := D) (ci := 0) (v := .ref q4) (ty := .array .int) (C := RX0) (T := TX0) (N := 11) hx hb hts in_X0 tyX0 tyX0_ok nmX0 hown hK hP hD hS 0 rfl rfl 4 (by decide) (hts _ q33) (fun _ h9 => h9) rfl hin rfl (by decide +kernel) rfl rfl (Nat.le_of_ble_eq_true rfl) dX0_init_33 (fun H locs hP hD hS => ?_)
  have hP : va_P D vwCl [(h, .inr (0, [.ref q0, .ref q1, .int 0, .ref q3, .ref q4, .null, .int 0, .null, .null, .int 0, .null])), (q0, .inl (a0, 60, .inl (fun _ => 0))), (q1, .inl (a1, 60, .inl (fun _ => 0))), (q3, .inl (a3, 8, .inl (fun _ => 0))), (q4, .inl (a4, 8, .inl (fun _ => 0)))] H := hP
  have hD : va_D A [(h, .inr (0, [.ref q0, .ref q1, .int 0, .ref q3, .ref q4, .null, .int 0, .null, .null, .int 0, .null])), (q0, .inl (a0, 60, .inl (fun _ => 0))), (q1, .inl (a1, 60, .inl (fun _ => 0))), (q3, .inl (a3, 8, .inl (fun _ => 0))), (q4, .inl (a4, 8, .inl (fun _ => 0)))] := hD
  refine lv_aload_n hx hb dX0_init_36 rfl (lv_at hl 0 rfl) ?_
  refine lv_bipush (v := 40) hx hb dX0_init_37 (by decide) ?_
  refine va_newa (atype := .int) (ty := .int) (N' := 40) (a0 := (40, .inl (fun _ => 0))) hx hb (hts _ q63) rfl hK hP hD hS hA (fun _ => rfl) (by decide) (by decide) (by decide) (Nat.le_of_ble_eq_true rfl) (Nat.le_of_ble_eq_true rfl) dX0_init_39 (fun q5 a5 H hK hP hD hS => ?_)
  have hK : va_K D vwCl [(a0, .int), (a1, .boolean), (a3, .int), (a4, .int), (a5, .int)] s := hK
  have hP : va_P D vwCl [(h, .inr (0, [.ref q0, .ref q1, .int 0, .ref q3, .ref q4, .null, .int 0, .null, .null, .int 0, .null])), (q0, .inl (a0, 60, .inl (fun _ => 0))), (q1, .inl (a1, 60, .inl (fun _ => 0))), (q3, .inl (a3, 8, .inl (fun _ => 0))), (q4, .inl (a4, 8, .inl (fun _ => 0))), (q5, .inl (a5, 40, .inl (fun _ => 0)))] H := hP
  have hD : va_D A [(h, .inr (0, [.ref q0, .ref q1, .int 0, .ref q3, .ref q4, .null, .int 0, .null, .null, .int 0, .null])), (q0, .inl (a0, 60, .inl (fun _ => 0))), (q1, .inl (a1, 60, .inl (fun _ => 0))), (q3, .inl (a3, 8, .inl (fun _ => 0))), (q4, .inl (a4, 8, .inl (fun _ => 0))), (q5, .inl (a5, 40, .inl (fun _ => 0)))] := hD
  refine W.widen (k := 5) (n := 176) (Nat.le_of_ble_eq_true rfl) (Nat.le_of_ble_eq_true rfl) ?_
  refine va_putF (D := D) (ci := 0) (v := .ref q5) (ty := .array .int) (C := RX0) (T := TX0) (N := 11) hx hb hts in_X0 tyX0 tyX0_ok nmX0 hown hK hP hD hS 0 rfl rfl 5 (by decide) (hts _ q34) (fun _ h9 => h9) rfl hin rfl (by decide +kernel) rfl rfl (Nat.le_of_ble_eq_true rfl) dX0_init_41 (fun H locs hP hD hS => ?_)
  have hP : va_P D vwCl [(h, .inr (0, [.ref q0, .ref q1, .int 0, .ref q3, .ref q4, .ref q5, .int 0, .null, .null, .int 0, .null])), (q0, .inl (a0, 60, .inl (fun _ => 0))), (q1, .inl (a1, 60, .inl (fun _ => 0))), (q3, .inl (a3, 8, .inl (fun _ => 0))), (q4, .inl (a4, 8, .inl (fun _ => 0))), (q5, .inl (a5, 40, .inl (fun _ => 0)))] H := hP
  have hD : va_D A [(h, .inr (0, [.ref q0, .ref q1, .int 0, .ref q3, .ref q4, .ref q5, .int 0, .null, .null, .int 0, .null])), (q0, .inl (a0, 60, .inl (fun _ => 0))), (q1, .inl (a1, 60, .inl (fun _ => 0))), (q3, .inl (a3, 8, .inl (fun _ => 0))), (q4, .inl (a4, 8, .inl (fun _ => 0))), (q5, .inl (a5, 40, .inl (fun _ => 0)))] := hD
  refine lv_aload_n hx hb dX0_init_44 rfl (lv_at hl 0 rfl) ?_
  refine lv_iconst (v := 4) hx hb dX0_init_45 (by decide) ?_
  refine va_newa (atype := .int) (ty := .int) (N' := 4) (a0 := (4, .inl (fun _ => 0))) hx hb (hts _ q63) rfl hK hP hD hS hA (fun _ => rfl) (by decide) (by decide) (by decide) (Nat.le_of_ble_eq_true rfl) (Nat.le_of_ble_eq_true rfl) dX0_init_46 (fun q7 a7 H hK hP hD hS => ?_)
  have hK : va_K D vwCl [(a0, .int), (a1, .boolean), (a3, .int), (a4, .int), (a5, .int), (a7, .int)] s := hK
  have hP : va_P D vwCl [(h, .inr (0, [.ref q0, .ref q1, .int 0, .ref q3, .ref q4, .ref q5, .int 0, .null, .null, .int 0, .null])), (q0, .inl (a0, 60, .inl (fun _ => 0))), (q1, .inl (a1, 60, .inl (fun _ => 0))), (q3, .inl (a3, 8, .inl (fun _ => 0))), (q4, .inl (a4, 8, .inl (fun _ => 0))), (q5, .inl (a5, 40, .inl (fun _ => 0))), (q7, .inl (a7, 4, .inl (fun _ => 0)))] H := hP
  have hD : va_D A [(h, .inr (0, [.ref q0, .ref q1, .int 0, .ref q3, .ref q4, .ref q5, .int 0, .null, .null, .int 0, .null])), (q0, .inl (a0, 60, .inl (fun _ => 0))), (q1, .inl (a1, 60, .inl (fun _ => 0))), (q3, .inl (a3, 8, .inl (fun _ => 0))), (q4, .inl (a4, 8, .inl (fun _ => 0))), (q5, .inl (a5, 40, .inl (fun _ => 0))), (q7, .inl (a7, 4, .inl (fun _ => 0)))] := hD
  refine W.widen (k := 6) (n := 180) (Nat.le_of_ble_eq_true rfl) (Nat.le_of_ble_eq_true rfl) ?_
  refine va_putF (D := D) (ci := 0) (v := .ref q7) (ty := .array .int) (C := RX0) (T := TX0) (N := 11) hx hb hts in_X0 tyX0 tyX0_ok nmX0 hown hK hP hD hS 0 rfl rfl 7 (by decide) (hts _ q36) (fun _ h9 => h9) rfl hin rfl (by decide +kernel) rfl rfl (Nat.le_of_ble_eq_true rfl) dX0_init_48 (fun H locs hP hD hS => ?_)
  have hP : va_P D vwCl [(h, .inr (0, [.ref q0, .ref q1, .int 0, .ref q3, .ref q4, .ref q5, .int 0, .ref q7, .null, .int 0, .null])), (q0, .inl (a0, 60, .inl (fun _ => 0))), (q1, .inl (a1, 60, .inl (fun _ => 0))), (q3, .inl (a3, 8, .inl (fun _ => 0))), (q4, .inl (a4, 8, .inl (fun _ => 0))), (q5, .inl (a5, 40, .inl (fun _ => 0))), (q7, .inl (a7, 4, .inl (fun _ => 0)))] H := hP
  have hD : va_D A [(h, .inr (0, [.ref q0, .ref q1, .int 0, .ref q3, .ref q4, .ref q5, .int 0, .ref q7, .null, .int 0, .null])), (q0, .inl (a0, 60, .inl (fun _ => 0))), (q1, .inl (a1, 60, .inl (fun _ => 0))), (q3, .inl (a3, 8, .inl (fun _ => 0))), (q4, .inl (a4, 8, .inl (fun _ => 0))), (q5, .inl (a5, 40, .inl (fun _ => 0))), (q7, .inl (a7, 4, .inl (fun _ => 0)))] := hD
  refine lv_aload_n hx hb dX0_init_51 rfl (lv_at hl 0 rfl) ?_
  refine lv_iconst (v := 4) hx hb dX0_init_52 (by decide) ?_
  refine va_newa (atype := .int) (ty := .int) (N' := 4) (a0 := (4, .inl (fun _ => 0))) hx hb (hts _ q63) rfl hK hP hD hS hA (fun _ => rfl) (by decide) (by decide) (by decide) (Nat.le_of_ble_eq_true rfl) (Nat.le_of_ble_eq_true rfl) dX0_init_53 (fun q8 a8 H hK hP hD hS => ?_)
  have hK : va_K D vwCl [(a0, .int), (a1, .boolean), (a3, .int), (a4, .int), (a5, .int), (a7, .int), (a8, .int)] s := hK
  have hP : va_P D vwCl [(h, .inr (0, [.ref q0, .ref q1, .int 0, .ref q3, .ref q4, .ref q5, .int 0, .ref q7, .null, .int 0, .null])), (q0, .inl (a0, 60, .inl (fun _ => 0))), (q1, .inl (a1, 60, .inl (fun _ => 0))), (q3, .inl (a3, 8, .inl (fun _ => 0))), (q4, .inl (a4, 8, .inl (fun _ => 0))), (q5, .inl (a5, 40, .inl (fun _ => 0))), (q7, .inl (a7, 4, .inl (fun _ => 0))), (q8, .inl (a8, 4, .inl (fun _ => 0)))] H := hP
  have hD : va_D A [(h, .inr (0, [.ref q0, .ref q1, .int 0, .ref q3, .ref q4, .ref q5, .int 0, .ref q7, .null, .int 0, .null])), (q0, .inl (a0, 60, .inl (fun _ => 0))), (q1, .inl (a1, 60, .inl (fun _ => 0))), (q3, .inl (a3, 8, .inl (fun _ => 0))), (q4, .inl (a4, 8, .inl (fun _ => 0))), (q5, .inl (a5, 40, .inl (fun _ => 0))), (q7, .inl (a7, 4, .inl (fun _ => 0))), (q8, .inl (a8, 4, .inl (fun _ => 0)))] := hD
  refine W.widen (k := 7) (n := 184) (Nat.le_of_ble_eq_true rfl) (Nat.le_of_ble_eq_true rfl) ?_
  refine va_putF (D := D) (ci := 0) (v := .ref q8) (ty := .array .int) (C := RX0) (T := TX0) (N := 11) hx hb hts in_X0 tyX0 tyX0_ok nmX0 hown hK hP hD hS 0 rfl rfl 8 (by decide) (hts _ q37) (fun _ h9 => h9) rfl hin rfl (by decide +kernel) rfl rfl (Nat.le_of_ble_eq_true rfl) dX0_init_55 (fun H locs hP hD hS => ?_)
  have hP : va_P D vwCl [(h, .inr (0, [.ref q0, .ref q1, .int 0, .ref q3, .ref q4, .ref q5, .int 0, .ref q7, .ref q8, .int 0, .null])), (q0, .inl (a0, 60, .inl (fun _ => 0))), (q1, .inl (a1, 60, .inl (fun _ => 0))), (q3, .inl (a3, 8, .inl (fun _ => 0))), (q4, .inl (a4, 8, .inl (fun _ => 0))), (q5, .inl (a5, 40, .inl (fun _ => 0))), (q7, .inl (a7, 4, .inl (fun _ => 0))), (q8, .inl (a8, 4, .inl (fun _ => 0)))] H := hP
  have hD : va_D A [(h, .inr (0, [.ref q0, .ref q1, .int 0, .ref q3, .ref q4, .ref q5, .int 0, .ref q7, .ref q8, .int 0, .null])), (q0, .inl (a0, 60, .inl (fun _ => 0))), (q1, .inl (a1, 60, .inl (fun _ => 0))), (q3, .inl (a3, 8, .inl (fun _ => 0))), (q4, .inl (a4, 8, .inl (fun _ => 0))), (q5, .inl (a5, 40, .inl (fun _ => 0))), (q7, .inl (a7, 4, .inl (fun _ => 0))), (q8, .inl (a8, 4, .inl (fun _ => 0)))] := hD
  refine lv_aload_n hx hb dX0_init_58 rfl (lv_at hl 0 rfl) ?_
  refine lv_iconst (v := 5) hx hb dX0_init_59 (by decide) ?_
  refine va_newa (atype := .int) (ty := .int) (N' := 5) (a0 := (5, .inl (fun _ => 0))) hx hb (hts _ q63) rfl hK hP hD hS hA (fun _ => rfl) (by decide) (by decide) (by decide) (Nat.le_of_ble_eq_true rfl) (Nat.le_of_ble_eq_true rfl) dX0_init_60 (fun q10 a10 H hK hP hD hS => ?_)
  have hK : va_K D vwCl [(a0, .int), (a1, .boolean), (a3, .int), (a4, .int), (a5, .int), (a7, .int), (a8, .int), (a10, .int)] s := hK
  have hP : va_P D vwCl [(h, .inr (0, [.ref q0, .ref q1, .int 0, .ref q3, .ref q4, .ref q5, .int 0, .ref q7, .ref q8, .int 0, .null])), (q0, .inl (a0, 60, .inl (fun _ => 0))), (q1, .inl (a1, 60, .inl (fun _ => 0))), (q3, .inl (a3, 8, .inl (fun _ => 0))), (q4, .inl (a4, 8, .inl (fun _ => 0))), (q5, .inl (a5, 40, .inl (fun _ => 0))), (q7, .inl (a7, 4, .inl (fun _ => 0))), (q8, .inl (a8, 4, .inl (fun _ => 0))), (q10, .inl (a10, 5, .inl (fun _ => 0)))] H := hP
  have hD : va_D A [(h, .inr (0, [.ref q0, .ref q1, .int 0, .ref q3, .ref q4, .ref q5, .int 0, .ref q7, .ref q8, .int 0, .null])), (q0, .inl (a0, 60, .inl (fun _ => 0))), (q1, .inl (a1, 60, .inl (fun _ => 0))), (q3, .inl (a3, 8, .inl (fun _ => 0))), (q4, .inl (a4, 8, .inl (fun _ => 0))), (q5, .inl (a5, 40, .inl (fun _ => 0))), (q7, .inl (a7, 4, .inl (fun _ => 0))), (q8, .inl (a8, 4, .inl (fun _ => 0))), (q10, .inl (a10, 5, .inl (fun _ => 0)))] := hD
  refine W.widen (k := 8) (n := 189) (Nat.le_of_ble_eq_true rfl) (Nat.le_of_ble_eq_true rfl) ?_
  refine va_putF (D := D) (ci := 0) (v := .ref q10) (ty := .array .int) (C := RX0) (T := TX0) (N := 11) hx hb hts in_X0 tyX0 tyX0_ok nmX0 hown hK hP hD hS 0 rfl rfl 10 (by decide) (hts _ q39) (fun _ h9 => h9) rfl hin rfl (by decide +kernel) rfl rfl (Nat.le_of_ble_eq_true rfl) dX0_init_62 (fun H locs hP hD hS => ?_)
  have hP : va_P D vwCl [(h, .inr (0, [.ref q0, .ref q1, .int 0, .ref q3, .ref q4, .ref q5, .int 0, .ref q7, .ref q8, .int 0, .ref q10])), (q0, .inl (a0, 60, .inl (fun _ => 0))), (q1, .inl (a1, 60, .inl (fun _ => 0))), (q3, .inl (a3, 8, .inl (fun _ => 0))), (q4, .inl (a4, 8, .inl (fun _ => 0))), (q5, .inl (a5, 40, .inl (fun _ => 0))), (q7, .inl (a7, 4, .inl (fun _ => 0))), (q8, .inl (a8, 4, .inl (fun _ => 0))), (q10, .inl (a10, 5, .inl (fun _ => 0)))] H := hP
  have hD : va_D A [(h, .inr (0, [.ref q0, .ref q1, .int 0, .ref q3, .ref q4, .ref q5, .int 0, .ref q7, .ref q8, .int 0, .ref q10])), (q0, .inl (a0, 60, .inl (fun _ => 0))), (q1, .inl (a1, 60, .inl (fun _ => 0))), (q3, .inl (a3, 8, .inl (fun _ => 0))), (q4, .inl (a4, 8, .inl (fun _ => 0))), (q5, .inl (a5, 40, .inl (fun _ => 0))), (q7, .inl (a7, 4, .inl (fun _ => 0))), (q8, .inl (a8, 4, .inl (fun _ => 0))), (q10, .inl (a10, 5, .inl (fun _ => 0)))] := hD
  exact W.vret hx hb hr (fun t ht hW => ⟨⟨(D, fun k => if k = 0 then q0 else if k = 1 then q1 else if k = 3 then q3 else if k = 4 then q4 else if k = 5 then q5 else if k = 7 then q7 else if k = 8 then q8 else if k = 10 then q10 else h, fun k => if k = 0 then a0 else if k = 1 then a1 else if k = 3 then a3 else if k = 4 then a4 else if k = 5 then a5 else if k = 7 then a7 else if k = 8 then a8 else a10), rfl, trivial, rfl, rfl, ⟨rfl, rfl, rfl⟩, by rw [ht]; exact hP, va_K.moved hW.alike hK, hD⟩, hS.F ht⟩) hS.2.2 dX0_init_65
abbrev mB (D : va_G) (h : Nat) (A : Nat → Prop) (u : XA) (t : State) : Prop := u.1 = D ∧ xa u 7 = h ∧ (xa u 1 = h ∧ xa u 6 = h) ∧ va_P D vwCl (mw u z0) t.heap ∧ va_K D vwCl (mt u) t ∧ va_D A (mw u z0)
set_option maxHeartbeats 8000000 in
theorem m_init (l : Launch) (D : va_G) (h sz : Nat) : Met l yX1_init (ws_ yX1_init cX1_init 1 none) ({ frames := 1, cells := 5, slots := 60, locals := 30 } : Room) (va_Pc [.ref h] (fun U => U.heap.size = sz ∧ va_P D vwCl [(h, .inr (1, [.null, .int 0, .null, .null, .null, .null, .int 0]))] U.heap ∧ va_K D vwCl [] U ∧ va_D (fun _ => True) [(h, .inr (1, [.null, .int 0, .null, .null, .null, .null, .int 0]))])) (va_Qv (fun _ : XA => True) (mB D h (va_A [(h, .inr (1, [.null, .int 0, .null, .null, .null, .null, .int 0]))] sz)) (va_A [(h, .inr (1, [.null, .int 0, .null, .null, .null, .null, .int 0]))] sz)) 5 60 (va_A [(h, .inr (1, [.null, .int 0, .null, .null, .null, .null, .int 0]))] sz) := by
  refine Met.ofW (cc := cX1_init) (maxL := 1) (ret := none) (by decide) rfl ?_
  intro p e s m args below meth c s₁ B hml hv
  obtain ⟨rfl, hsz, hP, hK, hD0⟩ := hv
  have hx := B.exec
  have hb := B.bytes
  have hr := B.returns
  have hts := atoms_spec (ws := ws_ yX1_init cX1_init 1 none) B.pre
  have hts : ∀ w ∈ lw_all, w.before _ s = true := fun w h => hts w (List.mem_cons_of_mem _ h)
  have hown : s.vm.findClass RX1 = some m.cls := findClass_of_methodNamed B.named
  have hlocks := B.notSynchronized
  have hin : meth.name = "<init>" := (name_of_methodNamed B.named B.method).1
  subst hsz
  have hD := hD0.self (sz := s.heap.size)
  generalize hAe : va_A [(h, .inr (1, [.null, .int 0, .null, .null, .null, .null, .int 0]))] s.heap.size = A at hD ⊢
  have hA : ∀ q : Nat, s.heap.size ≤ q → A q := fun q h => by rw [← hAe]; exact Or.inr h
  have hS : va_S A s.heap s.heap [] := va_S.rf
  have hP : va_P D vwCl [(h, .inr (1, [.null, .int 0, .null, .null, .null, .null, .int 0]))] s.heap := hP
  have hl := lv_entry ([.ref h]) (n := 1) (Nat.le_of_ble_eq_true rfl)
  rw [lg_entry_eq]
  generalize (lg_sl ([.ref h]) ++ List.replicate (1 - (lg_sl ([.ref h])).length) Slot.unset).toArray = ls at hl ⊢
  have hl : lv_has ls 1 [(0, .ref h)] := hl
  refine lv_aload_n hx hb dX1_init_0 rfl (lv_at hl 0 rfl) ?_
  refine W.objInit hx hb hown (hts _ q187) (hts _ q27) (hts _ q28) rfl (by rw [hml]; exact hl.1) rfl dX1_init_1 (Nat.le_of_ble_eq_true rfl) (Nat.le_of_ble_eq_true rfl) ?_
  refine W.eq (g2 := F0 m 4 ls []) rfl ?_
  refine lv_aload_n hx hb dX1_init_4 rfl (lv_at hl 0 rfl) ?_
  refine lv_iconst (v := 4) hx hb dX1_init_5 (by decide) ?_
  refine va_newa (atype := .int) (ty := .int) (N' := 4) (a0 := (4, .inl (fun _ => 0))) hx hb (hts _ q63) rfl hK hP hD hS hA (fun _ => rfl) (by decide) (by decide) (by decide) (Nat.le_of_ble_eq_true rfl) (Nat.le_of_ble_eq_true rfl) dX1_init_6 (fun q0 a0 H hK hP hD hS => ?_)
  have hK : va_K D vwCl [(a0, .int)] s := hK
  have hP : va_P D vwCl [(h, .inr (1, [.null, .int 0, .null, .null, .null, .null, .int 0])), (q0, .inl (a0, 4, .inl (fun _ => 0)))] H := hP
  have hD : va_D A [(h, .inr (1, [.null, .int 0, .null, .null, .null, .null, .int 0])), (q0, .inl (a0, 4, .inl (fun _ => 0)))] := hD
  refine W.widen (k := 1) (n := 4) (Nat.le_of_ble_eq_true rfl) (Nat.le_of_ble_eq_true rfl) ?_
  refine va_putF (D := D) (ci := 1) (v := .ref q0) (ty := .array .int) (C := RX1) (T := TX1) (N := 7) hx hb hts in_X1 tyX1 tyX1_ok nmX1 hown hK hP hD hS 0 rfl rfl 0 (by decide) (hts _ q188) (fun _ h9 => h9) rfl hin rfl (by decide +kernel) rfl rfl (Nat.le_of_ble_eq_true rfl) dX1_init_8 (fun H locs hP hD hS => ?_)
  have hP : va_P D vwCl [(h, .inr (1, [.ref q0, .int 0, .null, .null, .null, .null, .int 0])), (q0, .inl (a0, 4, .inl (fun _ => 0)))] H := hP
  have hD : va_D A [(h, .inr (1, [.ref q0, .int 0, .null, .null, .null, .null, .int 0])), (q0, .inl (a0, 4, .inl (fun _ => 0)))] := hD
  refine lv_aload_n hx hb dX1_init_11 rfl (lv_at hl 0 rfl) ?_
  refine lv_bipush (v := 32) hx hb dX1_init_12 (by decide) ?_
  refine va_newa (atype := .int) (ty := .int) (N' := 32) (a0 := (32, .inl (fun _ => 0))) hx hb (hts _ q63) rfl hK hP hD hS hA (fun _ => rfl) (by decide) (by decide) (by decide) (Nat.le_of_ble_eq_true rfl) (Nat.le_of_ble_eq_true rfl) dX1_init_14 (fun q2 a2 H hK hP hD hS => ?_)
  have hK : va_K D vwCl [(a0, .int), (a2, .int)] s := hK
  have hP : va_P D vwCl [(h, .inr (1, [.ref q0, .int 0, .null, .null, .null, .null, .int 0])), (q0, .inl (a0, 4, .inl (fun _ => 0))), (q2, .inl (a2, 32, .inl (fun _ => 0)))] H := hP
  have hD : va_D A [(h, .inr (1, [.ref q0, .int 0, .null, .null, .null, .null, .int 0])), (q0, .inl (a0, 4, .inl (fun _ => 0))), (q2, .inl (a2, 32, .inl (fun _ => 0)))] := hD
  refine W.widen (k := 2) (n := 36) (Nat.le_of_ble_eq_true rfl) (Nat.le_of_ble_eq_true rfl) ?_
  refine va_putF (D := D) (ci := 1) (v := .ref q2) (ty := .array .int) (C := RX1) (T := TX1) (N := 7) hx hb hts in_X1 tyX1 tyX1_ok nmX1 hown hK hP hD hS 0 rfl rfl 2 (by decide) (hts _ q190) (fun _ h9 => h9) rfl hin rfl (by decide +kernel) rfl rfl (Nat.le_of_ble_eq_true rfl) dX1_init_16 (fun H locs hP hD hS => ?_)
  have hP : va_P D vwCl [(h, .inr (1, [.ref q0, .int 0, .ref q2, .null, .null, .null, .int 0])), (q0, .inl (a0, 4, .inl (fun _ => 0))), (q2, .inl (a2, 32, .inl (fun _ => 0)))] H := hP
  have hD : va_D A [(h, .inr (1, [.ref q0, .int 0, .ref q2, .null, .null, .null, .int 0])), (q0, .inl (a0, 4, .inl (fun _ => 0))), (q2, .inl (a2, 32, .inl (fun _ => 0)))] := hD
  refine lv_aload_n hx hb dX1_init_19 rfl (lv_at hl 0 rfl) ?_
  refine lv_bipush (v := 8) hx hb dX1_init_20 (by decide) ?_
  refine va_newa (atype := .int) (ty := .int) (N' := 8) (a0 := (8, .inl (fun _ => 0))) hx hb (hts _ q63) rfl hK hP hD hS hA (fun _ => rfl) (by decide) (by decide) (by decide) (Nat.le_of_ble_eq_true rfl) (Nat.le_of_ble_eq_true rfl) dX1_init_22 (fun q3 a3 H hK hP hD hS => ?_)
  have hK : va_K D vwCl [(a0, .int), (a2, .int), (a3, .int)] s := hK
  have hP : va_P D vwCl [(h, .inr (1, [.ref q0, .int 0, .ref q2, .null, .null, .null, .int 0])), (q0, .inl (a0, 4, .inl (fun _ => 0))), (q2, .inl (a2, 32, .inl (fun _ => 0))), (q3, .inl (a3, 8, .inl (fun _ => 0)))] H := hP
  have hD : va_D A [(h, .inr (1, [.ref q0, .int 0, .ref q2, .null, .null, .null, .int 0])), (q0, .inl (a0, 4, .inl (fun _ => 0))), (q2, .inl (a2, 32, .inl (fun _ => 0))), (q3, .inl (a3, 8, .inl (fun _ => 0)))] := hD
  refine W.widen (k := 3) (n := 44) (Nat.le_of_ble_eq_true rfl) (Nat.le_of_ble_eq_true rfl) ?_
  refine va_putF (D := D) (ci := 1) (v := .ref q3) (ty := .array .int) (C := RX1) (T := TX1) (N := 7) hx hb hts in_X1 tyX1 tyX1_ok nmX1 hown hK hP hD hS 0 rfl rfl 3 (by decide) (hts _ q191) (fun _ h9 => h9) rfl hin rfl (by decide +kernel) rfl rfl (Nat.le_of_ble_eq_true rfl) dX1_init_24 (fun H locs hP hD hS => ?_)
  have hP : va_P D vwCl [(h, .inr (1, [.ref q0, .int 0, .ref q2, .ref q3, .null, .null, .int 0])), (q0, .inl (a0, 4, .inl (fun _ => 0))), (q2, .inl (a2, 32, .inl (fun _ => 0))), (q3, .inl (a3, 8, .inl (fun _ => 0)))] H := hP
  have hD : va_D A [(h, .inr (1, [.ref q0, .int 0, .ref q2, .ref q3, .null, .null, .int 0])), (q0, .inl (a0, 4, .inl (fun _ => 0))), (q2, .inl (a2, 32, .inl (fun _ => 0))), (q3, .inl (a3, 8, .inl (fun _ => 0)))] := hD
  refine lv_aload_n hx hb dX1_init_27 rfl (lv_at hl 0 rfl) ?_
  refine lv_bipush (v := 8) hx hb dX1_init_28 (by decide) ?_
  refine va_newa (atype := .int) (ty := .int) (N' := 8) (a0 := (8, .inl (fun _ => 0))) hx hb (hts _ q63) rfl hK hP hD hS hA (fun _ => rfl) (by decide) (by decide) (by decide) (Nat.le_of_ble_eq_true rfl) (Nat.le_of_ble_eq_true rfl) dX1_init_30 (fun q4 a4 H hK hP hD hS => ?_)
  have hK : va_K D vwCl [(a0, .int), (a2, .int), (a3, .int), (a4, .int)] s := hK
  have hP : va_P D vwCl [(h, .inr (1, [.ref q0, .int 0, .ref q2, .ref q3, .null, .null, .int 0])), (q0, .inl (a0, 4, .inl (fun _ => 0))), (q2, .inl (a2, 32, .inl (fun _ => 0))), (q3, .inl (a3, 8, .inl (fun _ => 0))), (q4, .inl (a4, 8, .inl (fun _ => 0)))] H := hP
  have hD : va_D A [(h, .inr (1, [.ref q0, .int 0, .ref q2, .ref q3, .null, .null, .int 0])), (q0, .inl (a0, 4, .inl (fun _ => 0))), (q2, .inl (a2, 32, .inl (fun _ => 0))), (q3, .inl (a3, 8, .inl (fun _ => 0))), (q4, .inl (a4, 8, .inl (fun _ => 0)))] := hD
  refine W.widen (k := 4) (n := 52) (Nat.le_of_ble_eq_true rfl) (Nat.le_of_ble_eq_true rfl) ?_
  refine va_putF (D := D) (ci := 1) (v := .ref q4) (ty := .array .int) (C := RX1) (T := TX1) (N := 7) hx hb hts in_X1 tyX1 tyX1_ok nmX1 hown hK hP hD hS 0 rfl rfl 4 (by decide) (hts _ q192) (fun _ h9 => h9) rfl hin rfl (by decide +kernel) rfl rfl (Nat.le_of_ble_eq_true rfl) dX1_init_32 (fun H locs hP hD hS => ?_)
  have hP : va_P D vwCl [(h, .inr (1, [.ref q0, .int 0, .ref q2, .ref q3, .ref q4, .null, .int 0])), (q0, .inl (a0, 4, .inl (fun _ => 0))), (q2, .inl (a2, 32, .inl (fun _ => 0))), (q3, .inl (a3, 8, .inl (fun _ => 0))), (q4, .inl (a4, 8, .inl (fun _ => 0)))] H := hP
  have hD : va_D A [(h, .inr (1, [.ref q0, .int 0, .ref q2, .ref q3, .ref q4, .null, .int 0])), (q0, .inl (a0, 4, .inl (fun _ => 0))), (q2, .inl (a2, 32, .inl (fun _ => 0))), (q3, .inl (a3, 8, .inl (fun _ => 0))), (q4, .inl (a4, 8, .inl (fun _ => 0)))] := hD
  refine lv_aload_n hx hb dX1_init_35 rfl (lv_at hl 0 rfl) ?_
  refine lv_bipush (v := 8) hx hb dX1_init_36 (by decide) ?_
  refine va_newa (atype := .int) (ty := .int) (N' := 8) (a0 := (8, .inl (fun _ => 0))) hx hb (hts _ q63) rfl hK hP hD hS hA (fun _ => rfl) (by decide) (by decide) (by decide) (Nat.le_of_ble_eq_true rfl) (Nat.le_of_ble_eq_true rfl) dX1_init_38 (fun q5 a5 H hK hP hD hS => ?_)
  have hK : va_K D vwCl [(a0, .int), (a2, .int), (a3, .int), (a4, .int), (a5, .int)] s := hK
  have hP : va_P D vwCl [(h, .inr (1, [.ref q0, .int 0, .ref q2, .ref q3, .ref q4, .null, .int 0])), (q0, .inl (a0, 4, .inl (fun _ => 0))), (q2, .inl (a2, 32, .inl (fun _ => 0))), (q3, .inl (a3, 8, .inl (fun _ => 0))), (q4, .inl (a4, 8, .inl (fun _ => 0))), (q5, .inl (a5, 8, .inl (fun _ => 0)))] H := hP
  have hD : va_D A [(h, .inr (1, [.ref q0, .int 0, .ref q2, .ref q3, .ref q4, .null, .int 0])), (q0, .inl (a0, 4, .inl (fun _ => 0))), (q2, .inl (a2, 32, .inl (fun _ => 0))), (q3, .inl (a3, 8, .inl (fun _ => 0))), (q4, .inl (a4, 8, .inl (fun _ => 0))), (q5, .inl (a5, 8, .inl (fun _ => 0)))] := hD
  refine W.widen (k := 5) (n := 60) (Nat.le_of_ble_eq_true rfl) (Nat.le_of_ble_eq_true rfl) ?_
  refine va_putF (D := D) (ci := 1) (v := .ref q5) (ty := .array .int) (C := RX1) (T := TX1) (N := 7) hx hb hts in_X1 tyX1 tyX1_ok nmX1 hown hK hP hD hS 0 rfl rfl 5 (by decide) (hts _ q193) (fun _ h9 => h9) rfl hin rfl (by decide +kernel) rfl rfl (Nat.le_of_ble_eq_true rfl) dX1_init_40 (fun H locs hP hD hS => ?_)
  have hP : va_P D vwCl [(h, .inr (1, [.ref q0, .int 0, .ref q2, .ref q3, .ref q4, .ref q5, .int 0])), (q0, .inl (a0, 4, .inl (fun _ => 0))), (q2, .inl (a2, 32, .inl (fun _ => 0))), (q3, .inl (a3, 8, .inl (fun _ => 0))), (q4, .inl (a4, 8, .inl (fun _ => 0))), (q5, .inl (a5, 8, .inl (fun _ => 0)))] H := hP
  have hD : va_D A [(h, .inr (1, [.ref q0, .int 0, .ref q2, .ref q3, .ref q4, .ref q5, .int 0])), (q0, .inl (a0, 4, .inl (fun _ => 0))), (q2, .inl (a2, 32, .inl (fun _ => 0))), (q3, .inl (a3, 8, .inl (fun _ => 0))), (q4, .inl (a4, 8, .inl (fun _ => 0))), (q5, .inl (a5, 8, .inl (fun _ => 0)))] := hD
  exact W.vret hx hb hr (fun t ht hW => ⟨⟨(D, fun k => if k = 0 then q0 else if k = 2 then q2 else if k = 3 then q3 else if k = 4 then q4 else if k = 5 then q5 else h, fun k => if k = 0 then a0 else if k = 2 then a2 else if k = 3 then a3 else if k = 4 then a4 else a5), rfl, trivial, rfl, rfl, ⟨rfl, rfl⟩, by rw [ht]; exact hP, va_K.moved hW.alike hK, hD⟩, hS.F ht⟩) hS.2.2 dX1_init_43
end
section
/-! both sides tied to one picture -/
set_option maxRecDepth 100000
def Lk (σ μ : XS) (w : Nat → Nat) (v : Nat → Nat → Int32) (m : Nat → Int32) (c0 : Nat → Nat) (k : Nat) : Prop :=
  (k ≤ 4 ∧ σ 6 0 = nI k ∧ μ 1 0 = nI k ∧ ∀ i, i < k → σ 7 i = μ 0 i) ∧ σ 9 0 = μ 6 0 ∧
  ∀ e, e < 8 → μ 3 e = nI (w e) ∧ (∀ i, i < w e → μ 2 (4 * e + i) = v e i) ∧ (w e = 0 → μ 5 e = 0) ∧ (0 < w e → μ 5 e = m e ∧ (m e ≠ 0 → μ 4 e = nI (c0 e)))
def INV (σ μ : XS) : Prop := ∃ w v m c0 k, Inv σ w v m c0 ∧ Lk σ μ w v m c0 k
theorem Inv.w4 {σ : XS} {w : Nat → Nat} {v : Nat → Nat → Int32} {m : Nat → Int32} {c0 : Nat → Nat} (h : Inv σ w v m c0) {e : Nat} (he : e < 8) : w e ≤ 4 := by
  obtain ⟨p, G, D⟩ := h
  exact (G.1 e he).1
theorem Inv.c4 {σ : XS} {w : Nat → Nat} {v : Nat → Nat → Int32} {m : Nat → Int32} {c0 : Nat → Nat} (h : Inv σ w v m c0) {e : Nat} (he : e < 8) (hw : 0 < w e) : c0 e ≤ w e := by
  obtain ⟨p, G, D⟩ := h
  exact (D e he hw).1
theorem Lk.by {σ σ' μ : XS} {w : Nat → Nat} {v : Nat → Nat → Int32} {m : Nat → Int32} {c0 : Nat → Nat} {k : Nat} (h : Lk σ μ w v m c0 k) (h6 : σ' 6 = σ 6) (h7 : σ' 7 = σ 7) (h9 : σ' 9 = σ 9) : Lk σ' μ w v m c0 k := by
  unfold Lk at h ⊢
  rw [h6, h7, h9]
  exact h
theorem Lk.up {σ σ' μ μ' : XS} {w : Nat → Nat} {v : Nat → Nat → Int32} {m : Nat → Int32} {c0 : Nat → Nat} {k k' j wj cj : Nat} {u : Nat → Int32} {mj : Int32} (h : Lk σ μ w v m c0 k) (hw : ∀ e, e < 8 → w e ≤ 4)
    (hb : k' ≤ 4 ∧ σ' 6 0 = nI k' ∧ μ' 1 0 = nI k' ∧ ∀ i, i < k' → σ' 7 i = μ' 0 i) (h9 : σ' 9 0 = μ' 6 0) (m2 : ∀ e, e < 8 → e ≠ j → ∀ i, i < 4 → μ' 2 (4 * e + i) = μ 2 (4 * e + i)) (m3 : ∀ e, e ≠ j → μ' 3 e = μ 3 e) (m4 : ∀ e, e ≠ j → μ' 4 e = μ 4 e) (m5 : ∀ e, e ≠ j → μ' 5 e = μ 5 e)
    (j3 : μ' 3 j = nI wj) (j2 : ∀ i, i < wj → μ' 2 (4 * j + i) = u i) (j5 : wj = 0 → μ' 5 j = 0) (j4 : 0 < wj → μ' 5 j = mj ∧ (mj ≠ 0 → μ' 4 j = nI cj)) : Lk σ' μ' (va_up w j wj) (va_up v j u) (va_up m j mj) (va_up c0 j cj) k' := by
  refine ⟨hb, h9, fun e he => ?_⟩
  by_cases q : e = j
  · subst q
    rw [va_up_s, va_up_s, va_up_s, va_up_s]
    exact ⟨j3, j2, j5, j4⟩
  · rw [va_up_n q, va_up_n q, va_up_n q, va_up_n q, m3 e q, m4 e q, m5 e q]
    obtain ⟨a1, a2, a3⟩ := h.2.2 e he
    have b := hw e he
    exact ⟨a1, fun i hi => by rw [m2 e he q i (by omega)]; exact a2 i hi, a3⟩
theorem Inv.m {σ : XS} {w : Nat → Nat} {v : Nat → Nat → Int32} {m m' : Nat → Int32} {c0 c0' : Nat → Nat} (h : Inv σ w v m c0) (hm : ∀ e, e < 8 → 0 < w e → m e = m' e) (hc : ∀ e, e < 8 → 0 < w e → c0' e ≤ w e ∧ (m e ≠ 0 → c0 e = c0' e)) : Inv σ w v m' c0' := by
  obtain ⟨p, G, D⟩ := h
  exact ⟨p, G, D.congr (fun _ _ _ _ _ => rfl) hm hc⟩
theorem mcn_z {f : Nat → Int32} : ∀ n, mcn f n = 0 ↔ ∀ e, e < n → f e = 0
  | 0 => ⟨fun _ e h => absurd h (Nat.not_lt_zero e), fun _ => rfl⟩
  | n + 1 => by
    constructor
    · intro h e he
      by_cases q : f n = 0
      · rw [mcn_n q] at h
        by_cases y : e = n
        · rw [y, q]
        · exact (mcn_z n).mp h e (by omega)
      · rw [mcn_y q] at h
        omega
    · intro h
      rw [mcn_n (h n (by omega))]
      exact (mcn_z n).mpr (fun e he => h e (by omega))
theorem cnt_mcn {w : Nat → Nat} {m f : Nat → Int32} : ∀ n, (∀ e, e < n → ((0 < w e ∧ m e ≠ 0) ↔ f e ≠ 0)) → cnt w m n = mcn f n
  | 0, _ => rfl
  | n + 1, h => by
    have ih := cnt_mcn n (fun e he => h e (by omega))
    by_cases q : f n = 0
    · rw [mcn_n q, cnt_n (fun z => (h n (by omega)).mp z q), ih]
    · rw [mcn_y q, cnt_y ((h n (by omega)).mpr q), ih]
theorem Lk.live {σ μ : XS} {w : Nat → Nat} {v : Nat → Nat → Int32} {m : Nat → Int32} {c0 : Nat → Nat} {k : Nat} (h : Lk σ μ w v m c0 k) {e : Nat} (he : e < 8) : (0 < w e ∧ m e ≠ 0) ↔ μ 5 e ≠ 0 := by
  obtain ⟨-, -, a3, a4⟩ := h.2.2 e he
  constructor
  · intro q
    rw [(a4 q.1).1]
    exact q.2
  · intro q
    rcases Nat.eq_zero_or_pos (w e) with z | z
    · exact absurd (a3 z) q
    · rw [(a4 z).1] at q
      exact ⟨z, q⟩
theorem dsum_congr {f g : Nat → Int32} : ∀ n, (∀ i, i < n → f i = g i) → dsum f n = dsum g n
  | 0, _ => rfl
  | n + 1, h => by
    show dsum f n + nI (n + 1) * f n = dsum g n + nI (n + 1) * g n
    rw [dsum_congr n (fun i hi => h i (by omega)), h n (by omega)]
theorem J_draft {σ μ σ' μ' : XS} {w : Nat → Nat} {v : Nat → Nat → Int32} {m : Nat → Int32} {c0 : Nat → Nat} {k : Nat} {r r' : Int32} {x : Int32} (hI : Inv σ w v m c0) (hL : Lk σ μ w v m c0 k) (hx : (fun (r : Int32) (σ' : XS) => (k = 4 ∧ r = -2 ∧ σ' = σ) ∨ (k < 4 ∧ r = nI (k + 1) ∧ σ' = wr (wr σ 7 k x) 6 0 (nI (k + 1)))) r σ') (hm : (fun (r : Int32) (μ' : XS) => (k = 4 → r = -2 ∧ μ' = μ) ∧ (¬ k = 4 → r = nI (k + 1) ∧ μ' = wr (wr μ 0 k x) 1 0 (nI (k + 1)))) r' μ') : r = r' ∧ INV σ' μ' := by
  rcases hx with ⟨h4, rfl, rfl⟩ | ⟨h4, rfl, rfl⟩
  · obtain ⟨rfl, rfl⟩ := hm.1 h4
    exact ⟨rfl, w, v, m, c0, k, hI, hL⟩
  · obtain ⟨rfl, rfl⟩ := hm.2 (by omega)
    refine ⟨rfl, w, v, m, c0, k + 1, hI.by rfl rfl rfl rfl rfl rfl, ⟨by omega, wr_s _ 6 0 _, wr_s _ 1 0 _, fun i hi => ?_⟩, hL.2.1, hL.2.2⟩
    show upd (σ 7) k x i = upd (μ 0) k x i
    by_cases e : i = k
    · rw [e, upd_s, upd_s]
    · rw [upd_n e, upd_n e]
      exact hL.1.2.2.2 i (by omega)
theorem J_scrap {σ μ σ' μ' : XS} {w : Nat → Nat} {v : Nat → Nat → Int32} {m : Nat → Int32} {c0 : Nat → Nat} {k : Nat}  (hI : Inv σ w v m c0) (hL : Lk σ μ w v m c0 k) (hx : (fun (σ' : XS) => σ' = wr σ 6 0 (nI 0)) σ') (hm : (fun (μ' : XS) => μ' = wr μ 1 0 (nI 0)) μ') : INV σ' μ' := by
  obtain rfl : σ' = wr σ 6 0 (nI 0) := hx
  obtain rfl : μ' = wr μ 1 0 (nI 0) := hm
  exact ⟨w, v, m, c0, 0, hI.by rfl rfl rfl rfl rfl rfl, ⟨by omega, wr_s _ 6 0 _, wr_s _ 1 0 _, fun i hi => absurd hi (Nat.not_lt_zero i)⟩, hL.2.1, hL.2.2⟩
theorem J_healed {σ μ σ' μ' : XS} {w : Nat → Nat} {v : Nat → Nat → Int32} {m : Nat → Int32} {c0 : Nat → Nat} {k : Nat} {r r' : Int32}  (hI : Inv σ w v m c0) (hL : Lk σ μ w v m c0 k) (hx : (fun (r : Int32) (σ' : XS) => σ' = σ ∧ r = σ 9 0) r σ') (hm : (fun (r : Int32) (μ' : XS) => μ' = μ ∧ r = μ 6 0) r' μ') : r = r' ∧ INV σ' μ' := by
  obtain ⟨rfl, rfl⟩ := hx
  obtain ⟨rfl, rfl⟩ := hm
  exact ⟨hL.2.1, w, v, m, c0, k, hI, hL⟩
theorem J_size {σ μ σ' μ' : XS} {w : Nat → Nat} {v : Nat → Nat → Int32} {m : Nat → Int32} {c0 : Nat → Nat} {k : Nat} {r r' : Int32} {e : Int32} (hI : Inv σ w v m c0) (hL : Lk σ μ w v m c0 k) (hx : (fun (r : Int32) (σ' : XS) => σ' = σ ∧ ((e < 0 ∨ nI 8 ≤ e) ∧ r = -1 ∨ ∃ j, j < 8 ∧ e = nI j ∧ r = nI (w j))) r σ') (hm : (fun (r : Int32) (μ' : XS) => μ' = μ ∧ ((e < 0 ∨ nI 8 ≤ e → r = -1) ∧ ∀ j, j < 8 → e = nI j → r = nI (w j))) r' μ') : r = r' ∧ INV σ' μ' := by
  obtain ⟨rfl, hx⟩ := hx
  obtain ⟨rfl, hm⟩ := hm
  refine ⟨?_, w, v, m, c0, k, hI, hL⟩
  rcases hx with ⟨hb, rfl⟩ | ⟨j, hj, rfl, rfl⟩
  · exact (hm.1 hb).symm
  · exact (hm.2 j hj rfl).symm
theorem J_put {σ μ σ' μ' : XS} {w : Nat → Nat} {v : Nat → Nat → Int32} {m : Nat → Int32} {c0 : Nat → Nat} {k : Nat} {r r' : Int32} {e : Int32} (hI : Inv σ w v m c0) (hL : Lk σ μ w v m c0 k) (hx : (fun (r : Int32) (σ' : XS) => (e < 0 ∨ nI 8 ≤ e) ∧ r = -1 ∧ σ' = σ ∨ ∃ j, j < 8 ∧ e = nI j ∧ (k = 0 ∧ r = -3 ∧ σ' = σ ∨ 0 < k ∧ r = nI k ∧ σ' 6 0 = nI 0 ∧ σ' 9 = σ 9 ∧ ∃ u, (∀ i, i < k → u i = σ 7 i) ∧ Inv σ' (va_up w j k) (va_up v j u) (va_up m j 0) (va_up c0 j 0))) r σ') (hm : (fun (r : Int32) (μ' : XS) => (e < 0 ∨ nI 8 ≤ e → r = -1 ∧ μ' = μ) ∧ ∀ j, j < 8 → e = nI j → ((k = 0 → r = -3 ∧ μ' = μ) ∧ (¬ k = 0 → r = nI k ∧ ∃ f, (∀ i, i < k → f (4 * j + i) = μ 0 i) ∧ (∀ q, (∀ i, i < k → q ≠ 4 * j + i) → f q = μ 2 q) ∧ μ' = wr (wr (wr (wf μ 2 f) 3 j (nI k)) 5 j (nI 0)) 1 0 (nI 0)))) r' μ') : r = r' ∧ INV σ' μ' := by
  rcases hx with ⟨hb, rfl, rfl⟩ | ⟨j, hj, rfl, ⟨hk, rfl, rfl⟩ | ⟨hk, rfl, h6, h9, u, hu, hI'⟩⟩
  · obtain ⟨rfl, rfl⟩ := hm.1 hb
    exact ⟨rfl, w, v, m, c0, k, hI, hL⟩
  · obtain ⟨rfl, rfl⟩ := (hm.2 j hj rfl).1 hk
    exact ⟨rfl, w, v, m, c0, k, hI, hL⟩
  · obtain ⟨rfl, f, hf, hg, rfl⟩ := (hm.2 j hj rfl).2 (by omega)
    have hk4 := hL.1.1
    refine ⟨rfl, _, _, _, _, 0, hI', hL.up (fun e he => hI.w4 he) ⟨by omega, h6, wr_s _ 1 0 _, fun i hi => absurd hi (Nat.not_lt_zero i)⟩ ?_ (fun e he q i hi => ?_) (fun e q => ?_) (fun e q => rfl) (fun e q => ?_) ?_ (fun i hi => ?_) (fun q => ?_) (fun q => ⟨?_, fun z => absurd rfl z⟩)⟩
    · rw [h9]
      exact hL.2.1
    · exact hg _ (fun i' hi' => by omega)
    · exact upd_n q
    · exact upd_n q
    · exact upd_s _ _ _
    · refine (hf i hi).trans ?_
      rw [← hL.1.2.2.2 i hi, hu i hi]
    · omega
    · exact upd_s _ _ _
theorem J_delete {σ μ σ' μ' : XS} {w : Nat → Nat} {v : Nat → Nat → Int32} {m : Nat → Int32} {c0 : Nat → Nat} {k : Nat} {r r' : Int32} {e : Int32} (hI : Inv σ w v m c0) (hL : Lk σ μ w v m c0 k) (hx : (fun (r : Int32) (σ' : XS) => (e < 0 ∨ nI 8 ≤ e) ∧ r = -1 ∧ σ' = σ ∨ ∃ j, j < 8 ∧ e = nI j ∧ (w j = 0 ∧ r = -3 ∧ σ' = σ ∨ 0 < w j ∧ r = nI (w j) ∧ Kp σ σ' ∧ Inv σ' (va_up w j 0) v m c0)) r σ') (hm : (fun (r : Int32) (μ' : XS) => (e < 0 ∨ nI 8 ≤ e → r = -1 ∧ μ' = μ) ∧ ∀ j, j < 8 → e = nI j → ((w j = 0 → r = -3 ∧ μ' = μ) ∧ (¬ w j = 0 → r = nI (w j) ∧ μ' = wr (wr μ 3 j (nI 0)) 5 j (nI 0)))) r' μ') : r = r' ∧ INV σ' μ' := by
  rcases hx with ⟨hb, rfl, rfl⟩ | ⟨j, hj, rfl, ⟨hk, rfl, rfl⟩ | ⟨hk, rfl, ⟨h6, h7, h9⟩, hI'⟩⟩
  · obtain ⟨rfl, rfl⟩ := hm.1 hb
    exact ⟨rfl, w, v, m, c0, k, hI, hL⟩
  · obtain ⟨rfl, rfl⟩ := (hm.2 j hj rfl).1 hk
    exact ⟨rfl, w, v, m, c0, k, hI, hL⟩
  · obtain ⟨rfl, rfl⟩ := (hm.2 j hj rfl).2 (by omega)
    have h := hL.up (σ' := σ') (μ' := wr (wr μ 3 j (nI 0)) 5 j (nI 0)) (k' := k) (j := j) (wj := 0) (u := v j) (mj := m j) (cj := c0 j) (fun e he => hI.w4 he) ⟨hL.1.1, by rw [h6]; exact hL.1.2.1, hL.1.2.2.1, by rw [h7]; exact hL.1.2.2.2⟩ (by rw [h9]; exact hL.2.1) (fun e he q i hi => rfl) (fun e q => upd_n q) (fun e q => rfl) (fun e q => upd_n q) (upd_s _ _ _) (fun i hi => absurd hi (Nat.not_lt_zero i)) (fun _ => upd_s _ _ _) (fun q => absurd q (Nat.lt_irrefl 0))
    rw [va_up_id, va_up_id, va_up_id] at h
    exact ⟨rfl, _, _, _, _, k, hI', h⟩
theorem J_damaged {σ μ σ' μ' : XS} {w : Nat → Nat} {v : Nat → Nat → Int32} {m : Nat → Int32} {c0 : Nat → Nat} {k : Nat} {r r' : Int32} {e : Int32} (hI : Inv σ w v m c0) (hL : Lk σ μ w v m c0 k) (hx : (fun (r : Int32) (σ' : XS) => (e < 0 ∨ nI 8 ≤ e) ∧ r = -1 ∧ σ' = σ ∨ ∃ j, j < 8 ∧ e = nI j ∧ (w j = 0 ∧ r = -3 ∧ σ' = σ ∨ 0 < w j ∧ (m j = 0 ∧ r = -5 ∨ m j ≠ 0 ∧ r = nI (c0 j)) ∧ Kp σ σ' ∧ Inv σ' w v m c0)) r σ') (hm : (fun (r : Int32) (μ' : XS) => μ' = μ ∧ ((e < 0 ∨ nI 8 ≤ e → r = -1) ∧ ∀ j, j < 8 → e = nI j → ((w j = 0 → r = -3) ∧ (¬ w j = 0 → (μ 5 j = 0 → r = -5) ∧ (¬ μ 5 j = 0 → r = μ 4 j))))) r' μ') : r = r' ∧ INV σ' μ' := by
  obtain ⟨rfl, hm⟩ := hm
  rcases hx with ⟨hb, rfl, rfl⟩ | ⟨j, hj, rfl, ⟨hk, rfl, rfl⟩ | ⟨hk, hr, ⟨h6, h7, h9⟩, hI'⟩⟩
  · exact ⟨(hm.1 hb).symm, w, v, m, c0, k, hI, hL⟩
  · exact ⟨((hm.2 j hj rfl).1 hk).symm, w, v, m, c0, k, hI, hL⟩
  · obtain ⟨-, -, -, a4⟩ := hL.2.2 j hj
    obtain ⟨a4, a5⟩ := a4 hk
    refine ⟨?_, w, v, m, c0, k, hI', hL.by h6 h7 h9⟩
    obtain ⟨q1, q2⟩ := (hm.2 j hj rfl).2 (by omega)
    rw [a4] at q1 q2
    rcases hr with ⟨z, rfl⟩ | ⟨z, rfl⟩
    · exact (q1 z).symm
    · rw [q2 z, a5 z]
theorem J_read {σ μ σ' μ' : XS} {w : Nat → Nat} {v : Nat → Nat → Int32} {m : Nat → Int32} {c0 : Nat → Nat} {k : Nat} {r r' : Int32} {e i : Int32} (hI : Inv σ w v m c0) (hL : Lk σ μ w v m c0 k) (hx : (fun (r : Int32) (σ' : XS) => (e < 0 ∨ nI 8 ≤ e) ∧ r = 0 ∧ σ' = σ ∨ ∃ j, j < 8 ∧ e = nI j ∧ ((i < 0 ∨ nI (w j) ≤ i) ∧ r = 0 ∧ σ' = σ ∨ ∃ a, a < w j ∧ i = nI a ∧ r = v j a ∧ σ' 6 = σ 6 ∧ σ' 7 = σ 7 ∧ ((m j = 0 ∨ c0 j = w j) ∧ σ' 9 = σ 9 ∧ Inv σ' w v m c0 ∨ m j ≠ 0 ∧ c0 j < w j ∧ σ' 9 0 = σ 9 0 + nI 1 ∧ Inv σ' w v (va_up m j 0) c0))) r σ') (hm : (fun (r : Int32) (μ' : XS) => (e < 0 ∨ nI 8 ≤ e → r = 0 ∧ μ' = μ) ∧ ∀ j, j < 8 → e = nI j → ((i < 0 ∨ nI (w j) ≤ i → r = 0 ∧ μ' = μ) ∧ ∀ a, a < w j → i = nI a → r = μ 2 (4 * j + a) ∧ (μ 5 j = 0 ∨ μ 4 j = nI (w j) → μ' = μ) ∧ (¬ (μ 5 j = 0 ∨ μ 4 j = nI (w j)) → μ' = wr (wr μ 5 j (nI 0)) 6 0 (μ 6 0 + nI 1)))) r' μ') : r = r' ∧ INV σ' μ' := by
  rcases hx with ⟨hb, rfl, rfl⟩ | ⟨j, hj, rfl, ⟨hk, rfl, rfl⟩ | ⟨a, ha, rfl, rfl, h6, h7, hs⟩⟩
  · obtain ⟨rfl, rfl⟩ := hm.1 hb
    exact ⟨rfl, w, v, m, c0, k, hI, hL⟩
  · obtain ⟨rfl, rfl⟩ := (hm.2 j hj rfl).1 hk
    exact ⟨rfl, w, v, m, c0, k, hI, hL⟩
  · obtain ⟨a1, a2, -, a4⟩ := hL.2.2 j hj
    obtain ⟨a4, a5⟩ := a4 (by omega)
    have hw4 := hI.w4 hj
    obtain ⟨rfl, q1, q2⟩ := (hm.2 j hj rfl).2 a ha rfl
    refine ⟨(a2 a ha).symm, ?_⟩
    rw [a4] at q1 q2
    rcases hs with ⟨hz, h9, hI'⟩ | ⟨hz, hc, h9, hI'⟩
    · obtain rfl := q1 (by
        by_cases z : m j = 0
        · exact Or.inl z
        · rcases hz with hz | hz
          · exact absurd hz z
          · exact Or.inr (by rw [a5 z, hz]))
      exact ⟨w, v, m, c0, k, hI', hL.by h6 h7 h9⟩
    · obtain rfl := q2 (fun y => by
        rcases y with y | y
        · exact hz y
        · rw [a5 hz] at y
          have := nI_inj (by omega) (by omega) y
          omega)
      have h := hL.up (σ' := σ') (μ' := wr (wr μ 5 j (nI 0)) 6 0 (μ 6 0 + nI 1)) (k' := k) (j := j) (wj := w j) (u := v j) (mj := 0) (cj := c0 j) (fun e he => hI.w4 he) ⟨hL.1.1, by rw [h6]; exact hL.1.2.1, hL.1.2.2.1, by rw [h7]; exact hL.1.2.2.2⟩ (by rw [h9, hL.2.1]; exact (wr_s _ 6 0 _).symm) (fun e he q i hi => rfl) (fun e q => rfl) (fun e q => rfl) (fun e q => upd_n q) a1 a2 (fun q => by omega) (fun q => ⟨upd_s _ _ _, fun z => absurd rfl z⟩)
      rw [va_up_id, va_up_id, va_up_id] at h
      exact ⟨_, _, _, _, k, hI', h⟩
theorem J_damage {σ μ σ' μ' : XS} {w : Nat → Nat} {v : Nat → Nat → Int32} {m : Nat → Int32} {c0 : Nat → Nat} {k : Nat} {r r' : Int32} {e c x : Int32} (hI : Inv σ w v m c0) (hL : Lk σ μ w v m c0 k) (hx : (fun (r : Int32) (σ' : XS) => (e < 0 ∨ nI 8 ≤ e) ∧ r = -1 ∧ σ' = σ ∨ ∃ j, j < 8 ∧ e = nI j ∧ (w j = 0 ∧ r = -3 ∧ σ' = σ ∨ 0 < w j ∧ ((c < 0 ∨ nI (w j) < c) ∧ r = -1 ∧ σ' = σ ∨ ∃ t, t ≤ w j ∧ c = nI t ∧ Kp σ σ' ∧ (m j ≠ 0 ∧ c0 j ≠ t ∧ r = -4 ∧ Inv σ' w v m c0 ∨ (m j = 0 ∨ c0 j = t) ∧ (m j ^^^ x = 0 ∧ r = nI 0 ∨ m j ^^^ x ≠ 0 ∧ r = nI 1) ∧ Inv σ' w v (va_up m j (m j ^^^ x)) (va_up c0 j t))))) r σ') (hm : (fun (r : Int32) (μ' : XS) => (e < 0 ∨ nI 8 ≤ e → r = -1 ∧ μ' = μ) ∧ ∀ j, j < 8 → e = nI j → ((w j = 0 → r = -3 ∧ μ' = μ) ∧ (¬ w j = 0 → (c < 0 ∨ nI (w j) < c → r = -1 ∧ μ' = μ) ∧ ∀ t, t ≤ w j → c = nI t → (¬ (μ 5 j = 0 ∨ μ 4 j = nI t) → r = -4 ∧ μ' = μ) ∧ (¬ ¬ (μ 5 j = 0 ∨ μ 4 j = nI t) → μ' = wr (wr μ 4 j (nI t)) 5 j (μ 5 j ^^^ x) ∧ (μ 5 j ^^^ x = 0 → r = nI 0) ∧ (¬ μ 5 j ^^^ x = 0 → r = nI 1))))) r' μ') : r = r' ∧ INV σ' μ' := by
  rcases hx with ⟨hb, rfl, rfl⟩ | ⟨j, hj, rfl, ⟨hk, rfl, rfl⟩ | ⟨hk, ⟨hc, rfl, rfl⟩ | ⟨t, ht, rfl, ⟨h6, h7, h9⟩, hs⟩⟩⟩
  · obtain ⟨rfl, rfl⟩ := hm.1 hb
    exact ⟨rfl, w, v, m, c0, k, hI, hL⟩
  · obtain ⟨rfl, rfl⟩ := (hm.2 j hj rfl).1 hk
    exact ⟨rfl, w, v, m, c0, k, hI, hL⟩
  · obtain ⟨rfl, rfl⟩ := ((hm.2 j hj rfl).2 (by omega)).1 hc
    exact ⟨rfl, w, v, m, c0, k, hI, hL⟩
  · obtain ⟨a1, a2, -, a4⟩ := hL.2.2 j hj
    obtain ⟨a4, a5⟩ := a4 hk
    have hw4 := hI.w4 hj
    have hc4 := hI.c4 hj hk
    obtain ⟨q1, q2⟩ := ((hm.2 j hj rfl).2 (by omega)).2 t ht rfl
    rw [a4] at q1 q2
    rcases hs with ⟨hz, hne, rfl, hI'⟩ | ⟨hz, hr, hI'⟩
    · obtain ⟨rfl, rfl⟩ := q1 (fun y => by
        rcases y with y | y
        · exact hz y
        · rw [a5 hz] at y
          exact hne (nI_inj (by omega) (by omega) y))
      exact ⟨rfl, w, v, m, c0, k, hI', hL.by h6 h7 h9⟩
    · obtain ⟨rfl, y1, y2⟩ := q2 (not_not_intro (by
        by_cases z : m j = 0
        · exact Or.inl z
        · rcases hz with hz | hz
          · exact absurd hz z
          · exact Or.inr (by rw [a5 z, hz])))
      refine ⟨?_, ?_⟩
      · rcases hr with ⟨z, rfl⟩ | ⟨z, rfl⟩
        · exact (y1 z).symm
        · exact (y2 z).symm
      · have h := hL.up (σ' := σ') (μ' := wr (wr μ 4 j (nI t)) 5 j (m j ^^^ x)) (k' := k) (j := j) (wj := w j) (u := v j) (mj := m j ^^^ x) (cj := t) (fun e he => hI.w4 he) ⟨hL.1.1, by rw [h6]; exact hL.1.2.1, hL.1.2.2.1, by rw [h7]; exact hL.1.2.2.2⟩ (by rw [h9]; exact hL.2.1) (fun e he q i hi => rfl) (fun e q => rfl) (fun e q => upd_n q) (fun e q => upd_n q) a1 a2 (fun q => by omega) (fun q => ⟨upd_s _ _ _, fun z => upd_s _ _ _⟩)
        rw [va_up_id, va_up_id] at h
        exact ⟨_, _, _, _, k, hI', h⟩
theorem J_scrub {σ μ σ' μ' : XS} {w : Nat → Nat} {v : Nat → Nat → Int32} {m : Nat → Int32} {c0 : Nat → Nat} {k : Nat} {r r' : Int32}  (hI : Inv σ w v m c0) (hL : Lk σ μ w v m c0 k) (hx : (fun (r : Int32) (σ' : XS) => r = nI (cnt w m 8) ∧ σ' 6 = σ 6 ∧ σ' 7 = σ 7 ∧ σ' 9 0 = σ 9 0 + nI (cnt w m 8) ∧ Inv σ' w v (fun _ => 0) c0) r σ') (hm : (fun (r : Int32) (μ' : XS) => r = nI (mcn (μ 5) 8) ∧ ∃ f, (∀ e, e < 8 → f e = 0) ∧ μ' = wr (wf μ 5 f) 6 0 (μ 6 0 + nI (mcn (μ 5) 8))) r' μ') : r = r' ∧ INV σ' μ' := by
  obtain ⟨rfl, h6, h7, h9, hI'⟩ := hx
  obtain ⟨rfl, f, hf, rfl⟩ := hm
  have e1 : cnt w m 8 = mcn (μ 5) 8 := cnt_mcn 8 (fun e he => hL.live he)
  refine ⟨by rw [e1], w, v, fun _ => 0, c0, k, hI', ⟨hL.1.1, by rw [h6]; exact hL.1.2.1, hL.1.2.2.1, by rw [h7]; exact hL.1.2.2.2⟩, ?_, fun e he => ?_⟩
  · rw [h9, hL.2.1, e1]
    exact (wr_s _ 6 0 _).symm
  · obtain ⟨a1, a2, -, -⟩ := hL.2.2 e he
    exact ⟨a1, a2, fun _ => hf e he, fun _ => ⟨hf e he, fun z => absurd rfl z⟩⟩
theorem J_lose {σ μ σ' μ' : XS} {w : Nat → Nat} {v : Nat → Nat → Int32} {m : Nat → Int32} {c0 : Nat → Nat} {k : Nat} {r r' : Int32} {d : Int32} (hI : Inv σ w v m c0) (hL : Lk σ μ w v m c0 k) (hx : (fun (r : Int32) (σ' : XS) => (d < 0 ∨ nI 5 ≤ d) ∧ r = -1 ∧ σ' = σ ∨ ∃ dd, dd < 5 ∧ d = nI dd ∧ Kp σ σ' ∧ Inv σ' w v m c0 ∧ ((∃ x, x < 8 ∧ 0 < w x ∧ m x ≠ 0) ∧ r = -4 ∨ (∀ x, x < 8 → 0 < w x → m x = 0) ∧ r = 0)) r σ') (hm : (fun (r : Int32) (μ' : XS) => μ' = μ ∧ ((d < 0 ∨ nI 5 ≤ d → r = -1) ∧ ∀ dd, dd < 5 → d = nI dd → (mcn (μ 5) 8 = 0 → r = 0) ∧ (¬ mcn (μ 5) 8 = 0 → r = -4))) r' μ') : r = r' ∧ INV σ' μ' := by
  obtain ⟨rfl, hm⟩ := hm
  rcases hx with ⟨hb, rfl, rfl⟩ | ⟨j, hj, rfl, ⟨h6, h7, h9⟩, hI', hr⟩
  · exact ⟨(hm.1 hb).symm, w, v, m, c0, k, hI, hL⟩
  · refine ⟨?_, w, v, m, c0, k, hI', hL.by h6 h7 h9⟩
    obtain ⟨q1, q2⟩ := hm.2 j hj rfl
    rcases hr with ⟨⟨y, hy, hw, hn⟩, rfl⟩ | ⟨hz, rfl⟩
    · exact (q2 (fun z => (hL.live hy).mp ⟨hw, hn⟩ ((mcn_z 8).mp z y hy))).symm
    · refine (q1 ((mcn_z 8).mpr (fun y hy => ?_))).symm
      refine Classical.byContradiction fun q => ?_
      obtain ⟨z1, z2⟩ := (hL.live hy).mpr q
      exact z2 (hz y hy z1)
theorem J_copy {σ μ σ' μ' : XS} {w : Nat → Nat} {v : Nat → Nat → Int32} {m : Nat → Int32} {c0 : Nat → Nat} {k : Nat} {r r' : Int32} {e1 e2 : Int32} (hI : Inv σ w v m c0) (hL : Lk σ μ w v m c0 k) (hx : (fun (r : Int32) (σ' : XS) => ((e1 < 0 ∨ nI 8 ≤ e1) ∨ (e2 < 0 ∨ nI 8 ≤ e2)) ∧ r = -1 ∧ σ' = σ ∨ ∃ a b, a < 8 ∧ b < 8 ∧ e1 = nI a ∧ e2 = nI b ∧ Kp σ σ' ∧ (w a = 0 ∧ r = 0 ∧ Inv σ' (va_up w b 0) v m c0 ∨ 0 < w a ∧ m a ≠ 0 ∧ r = -4 ∧ Inv σ' w v m c0 ∨ 0 < w a ∧ m a = 0 ∧ r = nI (w a) ∧ ∃ u, (∀ i, i < w a → u i = v a i) ∧ Inv σ' (va_up w b (w a)) (va_up v b u) (va_up m b 0) (va_up c0 b 0))) r σ') (hm : (fun (r : Int32) (μ' : XS) => ((e1 < 0 ∨ nI 8 ≤ e1) ∨ (e2 < 0 ∨ nI 8 ≤ e2) → r = -1 ∧ μ' = μ) ∧ ∀ a b, a < 8 → b < 8 → e1 = nI a → e2 = nI b → (μ 5 a = 0 → r = nI (w a) ∧ ∃ f, (∀ i, i < 4 → f (4 * b + i) = μ 2 (4 * a + i)) ∧ (∀ q, (∀ i, i < 4 → q ≠ 4 * b + i) → f q = μ 2 q) ∧ μ' = wr (wr (wf μ 2 f) 3 b (nI (w a))) 5 b (nI 0)) ∧ (¬ μ 5 a = 0 → r = -4 ∧ μ' = μ)) r' μ') : r = r' ∧ INV σ' μ' := by
  rcases hx with ⟨hb, rfl, rfl⟩ | ⟨a, b, ha, hb, rfl, rfl, ⟨h6, h7, h9⟩, hs⟩
  · obtain ⟨rfl, rfl⟩ := hm.1 hb
    exact ⟨rfl, w, v, m, c0, k, hI, hL⟩
  · obtain ⟨a1, a2, a3, a4⟩ := hL.2.2 a ha
    obtain ⟨q1, q2⟩ := hm.2 a b ha hb rfl rfl
    have hw4 := hI.w4 ha
    have hB : k ≤ 4 ∧ σ' 6 0 = nI k ∧ μ 1 0 = nI k ∧ ∀ i, i < k → σ' 7 i = μ 0 i := ⟨hL.1.1, by rw [h6]; exact hL.1.2.1, hL.1.2.2.1, by rw [h7]; exact hL.1.2.2.2⟩
    have hN : σ' 9 0 = μ 6 0 := by rw [h9]; exact hL.2.1
    rcases hs with ⟨hz, rfl, hI'⟩ | ⟨hz, hn, rfl, hI'⟩ | ⟨hz, hn, rfl, u, hu, hI'⟩
    · obtain ⟨rfl, f, hf, hg, rfl⟩ := q1 (a3 hz)
      rw [hz]
      refine ⟨nI_0.symm, ?_⟩
      have h := hL.up (σ' := σ') (μ' := wr (wr (wf μ 2 f) 3 b (nI 0)) 5 b (nI 0)) (k' := k) (j := b) (wj := 0) (u := v b) (mj := m b) (cj := c0 b) (fun e he => hI.w4 he) hB hN (fun e he q i hi => hg _ (fun i' hi' => by omega)) (fun e q => upd_n q) (fun e q => rfl) (fun e q => upd_n q) (upd_s _ _ _) (fun i hi => absurd hi (Nat.not_lt_zero i)) (fun _ => upd_s _ _ _) (fun q => absurd q (Nat.lt_irrefl 0))
      rw [va_up_id, va_up_id, va_up_id] at h
      exact ⟨_, _, _, _, k, hI', h⟩
    · obtain ⟨rfl, rfl⟩ := q2 (by rw [(a4 hz).1]; exact hn)
      exact ⟨rfl, w, v, m, c0, k, hI', hL.by h6 h7 h9⟩
    · obtain ⟨rfl, f, hf, hg, rfl⟩ := q1 (by rw [(a4 hz).1]; exact hn)
      refine ⟨rfl, _, _, _, _, k, hI', hL.up (fun e he => hI.w4 he) hB hN (fun e he q i hi => hg _ (fun i' hi' => by omega)) (fun e q => upd_n q) (fun e q => rfl) (fun e q => upd_n q) (upd_s _ _ _) (fun i hi => ?_) (fun q => by omega) (fun q => ⟨upd_s _ _ _, fun z => absurd rfl z⟩)⟩
      refine (hf i (by omega)).trans ?_
      rw [a2 i hi, hu i hi]
theorem J_digest {σ μ σ' μ' : XS} {w : Nat → Nat} {v : Nat → Nat → Int32} {m : Nat → Int32} {c0 : Nat → Nat} {k : Nat} {r r' : Int32} {e : Int32} (hI : Inv σ w v m c0) (hL : Lk σ μ w v m c0 k) (hx : (fun (r : Int32) (σ' : XS) => (e < 0 ∨ nI 8 ≤ e) ∧ r = 0 ∧ σ' = σ ∨ ∃ j, j < 8 ∧ e = nI j ∧ r = dsum (v j) (w j) ∧ Kp σ σ' ∧ Inv σ' w v m c0) r σ') (hm : (fun (r : Int32) (μ' : XS) => μ' = μ ∧ ((e < 0 ∨ nI 8 ≤ e → r = 0) ∧ ∀ j, j < 8 → e = nI j → r = dsum (fun i => μ 2 (4 * j + i)) (w j))) r' μ') : r = r' ∧ INV σ' μ' := by
  obtain ⟨rfl, hm⟩ := hm
  rcases hx with ⟨hb, rfl, rfl⟩ | ⟨j, hj, rfl, rfl, ⟨h6, h7, h9⟩, hI'⟩
  · exact ⟨(hm.1 hb).symm, w, v, m, c0, k, hI, hL⟩
  · refine ⟨?_, w, v, m, c0, k, hI', hL.by h6 h7 h9⟩
    refine Eq.trans ?_ (hm.2 j hj rfl).symm
    exact dsum_congr _ (fun i hi => ((hL.2.2 j hj).2.1 i hi).symm)
theorem INV0 : INV z0 z0 := by
  refine ⟨fun _ => 0, fun _ _ => 0, fun _ => 0, fun _ => 0, 0, ⟨fun _ _ => 0, ⟨fun e he => ⟨Nat.zero_le _, rfl⟩, fun e he h => absurd h (Nat.lt_irrefl 0), fun e he h => absurd h (Nat.lt_irrefl 0), fun e e' he he' hne h => absurd h (Nat.lt_irrefl 0), fun q hq h => absurd rfl h, ⟨0, by decide, rfl⟩⟩, fun e he h => absurd h (Nat.lt_irrefl 0)⟩, ⟨Nat.zero_le _, rfl, rfl, fun i hi => absurd hi (Nat.not_lt_zero i)⟩, rfl, fun e he => ⟨rfl, fun i hi => absurd hi (Nat.not_lt_zero i), fun _ => rfl, fun h => absurd h (Nat.lt_irrefl 0)⟩⟩
end
section
set_option maxRecDepth 100000
/-! THE CLAIM OUT OF ONE WALK OF THE LAW'S BODY. Your part is whole_start (and what it stands on); all else here is the same for every law, but numbers. -/
def R_law : String := "SelfHealStripesLaw"
def lw_P (b : Addr) (xs : List Int32) (args : Array Value) (s : State) : Prop := args = #[.ref b] ∧ s.IntsAt b xs ∧ xs.length ≤ 256 ∧ (Jvm.Cond.and given_1 narrow_1).before args s = true
def lw_Q (_ : Array Value) (s : State) (o : Outcome) (t : State) : Prop := o = .returned (some (.int 1)) ∧ Framed s o t [] 600000 7290000
def lw_Z (below : List Frame) (a : Array Value) (s : State) : State → Prop := fun t => ∃ o, t.status = .running ∧ Ended t below o ∧ lw_Q a s o t
/-- the law's own end, with 1 on the stack, nothing written that was there before, its room as the claim has it -/
theorem lw_ret {p : Program} {l : Launch} {e : Env} {s : State} {m : MethodId} {below : List Frame} {meth : Method} {c : Code} {b : Nat} (hx : p.tables.exec = Jvm.exec) (hb : c.code = code) (hr : meth.sig.returnType = ret) (hlocks : meth.locks = false) {pc : Nat} {H : Heap} {ls : Array Slot} (hdg : decode code pc = .ok (.ireturn, 1)) : W p l e room_1 s m #[Value.ref b] below meth c H [] 600000 7290000 (lw_Z below #[Value.ref b] s) (F0 m pc ls [.int 1]) := by
  intro T hT X
  obtain ⟨fs, hret, hrun, hended, hW, hframe⟩ := X.leave (v := some (.int 1)) (hlocks := hlocks) (fun h => by rw [hr] at h; cases h)
  have hmeth' : T.vm.method? m = some meth := X.method'
  refine ⟨T.setFrames fs, ?_, .returned (some (.int 1)), hrun, hended, rfl, ⟨_, rfl⟩, hW, hframe⟩
  jvm_step X.here [X.here.top, hx, hb, hdg, hmeth', hr, ret, narrow_b1]
  (try refine ⟨rfl, ?_⟩); (try refine ⟨rfl, ?_⟩)
  first | (intro acts; rw [hret _ acts rfl rfl rfl]) | rw [hret _ _ rfl rfl rfl]
  exact Steps.refl _
/-- what holds at the law's entry: the machine, the code, the tables' words (any of lw_tbl by 'hts w (by decide +kernel)'), the script of L ints xs at the cell b, what the Statement gives of the start (any of its parts by flat_of_before) -/
def lw_At (p : Program) (s : State) (m : MethodId) (meth : Method) (c : Code) (b L : Nat) (xs : Nat → Int32) : Prop :=
  p.tables.exec = Jvm.exec ∧ c.code = code ∧ meth.sig.returnType = ret ∧ c.maxLocals = 4 ∧ s.vm.findClass R_law = some m.cls ∧ (∀ w ∈ lw_tbl, w.before #[Value.ref b] s = true) ∧ va_X b L xs s s.heap ∧ b < s.heap.size ∧ meth.locks = false ∧ (Jvm.Cond.and given_1 narrow_1).before #[Value.ref b] s = true
theorem xw_in {g : XA} {σ : XS} : ∀ (k : Nat) (q : Nat × va_E), (xw g σ)[k]? = some q → xA g q.1
  | 0, q, h => by cases h; exact ⟨11, by decide, rfl⟩
  | 1, q, h => by cases h; exact ⟨0, by decide, rfl⟩
  | 2, q, h => by cases h; exact ⟨1, by decide, rfl⟩
  | 3, q, h => by cases h; exact ⟨3, by decide, rfl⟩
  | 4, q, h => by cases h; exact ⟨4, by decide, rfl⟩
  | 5, q, h => by cases h; exact ⟨5, by decide, rfl⟩
  | 6, q, h => by cases h; exact ⟨7, by decide, rfl⟩
  | 7, q, h => by cases h; exact ⟨8, by decide, rfl⟩
  | 8, q, h => by cases h; exact ⟨10, by decide, rfl⟩
  | k + 9, q, h => by simp [xw] at h
theorem mw_in {g : XA} {σ : XS} : ∀ (k : Nat) (q : Nat × va_E), (mw g σ)[k]? = some q → mA g q.1
  | 0, q, h => by cases h; exact ⟨7, by decide, rfl⟩
  | 1, q, h => by cases h; exact ⟨0, by decide, rfl⟩
  | 2, q, h => by cases h; exact ⟨2, by decide, rfl⟩
  | 3, q, h => by cases h; exact ⟨3, by decide, rfl⟩
  | 4, q, h => by cases h; exact ⟨4, by decide, rfl⟩
  | 5, q, h => by cases h; exact ⟨5, by decide, rfl⟩
  | k + 6, q, h => by simp [mw] at h
/-- the two objects' cells are new since the law's start, and apart -/
def LG (gx gm : XA) (sz : Nat) : Prop := (∀ k, k < 12 → sz ≤ xa gx k) ∧ (∀ k, k < 8 → sz ≤ xa gm k) ∧ ∀ i j, i < 12 → j < 8 → xa gx i ≠ xa gm j
def LI (gx gm : XA) (s : State) (σ μ : XS) (H : Heap) (locs : List Loc) : Prop := (va_K gx.1 vwCl (xt gx) s ∧ va_P gx.1 vwCl (xw gx σ) H ∧ va_D (xA gx) (xw gx σ)) ∧ (va_K gm.1 vwCl (mt gm) s ∧ va_P gm.1 vwCl (mw gm μ) H ∧ va_D (mA gm) (mw gm μ)) ∧ va_S (fun q : Nat => s.heap.size ≤ q) s.heap H locs
def LM (E : EV) (gx gm : XA) (b L : Nat) (xv : Nat → Int32) : Prop := Fx E cL_law R_law ∧ eR E = room_1 ∧ eX E ≤ 600000 ∧ eY E ≤ 7290000 ∧ eN E = 4 ∧ LG gx gm (eS E).heap.size ∧ va_X b L xv (eS E) (eS E).heap ∧ b < (eS E).heap.size ∧ (eT E).sig.returnType = ret ∧ eA E = #[Value.ref b] ∧ eQ E = lw_Z (eB E) #[Value.ref b] (eS E)
section LAW
variable {E : EV} {gx gm : XA} {b L : Nat} {xv : Nat → Int32} {σ μ : XS} {lv : List (Nat × Value)} {pc : Nat} {st : List Value}
theorem l_sld (M : LM E gx gm b L xv) {i : Nat} (dg : decode cL_law pc = .ok (.iaload, 1)) (hL : L ≤ 256) (hi : i < L) (kk : Az E (LI gx gm (eS E) σ μ) lv (pc + 1) (.int (xv i) :: st)) : Az E (LI gx gm (eS E) σ μ) lv pc (.int (nI i) :: .ref b :: st) := by
  intro H locs ls hI hl
  obtain ⟨S, -, -, -, -, -, hX, hbl, -⟩ := M
  refine va_sld (A := fun q : Nat => (eS E).heap.size ≤ q) S.1.1 S.1.2.1 hX hbl (Nat.not_le.mpr hbl) hI.2.2 (vp_in_nI hi (by omega)) dg ?_
  rw [nI_clamp (by omega)]
  exact kk H locs ls hI hl
theorem l_slen (M : LM E gx gm b L xv) (dg : decode cL_law pc = .ok (.arraylength, 1)) (kk : Az E (LI gx gm (eS E) σ μ) lv (pc + 1) (.int (nI L) :: st)) : Az E (LI gx gm (eS E) σ μ) lv pc (.ref b :: st) := by
  intro H locs ls hI hl
  obtain ⟨S, -, -, -, -, -, hX, hbl, -⟩ := M
  exact va_slen (A := fun q : Nat => (eS E).heap.size ≤ q) S.1.1 S.1.2.1 hX hbl (Nat.not_le.mpr hbl) hI.2.2 dg (kk H locs ls hI hl)
theorem l_ret (M : LM E gx gm b L xv) (dg : decode code pc = .ok (.ireturn, 1)) : Az E (LI gx gm (eS E) σ μ) lv pc [.int 1] := by
  obtain ⟨p, l, e, R, s, m, args, below, meth, c, cells, slots, n, Q⟩ := E
  obtain ⟨S, hR, hcX, hcY, -, -, -, -, hr, hAr, hQ⟩ := M
  dsimp only [eP, eL, eE, eR, eS, eM, eA, eB, eT, eC, eX, eY, eN, eQ] at *
  subst hR hQ hAr
  intro H locs ls hI hl
  refine va_forget (fun q hq => hI.2.2.2.2 q hq) ?_
  refine W.widen (k := 600000) (n := 7290000) hcX hcY ?_
  exact lw_ret S.1.1 S.1.2.1 hr S.2 dg
theorem z_tab {cc : ByteArray} {own : String} {I : Heap → List Loc → Prop} (S : Fx E cc own) {dflt lo hi : Int} {offs : Array Int} {len : Nat} {x : Int32} (off : Int) (tgt : Nat) (dg : decode cc pc = .ok (.tableswitch dflt lo hi offs, len)) (h1 : ¬ x.toInt < lo) (h2 : ¬ hi < x.toInt) (ho : offs[(x.toInt - lo).toNat]? = some off) (ht : (pc : Int) + off = (tgt : Int)) (k : Az E I lv tgt st) : Az E I lv pc (.int x :: st) := fun H locs ls hI hl => lv_tableIn S.1.1 S.1.2.1 dg h1 h2 ho ht (k H locs ls hI hl)
theorem z_tabO {cc : ByteArray} {own : String} {I : Heap → List Loc → Prop} (S : Fx E cc own) {dflt lo hi : Int} {offs : Array Int} {len : Nat} {x : Int32} (tgt : Nat) (dg : decode cc pc = .ok (.tableswitch dflt lo hi offs, len)) (h : x.toInt < lo ∨ hi < x.toInt) (ht : (pc : Int) + dflt = (tgt : Int)) (k : Az E I lv tgt st) : Az E I lv pc (.int x :: st) := fun H locs ls hI hl => lv_tableOut S.1.1 S.1.2.1 dg h ht (k H locs ls hI hl)
theorem l_xi (M : LM E gx gm b L xv) {y : MethodName} {bytes : ByteArray} {maxL index d' : Nat} {rt : Option FieldType} {As rest : List Value} {post : Int32 → XS → Prop} (hM : ∀ l : Launch, Met l y (ws_ y bytes maxL rt) (rmk d') (va_Pc (.ref (xa gx 11) :: As) (xW gx σ)) (va_Qi post (xW gx) (xA gx)) 0 0 (xA gx)) (hG : GoodIn lw_all (wsV R_law index RX0 y (ws_ y bytes maxL rt)))
    (hd : y.cls = RX0 ∧ y.cls ≠ "java/lang/invoke/MethodHandle" ∧ y.cls ≠ "java/lang/invoke/VarHandle" ∧ (parseMethodDescriptor y.desc).map (fun d => d.parameters.length) = some As.length) (hdd : d' ≤ 6) (hm : maxL ≤ 11) (hst : st = As.reverse ++ .ref (xa gx 11) :: rest) (hW : (rest.map fun v => v.category).sum ≤ 8) (dg : decode cL_law pc = .ok (.invokevirtual index, 3))
    (kk : ∀ (r : Int32) (σ' : XS), post r σ' → Az E (LI gx gm (eS E) σ' μ) lv (pc + 3) (.int r :: rest)) : Az E (LI gx gm (eS E) σ μ) lv pc st := by
  obtain ⟨p, l, e, R, s, m, args, below, meth, c, cells, slots, n, Q⟩ := E
  obtain ⟨S, hR, hcX, hcY, -, ⟨g1, g2, g3⟩, -⟩ := M
  dsimp only [eP, eL, eE, eR, eS, eM, eA, eB, eT, eC, eX, eY, eN, eQ] at *
  subst hR
  intro H locs ls hI hl
  obtain ⟨⟨hK, hP, hD⟩, ⟨hK2, hP2, hD2⟩, hS⟩ := hI
  have hA : ∀ q : Nat, xA gx q → s.heap.size ≤ q := fun q ⟨k, hk, e⟩ => by rw [e]; exact g1 k hk
  have hroom : (rmk d').frames + 1 ≤ room_1.frames ∧ 8 + (maxL + 11) + (rmk d').locals ≤ room_1.locals := by
    show d' + 1 ≤ 8 ∧ 8 + (maxL + 11) + 30 * d' ≤ 280
    omega
  refine va_calli (va_runV (As := As) (rest := rest) S.1 (hM l) (cwV As.length S.1.2.2.2.2 hG rfl rfl rfl hd hroom) ⟨fun a U g' mk q => ⟨q.1, q.2.1, va_K.moved (u := U) (U := U.calling g' mk a) (Vm.Alike.refl U.vm) q.2.2.1, q.2.2.2⟩, va_recv hK hP (ci := 0) (q0 := 0) rfl rfl, fun U hU hW => ⟨rfl, by rw [hU]; exact hP, va_K.moved hW.alike hK, hD⟩⟩ rfl rfl hl.1 hst (lv_room hW) dg ⟨hcX, hcY⟩) hS (fun q _ h => hA q h) hA (fun r u t H1 locs1 ht hvm hp hB hz hk hS1 => ?_)
  obtain ⟨hP1, hK1, hD1⟩ := hB
  rw [ht] at hP1
  refine kk r u hp H1 locs1 ls ⟨⟨va_K.moved hvm.symm hK1, hP1, hD1⟩, ⟨hK2, hP2.kept (fun k q h => ?_), hD2⟩, hS1⟩ hl
  exact hk q.1 ((hP2 k q h).lt) (fun ⟨i, hi, e⟩ => by
    obtain ⟨j, hj, e2⟩ := hD2.2 k q h
    exact g3 i j hi hj (e.symm.trans e2))
theorem l_mi (M : LM E gx gm b L xv) {y : MethodName} {bytes : ByteArray} {maxL index d' : Nat} {rt : Option FieldType} {As rest : List Value} {post : Int32 → XS → Prop} (hM : ∀ l : Launch, Met l y (ws_ y bytes maxL rt) (rmk d') (va_Pc (.ref (xa gm 7) :: As) (mW gm μ)) (va_Qi post (mW gm) (mA gm)) 0 0 (mA gm)) (hG : GoodIn lw_all (wsV R_law index RX1 y (ws_ y bytes maxL rt)))
    (hd : y.cls = RX1 ∧ y.cls ≠ "java/lang/invoke/MethodHandle" ∧ y.cls ≠ "java/lang/invoke/VarHandle" ∧ (parseMethodDescriptor y.desc).map (fun d => d.parameters.length) = some As.length) (hdd : d' ≤ 6) (hm : maxL ≤ 11) (hst : st = As.reverse ++ .ref (xa gm 7) :: rest) (hW : (rest.map fun v => v.category).sum ≤ 8) (dg : decode cL_law pc = .ok (.invokevirtual index, 3))
    (kk : ∀ (r : Int32) (σ' : XS), post r σ' → Az E (LI gx gm (eS E) σ σ') lv (pc + 3) (.int r :: rest)) : Az E (LI gx gm (eS E) σ μ) lv pc st := by
  obtain ⟨p, l, e, R, s, m, args, below, meth, c, cells, slots, n, Q⟩ := E
  obtain ⟨S, hR, hcX, hcY, -, ⟨g1, g2, g3⟩, -⟩ := M
  dsimp only [eP, eL, eE, eR, eS, eM, eA, eB, eT, eC, eX, eY, eN, eQ] at *
  subst hR
  intro H locs ls hI hl
  obtain ⟨⟨hK2, hP2, hD2⟩, ⟨hK, hP, hD⟩, hS⟩ := hI
  have hA : ∀ q : Nat, mA gm q → s.heap.size ≤ q := fun q ⟨k, hk, e⟩ => by rw [e]; exact g2 k hk
  have hroom : (rmk d').frames + 1 ≤ room_1.frames ∧ 8 + (maxL + 11) + (rmk d').locals ≤ room_1.locals := by
    show d' + 1 ≤ 8 ∧ 8 + (maxL + 11) + 30 * d' ≤ 280
    omega
  refine va_calli (va_runV (As := As) (rest := rest) S.1 (hM l) (cwV As.length S.1.2.2.2.2 hG rfl rfl rfl hd hroom) ⟨fun a U g' mk q => ⟨q.1, q.2.1, va_K.moved (u := U) (U := U.calling g' mk a) (Vm.Alike.refl U.vm) q.2.2.1, q.2.2.2⟩, va_recv hK hP (ci := 1) (q0 := 0) rfl rfl, fun U hU hW => ⟨rfl, by rw [hU]; exact hP, va_K.moved hW.alike hK, hD⟩⟩ rfl rfl hl.1 hst (lv_room hW) dg ⟨hcX, hcY⟩) hS (fun q _ h => hA q h) hA (fun r u t H1 locs1 ht hvm hp hB hz hk hS1 => ?_)
  obtain ⟨hP1, hK1, hD1⟩ := hB
  rw [ht] at hP1
  refine kk r u hp H1 locs1 ls ⟨⟨hK2, hP2.kept (fun k q h => ?_), hD2⟩, ⟨va_K.moved hvm.symm hK1, hP1, hD1⟩, hS1⟩ hl
  exact hk q.1 ((hP2 k q h).lt) (fun ⟨i, hi, e⟩ => by
    obtain ⟨j, hj, e2⟩ := hD2.2 k q h
    exact g3 j i hj hi (e2.symm.trans e))
theorem l_xv (M : LM E gx gm b L xv) {y : MethodName} {bytes : ByteArray} {maxL index d' : Nat} {As rest : List Value} {post : XS → Prop} (hM : ∀ l : Launch, Met l y (ws_ y bytes maxL none) (rmk d') (va_Pc (.ref (xa gx 11) :: As) (xW gx σ)) (va_Qv post (xW gx) (xA gx)) 0 0 (xA gx)) (hG : GoodIn lw_all (wsV R_law index RX0 y (ws_ y bytes maxL none)))
    (hd : y.cls = RX0 ∧ y.cls ≠ "java/lang/invoke/MethodHandle" ∧ y.cls ≠ "java/lang/invoke/VarHandle" ∧ (parseMethodDescriptor y.desc).map (fun d => d.parameters.length) = some As.length) (hdd : d' ≤ 6) (hm : maxL ≤ 11) (hst : st = As.reverse ++ .ref (xa gx 11) :: rest) (hW : (rest.map fun v => v.category).sum ≤ 8) (dg : decode cL_law pc = .ok (.invokevirtual index, 3))
    (kk : ∀ σ' : XS, post σ' → Az E (LI gx gm (eS E) σ' μ) lv (pc + 3) rest) : Az E (LI gx gm (eS E) σ μ) lv pc st := by
  obtain ⟨p, l, e, R, s, m, args, below, meth, c, cells, slots, n, Q⟩ := E
  obtain ⟨S, hR, hcX, hcY, -, ⟨g1, g2, g3⟩, -⟩ := M
  dsimp only [eP, eL, eE, eR, eS, eM, eA, eB, eT, eC, eX, eY, eN, eQ] at *
  subst hR
  intro H locs ls hI hl
  obtain ⟨⟨hK, hP, hD⟩, ⟨hK2, hP2, hD2⟩, hS⟩ := hI
  have hA : ∀ q : Nat, xA gx q → s.heap.size ≤ q := fun q ⟨k, hk, e⟩ => by rw [e]; exact g1 k hk
  have hroom : (rmk d').frames + 1 ≤ room_1.frames ∧ 8 + (maxL + 11) + (rmk d').locals ≤ room_1.locals := by
    show d' + 1 ≤ 8 ∧ 8 + (maxL + 11) + 30 * d' ≤ 280
    omega
  refine va_callv (va_runV (As := As) (rest := rest) S.1 (hM l) (cwV As.length S.1.2.2.2.2 hG rfl rfl rfl hd hroom) ⟨fun a U g' mk q => ⟨q.1, q.2.1, va_K.moved (u := U) (U := U.calling g' mk a) (Vm.Alike.refl U.vm) q.2.2.1, q.2.2.2⟩, va_recv hK hP (ci := 0) (q0 := 0) rfl rfl, fun U hU hW => ⟨rfl, by rw [hU]; exact hP, va_K.moved hW.alike hK, hD⟩⟩ rfl rfl hl.1 hst (lv_room hW) dg ⟨hcX, hcY⟩) hS (fun q _ h => hA q h) hA (fun u t H1 locs1 ht hvm hp hB hz hk hS1 => ?_)
  obtain ⟨hP1, hK1, hD1⟩ := hB
  rw [ht] at hP1
  refine kk u hp H1 locs1 ls ⟨⟨va_K.moved hvm.symm hK1, hP1, hD1⟩, ⟨hK2, hP2.kept (fun k q h => ?_), hD2⟩, hS1⟩ hl
  exact hk q.1 ((hP2 k q h).lt) (fun ⟨i, hi, e⟩ => by
    obtain ⟨j, hj, e2⟩ := hD2.2 k q h
    exact g3 i j hi hj (e.symm.trans e2))
theorem l_mv (M : LM E gx gm b L xv) {y : MethodName} {bytes : ByteArray} {maxL index d' : Nat} {As rest : List Value} {post : XS → Prop} (hM : ∀ l : Launch, Met l y (ws_ y bytes maxL none) (rmk d') (va_Pc (.ref (xa gm 7) :: As) (mW gm μ)) (va_Qv post (mW gm) (mA gm)) 0 0 (mA gm)) (hG : GoodIn lw_all (wsV R_law index RX1 y (ws_ y bytes maxL none)))
    (hd : y.cls = RX1 ∧ y.cls ≠ "java/lang/invoke/MethodHandle" ∧ y.cls ≠ "java/lang/invoke/VarHandle" ∧ (parseMethodDescriptor y.desc).map (fun d => d.parameters.length) = some As.length) (hdd : d' ≤ 6) (hm : maxL ≤ 11) (hst : st = As.reverse ++ .ref (xa gm 7) :: rest) (hW : (rest.map fun v => v.category).sum ≤ 8) (dg : decode cL_law pc = .ok (.invokevirtual index, 3))
    (kk : ∀ σ' : XS, post σ' → Az E (LI gx gm (eS E) σ σ') lv (pc + 3) rest) : Az E (LI gx gm (eS E) σ μ) lv pc st := by
  obtain ⟨p, l, e, R, s, m, args, below, meth, c, cells, slots, n, Q⟩ := E
  obtain ⟨S, hR, hcX, hcY, -, ⟨g1, g2, g3⟩, -⟩ := M
  dsimp only [eP, eL, eE, eR, eS, eM, eA, eB, eT, eC, eX, eY, eN, eQ] at *
  subst hR
  intro H locs ls hI hl
  obtain ⟨⟨hK2, hP2, hD2⟩, ⟨hK, hP, hD⟩, hS⟩ := hI
  have hA : ∀ q : Nat, mA gm q → s.heap.size ≤ q := fun q ⟨k, hk, e⟩ => by rw [e]; exact g2 k hk
  have hroom : (rmk d').frames + 1 ≤ room_1.frames ∧ 8 + (maxL + 11) + (rmk d').locals ≤ room_1.locals := by
    show d' + 1 ≤ 8 ∧ 8 + (maxL + 11) + 30 * d' ≤ 280
    omega
  refine va_callv (va_runV (As := As) (rest := rest) S.1 (hM l) (cwV As.length S.1.2.2.2.2 hG rfl rfl rfl hd hroom) ⟨fun a U g' mk q => ⟨q.1, q.2.1, va_K.moved (u := U) (U := U.calling g' mk a) (Vm.Alike.refl U.vm) q.2.2.1, q.2.2.2⟩, va_recv hK hP (ci := 1) (q0 := 0) rfl rfl, fun U hU hW => ⟨rfl, by rw [hU]; exact hP, va_K.moved hW.alike hK, hD⟩⟩ rfl rfl hl.1 hst (lv_room hW) dg ⟨hcX, hcY⟩) hS (fun q _ h => hA q h) hA (fun u t H1 locs1 ht hvm hp hB hz hk hS1 => ?_)
  obtain ⟨hP1, hK1, hD1⟩ := hB
  rw [ht] at hP1
  refine kk u hp H1 locs1 ls ⟨⟨hK2, hP2.kept (fun k q h => ?_), hD2⟩, ⟨va_K.moved hvm.symm hK1, hP1, hD1⟩, hS1⟩ hl
  exact hk q.1 ((hP2 k q h).lt) (fun ⟨i, hi, e⟩ => by
    obtain ⟨j, hj, e2⟩ := hD2.2 k q h
    exact g3 j i hj hi (e2.symm.trans e))
end LAW
end
section
/-! the law: its loop, its start -/
set_option maxRecDepth 100000
theorem lt4 {i L : Nat} (hi : i ≤ 300) (hL : L ≤ 300) : (nI L - nI 4 < nI i) ↔ L < i + 4 := by
  rw [Int32.lt_iff_toInt_lt, pk_sub_toInt (a := L) (b := 4) (by omega) (by decide), nI_toInt (n := i) (by omega)]
  omega
set_option maxHeartbeats 40000000 in
theorem law_loop {E : EV} {gx gm : XA} {b L : Nat} {xv : Nat → Int32} (M : LM E gx gm b L xv) (hL256 : L ≤ 256) : ∀ n i (σ μ : XS), i ≤ L → L < i + 4 * n → INV σ μ → Az E (LI gx gm (eS E) σ μ) [(0, .ref b), (1, .ref (xa gx 11)), (2, .ref (xa gm 7)), (3, .int (nI (i)))] 18 [] := by
  intro n
  induction n with
  | zero =>
    intro i σ μ hi hn hV
    omega
  | succ n ih =>
    intro i σ μ hi hn hV
    obtain ⟨w, v, m, c0, k, hI, hL⟩ := hV
    have hk4 := hL.1.1
    have hk := hL.1.2.1
    have hkm := hL.1.2.2.1
    have hs : ∀ e, e < 8 → w e ≤ 4 ∧ μ 3 e = nI (w e) := fun e he => ⟨hI.w4 he, (hL.2.2 e he).1⟩
    refine z_iload_n M.1 3 dL_law_18 rfl ?_
    refine z_aload_n M.1 0 dL_law_19 rfl ?_
    refine l_slen M dL_law_20 ?_
    refine z_iconst M.1 (nI 4) dL_law_21 (by decide) ?_
    refine z_isub M.1 dL_law_22 ?_
    refine z_icmp_gt M.1 413 dL_law_23 (by decide) (fun h23 => ?_) (fun h23 => ?_)
    · refine z_iconst M.1 1 dL_law_413 (by decide) ?_
      exact l_ret M dL_law_414
    · have hi4 : i + 4 ≤ L := Nat.le_of_not_lt (fun q => h23 ((lt4 (by omega) (by omega)).mpr q))
      refine z_aload_n M.1 0 dL_law_26 rfl ?_
      refine z_iload_n M.1 3 dL_law_27 rfl ?_
      refine l_sld M dL_law_28 (by omega) (by omega) ?_
      refine z_bipush M.1 (nI 15) dL_law_29 (by decide) ?_
      refine z_iand M.1 dL_law_31 ?_
      obtain ⟨t, ht, et⟩ := pk_andE (xv i) (m := nI 15) 4 (by decide)
      refine z_top (nI t) et ?_
      rcases (show t = 0 ∨ t = 1 ∨ t = 2 ∨ t = 3 ∨ t = 4 ∨ t = 5 ∨ t = 6 ∨ t = 7 ∨ t = 8 ∨ t = 9 ∨ t = 10 ∨ t = 11 ∨ t = 12 ∨ 13 ≤ t by omega) with rfl | rfl | rfl | rfl | rfl | rfl | rfl | rfl | rfl | rfl | rfl | rfl | rfl | h13
      · refine z_tab M.1 68 100 dL_law_32 (by decide) (by decide) (by decide +kernel) (by decide) ?_
        refine z_aload_n M.1 1 dL_law_100 rfl ?_
        refine z_aload_n M.1 0 dL_law_101 rfl ?_
        refine z_iload_n M.1 3 dL_law_102 rfl ?_
        refine z_iconst M.1 (nI 1) dL_law_103 (by decide) ?_
        refine z_iaddN M.1 dL_law_104 ?_
        refine l_sld M dL_law_105 (by omega) (by omega) ?_
        refine l_xi M (fun l => c_draft l gx σ k (xv (i + 1)) hk4 hk) (lw_V q65 q66 q67 q19 q68) (show yX0_draft.cls = RX0 ∧ yX0_draft.cls ≠ "java/lang/invoke/MethodHandle" ∧ yX0_draft.cls ≠ "java/lang/invoke/VarHandle" ∧ (parseMethodDescriptor yX0_draft.desc).map (fun d => d.parameters.length) = some 1 from by decide +kernel) (by decide) (by decide) rfl (Nat.le_of_ble_eq_true rfl) dL_law_106 (fun r1 σ1 hx1 => ?_)
        refine z_aload_n M.1 2 dL_law_109 rfl ?_
        refine z_aload_n M.1 0 dL_law_110 rfl ?_
        refine z_iload_n M.1 3 dL_law_111 rfl ?_
        refine z_iconst M.1 (nI 1) dL_law_112 (by decide) ?_
        refine z_iaddN M.1 dL_law_113 ?_
        refine l_sld M dL_law_114 (by omega) (by omega) ?_
        refine l_mi M (fun l => n_draft l gm μ (xv (i + 1)) k hk4 hkm) (lw_V q210 q211 q212 q20 q213) (show yX1_draft.cls = RX1 ∧ yX1_draft.cls ≠ "java/lang/invoke/MethodHandle" ∧ yX1_draft.cls ≠ "java/lang/invoke/VarHandle" ∧ (parseMethodDescriptor yX1_draft.desc).map (fun d => d.parameters.length) = some 1 from by decide +kernel) (by decide) (by decide) rfl (Nat.le_of_ble_eq_true rfl) dL_law_115 (fun r2 μ1 hm1 => ?_)
        refine z_icmp_eq M.1 407 dL_law_118 (by decide) (fun h118 => ?_) (fun h118 => absurd h118 (not_not_intro (J_draft hI hL hx1 hm1).1))
        refine z_iinc M.1 M.2.2.2.2.1 [(0, .ref b), (1, .ref (xa gx 11)), (2, .ref (xa gm 7)), (3, .int (nI (i + 4)))] 3 [1, 2, 3, 0] (nI (i + 4)) dL_law_407 rfl (nI_add i 4) (by decide) rfl ?_
        refine z_goto M.1 18 dL_law_410 (by decide) ?_
        exact ih (i + 4) _ _ (by omega) (by omega) (J_draft hI hL hx1 hm1).2
      · refine z_tab M.1 91 123 dL_law_32 (by decide) (by decide) (by decide +kernel) (by decide) ?_
        refine z_aload_n M.1 1 dL_law_123 rfl ?_
        refine l_xv M (fun l => c_scrap l gx σ ) (lw_V q69 q70 q71 q19 q72) (show yX0_scrap.cls = RX0 ∧ yX0_scrap.cls ≠ "java/lang/invoke/MethodHandle" ∧ yX0_scrap.cls ≠ "java/lang/invoke/VarHandle" ∧ (parseMethodDescriptor yX0_scrap.desc).map (fun d => d.parameters.length) = some 0 from by decide +kernel) (by decide) (by decide) rfl (Nat.le_of_ble_eq_true rfl) dL_law_124 (fun σ1 hx1 => ?_)
        refine z_aload_n M.1 2 dL_law_127 rfl ?_
        refine l_mv M (fun l => n_scrap l gm μ ) (lw_V q214 q215 q216 q20 q217) (show yX1_scrap.cls = RX1 ∧ yX1_scrap.cls ≠ "java/lang/invoke/MethodHandle" ∧ yX1_scrap.cls ≠ "java/lang/invoke/VarHandle" ∧ (parseMethodDescriptor yX1_scrap.desc).map (fun d => d.parameters.length) = some 0 from by decide +kernel) (by decide) (by decide) rfl (Nat.le_of_ble_eq_true rfl) dL_law_128 (fun μ1 hm1 => ?_)
        refine z_goto M.1 407 dL_law_131 (by decide) ?_
        refine z_iinc M.1 M.2.2.2.2.1 [(0, .ref b), (1, .ref (xa gx 11)), (2, .ref (xa gm 7)), (3, .int (nI (i + 4)))] 3 [1, 2, 3, 0] (nI (i + 4)) dL_law_407 rfl (nI_add i 4) (by decide) rfl ?_
        refine z_goto M.1 18 dL_law_410 (by decide) ?_
        exact ih (i + 4) _ _ (by omega) (by omega) (J_scrap hI hL hx1 hm1)
      · refine z_tab M.1 102 134 dL_law_32 (by decide) (by decide) (by decide +kernel) (by decide) ?_
        refine z_aload_n M.1 1 dL_law_134 rfl ?_
        refine z_aload_n M.1 0 dL_law_135 rfl ?_
        refine z_iload_n M.1 3 dL_law_136 rfl ?_
        refine z_iconst M.1 (nI 1) dL_law_137 (by decide) ?_
        refine z_iaddN M.1 dL_law_138 ?_
        refine l_sld M dL_law_139 (by omega) (by omega) ?_
        refine l_xi M (fun l => c_put l gx σ (xv (i + 1)) k hk4 hk w v m c0 hI) (lw_V q73 q74 q75 q19 q76) (show yX0_put.cls = RX0 ∧ yX0_put.cls ≠ "java/lang/invoke/MethodHandle" ∧ yX0_put.cls ≠ "java/lang/invoke/VarHandle" ∧ (parseMethodDescriptor yX0_put.desc).map (fun d => d.parameters.length) = some 1 from by decide +kernel) (by decide) (by decide) rfl (Nat.le_of_ble_eq_true rfl) dL_law_140 (fun r1 σ1 hx1 => ?_)
        refine z_aload_n M.1 2 dL_law_143 rfl ?_
        refine z_aload_n M.1 0 dL_law_144 rfl ?_
        refine z_iload_n M.1 3 dL_law_145 rfl ?_
        refine z_iconst M.1 (nI 1) dL_law_146 (by decide) ?_
        refine z_iaddN M.1 dL_law_147 ?_
        refine l_sld M dL_law_148 (by omega) (by omega) ?_
        refine l_mi M (fun l => n_put l gm μ (xv (i + 1)) k hk4 hkm) (lw_V q218 q219 q220 q20 q221) (show yX1_put.cls = RX1 ∧ yX1_put.cls ≠ "java/lang/invoke/MethodHandle" ∧ yX1_put.cls ≠ "java/lang/invoke/VarHandle" ∧ (parseMethodDescriptor yX1_put.desc).map (fun d => d.parameters.length) = some 1 from by decide +kernel) (by decide) (by decide) rfl (Nat.le_of_ble_eq_true rfl) dL_law_149 (fun r2 μ1 hm1 => ?_)
        refine z_icmp_eq M.1 407 dL_law_152 (by decide) (fun h152 => ?_) (fun h152 => absurd h152 (not_not_intro (J_put hI hL hx1 hm1).1))
        refine z_iinc M.1 M.2.2.2.2.1 [(0, .ref b), (1, .ref (xa gx 11)), (2, .ref (xa gm 7)), (3, .int (nI (i + 4)))] 3 [1, 2, 3, 0] (nI (i + 4)) dL_law_407 rfl (nI_add i 4) (by decide) rfl ?_
        refine z_goto M.1 18 dL_law_410 (by decide) ?_
        exact ih (i + 4) _ _ (by omega) (by omega) (J_put hI hL hx1 hm1).2
      · refine z_tab M.1 125 157 dL_law_32 (by decide) (by decide) (by decide +kernel) (by decide) ?_
        refine z_aload_n M.1 1 dL_law_157 rfl ?_
        refine z_aload_n M.1 0 dL_law_158 rfl ?_
        refine z_iload_n M.1 3 dL_law_159 rfl ?_
        refine z_iconst M.1 (nI 1) dL_law_160 (by decide) ?_
        refine z_iaddN M.1 dL_law_161 ?_
        refine l_sld M dL_law_162 (by omega) (by omega) ?_
        refine l_xi M (fun l => c_delete l gx σ (xv (i + 1)) w v m c0 hI) (lw_V q110 q111 q112 q19 q113) (show yX0_delete.cls = RX0 ∧ yX0_delete.cls ≠ "java/lang/invoke/MethodHandle" ∧ yX0_delete.cls ≠ "java/lang/invoke/VarHandle" ∧ (parseMethodDescriptor yX0_delete.desc).map (fun d => d.parameters.length) = some 1 from by decide +kernel) (by decide) (by decide) rfl (Nat.le_of_ble_eq_true rfl) dL_law_163 (fun r1 σ1 hx1 => ?_)
        refine z_aload_n M.1 2 dL_law_166 rfl ?_
        refine z_aload_n M.1 0 dL_law_167 rfl ?_
        refine z_iload_n M.1 3 dL_law_168 rfl ?_
        refine z_iconst M.1 (nI 1) dL_law_169 (by decide) ?_
        refine z_iaddN M.1 dL_law_170 ?_
        refine l_sld M dL_law_171 (by omega) (by omega) ?_
        refine l_mi M (fun l => n_delete l gm μ (xv (i + 1)) w hs) (lw_V q226 q227 q228 q20 q229) (show yX1_delete.cls = RX1 ∧ yX1_delete.cls ≠ "java/lang/invoke/MethodHandle" ∧ yX1_delete.cls ≠ "java/lang/invoke/VarHandle" ∧ (parseMethodDescriptor yX1_delete.desc).map (fun d => d.parameters.length) = some 1 from by decide +kernel) (by decide) (by decide) rfl (Nat.le_of_ble_eq_true rfl) dL_law_172 (fun r2 μ1 hm1 => ?_)
        refine z_icmp_eq M.1 407 dL_law_175 (by decide) (fun h175 => ?_) (fun h175 => absurd h175 (not_not_intro (J_delete hI hL hx1 hm1).1))
        refine z_iinc M.1 M.2.2.2.2.1 [(0, .ref b), (1, .ref (xa gx 11)), (2, .ref (xa gm 7)), (3, .int (nI (i + 4)))] 3 [1, 2, 3, 0] (nI (i + 4)) dL_law_407 rfl (nI_add i 4) (by decide) rfl ?_
        refine z_goto M.1 18 dL_law_410 (by decide) ?_
        exact ih (i + 4) _ _ (by omega) (by omega) (J_delete hI hL hx1 hm1).2
      · refine z_tab M.1 148 180 dL_law_32 (by decide) (by decide) (by decide +kernel) (by decide) ?_
        refine z_aload_n M.1 1 dL_law_180 rfl ?_
        refine z_aload_n M.1 0 dL_law_181 rfl ?_
        refine z_iload_n M.1 3 dL_law_182 rfl ?_
        refine z_iconst M.1 (nI 1) dL_law_183 (by decide) ?_
        refine z_iaddN M.1 dL_law_184 ?_
        refine l_sld M dL_law_185 (by omega) (by omega) ?_
        refine l_xi M (fun l => c_size l gx σ (xv (i + 1)) w v m c0 hI) (lw_V q114 q115 q116 q19 q117) (show yX0_size.cls = RX0 ∧ yX0_size.cls ≠ "java/lang/invoke/MethodHandle" ∧ yX0_size.cls ≠ "java/lang/invoke/VarHandle" ∧ (parseMethodDescriptor yX0_size.desc).map (fun d => d.parameters.length) = some 1 from by decide +kernel) (by decide) (by decide) rfl (Nat.le_of_ble_eq_true rfl) dL_law_186 (fun r1 σ1 hx1 => ?_)
        refine z_aload_n M.1 2 dL_law_189 rfl ?_
        refine z_aload_n M.1 0 dL_law_190 rfl ?_
        refine z_iload_n M.1 3 dL_law_191 rfl ?_
        refine z_iconst M.1 (nI 1) dL_law_192 (by decide) ?_
        refine z_iaddN M.1 dL_law_193 ?_
        refine l_sld M dL_law_194 (by omega) (by omega) ?_
        refine l_mi M (fun l => n_size l gm μ (xv (i + 1)) w hs) (lw_V q230 q231 q232 q20 q233) (show yX1_size.cls = RX1 ∧ yX1_size.cls ≠ "java/lang/invoke/MethodHandle" ∧ yX1_size.cls ≠ "java/lang/invoke/VarHandle" ∧ (parseMethodDescriptor yX1_size.desc).map (fun d => d.parameters.length) = some 1 from by decide +kernel) (by decide) (by decide) rfl (Nat.le_of_ble_eq_true rfl) dL_law_195 (fun r2 μ1 hm1 => ?_)
        refine z_icmp_eq M.1 407 dL_law_198 (by decide) (fun h198 => ?_) (fun h198 => absurd h198 (not_not_intro (J_size hI hL hx1 hm1).1))
        refine z_iinc M.1 M.2.2.2.2.1 [(0, .ref b), (1, .ref (xa gx 11)), (2, .ref (xa gm 7)), (3, .int (nI (i + 4)))] 3 [1, 2, 3, 0] (nI (i + 4)) dL_law_407 rfl (nI_add i 4) (by decide) rfl ?_
        refine z_goto M.1 18 dL_law_410 (by decide) ?_
        exact ih (i + 4) _ _ (by omega) (by omega) (J_size hI hL hx1 hm1).2
      · refine z_tab M.1 171 203 dL_law_32 (by decide) (by decide) (by decide +kernel) (by decide) ?_
        refine z_aload_n M.1 1 dL_law_203 rfl ?_
        refine z_aload_n M.1 0 dL_law_204 rfl ?_
        refine z_iload_n M.1 3 dL_law_205 rfl ?_
        refine z_iconst M.1 (nI 1) dL_law_206 (by decide) ?_
        refine z_iaddN M.1 dL_law_207 ?_
        refine l_sld M dL_law_208 (by omega) (by omega) ?_
        refine z_aload_n M.1 0 dL_law_209 rfl ?_
        refine z_iload_n M.1 3 dL_law_210 rfl ?_
        refine z_iconst M.1 (nI 2) dL_law_211 (by decide) ?_
        refine z_iaddN M.1 dL_law_212 ?_
        refine l_sld M dL_law_213 (by omega) (by omega) ?_
        refine l_xi M (fun l => c_read l gx σ (xv (i + 1)) (xv (i + 2)) w v m c0 hI) (lw_V q118 q119 q120 q19 q121) (show yX0_read.cls = RX0 ∧ yX0_read.cls ≠ "java/lang/invoke/MethodHandle" ∧ yX0_read.cls ≠ "java/lang/invoke/VarHandle" ∧ (parseMethodDescriptor yX0_read.desc).map (fun d => d.parameters.length) = some 2 from by decide +kernel) (by decide) (by decide) rfl (Nat.le_of_ble_eq_true rfl) dL_law_214 (fun r1 σ1 hx1 => ?_)
        refine z_aload_n M.1 2 dL_law_217 rfl ?_
        refine z_aload_n M.1 0 dL_law_218 rfl ?_
        refine z_iload_n M.1 3 dL_law_219 rfl ?_
        refine z_iconst M.1 (nI 1) dL_law_220 (by decide) ?_
        refine z_iaddN M.1 dL_law_221 ?_
        refine l_sld M dL_law_222 (by omega) (by omega) ?_
        refine z_aload_n M.1 0 dL_law_223 rfl ?_
        refine z_iload_n M.1 3 dL_law_224 rfl ?_
        refine z_iconst M.1 (nI 2) dL_law_225 (by decide) ?_
        refine z_iaddN M.1 dL_law_226 ?_
        refine l_sld M dL_law_227 (by omega) (by omega) ?_
        refine l_mi M (fun l => n_read l gm μ (xv (i + 1)) (xv (i + 2)) w hs) (lw_V q234 q235 q236 q20 q237) (show yX1_read.cls = RX1 ∧ yX1_read.cls ≠ "java/lang/invoke/MethodHandle" ∧ yX1_read.cls ≠ "java/lang/invoke/VarHandle" ∧ (parseMethodDescriptor yX1_read.desc).map (fun d => d.parameters.length) = some 2 from by decide +kernel) (by decide) (by decide) rfl (Nat.le_of_ble_eq_true rfl) dL_law_228 (fun r2 μ1 hm1 => ?_)
        refine z_icmp_eq M.1 407 dL_law_231 (by decide) (fun h231 => ?_) (fun h231 => absurd h231 (not_not_intro (J_read hI hL hx1 hm1).1))
        refine z_iinc M.1 M.2.2.2.2.1 [(0, .ref b), (1, .ref (xa gx 11)), (2, .ref (xa gm 7)), (3, .int (nI (i + 4)))] 3 [1, 2, 3, 0] (nI (i + 4)) dL_law_407 rfl (nI_add i 4) (by decide) rfl ?_
        refine z_goto M.1 18 dL_law_410 (by decide) ?_
        exact ih (i + 4) _ _ (by omega) (by omega) (J_read hI hL hx1 hm1).2
      · refine z_tab M.1 204 236 dL_law_32 (by decide) (by decide) (by decide +kernel) (by decide) ?_
        refine z_aload_n M.1 1 dL_law_236 rfl ?_
        refine z_aload_n M.1 0 dL_law_237 rfl ?_
        refine z_iload_n M.1 3 dL_law_238 rfl ?_
        refine z_iconst M.1 (nI 1) dL_law_239 (by decide) ?_
        refine z_iaddN M.1 dL_law_240 ?_
        refine l_sld M dL_law_241 (by omega) (by omega) ?_
        refine z_aload_n M.1 0 dL_law_242 rfl ?_
        refine z_iload_n M.1 3 dL_law_243 rfl ?_
        refine z_iconst M.1 (nI 2) dL_law_244 (by decide) ?_
        refine z_iaddN M.1 dL_law_245 ?_
        refine l_sld M dL_law_246 (by omega) (by omega) ?_
        refine z_aload_n M.1 0 dL_law_247 rfl ?_
        refine z_iload_n M.1 3 dL_law_248 rfl ?_
        refine z_iconst M.1 (nI 3) dL_law_249 (by decide) ?_
        refine z_iaddN M.1 dL_law_250 ?_
        refine l_sld M dL_law_251 (by omega) (by omega) ?_
        refine l_xi M (fun l => c_damage l gx σ (xv (i + 1)) (xv (i + 2)) (xv (i + 3)) w v m c0 hI) (lw_V q138 q139 q140 q19 q141) (show yX0_damage.cls = RX0 ∧ yX0_damage.cls ≠ "java/lang/invoke/MethodHandle" ∧ yX0_damage.cls ≠ "java/lang/invoke/VarHandle" ∧ (parseMethodDescriptor yX0_damage.desc).map (fun d => d.parameters.length) = some 3 from by decide +kernel) (by decide) (by decide) rfl (Nat.le_of_ble_eq_true rfl) dL_law_252 (fun r1 σ1 hx1 => ?_)
        refine z_aload_n M.1 2 dL_law_255 rfl ?_
        refine z_aload_n M.1 0 dL_law_256 rfl ?_
        refine z_iload_n M.1 3 dL_law_257 rfl ?_
        refine z_iconst M.1 (nI 1) dL_law_258 (by decide) ?_
        refine z_iaddN M.1 dL_law_259 ?_
        refine l_sld M dL_law_260 (by omega) (by omega) ?_
        refine z_aload_n M.1 0 dL_law_261 rfl ?_
        refine z_iload_n M.1 3 dL_law_262 rfl ?_
        refine z_iconst M.1 (nI 2) dL_law_263 (by decide) ?_
        refine z_iaddN M.1 dL_law_264 ?_
        refine l_sld M dL_law_265 (by omega) (by omega) ?_
        refine z_aload_n M.1 0 dL_law_266 rfl ?_
        refine z_iload_n M.1 3 dL_law_267 rfl ?_
        refine z_iconst M.1 (nI 3) dL_law_268 (by decide) ?_
        refine z_iaddN M.1 dL_law_269 ?_
        refine l_sld M dL_law_270 (by omega) (by omega) ?_
        refine l_mi M (fun l => n_damage l gm μ (xv (i + 1)) (xv (i + 2)) (xv (i + 3)) w hs) (lw_V q238 q239 q240 q20 q241) (show yX1_damage.cls = RX1 ∧ yX1_damage.cls ≠ "java/lang/invoke/MethodHandle" ∧ yX1_damage.cls ≠ "java/lang/invoke/VarHandle" ∧ (parseMethodDescriptor yX1_damage.desc).map (fun d => d.parameters.length) = some 3 from by decide +kernel) (by decide) (by decide) rfl (Nat.le_of_ble_eq_true rfl) dL_law_271 (fun r2 μ1 hm1 => ?_)
        refine z_icmp_eq M.1 407 dL_law_274 (by decide) (fun h274 => ?_) (fun h274 => absurd h274 (not_not_intro (J_damage hI hL hx1 hm1).1))
        refine z_iinc M.1 M.2.2.2.2.1 [(0, .ref b), (1, .ref (xa gx 11)), (2, .ref (xa gm 7)), (3, .int (nI (i + 4)))] 3 [1, 2, 3, 0] (nI (i + 4)) dL_law_407 rfl (nI_add i 4) (by decide) rfl ?_
        refine z_goto M.1 18 dL_law_410 (by decide) ?_
        exact ih (i + 4) _ _ (by omega) (by omega) (J_damage hI hL hx1 hm1).2
      · refine z_tab M.1 247 279 dL_law_32 (by decide) (by decide) (by decide +kernel) (by decide) ?_
        refine z_aload_n M.1 1 dL_law_279 rfl ?_
        refine z_aload_n M.1 0 dL_law_280 rfl ?_
        refine z_iload_n M.1 3 dL_law_281 rfl ?_
        refine z_iconst M.1 (nI 1) dL_law_282 (by decide) ?_
        refine z_iaddN M.1 dL_law_283 ?_
        refine l_sld M dL_law_284 (by omega) (by omega) ?_
        refine l_xi M (fun l => c_damaged l gx σ (xv (i + 1)) w v m c0 hI) (lw_V q146 q147 q148 q19 q149) (show yX0_damaged.cls = RX0 ∧ yX0_damaged.cls ≠ "java/lang/invoke/MethodHandle" ∧ yX0_damaged.cls ≠ "java/lang/invoke/VarHandle" ∧ (parseMethodDescriptor yX0_damaged.desc).map (fun d => d.parameters.length) = some 1 from by decide +kernel) (by decide) (by decide) rfl (Nat.le_of_ble_eq_true rfl) dL_law_285 (fun r1 σ1 hx1 => ?_)
        refine z_aload_n M.1 2 dL_law_288 rfl ?_
        refine z_aload_n M.1 0 dL_law_289 rfl ?_
        refine z_iload_n M.1 3 dL_law_290 rfl ?_
        refine z_iconst M.1 (nI 1) dL_law_291 (by decide) ?_
        refine z_iaddN M.1 dL_law_292 ?_
        refine l_sld M dL_law_293 (by omega) (by omega) ?_
        refine l_mi M (fun l => n_damaged l gm μ (xv (i + 1)) w hs) (lw_V q242 q243 q244 q20 q245) (show yX1_damaged.cls = RX1 ∧ yX1_damaged.cls ≠ "java/lang/invoke/MethodHandle" ∧ yX1_damaged.cls ≠ "java/lang/invoke/VarHandle" ∧ (parseMethodDescriptor yX1_damaged.desc).map (fun d => d.parameters.length) = some 1 from by decide +kernel) (by decide) (by decide) rfl (Nat.le_of_ble_eq_true rfl) dL_law_294 (fun r2 μ1 hm1 => ?_)
        refine z_icmp_eq M.1 407 dL_law_297 (by decide) (fun h297 => ?_) (fun h297 => absurd h297 (not_not_intro (J_damaged hI hL hx1 hm1).1))
        refine z_iinc M.1 M.2.2.2.2.1 [(0, .ref b), (1, .ref (xa gx 11)), (2, .ref (xa gm 7)), (3, .int (nI (i + 4)))] 3 [1, 2, 3, 0] (nI (i + 4)) dL_law_407 rfl (nI_add i 4) (by decide) rfl ?_
        refine z_goto M.1 18 dL_law_410 (by decide) ?_
        exact ih (i + 4) _ _ (by omega) (by omega) (J_damaged hI hL hx1 hm1).2
      · refine z_tab M.1 270 302 dL_law_32 (by decide) (by decide) (by decide +kernel) (by decide) ?_
        refine z_aload_n M.1 1 dL_law_302 rfl ?_
        refine l_xi M (fun l => c_scrub l gx σ w v m c0 hI) (lw_V q150 q151 q152 q19 q153) (show yX0_scrub.cls = RX0 ∧ yX0_scrub.cls ≠ "java/lang/invoke/MethodHandle" ∧ yX0_scrub.cls ≠ "java/lang/invoke/VarHandle" ∧ (parseMethodDescriptor yX0_scrub.desc).map (fun d => d.parameters.length) = some 0 from by decide +kernel) (by decide) (by decide) rfl (Nat.le_of_ble_eq_true rfl) dL_law_303 (fun r1 σ1 hx1 => ?_)
        refine z_aload_n M.1 2 dL_law_306 rfl ?_
        refine l_mi M (fun l => n_scrub l gm μ ) (lw_V q246 q247 q248 q20 q249) (show yX1_scrub.cls = RX1 ∧ yX1_scrub.cls ≠ "java/lang/invoke/MethodHandle" ∧ yX1_scrub.cls ≠ "java/lang/invoke/VarHandle" ∧ (parseMethodDescriptor yX1_scrub.desc).map (fun d => d.parameters.length) = some 0 from by decide +kernel) (by decide) (by decide) rfl (Nat.le_of_ble_eq_true rfl) dL_law_307 (fun r2 μ1 hm1 => ?_)
        refine z_icmp_eq M.1 407 dL_law_310 (by decide) (fun h310 => ?_) (fun h310 => absurd h310 (not_not_intro (J_scrub hI hL hx1 hm1).1))
        refine z_iinc M.1 M.2.2.2.2.1 [(0, .ref b), (1, .ref (xa gx 11)), (2, .ref (xa gm 7)), (3, .int (nI (i + 4)))] 3 [1, 2, 3, 0] (nI (i + 4)) dL_law_407 rfl (nI_add i 4) (by decide) rfl ?_
        refine z_goto M.1 18 dL_law_410 (by decide) ?_
        exact ih (i + 4) _ _ (by omega) (by omega) (J_scrub hI hL hx1 hm1).2
      · refine z_tab M.1 283 315 dL_law_32 (by decide) (by decide) (by decide +kernel) (by decide) ?_
        refine z_aload_n M.1 1 dL_law_315 rfl ?_
        refine l_xi M (fun l => c_healed l gx σ ) (lw_V q158 q159 q160 q19 q161) (show yX0_healed.cls = RX0 ∧ yX0_healed.cls ≠ "java/lang/invoke/MethodHandle" ∧ yX0_healed.cls ≠ "java/lang/invoke/VarHandle" ∧ (parseMethodDescriptor yX0_healed.desc).map (fun d => d.parameters.length) = some 0 from by decide +kernel) (by decide) (by decide) rfl (Nat.le_of_ble_eq_true rfl) dL_law_316 (fun r1 σ1 hx1 => ?_)
        refine z_aload_n M.1 2 dL_law_319 rfl ?_
        refine l_mi M (fun l => n_healed l gm μ ) (lw_V q254 q255 q256 q20 q257) (show yX1_healed.cls = RX1 ∧ yX1_healed.cls ≠ "java/lang/invoke/MethodHandle" ∧ yX1_healed.cls ≠ "java/lang/invoke/VarHandle" ∧ (parseMethodDescriptor yX1_healed.desc).map (fun d => d.parameters.length) = some 0 from by decide +kernel) (by decide) (by decide) rfl (Nat.le_of_ble_eq_true rfl) dL_law_320 (fun r2 μ1 hm1 => ?_)
        refine z_icmp_eq M.1 407 dL_law_323 (by decide) (fun h323 => ?_) (fun h323 => absurd h323 (not_not_intro (J_healed hI hL hx1 hm1).1))
        refine z_iinc M.1 M.2.2.2.2.1 [(0, .ref b), (1, .ref (xa gx 11)), (2, .ref (xa gm 7)), (3, .int (nI (i + 4)))] 3 [1, 2, 3, 0] (nI (i + 4)) dL_law_407 rfl (nI_add i 4) (by decide) rfl ?_
        refine z_goto M.1 18 dL_law_410 (by decide) ?_
        exact ih (i + 4) _ _ (by omega) (by omega) (J_healed hI hL hx1 hm1).2
      · refine z_tab M.1 296 328 dL_law_32 (by decide) (by decide) (by decide +kernel) (by decide) ?_
        refine z_aload_n M.1 1 dL_law_328 rfl ?_
        refine z_aload_n M.1 0 dL_law_329 rfl ?_
        refine z_iload_n M.1 3 dL_law_330 rfl ?_
        refine z_iconst M.1 (nI 1) dL_law_331 (by decide) ?_
        refine z_iaddN M.1 dL_law_332 ?_
        refine l_sld M dL_law_333 (by omega) (by omega) ?_
        refine l_xi M (fun l => c_lose l gx σ (xv (i + 1)) w v m c0 hI) (lw_V q162 q163 q164 q19 q165) (show yX0_lose.cls = RX0 ∧ yX0_lose.cls ≠ "java/lang/invoke/MethodHandle" ∧ yX0_lose.cls ≠ "java/lang/invoke/VarHandle" ∧ (parseMethodDescriptor yX0_lose.desc).map (fun d => d.parameters.length) = some 1 from by decide +kernel) (by decide) (by decide) rfl (Nat.le_of_ble_eq_true rfl) dL_law_334 (fun r1 σ1 hx1 => ?_)
        refine z_aload_n M.1 2 dL_law_337 rfl ?_
        refine z_aload_n M.1 0 dL_law_338 rfl ?_
        refine z_iload_n M.1 3 dL_law_339 rfl ?_
        refine z_iconst M.1 (nI 1) dL_law_340 (by decide) ?_
        refine z_iaddN M.1 dL_law_341 ?_
        refine l_sld M dL_law_342 (by omega) (by omega) ?_
        refine l_mi M (fun l => n_lose l gm μ (xv (i + 1))) (lw_V q258 q259 q260 q20 q261) (show yX1_lose.cls = RX1 ∧ yX1_lose.cls ≠ "java/lang/invoke/MethodHandle" ∧ yX1_lose.cls ≠ "java/lang/invoke/VarHandle" ∧ (parseMethodDescriptor yX1_lose.desc).map (fun d => d.parameters.length) = some 1 from by decide +kernel) (by decide) (by decide) rfl (Nat.le_of_ble_eq_true rfl) dL_law_343 (fun r2 μ1 hm1 => ?_)
        refine z_icmp_eq M.1 407 dL_law_346 (by decide) (fun h346 => ?_) (fun h346 => absurd h346 (not_not_intro (J_lose hI hL hx1 hm1).1))
        refine z_iinc M.1 M.2.2.2.2.1 [(0, .ref b), (1, .ref (xa gx 11)), (2, .ref (xa gm 7)), (3, .int (nI (i + 4)))] 3 [1, 2, 3, 0] (nI (i + 4)) dL_law_407 rfl (nI_add i 4) (by decide) rfl ?_
        refine z_goto M.1 18 dL_law_410 (by decide) ?_
        exact ih (i + 4) _ _ (by omega) (by omega) (J_lose hI hL hx1 hm1).2
      · refine z_tab M.1 319 351 dL_law_32 (by decide) (by decide) (by decide +kernel) (by decide) ?_
        refine z_aload_n M.1 1 dL_law_351 rfl ?_
        refine z_aload_n M.1 0 dL_law_352 rfl ?_
        refine z_iload_n M.1 3 dL_law_353 rfl ?_
        refine z_iconst M.1 (nI 1) dL_law_354 (by decide) ?_
        refine z_iaddN M.1 dL_law_355 ?_
        refine l_sld M dL_law_356 (by omega) (by omega) ?_
        refine z_aload_n M.1 0 dL_law_357 rfl ?_
        refine z_iload_n M.1 3 dL_law_358 rfl ?_
        refine z_iconst M.1 (nI 2) dL_law_359 (by decide) ?_
        refine z_iaddN M.1 dL_law_360 ?_
        refine l_sld M dL_law_361 (by omega) (by omega) ?_
        refine l_xi M (fun l => c_copy l gx σ (xv (i + 1)) (xv (i + 2)) w v m c0 hI) (lw_V q174 q175 q176 q19 q177) (show yX0_copy.cls = RX0 ∧ yX0_copy.cls ≠ "java/lang/invoke/MethodHandle" ∧ yX0_copy.cls ≠ "java/lang/invoke/VarHandle" ∧ (parseMethodDescriptor yX0_copy.desc).map (fun d => d.parameters.length) = some 2 from by decide +kernel) (by decide) (by decide) rfl (Nat.le_of_ble_eq_true rfl) dL_law_362 (fun r1 σ1 hx1 => ?_)
        refine z_aload_n M.1 2 dL_law_365 rfl ?_
        refine z_aload_n M.1 0 dL_law_366 rfl ?_
        refine z_iload_n M.1 3 dL_law_367 rfl ?_
        refine z_iconst M.1 (nI 1) dL_law_368 (by decide) ?_
        refine z_iaddN M.1 dL_law_369 ?_
        refine l_sld M dL_law_370 (by omega) (by omega) ?_
        refine z_aload_n M.1 0 dL_law_371 rfl ?_
        refine z_iload_n M.1 3 dL_law_372 rfl ?_
        refine z_iconst M.1 (nI 2) dL_law_373 (by decide) ?_
        refine z_iaddN M.1 dL_law_374 ?_
        refine l_sld M dL_law_375 (by omega) (by omega) ?_
        refine l_mi M (fun l => n_copy l gm μ (xv (i + 1)) (xv (i + 2)) w hs) (lw_V q262 q263 q264 q20 q265) (show yX1_copy.cls = RX1 ∧ yX1_copy.cls ≠ "java/lang/invoke/MethodHandle" ∧ yX1_copy.cls ≠ "java/lang/invoke/VarHandle" ∧ (parseMethodDescriptor yX1_copy.desc).map (fun d => d.parameters.length) = some 2 from by decide +kernel) (by decide) (by decide) rfl (Nat.le_of_ble_eq_true rfl) dL_law_376 (fun r2 μ1 hm1 => ?_)
        refine z_icmp_eq M.1 407 dL_law_379 (by decide) (fun h379 => ?_) (fun h379 => absurd h379 (not_not_intro (J_copy hI hL hx1 hm1).1))
        refine z_iinc M.1 M.2.2.2.2.1 [(0, .ref b), (1, .ref (xa gx 11)), (2, .ref (xa gm 7)), (3, .int (nI (i + 4)))] 3 [1, 2, 3, 0] (nI (i + 4)) dL_law_407 rfl (nI_add i 4) (by decide) rfl ?_
        refine z_goto M.1 18 dL_law_410 (by decide) ?_
        exact ih (i + 4) _ _ (by omega) (by omega) (J_copy hI hL hx1 hm1).2
      · refine z_tab M.1 352 384 dL_law_32 (by decide) (by decide) (by decide +kernel) (by decide) ?_
        refine z_aload_n M.1 1 dL_law_384 rfl ?_
        refine z_aload_n M.1 0 dL_law_385 rfl ?_
        refine z_iload_n M.1 3 dL_law_386 rfl ?_
        refine z_iconst M.1 (nI 1) dL_law_387 (by decide) ?_
        refine z_iaddN M.1 dL_law_388 ?_
        refine l_sld M dL_law_389 (by omega) (by omega) ?_
        refine l_xi M (fun l => c_digest l gx σ (xv (i + 1)) w v m c0 hI) (lw_V q178 q179 q180 q19 q181) (show yX0_digest.cls = RX0 ∧ yX0_digest.cls ≠ "java/lang/invoke/MethodHandle" ∧ yX0_digest.cls ≠ "java/lang/invoke/VarHandle" ∧ (parseMethodDescriptor yX0_digest.desc).map (fun d => d.parameters.length) = some 1 from by decide +kernel) (by decide) (by decide) rfl (Nat.le_of_ble_eq_true rfl) dL_law_390 (fun r1 σ1 hx1 => ?_)
        refine z_aload_n M.1 2 dL_law_393 rfl ?_
        refine z_aload_n M.1 0 dL_law_394 rfl ?_
        refine z_iload_n M.1 3 dL_law_395 rfl ?_
        refine z_iconst M.1 (nI 1) dL_law_396 (by decide) ?_
        refine z_iaddN M.1 dL_law_397 ?_
        refine l_sld M dL_law_398 (by omega) (by omega) ?_
        refine l_mi M (fun l => n_digest l gm μ (xv (i + 1)) w hs) (lw_V q266 q267 q268 q20 q269) (show yX1_digest.cls = RX1 ∧ yX1_digest.cls ≠ "java/lang/invoke/MethodHandle" ∧ yX1_digest.cls ≠ "java/lang/invoke/VarHandle" ∧ (parseMethodDescriptor yX1_digest.desc).map (fun d => d.parameters.length) = some 1 from by decide +kernel) (by decide) (by decide) rfl (Nat.le_of_ble_eq_true rfl) dL_law_399 (fun r2 μ1 hm1 => ?_)
        refine z_icmp_eq M.1 407 dL_law_402 (by decide) (fun h402 => ?_) (fun h402 => absurd h402 (not_not_intro (J_digest hI hL hx1 hm1).1))
        refine z_iinc M.1 M.2.2.2.2.1 [(0, .ref b), (1, .ref (xa gx 11)), (2, .ref (xa gm 7)), (3, .int (nI (i + 4)))] 3 [1, 2, 3, 0] (nI (i + 4)) dL_law_407 rfl (nI_add i 4) (by decide) rfl ?_
        refine z_goto M.1 18 dL_law_410 (by decide) ?_
        exact ih (i + 4) _ _ (by omega) (by omega) (J_digest hI hL hx1 hm1).2
      · refine z_tabO M.1 407 dL_law_32 (Or.inr (by rw [nI_toInt (by omega)]; omega)) (by decide) ?_
        refine z_iinc M.1 M.2.2.2.2.1 [(0, .ref b), (1, .ref (xa gx 11)), (2, .ref (xa gm 7)), (3, .int (nI (i + 4)))] 3 [1, 2, 3, 0] (nI (i + 4)) dL_law_407 rfl (nI_add i 4) (by decide) rfl ?_
        refine z_goto M.1 18 dL_law_410 (by decide) ?_
        exact ih (i + 4) _ _ (by omega) (by omega) ⟨w, v, m, c0, k, hI, hL⟩
end
section
/-! the law, from its entry -/
set_option maxRecDepth 100000
theorem at_x {g g2 : XA} {σ μ : XS} (h2 : xa g 2 = xa g 11) (h6 : xa g 6 = xa g 11) (h9 : xa g 9 = xa g 11) : ∀ k, k < 12 → ∃ (i : Nat) (e : va_E), i < 9 ∧ (xw g σ ++ mw g2 μ)[i]? = some (xa g k, e)
  | 0, _ => ⟨1, _, by decide, rfl⟩
  | 1, _ => ⟨2, _, by decide, rfl⟩
  | 2, _ => ⟨0, _, by decide, by rw [h2]; rfl⟩
  | 3, _ => ⟨3, _, by decide, rfl⟩
  | 4, _ => ⟨4, _, by decide, rfl⟩
  | 5, _ => ⟨5, _, by decide, rfl⟩
  | 6, _ => ⟨0, _, by decide, by rw [h6]; rfl⟩
  | 7, _ => ⟨6, _, by decide, rfl⟩
  | 8, _ => ⟨7, _, by decide, rfl⟩
  | 9, _ => ⟨0, _, by decide, by rw [h9]; rfl⟩
  | 10, _ => ⟨8, _, by decide, rfl⟩
  | 11, _ => ⟨0, _, by decide, rfl⟩
  | k + 12, h => absurd h (by omega)
theorem at_m {g g2 : XA} {σ μ : XS} (h1 : xa g2 1 = xa g2 7) (h6 : xa g2 6 = xa g2 7) : ∀ k, k < 8 → ∃ (i : Nat) (e : va_E), 9 ≤ i ∧ (xw g σ ++ mw g2 μ)[i]? = some (xa g2 k, e)
  | 0, _ => ⟨10, _, by decide, rfl⟩
  | 1, _ => ⟨9, _, by decide, by rw [h1]; rfl⟩
  | 2, _ => ⟨11, _, by decide, rfl⟩
  | 3, _ => ⟨12, _, by decide, rfl⟩
  | 4, _ => ⟨13, _, by decide, rfl⟩
  | 5, _ => ⟨14, _, by decide, rfl⟩
  | 6, _ => ⟨9, _, by decide, by rw [h6]; rfl⟩
  | 7, _ => ⟨9, _, by decide, rfl⟩
  | k + 8, h => absurd h (by omega)
set_option maxHeartbeats 8000000 in
/-- THE LAW, from its entry -/
theorem whole_start {p : Program} {e : Env} {s : State} {m : MethodId} {below : List Frame} {meth : Method} {c : Code} (l : Launch) {b L : Nat} {xs : Nat → Int32} (hL : L ≤ 256) (C0 : lw_At p s m meth c b L xs) : W p l e room_1 s m #[Value.ref b] below meth c s.heap [] 0 0 (lw_Z below #[Value.ref b] s) (entryFrame m ([Value.ref b] : List Value).toArray 4) := by
  obtain ⟨hx, hb, hr, hml, hown, hts0, hX, hbl, hlocks, hgv⟩ := id C0
  have hts : ∀ w ∈ lw_all, w.before #[Value.ref b] s = true := fun w h => hts0 w (lw_all_tbl h)
  have hA : ∀ q : Nat, s.heap.size ≤ q → (fun q : Nat => s.heap.size ≤ q) q := fun _ h => h
  obtain ⟨c0_, iS0, hKn0⟩ := u_known (C := RX0) (T := TX0) (N := 11) (n := 11) hts0 (fun w h => lw_all_tbl (in_X0 w h)) (hts _ q22)
  obtain ⟨c1_, iS1, hKn1⟩ := u_known (C := RX1) (T := TX1) (N := 7) (n := 7) hts0 (fun w h => lw_all_tbl (in_X1 w h)) (hts _ q183)
  obtain ⟨D, hKc⟩ : ∃ D : va_G, ∀ (k : Nat) (q : vw_C), vwCl[k]? = some q → u_Kn s q.1 q.2.1 q.2.2 (D.1 k) (D.2 k) := by
    refine ⟨(fun k => if k = 0 then c0_ else c1_, fun k => if k = 0 then iS0 else iS1), ?_⟩
    intro k q hq
    match k, hq with
    | 0, hq => cases hq; exact hKn0
    | 1, hq => cases hq; exact hKn1
    | k + 2, hq => simp [vwCl] at hq
  have hS : va_S (fun q : Nat => s.heap.size ≤ q) s.heap s.heap [] := va_S.rf
  have hK : va_K D vwCl [] s := ⟨hKc, fun k q h => by simp at h⟩
  have hP : va_P D vwCl [] s.heap := fun k q h => by simp at h
  have hD : va_D (fun q : Nat => s.heap.size ≤ q) [] := ⟨fun i j p q h => by simp at h, fun k q h => by simp at h⟩
  have hl := lv_entry ([.ref b]) (n := 4) (Nat.le_of_ble_eq_true rfl)
  rw [lg_entry_eq]
  generalize (lg_sl ([.ref b]) ++ List.replicate (4 - (lg_sl ([.ref b])).length) Slot.unset).toArray = ls at hl ⊢
  have hl : lv_has ls 4 [(0, .ref b)] := hl
  refine va_new (ci := 0) (fs := [.null, .null, .int 0, .null, .null, .null, .int 0, .null, .null, .int 0, .null]) (C := RX0) (T := TX0) (N := 11) hx hb hts in_X0 tyX0 tyX0_ok hown (hts _ q21) (hts _ q22) (hts _ q19) hK hP hD hS hA rfl (fun j hj => by rcases (show j = 0 ∨ j = 1 ∨ j = 2 ∨ j = 3 ∨ j = 4 ∨ j = 5 ∨ j = 6 ∨ j = 7 ∨ j = 8 ∨ j = 9 ∨ j = 10 by omega) with rfl | rfl | rfl | rfl | rfl | rfl | rfl | rfl | rfl | rfl | rfl <;> rfl) (Nat.le_of_ble_eq_true rfl) (Nat.le_of_ble_eq_true rfl) dL_law_0 (fun qx H hP hD hS => ?_)
  have hP : va_P D vwCl [(qx, .inr (0, [.null, .null, .int 0, .null, .null, .null, .int 0, .null, .null, .int 0, .null]))] H := hP
  have hD : va_D (fun q : Nat => s.heap.size ≤ q) [(qx, .inr (0, [.null, .null, .int 0, .null, .null, .null, .int 0, .null, .null, .int 0, .null]))] := hD
  refine W.widen (k := 1) (n := 11) (Nat.le_of_ble_eq_true rfl) (Nat.le_of_ble_eq_true rfl) ?_
  refine lv_dup hx hb dL_law_3 rfl ?_
  have hPc := hP.sub (ws' := [(qx, .inr (0, [.null, .null, .int 0, .null, .null, .null, .int 0, .null, .null, .int 0, .null]))]) [0] rfl
  have hDc := hD.sub (ws' := [(qx, .inr (0, [.null, .null, .int 0, .null, .null, .null, .int 0, .null, .null, .int 0, .null]))]) [0] (by decide) rfl
  have hKc := hK.sub (tys' := []) [] rfl
  have hFc := va_free (wc := [(qx, .inr (0, [.null, .null, .int 0, .null, .null, .null, .int 0, .null, .null, .int 0, .null]))]) hD hS hA [0] rfl
  refine va_callv (va_runI (As := []) (rest := [.ref qx]) ⟨hx, hb, hml, hown, hts⟩ (x_init l D qx H.size) (cwI 0 hts (lw_meth q25) rfl rfl rfl (hts _ q19) (hts _ q23) (hts _ q24) rfl (by decide +kernel) ⟨(Nat.le_of_ble_eq_true rfl), (Nat.le_of_ble_eq_true rfl)⟩) ⟨fun a U g mk q => by obtain ⟨q0, q1, qP, qK, qD⟩ := q; exact ⟨q0, q1, qP, va_K.moved (u := U) (U := U.calling g mk a) (Vm.Alike.refl U.vm) qK, qD⟩, fun U hU hW => ⟨rfl, by rw [hU], by rw [hU]; exact hPc, va_K.moved hW.alike hKc, hDc.weaken (fun _ _ _ _ => trivial)⟩⟩ rfl rfl hl.1 rfl (lv_room (Nat.le_of_ble_eq_true rfl)) dL_law_4 ⟨(Nat.le_of_ble_eq_true rfl), (Nat.le_of_ble_eq_true rfl)⟩) hS (fun q _ h => hFc q h) hFc (fun gx t H1 locs ht hvm hw hB hz1 hk1 hS => ?_)
  obtain ⟨ex, hx11, ⟨hx2, hx6, hx9⟩, hP1, hK1, hD1⟩ := hB
  rw [ht] at hP1
  have hK1 := va_K.moved hvm.symm hK1
  obtain ⟨hP, hD⟩ := va_join (wr := []) (w1 := xw gx z0) hP hD [0] [] rfl rfl (by decide) (by decide) hk1 hFc hP1 hD1
  have hK : va_K D vwCl (xt gx) s := hK1
  generalize H1 = H at hP hS ⊢
  have hP : va_P D vwCl (xw gx z0) H := hP
  have hD : va_D (fun q : Nat => s.heap.size ≤ q) (xw gx z0) := hD
  refine W.widen (k := 9) (n := 200) (Nat.le_of_ble_eq_true rfl) (Nat.le_of_ble_eq_true rfl) ?_
  refine lv_astore_n (lv' := [(1, .ref qx), (0, .ref b)]) hx hb dL_law_7 rfl hl (by decide) rfl (fun ls hl => ?_)
  refine va_new (ci := 1) (fs := [.null, .int 0, .null, .null, .null, .null, .int 0]) (C := RX1) (T := TX1) (N := 7) hx hb hts in_X1 tyX1 tyX1_ok hown (hts _ q182) (hts _ q183) (hts _ q20) hK hP hD hS hA rfl (fun j hj => by rcases (show j = 0 ∨ j = 1 ∨ j = 2 ∨ j = 3 ∨ j = 4 ∨ j = 5 ∨ j = 6 by omega) with rfl | rfl | rfl | rfl | rfl | rfl | rfl <;> rfl) (Nat.le_of_ble_eq_true rfl) (Nat.le_of_ble_eq_true rfl) dL_law_8 (fun qm H hP hD hS => ?_)
  refine W.widen (k := 10) (n := 207) (Nat.le_of_ble_eq_true rfl) (Nat.le_of_ble_eq_true rfl) ?_
  refine lv_dup hx hb dL_law_11 rfl ?_
  have hPc := hP.sub (ws' := [(qm, .inr (1, [.null, .int 0, .null, .null, .null, .null, .int 0]))]) [9] rfl
  have hDc := hD.sub (ws' := [(qm, .inr (1, [.null, .int 0, .null, .null, .null, .null, .int 0]))]) [9] (by decide) rfl
  have hKc := hK.sub (tys' := []) [] rfl
  have hFc := va_free (wc := [(qm, .inr (1, [.null, .int 0, .null, .null, .null, .null, .int 0]))]) hD hS hA [9] rfl
  refine va_callv (va_runI (As := []) (rest := [.ref qm]) ⟨hx, hb, hml, hown, hts⟩ (m_init l D qm H.size) (cwI 0 hts (lw_meth q186) rfl rfl rfl (hts _ q20) (hts _ q184) (hts _ q185) rfl (by decide +kernel) ⟨(Nat.le_of_ble_eq_true rfl), (Nat.le_of_ble_eq_true rfl)⟩) ⟨fun a U g mk q => by obtain ⟨q0, q1, qP, qK, qD⟩ := q; exact ⟨q0, q1, qP, va_K.moved (u := U) (U := U.calling g mk a) (Vm.Alike.refl U.vm) qK, qD⟩, fun U hU hW => ⟨rfl, by rw [hU], by rw [hU]; exact hPc, va_K.moved hW.alike hKc, hDc.weaken (fun _ _ _ _ => trivial)⟩⟩ rfl rfl hl.1 rfl (lv_room (Nat.le_of_ble_eq_true rfl)) dL_law_12 ⟨(Nat.le_of_ble_eq_true rfl), (Nat.le_of_ble_eq_true rfl)⟩) hS (fun q _ h => hFc q h) hFc (fun gm t H1 locs ht hvm hw hB hz1 hk1 hS => ?_)
  obtain ⟨em, hm7, ⟨hm1, hm6⟩, hP1, hK1, hD1⟩ := hB
  rw [ht] at hP1
  have hK1 := va_K.moved hvm.symm hK1
  obtain ⟨hP, hD⟩ := va_join (wr := xw gx z0) (w1 := mw gm z0) hP hD [9] [0, 1, 2, 3, 4, 5, 6, 7, 8] rfl rfl (by decide) (by decide) hk1 hFc hP1 hD1
  generalize H1 = H at hP hS ⊢
  refine W.widen (k := 15) (n := 267) (Nat.le_of_ble_eq_true rfl) (Nat.le_of_ble_eq_true rfl) ?_
  refine lv_astore_n (lv' := [(2, .ref qm), (1, .ref qx), (0, .ref b)]) hx hb dL_law_15 rfl hl (by decide) rfl (fun ls hl => ?_)
  refine lv_iconst (v := nI 0) hx hb dL_law_16 (by decide) ?_
  refine lv_istore_n (lv' := [(3, .int (nI 0)), (2, .ref qm), (1, .ref qx), (0, .ref b)]) hx hb dL_law_17 rfl hl (by decide) rfl (fun ls hl => ?_)
  have hl := lv_sub (l' := [(0, .ref b), (1, .ref qx), (2, .ref qm), (3, .int (nI 0))]) hl [3, 2, 1, 0] rfl
  have hax := at_x (g2 := gm) (σ := z0) (μ := z0) (hx2.trans hx11.symm) (hx6.trans hx11.symm) (hx9.trans hx11.symm)
  have ham := at_m (g := gx) (σ := z0) (μ := z0) (hm1.trans hm7.symm) (hm6.trans hm7.symm)
  have hLG : LG gx gm s.heap.size := by
    refine ⟨fun k hk => ?_, fun k hk => ?_, fun i j hi hj heq => ?_⟩
    · obtain ⟨i, e1, -, h⟩ := hax k hk
      exact hD.2 i _ h
    · obtain ⟨i, e1, -, h⟩ := ham k hk
      exact hD.2 i _ h
    · obtain ⟨a1, e1, ha1, h1⟩ := hax i hi
      obtain ⟨a2, e2, ha2, h2⟩ := ham j hj
      have := hD.1 a1 a2 _ _ h1 h2 heq
      omega
  have hLI : LI gx gm s z0 z0 H locs := by
    refine ⟨⟨by rw [ex]; exact hK, by rw [ex]; exact hP.sub [0, 1, 2, 3, 4, 5, 6, 7, 8] rfl, ?_⟩, ⟨by rw [em]; exact hK1, by rw [em]; exact hP.sub [9, 10, 11, 12, 13, 14] rfl, ?_⟩, hS⟩
    · exact (hD.sub [0, 1, 2, 3, 4, 5, 6, 7, 8] (by decide) rfl).weaken (fun k q h _ => xw_in k q h)
    · exact (hD.sub [9, 10, 11, 12, 13, 14] (by decide) rfl).weaken (fun k q h _ => mw_in k q h)
  have hE := law_loop (E := (p, l, e, room_1, s, m, #[Value.ref b], below, meth, c, 15, 267, 4, lw_Z below #[Value.ref b] s)) (gx := gx) (gm := gm) (b := b) (L := L) (xv := xs) ⟨⟨⟨hx, hb, hml, hown, hts⟩, hlocks⟩, rfl, (show (15 : Nat) ≤ 600000 by decide), (show (267 : Nat) ≤ 7290000 by decide), rfl, hLG, hX, hbl, hr, rfl, rfl⟩ hL (L + 1) 0 z0 z0 (Nat.zero_le L) (by omega) INV0
  rw [hx11, hm7] at hE
  exact hE H locs ls hLI hl
end
section
set_option maxRecDepth 100000
set_option maxHeartbeats 4000000 in
theorem lw_walk (l : Launch) (b : Addr) (xs : List Int32) : MetFree l x (headSpec (Jvm.Cond.code x code maxLocals ret :: tables_1) room_1) (lw_P b xs) (fun _ _ _ _ _ => True) lw_Q := by
  refine MetFree.of_bodyS (code := code) (maxLocals := maxLocals) (ret := ret) (by decide) ?_ ?_
  · intro args s m h hn
    obtain ⟨meth, c, h1, h2, h3, h4, h5, h6, -, -⟩ := Cond.code_spec hn (atoms_spec (ws := Jvm.Cond.code x code maxLocals ret :: tables_1) h _ List.mem_cons_self)
    exact ⟨meth, c, h1, h2, h3, h4, h5, h6⟩
  · intro p e s m args below meth c s₁ B hml0 hP _
    obtain ⟨rfl, hx, hbd, hgv⟩ := hP
    obtain ⟨scr, harrAt, hlist, hof, hsmall⟩ := hx
    obtain ⟨hcb, hkn, -, -⟩ := State.arrayAt?_spec harrAt
    have hown : s.vm.findClass R_law = some m.cls := findClass_of_methodNamed B.named
    have hts0 : ∀ c ∈ (Jvm.Cond.code x code maxLocals ret :: tables_1), c.before #[Value.ref b] s = true := atoms_spec (ws := Jvm.Cond.code x code maxLocals ret :: tables_1) B.pre
    have hts : ∀ w ∈ lw_tbl, w.before #[Value.ref b] s = true := k2_hts_sels lw_privs (fun w hw => hts0 w (List.mem_cons_of_mem _ hw)) lw_privs_ok
    have hml : c.maxLocals = 4 := B.maxLocals_eq (hts0 _ List.mem_cons_self)
    have X₀ : Stand p l e room_1 s m #[Value.ref b] below meth c s₁ [] 0 0 := Stand.of_body B
    have hh0 : s₁.heap = s.heap := by rw [B.state]; rfl
    have hsz : scr.slots.size = xs.length := by rw [← Array.length_toList, hlist, List.length_map]
    have hval : ∀ j : Nat, j < xs.length → scr.slots[j]? = some (.int (xs.getD j 0)) := fun j hj => by
      rw [← Array.getElem?_toList, hlist]
      simp [hj]
    have hbl : b < s.heap.size := (Array.getElem?_eq_some_iff.mp hcb).1
    have hX : va_X b xs.length (fun j => xs.getD j 0) s s.heap := ⟨scr, hcb, hof, hkn, hsz, hval⟩
    have K : W p l e room_1 s m #[Value.ref b] below meth c s₁.heap [] 0 0 (lw_Z below #[Value.ref b] s) (entryFrame m ([Value.ref b] : List Value).toArray 4) := by
      rw [hh0]
      exact whole_start l hbd ⟨B.exec, B.bytes, B.returns, hml, hown, hts, hX, hbl, B.notSynchronized, hgv⟩
    obtain ⟨t, a1, o, b1, b2, b3⟩ := K s₁ rfl X₀
    exact ⟨t, o, a1, b1, b2, b3⟩
theorem lw_pre_spec {args : Array Value} {s : State} (h : (Jvm.Cond.and given_1 narrow_1).before args s = true) (hr : rest_1_c.before args s = true) : ∃ (b : Addr) (xs : List Int32), lw_P b xs args s := by
  have hs := flat_of_before _ h
  have hq := flat_of_before _ hr
  have hc : (Cond.count 1).before args s = true := hs _ (by decide +kernel)
  have harr : (Cond.arrayOf (.arg 0) .int).before args s = true := hs _ (by decide +kernel)
  have hle : (Cond.le (.length (.arg 0)) (.int 256)).before args s = true := hs _ (by decide +kernel)
  have hlen : (Cond.isInt (.length (.arg 0))).before args s = true := hq _ (by decide +kernel)
  have hall : (Cond.all (.arg 0) (.isInt (.elem (.arg 0) (.index 0)))).before args s = true := hq _ (by decide +kernel)
  obtain ⟨b, xs, hb, hx⟩ := State.ints_of_pre rfl harr hlen hall
  have hsm : xs.length < 2 ^ 31 := hx.choose_spec.2.2.2
  have hev : (Term.length (.arg 0)).eval args s none [] s = some (.int xs.length.toInt32) := hx.length_eval hb
  have hv := Cond.le_ints hev (show (Term.int 256).eval args s none [] s = some (.int 256) from rfl)
  have hd : xs.length.toInt32 ≤ 256 := by
    simpa [Cond.before, Cond.holds, hv] using hle
  have hN : xs.length ≤ 256 := (Int32.ofNat_le_ofNat hsm (by decide)).mp (show Int32.ofNat xs.length ≤ Int32.ofNat 256 from hd)
  exact ⟨b, xs, Cond.one_arg hc (show args[0]? = some (.ref b) from hb), hx, hN, h⟩
theorem lw_comes (l : Launch) : Comes l x (Jvm.Cond.code x code maxLocals ret :: tables_1) room_1 (fun tb e args s => Calls_1 tb e args s ∧ rest_1 tb e args s ∧ Pre_1 tb e args s)
    (fun _ _ args s o t => lw_Q args s o t) := by
  intro p e ha hc hk s m args below hf hfit hheap happ hpre
  obtain ⟨b, xs, hP⟩ := lw_pre_spec hpre.2.2 hpre.2.1
  obtain ⟨k, o, h1, h2, h3, hQ⟩ := lw_walk l b xs p e ha hc hk s m args below hf ((Spec.applies_iff_loose hf).mp happ).1 hP trivial
  exact ⟨k, o, h1, h2, h3, hQ⟩
theorem lw_frame {s t : State} {o : Outcome} {args : Array Value} (h : Framed s o t [] 600000 7290000) :
    Framed s o t (fieldLocs frame_1_writes args s ++ arrayLocs frame_1_arrays args s ++ staticLocs frame_1_statics s) 600000 7290000 := h
theorem lw_limb (L : Cond) (hL : ∀ (args : Array Value) (s t : State), L.after args s (.returned (some (.int 1))) t = true) :
    ArmFor flags0 classFile x code maxLocals ret World_1 tables_1 room_1 Calls_1 rest_1 Pre_1
      (fun tb e a s o t => postC L tb e a s o t ∧ Framed s o t (fieldLocs frame_1_writes a s ++ arrayLocs frame_1_arrays a s ++ staticLocs frame_1_statics s) 600000 7290000) := by
  intro l _ _ _ p e ha hc hk s m args below hf hfit hheap happ hpre
  obtain ⟨k, o, h1, h2, h3, rfl, hF⟩ := lw_comes l p e ha hc hk s m args below hf hfit hheap happ hpre
  exact ⟨k, _, h1, h2, h3, hL args s _, lw_frame hF⟩
theorem i_vc : Claimed_1_1 ∧ Claimed_1_2 := ⟨lw_limb limb_1_1 (fun args s t => by simp [limb_1_1, Cond.after, Cond.holds, Cond.value]), lw_limb limb_1_2 (fun args s t => Cond.after_iff.mpr (by
  first | (rw [show limb_1_2 = Cond.eq .result (.int 1) from rfl, Cond.eq_ints (x := 1) (y := 1) rfl rfl]; simp; done) | (simp [limb_1_2, Cond.value, Term.eval]; done)))⟩
end
