section
section TBL
-- ===== PART A: goes FIRST, ahead of the names: the tables' words, and 'selects' of the private methods out of them =====
/-- a private method of a class that the tables say can be made, by its rows of tables_1 -/
def lw_okq (q : MethodName × Nat) : Prop := (q.1.cls ≠ "java/lang/invoke/MethodHandle" ∧ q.1.cls ≠ "java/lang/invoke/VarHandle") ∧ Cond.instantiable q.1.cls q.2 ∈ tables_1 ∧ Cond.privateMethod q.1 ∈ tables_1 ∧ Cond.instanceMethod q.1 ∈ tables_1
set_option maxRecDepth 100000
theorem lw_t1 {w : Cond} (h : w ∈ tables_1_1) : w ∈ tables_1 := List.mem_append_left _ h
theorem lw_t2 {w : Cond} (h : w ∈ tables_1_2) : w ∈ tables_1 := List.mem_append_right _ h
theorem lw_p0 : lw_okq (⟨"BestPairs", "has", "(II)Z"⟩, 14) := ⟨⟨by decide +kernel, by decide +kernel⟩, lw_t1 (List.mem_of_getElem? (i := 4) rfl), lw_t1 (List.mem_of_getElem? (i := 65) rfl), lw_t1 (List.mem_of_getElem? (i := 66) rfl)⟩
theorem lw_p1 : lw_okq (⟨"BestPairs", "changed", "()V"⟩, 14) := ⟨⟨by decide +kernel, by decide +kernel⟩, lw_t1 (List.mem_of_getElem? (i := 4) rfl), lw_t1 (List.mem_of_getElem? (i := 69) rfl), lw_t1 (List.mem_of_getElem? (i := 70) rfl)⟩
theorem lw_p2 : lw_okq (⟨"BestPairs", "reach", "(I)Z"⟩, 14) := ⟨⟨by decide +kernel, by decide +kernel⟩, lw_t1 (List.mem_of_getElem? (i := 4) rfl), lw_t1 (List.mem_of_getElem? (i := 97) rfl), lw_t1 (List.mem_of_getElem? (i := 98) rfl)⟩
theorem lw_p3 : lw_okq (⟨"BestPairs", "begin", "()V"⟩, 14) := ⟨⟨by decide +kernel, by decide +kernel⟩, lw_t1 (List.mem_of_getElem? (i := 4) rfl), lw_t1 (List.mem_of_getElem? (i := 101) rfl), lw_t1 (List.mem_of_getElem? (i := 102) rfl)⟩
theorem lw_p4 : lw_okq (⟨"BestPairs", "sort", "(I)V"⟩, 14) := ⟨⟨by decide +kernel, by decide +kernel⟩, lw_t1 (List.mem_of_getElem? (i := 4) rfl), lw_t1 (List.mem_of_getElem? (i := 105) rfl), lw_t1 (List.mem_of_getElem? (i := 106) rfl)⟩
theorem lw_p5 : lw_okq (⟨"BestPairs", "produce", "()Z"⟩, 14) := ⟨⟨by decide +kernel, by decide +kernel⟩, lw_t1 (List.mem_of_getElem? (i := 4) rfl), lw_t1 (List.mem_of_getElem? (i := 109) rfl), lw_t1 (List.mem_of_getElem? (i := 110) rfl)⟩
theorem lw_p6 : lw_okq (⟨"BestPairs", "hope", "(I)I"⟩, 14) := ⟨⟨by decide +kernel, by decide +kernel⟩, lw_t1 (List.mem_of_getElem? (i := 4) rfl), lw_t1 (List.mem_of_getElem? (i := 113) rfl), lw_t1 (List.mem_of_getElem? (i := 114) rfl)⟩
theorem lw_p7 : lw_okq (⟨"BestPairs", "unread", "(I)Z"⟩, 14) := ⟨⟨by decide +kernel, by decide +kernel⟩, lw_t1 (List.mem_of_getElem? (i := 4) rfl), lw_t1 (List.mem_of_getElem? (i := 117) rfl), lw_t1 (List.mem_of_getElem? (i := 118) rfl)⟩
theorem lw_p8 : lw_okq (⟨"BestPairs", "part", "(II)I"⟩, 14) := ⟨⟨by decide +kernel, by decide +kernel⟩, lw_t1 (List.mem_of_getElem? (i := 4) rfl), lw_t1 (List.mem_of_getElem? (i := 121) rfl), lw_t1 (List.mem_of_getElem? (i := 122) rfl)⟩
theorem lw_p9 : lw_okq (⟨"BestPairs", "valueOf", "(I)I"⟩, 14) := ⟨⟨by decide +kernel, by decide +kernel⟩, lw_t1 (List.mem_of_getElem? (i := 4) rfl), lw_t1 (List.mem_of_getElem? (i := 125) rfl), lw_t1 (List.mem_of_getElem? (i := 126) rfl)⟩
theorem lw_p10 : lw_okq (⟨"BestPairs", "pop", "()V"⟩, 14) := ⟨⟨by decide +kernel, by decide +kernel⟩, lw_t1 (List.mem_of_getElem? (i := 4) rfl), lw_t1 (List.mem_of_getElem? (i := 129) rfl), lw_t1 (List.mem_of_getElem? (i := 130) rfl)⟩
theorem lw_p11 : lw_okq (⟨"BestPairs", "lesserChild", "(I)I"⟩, 14) := ⟨⟨by decide +kernel, by decide +kernel⟩, lw_t1 (List.mem_of_getElem? (i := 4) rfl), lw_t1 (List.mem_of_getElem? (i := 133) rfl), lw_t1 (List.mem_of_getElem? (i := 134) rfl)⟩
theorem lw_p12 : lw_okq (⟨"BestPairs", "before", "(II)Z"⟩, 14) := ⟨⟨by decide +kernel, by decide +kernel⟩, lw_t1 (List.mem_of_getElem? (i := 4) rfl), lw_t1 (List.mem_of_getElem? (i := 137) rfl), lw_t1 (List.mem_of_getElem? (i := 138) rfl)⟩
theorem lw_p13 : lw_okq (⟨"BestPairs", "readOne", "(I)V"⟩, 14) := ⟨⟨by decide +kernel, by decide +kernel⟩, lw_t1 (List.mem_of_getElem? (i := 4) rfl), lw_t1 (List.mem_of_getElem? (i := 141) rfl), lw_t1 (List.mem_of_getElem? (i := 142) rfl)⟩
theorem lw_p14 : lw_okq (⟨"BestPairs", "push", "(I)V"⟩, 14) := ⟨⟨by decide +kernel, by decide +kernel⟩, lw_t1 (List.mem_of_getElem? (i := 4) rfl), lw_t1 (List.mem_of_getElem? (i := 145) rfl), lw_t1 (List.mem_of_getElem? (i := 146) rfl)⟩
theorem lw_p15 : lw_okq (⟨"BestPairs", "withKey", "(II)I"⟩, 14) := ⟨⟨by decide +kernel, by decide +kernel⟩, lw_t1 (List.mem_of_getElem? (i := 4) rfl), lw_t1 (List.mem_of_getElem? (i := 169) rfl), lw_t1 (List.mem_of_getElem? (i := 170) rfl)⟩
def lw_privs_1 : List (MethodName × Nat) := [(⟨"BestPairs", "has", "(II)Z"⟩, 14), (⟨"BestPairs", "changed", "()V"⟩, 14), (⟨"BestPairs", "reach", "(I)Z"⟩, 14), (⟨"BestPairs", "begin", "()V"⟩, 14), (⟨"BestPairs", "sort", "(I)V"⟩, 14), (⟨"BestPairs", "produce", "()Z"⟩, 14), (⟨"BestPairs", "hope", "(I)I"⟩, 14), (⟨"BestPairs", "unread", "(I)Z"⟩, 14), (⟨"BestPairs", "part", "(II)I"⟩, 14), (⟨"BestPairs", "valueOf", "(I)I"⟩, 14), (⟨"BestPairs", "pop", "()V"⟩, 14), (⟨"BestPairs", "lesserChild", "(I)I"⟩, 14), (⟨"BestPairs", "before", "(II)Z"⟩, 14), (⟨"BestPairs", "readOne", "(I)V"⟩, 14), (⟨"BestPairs", "push", "(I)V"⟩, 14), (⟨"BestPairs", "withKey", "(II)I"⟩, 14)]
theorem lw_r1 : ∀ q ∈ lw_privs_1, lw_okq q := List.forall_mem_cons.mpr ⟨lw_p0, List.forall_mem_cons.mpr ⟨lw_p1, List.forall_mem_cons.mpr ⟨lw_p2, List.forall_mem_cons.mpr ⟨lw_p3, List.forall_mem_cons.mpr ⟨lw_p4, List.forall_mem_cons.mpr ⟨lw_p5, List.forall_mem_cons.mpr ⟨lw_p6, List.forall_mem_cons.mpr ⟨lw_p7, List.forall_mem_cons.mpr ⟨lw_p8, List.forall_mem_cons.mpr ⟨lw_p9, List.forall_mem_cons.mpr ⟨lw_p10, List.forall_mem_cons.mpr ⟨lw_p11, List.forall_mem_cons.mpr ⟨lw_p12, List.forall_mem_cons.mpr ⟨lw_p13, List.forall_mem_cons.mpr ⟨lw_p14, List.forall_mem_cons.mpr ⟨lw_p15, fun _ h => absurd h List.not_mem_nil⟩⟩⟩⟩⟩⟩⟩⟩⟩⟩⟩⟩⟩⟩⟩⟩
theorem lw_p16 : lw_okq (⟨"BestPairsModel", "entry", "(II)Z"⟩, 5) := ⟨⟨by decide +kernel, by decide +kernel⟩, lw_t1 (List.mem_of_getElem? (i := 181) rfl), lw_t1 (List.mem_of_getElem? (i := 212) rfl), lw_t1 (List.mem_of_getElem? (i := 213) rfl)⟩
theorem lw_p17 : lw_okq (⟨"BestPairsModel", "ranked", "(I)I"⟩, 5) := ⟨⟨by decide +kernel, by decide +kernel⟩, lw_t1 (List.mem_of_getElem? (i := 181) rfl), lw_t1 (List.mem_of_getElem? (i := 236) rfl), lw_t1 (List.mem_of_getElem? (i := 237) rfl)⟩
theorem lw_p18 : lw_okq (⟨"BestPairsModel", "pair", "(I)Z"⟩, 5) := ⟨⟨by decide +kernel, by decide +kernel⟩, lw_t1 (List.mem_of_getElem? (i := 181) rfl), lw_t2 (List.mem_of_getElem? (i := 0) rfl), lw_t2 (List.mem_of_getElem? (i := 1) rfl)⟩
theorem lw_p19 : lw_okq (⟨"BestPairsModel", "before", "(I)I"⟩, 5) := ⟨⟨by decide +kernel, by decide +kernel⟩, lw_t1 (List.mem_of_getElem? (i := 181) rfl), lw_t2 (List.mem_of_getElem? (i := 4) rfl), lw_t2 (List.mem_of_getElem? (i := 5) rfl)⟩
theorem lw_p20 : lw_okq (⟨"BestPairsModel", "value", "(I)I"⟩, 5) := ⟨⟨by decide +kernel, by decide +kernel⟩, lw_t1 (List.mem_of_getElem? (i := 181) rfl), lw_t2 (List.mem_of_getElem? (i := 8) rfl), lw_t2 (List.mem_of_getElem? (i := 9) rfl)⟩
theorem lw_p21 : lw_okq (⟨"BestPairsModel", "shown", "(I)I"⟩, 5) := ⟨⟨by decide +kernel, by decide +kernel⟩, lw_t1 (List.mem_of_getElem? (i := 181) rfl), lw_t2 (List.mem_of_getElem? (i := 12) rfl), lw_t2 (List.mem_of_getElem? (i := 13) rfl)⟩
def lw_privs_2 : List (MethodName × Nat) := [(⟨"BestPairsModel", "entry", "(II)Z"⟩, 5), (⟨"BestPairsModel", "ranked", "(I)I"⟩, 5), (⟨"BestPairsModel", "pair", "(I)Z"⟩, 5), (⟨"BestPairsModel", "before", "(I)I"⟩, 5), (⟨"BestPairsModel", "value", "(I)I"⟩, 5), (⟨"BestPairsModel", "shown", "(I)I"⟩, 5)]
theorem lw_r2 : ∀ q ∈ lw_privs_2, lw_okq q := List.forall_mem_cons.mpr ⟨lw_p16, List.forall_mem_cons.mpr ⟨lw_p17, List.forall_mem_cons.mpr ⟨lw_p18, List.forall_mem_cons.mpr ⟨lw_p19, List.forall_mem_cons.mpr ⟨lw_p20, List.forall_mem_cons.mpr ⟨lw_p21, fun _ h => absurd h List.not_mem_nil⟩⟩⟩⟩⟩⟩
def lw_privs : List (MethodName × Nat) := lw_privs_1 ++ (lw_privs_2)
def lw_tbl : List Cond := k2_sels lw_privs ++ tables_1
theorem lw_privs_ok : ∀ q ∈ lw_privs, lw_okq q := by
  show ∀ q ∈ lw_privs_1 ++ (lw_privs_2), lw_okq q
  exact List.forall_mem_append.mpr ⟨lw_r1, lw_r2⟩
-- ===== ONE list of words for every method: the tables' words that hold all through a run =====
def lw_all : List Cond := lw_tbl.filter goodWord
/-- a word of the tables by its place: claim/WORDS.tsv -/
theorem lw_w {w : Cond} (i : Nat) (h : lw_tbl[i]? = some w) (g : goodWord w = true) : w ∈ lw_all := List.mem_filter.mpr ⟨List.mem_of_getElem? h, g⟩
theorem lw_all_tbl {w : Cond} (h : w ∈ lw_all) : w ∈ lw_tbl := (List.mem_filter.mp h).1
theorem lw_self : GoodIn lw_all lw_all := fun w h => ⟨h, good_of_word (List.mem_filter.mp h).2⟩
/-- a class's field words, by their places -/
theorem lw_in (ws : List Cond) (ps : List Nat) (hp : ws = ps.filterMap (fun i => lw_tbl[i]?)) (hg : ws.all goodWord = true) : ∀ w ∈ ws, w ∈ lw_all := by
  intro w h
  have h1 := List.all_eq_true.mp hg w h
  rw [hp] at h
  obtain ⟨i, -, hi⟩ := List.mem_filterMap.mp h
  exact lw_w i hi h1
/-- the words of a contract for the method y with code b, L locals, answer r -/
abbrev ws_ (y : MethodName) (b : ByteArray) (L : Nat) (r : Option FieldType) : List Cond := Cond.code y b L r :: lw_all
theorem lw_meth {y : MethodName} {b : ByteArray} {L : Nat} {r : Option FieldType} (h : Cond.code y b L r ∈ lw_all) : GoodIn lw_all (ws_ y b L r) := by
  intro w hw
  rcases List.mem_cons.mp hw with e | e
  · rw [e]
    exact lw_self _ h
  · exact lw_self _ e
theorem lw_app {a c : List Cond} (ha : ∀ w ∈ a, w ∈ lw_all) (hc : GoodIn lw_all c) : GoodIn lw_all (a ++ c) := by
  intro w hw
  rcases List.mem_append.mp hw with e | e
  · exact lw_self w (ha w e)
  · exact hc w e
/-- what a call through an object asks: cwV n hts (lw_V ..) -/
theorem lw_V {own : String} {idx : Nat} {C : String} {y : MethodName} {b : ByteArray} {L : Nat} {r : Option FieldType} (h1 : Cond.methodLink own idx y ∈ lw_all) (h2 : Cond.instanceMethod y ∈ lw_all) (h3 : Cond.selects C y y ∈ lw_all) (h4 : Cond.initialized C ∈ lw_all) (h5 : Cond.code y b L r ∈ lw_all) : GoodIn lw_all (wsV own idx C y (ws_ y b L r)) := by
  refine lw_app ?_ (lw_meth h5)
  intro w hw
  simp only [List.mem_cons, List.not_mem_nil, or_false] at hw
  rcases hw with e | e | e | e
  · rw [e]; exact h1
  · rw [e]; exact h2
  · rw [e]; exact h3
  · rw [e]; exact h4
/-- what a static call asks: va_cwS n hts (lw_S ..) -/
theorem lw_S {own : String} {idx : Nat} {y : MethodName} {b : ByteArray} {L : Nat} {r : Option FieldType} (h1 : Cond.methodLink own idx y ∈ lw_all) (h2 : Cond.static y ∈ lw_all) (h3 : Cond.initialized y.cls ∈ lw_all) (h4 : Cond.code y b L r ∈ lw_all) : GoodIn lw_all (va_wsS own idx y (ws_ y b L r)) := by
  refine lw_app ?_ (lw_meth h4)
  intro w hw
  simp only [List.mem_cons, List.not_mem_nil, or_false] at hw
  rcases hw with e | e | e
  · rw [e]; exact h1
  · rw [e]; exact h2
  · rw [e]; exact h3
/-- the words of a contract for a method WITH HANDLERS (hh: its table) -/
abbrev wsW_ (y : MethodName) (b : ByteArray) (L : Nat) (r : Option FieldType) (hh : List (Nat × Nat × Nat × Nat)) : List Cond := Cond.codeWith y b L r hh :: lw_all
theorem lw_methW {y : MethodName} {b : ByteArray} {L : Nat} {r : Option FieldType} {hh : List (Nat × Nat × Nat × Nat)} (h : Cond.codeWith y b L r hh ∈ lw_all) : GoodIn lw_all (wsW_ y b L r hh) := by
  intro w hw
  rcases List.mem_cons.mp hw with e | e
  · rw [e]
    exact lw_self _ h
  · exact lw_self _ e
/-- any list of words by their places (lw_in), good -/
theorem lw_good {ws : List Cond} (h : ∀ w ∈ ws, w ∈ lw_all) : GoodIn lw_all ws := fun w hw => lw_self w (h w hw)
/-- what a call of a method with handlers asks: vx_cwVW n hts (lw_VW ..), vx_cwSW n hts (lw_SW ..) -/
theorem lw_VW {own : String} {idx : Nat} {C : String} {y : MethodName} {b : ByteArray} {L : Nat} {r : Option FieldType} {hh : List (Nat × Nat × Nat × Nat)} (h1 : Cond.methodLink own idx y ∈ lw_all) (h2 : Cond.instanceMethod y ∈ lw_all) (h3 : Cond.selects C y y ∈ lw_all) (h4 : Cond.initialized C ∈ lw_all) (h5 : Cond.codeWith y b L r hh ∈ lw_all) : GoodIn lw_all (wsV own idx C y (wsW_ y b L r hh)) := by
  refine lw_app ?_ (lw_methW h5)
  intro w hw
  simp only [List.mem_cons, List.not_mem_nil, or_false] at hw
  rcases hw with e | e | e | e
  · rw [e]; exact h1
  · rw [e]; exact h2
  · rw [e]; exact h3
  · rw [e]; exact h4
theorem lw_SW {own : String} {idx : Nat} {y : MethodName} {b : ByteArray} {L : Nat} {r : Option FieldType} {hh : List (Nat × Nat × Nat × Nat)} (h1 : Cond.methodLink own idx y ∈ lw_all) (h2 : Cond.static y ∈ lw_all) (h3 : Cond.initialized y.cls ∈ lw_all) (h4 : Cond.codeWith y b L r hh ∈ lw_all) : GoodIn lw_all (va_wsS own idx y (wsW_ y b L r hh)) := by
  refine lw_app ?_ (lw_methW h4)
  intro w hw
  simp only [List.mem_cons, List.not_mem_nil, or_false] at hw
  rcases hw with e | e | e
  · rw [e]; exact h1
  · rw [e]; exact h2
  · rw [e]; exact h3
/-- a word by its place in its run of the tables -/
theorem lw_at {r : List Cond} (hr : ∀ w ∈ r, w ∈ lw_tbl) {w : Cond} (i : Nat) (h : r[i]? = some w) : w ∈ lw_tbl := hr w (List.mem_of_getElem? h)
theorem lw_g {w : Cond} (h : w ∈ lw_tbl) (g : goodWord w = true) : w ∈ lw_all := List.mem_filter.mpr ⟨h, g⟩
theorem lw_ms : ∀ w ∈ k2_sels lw_privs, w ∈ lw_tbl := fun w h => show w ∈ k2_sels lw_privs ++ tables_1 from List.mem_append_left _ h
theorem lw_m1 : ∀ w ∈ tables_1_1, w ∈ lw_tbl := fun w h => show w ∈ k2_sels lw_privs ++ tables_1 from List.mem_append_right (k2_sels lw_privs) (show w ∈ tables_1 from List.mem_append_left _ h)
theorem lw_m2 : ∀ w ∈ tables_1_2, w ∈ lw_tbl := fun w h => show w ∈ k2_sels lw_privs ++ tables_1 from List.mem_append_right (k2_sels lw_privs) (show w ∈ tables_1 from List.mem_append_right _ h)
theorem qs0 : (Cond.selects "BestPairs" ⟨"BestPairs", "has", "(II)Z"⟩ ⟨"BestPairs", "has", "(II)Z"⟩) ∈ lw_all := lw_g (lw_at lw_ms 0 rfl) rfl
theorem qs1 : (Cond.selects "BestPairs" ⟨"BestPairs", "changed", "()V"⟩ ⟨"BestPairs", "changed", "()V"⟩) ∈ lw_all := lw_g (lw_at lw_ms 1 rfl) rfl
theorem qs2 : (Cond.selects "BestPairs" ⟨"BestPairs", "reach", "(I)Z"⟩ ⟨"BestPairs", "reach", "(I)Z"⟩) ∈ lw_all := lw_g (lw_at lw_ms 2 rfl) rfl
theorem qs3 : (Cond.selects "BestPairs" ⟨"BestPairs", "begin", "()V"⟩ ⟨"BestPairs", "begin", "()V"⟩) ∈ lw_all := lw_g (lw_at lw_ms 3 rfl) rfl
theorem qs4 : (Cond.selects "BestPairs" ⟨"BestPairs", "sort", "(I)V"⟩ ⟨"BestPairs", "sort", "(I)V"⟩) ∈ lw_all := lw_g (lw_at lw_ms 4 rfl) rfl
theorem qs5 : (Cond.selects "BestPairs" ⟨"BestPairs", "produce", "()Z"⟩ ⟨"BestPairs", "produce", "()Z"⟩) ∈ lw_all := lw_g (lw_at lw_ms 5 rfl) rfl
theorem qs6 : (Cond.selects "BestPairs" ⟨"BestPairs", "hope", "(I)I"⟩ ⟨"BestPairs", "hope", "(I)I"⟩) ∈ lw_all := lw_g (lw_at lw_ms 6 rfl) rfl
theorem qs7 : (Cond.selects "BestPairs" ⟨"BestPairs", "unread", "(I)Z"⟩ ⟨"BestPairs", "unread", "(I)Z"⟩) ∈ lw_all := lw_g (lw_at lw_ms 7 rfl) rfl
theorem qs8 : (Cond.selects "BestPairs" ⟨"BestPairs", "part", "(II)I"⟩ ⟨"BestPairs", "part", "(II)I"⟩) ∈ lw_all := lw_g (lw_at lw_ms 8 rfl) rfl
theorem qs9 : (Cond.selects "BestPairs" ⟨"BestPairs", "valueOf", "(I)I"⟩ ⟨"BestPairs", "valueOf", "(I)I"⟩) ∈ lw_all := lw_g (lw_at lw_ms 9 rfl) rfl
theorem qs10 : (Cond.selects "BestPairs" ⟨"BestPairs", "pop", "()V"⟩ ⟨"BestPairs", "pop", "()V"⟩) ∈ lw_all := lw_g (lw_at lw_ms 10 rfl) rfl
theorem qs11 : (Cond.selects "BestPairs" ⟨"BestPairs", "lesserChild", "(I)I"⟩ ⟨"BestPairs", "lesserChild", "(I)I"⟩) ∈ lw_all := lw_g (lw_at lw_ms 11 rfl) rfl
theorem qs12 : (Cond.selects "BestPairs" ⟨"BestPairs", "before", "(II)Z"⟩ ⟨"BestPairs", "before", "(II)Z"⟩) ∈ lw_all := lw_g (lw_at lw_ms 12 rfl) rfl
theorem qs13 : (Cond.selects "BestPairs" ⟨"BestPairs", "readOne", "(I)V"⟩ ⟨"BestPairs", "readOne", "(I)V"⟩) ∈ lw_all := lw_g (lw_at lw_ms 13 rfl) rfl
theorem qs14 : (Cond.selects "BestPairs" ⟨"BestPairs", "push", "(I)V"⟩ ⟨"BestPairs", "push", "(I)V"⟩) ∈ lw_all := lw_g (lw_at lw_ms 14 rfl) rfl
theorem qs15 : (Cond.selects "BestPairs" ⟨"BestPairs", "withKey", "(II)I"⟩ ⟨"BestPairs", "withKey", "(II)I"⟩) ∈ lw_all := lw_g (lw_at lw_ms 15 rfl) rfl
theorem qs16 : (Cond.selects "BestPairsModel" ⟨"BestPairsModel", "entry", "(II)Z"⟩ ⟨"BestPairsModel", "entry", "(II)Z"⟩) ∈ lw_all := lw_g (lw_at lw_ms 16 rfl) rfl
theorem qs17 : (Cond.selects "BestPairsModel" ⟨"BestPairsModel", "ranked", "(I)I"⟩ ⟨"BestPairsModel", "ranked", "(I)I"⟩) ∈ lw_all := lw_g (lw_at lw_ms 17 rfl) rfl
theorem qs18 : (Cond.selects "BestPairsModel" ⟨"BestPairsModel", "pair", "(I)Z"⟩ ⟨"BestPairsModel", "pair", "(I)Z"⟩) ∈ lw_all := lw_g (lw_at lw_ms 18 rfl) rfl
theorem qs19 : (Cond.selects "BestPairsModel" ⟨"BestPairsModel", "before", "(I)I"⟩ ⟨"BestPairsModel", "before", "(I)I"⟩) ∈ lw_all := lw_g (lw_at lw_ms 19 rfl) rfl
theorem qs20 : (Cond.selects "BestPairsModel" ⟨"BestPairsModel", "value", "(I)I"⟩ ⟨"BestPairsModel", "value", "(I)I"⟩) ∈ lw_all := lw_g (lw_at lw_ms 20 rfl) rfl
theorem qs21 : (Cond.selects "BestPairsModel" ⟨"BestPairsModel", "shown", "(I)I"⟩ ⟨"BestPairsModel", "shown", "(I)I"⟩) ∈ lw_all := lw_g (lw_at lw_ms 21 rfl) rfl
end TBL
end
section
section NMA
/-! BestPairs -/
set_option maxRecDepth 100000
def RX0 : String := "BestPairs"
def TX0 : u_T := fun k => match k with
  | 0 => ("BestPairs", "present", "[I", true)
  | 1 => ("BestPairs", "keys", "[B", true)
  | 2 => ("BestPairs", "scores", "[S", true)
  | 3 => ("BestPairs", "weights", "[B", true)
  | 4 => ("BestPairs", "begun", "Z", false)
  | 5 => ("BestPairs", "sorted", "[B", true)
  | 6 => ("BestPairs", "sizes", "[B", true)
  | 7 => ("BestPairs", "read", "[B", true)
  | 8 => ("BestPairs", "heap", "[S", true)
  | 9 => ("BestPairs", "heapSize", "I", false)
  | 10 => ("BestPairs", "ranked", "[S", true)
  | 11 => ("BestPairs", "rankedSize", "I", false)
  | 12 => ("BestPairs", "done", "Z", false)
  | _ => ("BestPairs", "cursor", "I", false)
def tyX0 : Nat → FieldType := fun k => match k with
  | 0 => .array .int
  | 1 => .array .byte
  | 2 => .array .short
  | 3 => .array .byte
  | 4 => .boolean
  | 5 => .array .byte
  | 6 => .array .byte
  | 7 => .array .byte
  | 8 => .array .short
  | 9 => .int
  | 10 => .array .short
  | 11 => .int
  | 12 => .boolean
  | _ => .int
abbrev wsX00 : List Cond := u_ws RX0 TX0 14
set_option maxRecDepth 100000 in
theorem nmX0 : ∀ a, a < 14 → ∀ b, b < 14 → a ≠ b → (TX0 a).2.1 ≠ (TX0 b).2.1 := by decide +kernel
set_option maxRecDepth 100000 in
theorem tyX0_ok : ∀ k, k < 14 → parseFieldDescriptor (TX0 k).2.2.1 = some (tyX0 k) := by decide +kernel
abbrev cX0_init : ByteArray := prog_1_method_1_code
def yX0_init : MethodName := ⟨RX0, "<init>", "()V"⟩
theorem dX0_init_0 : decode cX0_init 0 = .ok (.aload_n 0, 1) := by decide +kernel
theorem dX0_init_1 : decode cX0_init 1 = .ok (.invokespecial 1, 3) := by decide +kernel
theorem dX0_init_4 : decode cX0_init 4 = .ok (.aload_n 0, 1) := by decide +kernel
theorem dX0_init_5 : decode cX0_init 5 = .ok (.iconst 2, 1) := by decide +kernel
theorem dX0_init_6 : decode cX0_init 6 = .ok (.newarray .int, 2) := by decide +kernel
theorem dX0_init_8 : decode cX0_init 8 = .ok (.putfield 7, 3) := by decide +kernel
theorem dX0_init_11 : decode cX0_init 11 = .ok (.aload_n 0, 1) := by decide +kernel
theorem dX0_init_12 : decode cX0_init 12 = .ok (.bipush 24, 2) := by decide +kernel
theorem dX0_init_14 : decode cX0_init 14 = .ok (.newarray .byte, 2) := by decide +kernel
theorem dX0_init_16 : decode cX0_init 16 = .ok (.putfield 13, 3) := by decide +kernel
theorem dX0_init_19 : decode cX0_init 19 = .ok (.aload_n 0, 1) := by decide +kernel
theorem dX0_init_20 : decode cX0_init 20 = .ok (.bipush 24, 2) := by decide +kernel
theorem dX0_init_22 : decode cX0_init 22 = .ok (.newarray .short, 2) := by decide +kernel
theorem dX0_init_24 : decode cX0_init 24 = .ok (.putfield 17, 3) := by decide +kernel
theorem dX0_init_27 : decode cX0_init 27 = .ok (.aload_n 0, 1) := by decide +kernel
theorem dX0_init_28 : decode cX0_init 28 = .ok (.iconst 2, 1) := by decide +kernel
theorem dX0_init_29 : decode cX0_init 29 = .ok (.newarray .byte, 2) := by decide +kernel
theorem dX0_init_31 : decode cX0_init 31 = .ok (.putfield 21, 3) := by decide +kernel
theorem dX0_init_34 : decode cX0_init 34 = .ok (.aload_n 0, 1) := by decide +kernel
theorem dX0_init_35 : decode cX0_init 35 = .ok (.bipush 24, 2) := by decide +kernel
theorem dX0_init_37 : decode cX0_init 37 = .ok (.newarray .byte, 2) := by decide +kernel
theorem dX0_init_39 : decode cX0_init 39 = .ok (.putfield 24, 3) := by decide +kernel
theorem dX0_init_42 : decode cX0_init 42 = .ok (.aload_n 0, 1) := by decide +kernel
theorem dX0_init_43 : decode cX0_init 43 = .ok (.iconst 2, 1) := by decide +kernel
theorem dX0_init_44 : decode cX0_init 44 = .ok (.newarray .byte, 2) := by decide +kernel
theorem dX0_init_46 : decode cX0_init 46 = .ok (.putfield 27, 3) := by decide +kernel
theorem dX0_init_49 : decode cX0_init 49 = .ok (.aload_n 0, 1) := by decide +kernel
theorem dX0_init_50 : decode cX0_init 50 = .ok (.iconst 2, 1) := by decide +kernel
theorem dX0_init_51 : decode cX0_init 51 = .ok (.newarray .byte, 2) := by decide +kernel
theorem dX0_init_53 : decode cX0_init 53 = .ok (.putfield 30, 3) := by decide +kernel
theorem dX0_init_56 : decode cX0_init 56 = .ok (.aload_n 0, 1) := by decide +kernel
theorem dX0_init_57 : decode cX0_init 57 = .ok (.sipush 144, 3) := by decide +kernel
theorem dX0_init_60 : decode cX0_init 60 = .ok (.newarray .short, 2) := by decide +kernel
theorem dX0_init_62 : decode cX0_init 62 = .ok (.putfield 33, 3) := by decide +kernel
theorem dX0_init_65 : decode cX0_init 65 = .ok (.aload_n 0, 1) := by decide +kernel
theorem dX0_init_66 : decode cX0_init 66 = .ok (.sipush 144, 3) := by decide +kernel
theorem dX0_init_69 : decode cX0_init 69 = .ok (.newarray .short, 2) := by decide +kernel
theorem dX0_init_71 : decode cX0_init 71 = .ok (.putfield 36, 3) := by decide +kernel
theorem dX0_init_74 : decode cX0_init 74 = .ok (.aload_n 0, 1) := by decide +kernel
theorem dX0_init_75 : decode cX0_init 75 = .ok (.getfield 21, 3) := by decide +kernel
theorem dX0_init_78 : decode cX0_init 78 = .ok (.iconst 0, 1) := by decide +kernel
theorem dX0_init_79 : decode cX0_init 79 = .ok (.iconst 1, 1) := by decide +kernel
theorem dX0_init_80 : decode cX0_init 80 = .ok (.bastore, 1) := by decide +kernel
theorem dX0_init_81 : decode cX0_init 81 = .ok (.aload_n 0, 1) := by decide +kernel
theorem dX0_init_82 : decode cX0_init 82 = .ok (.getfield 21, 3) := by decide +kernel
theorem dX0_init_85 : decode cX0_init 85 = .ok (.iconst 1, 1) := by decide +kernel
theorem dX0_init_86 : decode cX0_init 86 = .ok (.iconst 1, 1) := by decide +kernel
theorem dX0_init_87 : decode cX0_init 87 = .ok (.bastore, 1) := by decide +kernel
theorem dX0_init_88 : decode cX0_init 88 = .ok (.return_, 1) := by decide +kernel
abbrev cX0_enter : ByteArray := prog_1_method_5_code
def yX0_enter : MethodName := ⟨RX0, "enter", "(III)I"⟩
theorem dX0_enter_0 : decode cX0_enter 0 = .ok (.iload_n 1, 1) := by decide +kernel
theorem dX0_enter_1 : decode cX0_enter 1 = .ok (.invokestatic 39, 3) := by decide +kernel
theorem dX0_enter_4 : decode cX0_enter 4 = .ok (.ifCond .eq 24, 3) := by decide +kernel
theorem dX0_enter_7 : decode cX0_enter 7 = .ok (.iload_n 2, 1) := by decide +kernel
theorem dX0_enter_8 : decode cX0_enter 8 = .ok (.ifCond .lt 20, 3) := by decide +kernel
theorem dX0_enter_11 : decode cX0_enter 11 = .ok (.iload_n 2, 1) := by decide +kernel
theorem dX0_enter_12 : decode cX0_enter 12 = .ok (.bipush 7, 2) := by decide +kernel
theorem dX0_enter_14 : decode cX0_enter 14 = .ok (.if_icmp .gt 14, 3) := by decide +kernel
theorem dX0_enter_17 : decode cX0_enter 17 = .ok (.iload_n 3, 1) := by decide +kernel
theorem dX0_enter_18 : decode cX0_enter 18 = .ok (.ifCond .lt 10, 3) := by decide +kernel
theorem dX0_enter_21 : decode cX0_enter 21 = .ok (.iload_n 3, 1) := by decide +kernel
theorem dX0_enter_22 : decode cX0_enter 22 = .ok (.sipush 1000, 3) := by decide +kernel
theorem dX0_enter_25 : decode cX0_enter 25 = .ok (.if_icmp .le 5, 3) := by decide +kernel
theorem dX0_enter_28 : decode cX0_enter 28 = .ok (.iconst (-1), 1) := by decide +kernel
theorem dX0_enter_29 : decode cX0_enter 29 = .ok (.ireturn, 1) := by decide +kernel
theorem dX0_enter_30 : decode cX0_enter 30 = .ok (.iconst 0, 1) := by decide +kernel
theorem dX0_enter_31 : decode cX0_enter 31 = .ok (.istore 4, 2) := by decide +kernel
theorem dX0_enter_33 : decode cX0_enter 33 = .ok (.iload 4, 2) := by decide +kernel
theorem dX0_enter_35 : decode cX0_enter 35 = .ok (.bipush 12, 2) := by decide +kernel
theorem dX0_enter_37 : decode cX0_enter 37 = .ok (.if_icmp .ge 67, 3) := by decide +kernel
theorem dX0_enter_40 : decode cX0_enter 40 = .ok (.aload_n 0, 1) := by decide +kernel
theorem dX0_enter_41 : decode cX0_enter 41 = .ok (.iload_n 1, 1) := by decide +kernel
theorem dX0_enter_42 : decode cX0_enter 42 = .ok (.iload 4, 2) := by decide +kernel
theorem dX0_enter_44 : decode cX0_enter 44 = .ok (.invokevirtual 51, 3) := by decide +kernel
theorem dX0_enter_47 : decode cX0_enter 47 = .ok (.ifCond .ne 51, 3) := by decide +kernel
theorem dX0_enter_50 : decode cX0_enter 50 = .ok (.aload_n 0, 1) := by decide +kernel
theorem dX0_enter_51 : decode cX0_enter 51 = .ok (.getfield 7, 3) := by decide +kernel
theorem dX0_enter_54 : decode cX0_enter 54 = .ok (.iload_n 1, 1) := by decide +kernel
theorem dX0_enter_55 : decode cX0_enter 55 = .ok (.dup2, 1) := by decide +kernel
theorem dX0_enter_56 : decode cX0_enter 56 = .ok (.iaload, 1) := by decide +kernel
theorem dX0_enter_57 : decode cX0_enter 57 = .ok (.iconst 1, 1) := by decide +kernel
theorem dX0_enter_58 : decode cX0_enter 58 = .ok (.iload 4, 2) := by decide +kernel
theorem dX0_enter_60 : decode cX0_enter 60 = .ok (.ishl, 1) := by decide +kernel
theorem dX0_enter_61 : decode cX0_enter 61 = .ok (.ior, 1) := by decide +kernel
theorem dX0_enter_62 : decode cX0_enter 62 = .ok (.iastore, 1) := by decide +kernel
theorem dX0_enter_63 : decode cX0_enter 63 = .ok (.aload_n 0, 1) := by decide +kernel
theorem dX0_enter_64 : decode cX0_enter 64 = .ok (.getfield 13, 3) := by decide +kernel
theorem dX0_enter_67 : decode cX0_enter 67 = .ok (.iload_n 1, 1) := by decide +kernel
theorem dX0_enter_68 : decode cX0_enter 68 = .ok (.bipush 12, 2) := by decide +kernel
theorem dX0_enter_70 : decode cX0_enter 70 = .ok (.imul, 1) := by decide +kernel
theorem dX0_enter_71 : decode cX0_enter 71 = .ok (.iload 4, 2) := by decide +kernel
theorem dX0_enter_73 : decode cX0_enter 73 = .ok (.iadd, 1) := by decide +kernel
theorem dX0_enter_74 : decode cX0_enter 74 = .ok (.iload_n 2, 1) := by decide +kernel
theorem dX0_enter_75 : decode cX0_enter 75 = .ok (.i2b, 1) := by decide +kernel
theorem dX0_enter_76 : decode cX0_enter 76 = .ok (.bastore, 1) := by decide +kernel
theorem dX0_enter_77 : decode cX0_enter 77 = .ok (.aload_n 0, 1) := by decide +kernel
theorem dX0_enter_78 : decode cX0_enter 78 = .ok (.getfield 17, 3) := by decide +kernel
theorem dX0_enter_81 : decode cX0_enter 81 = .ok (.iload_n 1, 1) := by decide +kernel
theorem dX0_enter_82 : decode cX0_enter 82 = .ok (.bipush 12, 2) := by decide +kernel
theorem dX0_enter_84 : decode cX0_enter 84 = .ok (.imul, 1) := by decide +kernel
theorem dX0_enter_85 : decode cX0_enter 85 = .ok (.iload 4, 2) := by decide +kernel
theorem dX0_enter_87 : decode cX0_enter 87 = .ok (.iadd, 1) := by decide +kernel
theorem dX0_enter_88 : decode cX0_enter 88 = .ok (.iload_n 3, 1) := by decide +kernel
theorem dX0_enter_89 : decode cX0_enter 89 = .ok (.i2s, 1) := by decide +kernel
theorem dX0_enter_90 : decode cX0_enter 90 = .ok (.sastore, 1) := by decide +kernel
theorem dX0_enter_91 : decode cX0_enter 91 = .ok (.aload_n 0, 1) := by decide +kernel
theorem dX0_enter_92 : decode cX0_enter 92 = .ok (.invokevirtual 55, 3) := by decide +kernel
theorem dX0_enter_95 : decode cX0_enter 95 = .ok (.iload 4, 2) := by decide +kernel
theorem dX0_enter_97 : decode cX0_enter 97 = .ok (.ireturn, 1) := by decide +kernel
theorem dX0_enter_98 : decode cX0_enter 98 = .ok (.iinc 4 1, 3) := by decide +kernel
theorem dX0_enter_101 : decode cX0_enter 101 = .ok (.goto (-68), 3) := by decide +kernel
theorem dX0_enter_104 : decode cX0_enter 104 = .ok (.bipush (-2), 2) := by decide +kernel
theorem dX0_enter_106 : decode cX0_enter 106 = .ok (.ireturn, 1) := by decide +kernel
abbrev cX0_isList : ByteArray := prog_1_method_2_code
def yX0_isList : MethodName := ⟨RX0, "isList", "(I)Z"⟩
theorem dX0_isList_0 : decode cX0_isList 0 = .ok (.iload_n 0, 1) := by decide +kernel
theorem dX0_isList_1 : decode cX0_isList 1 = .ok (.ifCond .eq 8, 3) := by decide +kernel
theorem dX0_isList_4 : decode cX0_isList 4 = .ok (.iload_n 0, 1) := by decide +kernel
theorem dX0_isList_5 : decode cX0_isList 5 = .ok (.iconst 1, 1) := by decide +kernel
theorem dX0_isList_6 : decode cX0_isList 6 = .ok (.if_icmp .ne 7, 3) := by decide +kernel
theorem dX0_isList_9 : decode cX0_isList 9 = .ok (.iconst 1, 1) := by decide +kernel
theorem dX0_isList_10 : decode cX0_isList 10 = .ok (.goto 4, 3) := by decide +kernel
theorem dX0_isList_13 : decode cX0_isList 13 = .ok (.iconst 0, 1) := by decide +kernel
theorem dX0_isList_14 : decode cX0_isList 14 = .ok (.ireturn, 1) := by decide +kernel
abbrev cX0_has : ByteArray := prog_1_method_3_code
def yX0_has : MethodName := ⟨RX0, "has", "(II)Z"⟩
theorem dX0_has_0 : decode cX0_has 0 = .ok (.iload_n 1, 1) := by decide +kernel
theorem dX0_has_1 : decode cX0_has 1 = .ok (.invokestatic 39, 3) := by decide +kernel
theorem dX0_has_4 : decode cX0_has 4 = .ok (.ifCond .eq 30, 3) := by decide +kernel
theorem dX0_has_7 : decode cX0_has 7 = .ok (.iload_n 2, 1) := by decide +kernel
theorem dX0_has_8 : decode cX0_has 8 = .ok (.ifCond .lt 26, 3) := by decide +kernel
theorem dX0_has_11 : decode cX0_has 11 = .ok (.iload_n 2, 1) := by decide +kernel
theorem dX0_has_12 : decode cX0_has 12 = .ok (.bipush 12, 2) := by decide +kernel
theorem dX0_has_14 : decode cX0_has 14 = .ok (.if_icmp .ge 20, 3) := by decide +kernel
theorem dX0_has_17 : decode cX0_has 17 = .ok (.aload_n 0, 1) := by decide +kernel
theorem dX0_has_18 : decode cX0_has 18 = .ok (.getfield 7, 3) := by decide +kernel
theorem dX0_has_21 : decode cX0_has 21 = .ok (.iload_n 1, 1) := by decide +kernel
theorem dX0_has_22 : decode cX0_has 22 = .ok (.iaload, 1) := by decide +kernel
theorem dX0_has_23 : decode cX0_has 23 = .ok (.iload_n 2, 1) := by decide +kernel
theorem dX0_has_24 : decode cX0_has 24 = .ok (.ishr, 1) := by decide +kernel
theorem dX0_has_25 : decode cX0_has 25 = .ok (.iconst 1, 1) := by decide +kernel
theorem dX0_has_26 : decode cX0_has 26 = .ok (.iand, 1) := by decide +kernel
theorem dX0_has_27 : decode cX0_has 27 = .ok (.ifCond .eq 7, 3) := by decide +kernel
theorem dX0_has_30 : decode cX0_has 30 = .ok (.iconst 1, 1) := by decide +kernel
theorem dX0_has_31 : decode cX0_has 31 = .ok (.goto 4, 3) := by decide +kernel
theorem dX0_has_34 : decode cX0_has 34 = .ok (.iconst 0, 1) := by decide +kernel
theorem dX0_has_35 : decode cX0_has 35 = .ok (.ireturn, 1) := by decide +kernel
abbrev cX0_changed : ByteArray := prog_1_method_4_code
def yX0_changed : MethodName := ⟨RX0, "changed", "()V"⟩
theorem dX0_changed_0 : decode cX0_changed 0 = .ok (.aload_n 0, 1) := by decide +kernel
theorem dX0_changed_1 : decode cX0_changed 1 = .ok (.iconst 0, 1) := by decide +kernel
theorem dX0_changed_2 : decode cX0_changed 2 = .ok (.putfield 43, 3) := by decide +kernel
theorem dX0_changed_5 : decode cX0_changed 5 = .ok (.aload_n 0, 1) := by decide +kernel
theorem dX0_changed_6 : decode cX0_changed 6 = .ok (.iconst 0, 1) := by decide +kernel
theorem dX0_changed_7 : decode cX0_changed 7 = .ok (.putfield 47, 3) := by decide +kernel
theorem dX0_changed_10 : decode cX0_changed 10 = .ok (.return_, 1) := by decide +kernel
abbrev cX0_remove : ByteArray := prog_1_method_6_code
def yX0_remove : MethodName := ⟨RX0, "remove", "(II)Z"⟩
theorem dX0_remove_0 : decode cX0_remove 0 = .ok (.aload_n 0, 1) := by decide +kernel
theorem dX0_remove_1 : decode cX0_remove 1 = .ok (.iload_n 1, 1) := by decide +kernel
theorem dX0_remove_2 : decode cX0_remove 2 = .ok (.iload_n 2, 1) := by decide +kernel
theorem dX0_remove_3 : decode cX0_remove 3 = .ok (.invokevirtual 51, 3) := by decide +kernel
theorem dX0_remove_6 : decode cX0_remove 6 = .ok (.ifCond .ne 5, 3) := by decide +kernel
theorem dX0_remove_9 : decode cX0_remove 9 = .ok (.iconst 0, 1) := by decide +kernel
theorem dX0_remove_10 : decode cX0_remove 10 = .ok (.ireturn, 1) := by decide +kernel
theorem dX0_remove_11 : decode cX0_remove 11 = .ok (.aload_n 0, 1) := by decide +kernel
theorem dX0_remove_12 : decode cX0_remove 12 = .ok (.getfield 7, 3) := by decide +kernel
theorem dX0_remove_15 : decode cX0_remove 15 = .ok (.iload_n 1, 1) := by decide +kernel
theorem dX0_remove_16 : decode cX0_remove 16 = .ok (.dup2, 1) := by decide +kernel
theorem dX0_remove_17 : decode cX0_remove 17 = .ok (.iaload, 1) := by decide +kernel
theorem dX0_remove_18 : decode cX0_remove 18 = .ok (.iconst 1, 1) := by decide +kernel
theorem dX0_remove_19 : decode cX0_remove 19 = .ok (.iload_n 2, 1) := by decide +kernel
theorem dX0_remove_20 : decode cX0_remove 20 = .ok (.ishl, 1) := by decide +kernel
theorem dX0_remove_21 : decode cX0_remove 21 = .ok (.iconst (-1), 1) := by decide +kernel
theorem dX0_remove_22 : decode cX0_remove 22 = .ok (.ixor, 1) := by decide +kernel
theorem dX0_remove_23 : decode cX0_remove 23 = .ok (.iand, 1) := by decide +kernel
theorem dX0_remove_24 : decode cX0_remove 24 = .ok (.iastore, 1) := by decide +kernel
theorem dX0_remove_25 : decode cX0_remove 25 = .ok (.aload_n 0, 1) := by decide +kernel
theorem dX0_remove_26 : decode cX0_remove 26 = .ok (.invokevirtual 55, 3) := by decide +kernel
theorem dX0_remove_29 : decode cX0_remove 29 = .ok (.iconst 1, 1) := by decide +kernel
theorem dX0_remove_30 : decode cX0_remove 30 = .ok (.ireturn, 1) := by decide +kernel
abbrev cX0_rescore : ByteArray := prog_1_method_7_code
def yX0_rescore : MethodName := ⟨RX0, "rescore", "(III)Z"⟩
theorem dX0_rescore_0 : decode cX0_rescore 0 = .ok (.aload_n 0, 1) := by decide +kernel
theorem dX0_rescore_1 : decode cX0_rescore 1 = .ok (.iload_n 1, 1) := by decide +kernel
theorem dX0_rescore_2 : decode cX0_rescore 2 = .ok (.iload_n 2, 1) := by decide +kernel
theorem dX0_rescore_3 : decode cX0_rescore 3 = .ok (.invokevirtual 51, 3) := by decide +kernel
theorem dX0_rescore_6 : decode cX0_rescore 6 = .ok (.ifCond .eq 14, 3) := by decide +kernel
theorem dX0_rescore_9 : decode cX0_rescore 9 = .ok (.iload_n 3, 1) := by decide +kernel
theorem dX0_rescore_10 : decode cX0_rescore 10 = .ok (.ifCond .lt 10, 3) := by decide +kernel
theorem dX0_rescore_13 : decode cX0_rescore 13 = .ok (.iload_n 3, 1) := by decide +kernel
theorem dX0_rescore_14 : decode cX0_rescore 14 = .ok (.sipush 1000, 3) := by decide +kernel
theorem dX0_rescore_17 : decode cX0_rescore 17 = .ok (.if_icmp .le 5, 3) := by decide +kernel
theorem dX0_rescore_20 : decode cX0_rescore 20 = .ok (.iconst 0, 1) := by decide +kernel
theorem dX0_rescore_21 : decode cX0_rescore 21 = .ok (.ireturn, 1) := by decide +kernel
theorem dX0_rescore_22 : decode cX0_rescore 22 = .ok (.aload_n 0, 1) := by decide +kernel
theorem dX0_rescore_23 : decode cX0_rescore 23 = .ok (.getfield 17, 3) := by decide +kernel
theorem dX0_rescore_26 : decode cX0_rescore 26 = .ok (.iload_n 1, 1) := by decide +kernel
theorem dX0_rescore_27 : decode cX0_rescore 27 = .ok (.bipush 12, 2) := by decide +kernel
theorem dX0_rescore_29 : decode cX0_rescore 29 = .ok (.imul, 1) := by decide +kernel
theorem dX0_rescore_30 : decode cX0_rescore 30 = .ok (.iload_n 2, 1) := by decide +kernel
theorem dX0_rescore_31 : decode cX0_rescore 31 = .ok (.iadd, 1) := by decide +kernel
theorem dX0_rescore_32 : decode cX0_rescore 32 = .ok (.iload_n 3, 1) := by decide +kernel
theorem dX0_rescore_33 : decode cX0_rescore 33 = .ok (.i2s, 1) := by decide +kernel
theorem dX0_rescore_34 : decode cX0_rescore 34 = .ok (.sastore, 1) := by decide +kernel
theorem dX0_rescore_35 : decode cX0_rescore 35 = .ok (.aload_n 0, 1) := by decide +kernel
theorem dX0_rescore_36 : decode cX0_rescore 36 = .ok (.invokevirtual 55, 3) := by decide +kernel
theorem dX0_rescore_39 : decode cX0_rescore 39 = .ok (.iconst 1, 1) := by decide +kernel
theorem dX0_rescore_40 : decode cX0_rescore 40 = .ok (.ireturn, 1) := by decide +kernel
abbrev cX0_weigh : ByteArray := prog_1_method_8_code
def yX0_weigh : MethodName := ⟨RX0, "weigh", "(II)Z"⟩
theorem dX0_weigh_0 : decode cX0_weigh 0 = .ok (.iload_n 1, 1) := by decide +kernel
theorem dX0_weigh_1 : decode cX0_weigh 1 = .ok (.invokestatic 39, 3) := by decide +kernel
theorem dX0_weigh_4 : decode cX0_weigh 4 = .ok (.ifCond .eq 13, 3) := by decide +kernel
theorem dX0_weigh_7 : decode cX0_weigh 7 = .ok (.iload_n 2, 1) := by decide +kernel
theorem dX0_weigh_8 : decode cX0_weigh 8 = .ok (.ifCond .lt 9, 3) := by decide +kernel
theorem dX0_weigh_11 : decode cX0_weigh 11 = .ok (.iload_n 2, 1) := by decide +kernel
theorem dX0_weigh_12 : decode cX0_weigh 12 = .ok (.bipush 9, 2) := by decide +kernel
theorem dX0_weigh_14 : decode cX0_weigh 14 = .ok (.if_icmp .le 5, 3) := by decide +kernel
theorem dX0_weigh_17 : decode cX0_weigh 17 = .ok (.iconst 0, 1) := by decide +kernel
theorem dX0_weigh_18 : decode cX0_weigh 18 = .ok (.ireturn, 1) := by decide +kernel
theorem dX0_weigh_19 : decode cX0_weigh 19 = .ok (.aload_n 0, 1) := by decide +kernel
theorem dX0_weigh_20 : decode cX0_weigh 20 = .ok (.getfield 21, 3) := by decide +kernel
theorem dX0_weigh_23 : decode cX0_weigh 23 = .ok (.iload_n 1, 1) := by decide +kernel
theorem dX0_weigh_24 : decode cX0_weigh 24 = .ok (.iload_n 2, 1) := by decide +kernel
theorem dX0_weigh_25 : decode cX0_weigh 25 = .ok (.i2b, 1) := by decide +kernel
theorem dX0_weigh_26 : decode cX0_weigh 26 = .ok (.bastore, 1) := by decide +kernel
theorem dX0_weigh_27 : decode cX0_weigh 27 = .ok (.aload_n 0, 1) := by decide +kernel
theorem dX0_weigh_28 : decode cX0_weigh 28 = .ok (.invokevirtual 55, 3) := by decide +kernel
theorem dX0_weigh_31 : decode cX0_weigh 31 = .ok (.iconst 1, 1) := by decide +kernel
theorem dX0_weigh_32 : decode cX0_weigh 32 = .ok (.ireturn, 1) := by decide +kernel
abbrev cX0_entries : ByteArray := prog_1_method_9_code
def yX0_entries : MethodName := ⟨RX0, "entries", "(I)I"⟩
theorem dX0_entries_0 : decode cX0_entries 0 = .ok (.iload_n 1, 1) := by decide +kernel
theorem dX0_entries_1 : decode cX0_entries 1 = .ok (.invokestatic 39, 3) := by decide +kernel
theorem dX0_entries_4 : decode cX0_entries 4 = .ok (.ifCond .eq 12, 3) := by decide +kernel
theorem dX0_entries_7 : decode cX0_entries 7 = .ok (.aload_n 0, 1) := by decide +kernel
theorem dX0_entries_8 : decode cX0_entries 8 = .ok (.getfield 7, 3) := by decide +kernel
theorem dX0_entries_11 : decode cX0_entries 11 = .ok (.iload_n 1, 1) := by decide +kernel
theorem dX0_entries_12 : decode cX0_entries 12 = .ok (.iaload, 1) := by decide +kernel
theorem dX0_entries_13 : decode cX0_entries 13 = .ok (.goto 4, 3) := by decide +kernel
theorem dX0_entries_16 : decode cX0_entries 16 = .ok (.iconst 0, 1) := by decide +kernel
theorem dX0_entries_17 : decode cX0_entries 17 = .ok (.ireturn, 1) := by decide +kernel
abbrev cX0_score : ByteArray := prog_1_method_10_code
def yX0_score : MethodName := ⟨RX0, "score", "(II)I"⟩
theorem dX0_score_0 : decode cX0_score 0 = .ok (.aload_n 0, 1) := by decide +kernel
theorem dX0_score_1 : decode cX0_score 1 = .ok (.iload_n 1, 1) := by decide +kernel
theorem dX0_score_2 : decode cX0_score 2 = .ok (.iload_n 2, 1) := by decide +kernel
theorem dX0_score_3 : decode cX0_score 3 = .ok (.invokevirtual 51, 3) := by decide +kernel
theorem dX0_score_6 : decode cX0_score 6 = .ok (.ifCond .eq 17, 3) := by decide +kernel
theorem dX0_score_9 : decode cX0_score 9 = .ok (.aload_n 0, 1) := by decide +kernel
theorem dX0_score_10 : decode cX0_score 10 = .ok (.getfield 17, 3) := by decide +kernel
theorem dX0_score_13 : decode cX0_score 13 = .ok (.iload_n 1, 1) := by decide +kernel
theorem dX0_score_14 : decode cX0_score 14 = .ok (.bipush 12, 2) := by decide +kernel
theorem dX0_score_16 : decode cX0_score 16 = .ok (.imul, 1) := by decide +kernel
theorem dX0_score_17 : decode cX0_score 17 = .ok (.iload_n 2, 1) := by decide +kernel
theorem dX0_score_18 : decode cX0_score 18 = .ok (.iadd, 1) := by decide +kernel
theorem dX0_score_19 : decode cX0_score 19 = .ok (.saload, 1) := by decide +kernel
theorem dX0_score_20 : decode cX0_score 20 = .ok (.goto 4, 3) := by decide +kernel
theorem dX0_score_23 : decode cX0_score 23 = .ok (.iconst (-1), 1) := by decide +kernel
theorem dX0_score_24 : decode cX0_score 24 = .ok (.ireturn, 1) := by decide +kernel
abbrev cX0_next : ByteArray := prog_1_method_24_code
def yX0_next : MethodName := ⟨RX0, "next", "()I"⟩
theorem dX0_next_0 : decode cX0_next 0 = .ok (.aload_n 0, 1) := by decide +kernel
theorem dX0_next_1 : decode cX0_next 1 = .ok (.aload_n 0, 1) := by decide +kernel
theorem dX0_next_2 : decode cX0_next 2 = .ok (.getfield 47, 3) := by decide +kernel
theorem dX0_next_5 : decode cX0_next 5 = .ok (.invokevirtual 107, 3) := by decide +kernel
theorem dX0_next_8 : decode cX0_next 8 = .ok (.istore_n 1, 1) := by decide +kernel
theorem dX0_next_9 : decode cX0_next 9 = .ok (.iload_n 1, 1) := by decide +kernel
theorem dX0_next_10 : decode cX0_next 10 = .ok (.ifCond .ne 5, 3) := by decide +kernel
theorem dX0_next_13 : decode cX0_next 13 = .ok (.iconst (-1), 1) := by decide +kernel
theorem dX0_next_14 : decode cX0_next 14 = .ok (.ireturn, 1) := by decide +kernel
theorem dX0_next_15 : decode cX0_next 15 = .ok (.aload_n 0, 1) := by decide +kernel
theorem dX0_next_16 : decode cX0_next 16 = .ok (.dup, 1) := by decide +kernel
theorem dX0_next_17 : decode cX0_next 17 = .ok (.getfield 47, 3) := by decide +kernel
theorem dX0_next_20 : decode cX0_next 20 = .ok (.iconst 1, 1) := by decide +kernel
theorem dX0_next_21 : decode cX0_next 21 = .ok (.iadd, 1) := by decide +kernel
theorem dX0_next_22 : decode cX0_next 22 = .ok (.putfield 47, 3) := by decide +kernel
theorem dX0_next_25 : decode cX0_next 25 = .ok (.aload_n 0, 1) := by decide +kernel
theorem dX0_next_26 : decode cX0_next 26 = .ok (.getfield 36, 3) := by decide +kernel
theorem dX0_next_29 : decode cX0_next 29 = .ok (.aload_n 0, 1) := by decide +kernel
theorem dX0_next_30 : decode cX0_next 30 = .ok (.getfield 47, 3) := by decide +kernel
theorem dX0_next_33 : decode cX0_next 33 = .ok (.iconst 1, 1) := by decide +kernel
theorem dX0_next_34 : decode cX0_next 34 = .ok (.isub, 1) := by decide +kernel
theorem dX0_next_35 : decode cX0_next 35 = .ok (.saload, 1) := by decide +kernel
theorem dX0_next_36 : decode cX0_next 36 = .ok (.ireturn, 1) := by decide +kernel
abbrev cX0_reach : ByteArray := prog_1_method_23_code
def yX0_reach : MethodName := ⟨RX0, "reach", "(I)Z"⟩
theorem dX0_reach_0 : decode cX0_reach 0 = .ok (.aload_n 0, 1) := by decide +kernel
theorem dX0_reach_1 : decode cX0_reach 1 = .ok (.invokevirtual 85, 3) := by decide +kernel
theorem dX0_reach_4 : decode cX0_reach 4 = .ok (.iconst 1, 1) := by decide +kernel
theorem dX0_reach_5 : decode cX0_reach 5 = .ok (.istore_n 2, 1) := by decide +kernel
theorem dX0_reach_6 : decode cX0_reach 6 = .ok (.iconst 0, 1) := by decide +kernel
theorem dX0_reach_7 : decode cX0_reach 7 = .ok (.istore_n 3, 1) := by decide +kernel
theorem dX0_reach_8 : decode cX0_reach 8 = .ok (.iload_n 3, 1) := by decide +kernel
theorem dX0_reach_9 : decode cX0_reach 9 = .ok (.sipush 144, 3) := by decide +kernel
theorem dX0_reach_12 : decode cX0_reach 12 = .ok (.if_icmp .gt 26, 3) := by decide +kernel
theorem dX0_reach_15 : decode cX0_reach 15 = .ok (.aload_n 0, 1) := by decide +kernel
theorem dX0_reach_16 : decode cX0_reach 16 = .ok (.getfield 72, 3) := by decide +kernel
theorem dX0_reach_19 : decode cX0_reach 19 = .ok (.iload_n 1, 1) := by decide +kernel
theorem dX0_reach_20 : decode cX0_reach 20 = .ok (.if_icmp .gt 18, 3) := by decide +kernel
theorem dX0_reach_23 : decode cX0_reach 23 = .ok (.iload_n 2, 1) := by decide +kernel
theorem dX0_reach_24 : decode cX0_reach 24 = .ok (.ifCond .eq 14, 3) := by decide +kernel
theorem dX0_reach_27 : decode cX0_reach 27 = .ok (.aload_n 0, 1) := by decide +kernel
theorem dX0_reach_28 : decode cX0_reach 28 = .ok (.invokevirtual 103, 3) := by decide +kernel
theorem dX0_reach_31 : decode cX0_reach 31 = .ok (.istore_n 2, 1) := by decide +kernel
theorem dX0_reach_32 : decode cX0_reach 32 = .ok (.iinc 3 1, 3) := by decide +kernel
theorem dX0_reach_35 : decode cX0_reach 35 = .ok (.goto (-27), 3) := by decide +kernel
theorem dX0_reach_38 : decode cX0_reach 38 = .ok (.aload_n 0, 1) := by decide +kernel
theorem dX0_reach_39 : decode cX0_reach 39 = .ok (.getfield 72, 3) := by decide +kernel
theorem dX0_reach_42 : decode cX0_reach 42 = .ok (.iload_n 1, 1) := by decide +kernel
theorem dX0_reach_43 : decode cX0_reach 43 = .ok (.if_icmp .le 7, 3) := by decide +kernel
theorem dX0_reach_46 : decode cX0_reach 46 = .ok (.iconst 1, 1) := by decide +kernel
theorem dX0_reach_47 : decode cX0_reach 47 = .ok (.goto 4, 3) := by decide +kernel
theorem dX0_reach_50 : decode cX0_reach 50 = .ok (.iconst 0, 1) := by decide +kernel
theorem dX0_reach_51 : decode cX0_reach 51 = .ok (.ireturn, 1) := by decide +kernel
abbrev cX0_begin : ByteArray := prog_1_method_14_code
def yX0_begin : MethodName := ⟨RX0, "begin", "()V"⟩
theorem dX0_begin_0 : decode cX0_begin 0 = .ok (.aload_n 0, 1) := by decide +kernel
theorem dX0_begin_1 : decode cX0_begin 1 = .ok (.getfield 43, 3) := by decide +kernel
theorem dX0_begin_4 : decode cX0_begin 4 = .ok (.ifCond .eq 4, 3) := by decide +kernel
theorem dX0_begin_7 : decode cX0_begin 7 = .ok (.return_, 1) := by decide +kernel
theorem dX0_begin_8 : decode cX0_begin 8 = .ok (.aload_n 0, 1) := by decide +kernel
theorem dX0_begin_9 : decode cX0_begin 9 = .ok (.iconst 1, 1) := by decide +kernel
theorem dX0_begin_10 : decode cX0_begin 10 = .ok (.putfield 43, 3) := by decide +kernel
theorem dX0_begin_13 : decode cX0_begin 13 = .ok (.aload_n 0, 1) := by decide +kernel
theorem dX0_begin_14 : decode cX0_begin 14 = .ok (.iconst 0, 1) := by decide +kernel
theorem dX0_begin_15 : decode cX0_begin 15 = .ok (.putfield 66, 3) := by decide +kernel
theorem dX0_begin_18 : decode cX0_begin 18 = .ok (.aload_n 0, 1) := by decide +kernel
theorem dX0_begin_19 : decode cX0_begin 19 = .ok (.iconst 0, 1) := by decide +kernel
theorem dX0_begin_20 : decode cX0_begin 20 = .ok (.putfield 69, 3) := by decide +kernel
theorem dX0_begin_23 : decode cX0_begin 23 = .ok (.aload_n 0, 1) := by decide +kernel
theorem dX0_begin_24 : decode cX0_begin 24 = .ok (.iconst 0, 1) := by decide +kernel
theorem dX0_begin_25 : decode cX0_begin 25 = .ok (.putfield 72, 3) := by decide +kernel
theorem dX0_begin_28 : decode cX0_begin 28 = .ok (.aload_n 0, 1) := by decide +kernel
theorem dX0_begin_29 : decode cX0_begin 29 = .ok (.iconst 0, 1) := by decide +kernel
theorem dX0_begin_30 : decode cX0_begin 30 = .ok (.invokevirtual 75, 3) := by decide +kernel
theorem dX0_begin_33 : decode cX0_begin 33 = .ok (.aload_n 0, 1) := by decide +kernel
theorem dX0_begin_34 : decode cX0_begin 34 = .ok (.iconst 1, 1) := by decide +kernel
theorem dX0_begin_35 : decode cX0_begin 35 = .ok (.invokevirtual 75, 3) := by decide +kernel
theorem dX0_begin_38 : decode cX0_begin 38 = .ok (.return_, 1) := by decide +kernel
end NMA
end
section
section NMB
set_option maxRecDepth 100000
abbrev cX0_sort : ByteArray := prog_1_method_15_code
def yX0_sort : MethodName := ⟨RX0, "sort", "(I)V"⟩
theorem dX0_sort_0 : decode cX0_sort 0 = .ok (.iconst 0, 1) := by decide +kernel
theorem dX0_sort_1 : decode cX0_sort 1 = .ok (.istore_n 2, 1) := by decide +kernel
theorem dX0_sort_2 : decode cX0_sort 2 = .ok (.iconst 0, 1) := by decide +kernel
theorem dX0_sort_3 : decode cX0_sort 3 = .ok (.istore_n 3, 1) := by decide +kernel
theorem dX0_sort_4 : decode cX0_sort 4 = .ok (.iload_n 3, 1) := by decide +kernel
theorem dX0_sort_5 : decode cX0_sort 5 = .ok (.bipush 12, 2) := by decide +kernel
theorem dX0_sort_7 : decode cX0_sort 7 = .ok (.if_icmp .ge 113, 3) := by decide +kernel
theorem dX0_sort_10 : decode cX0_sort 10 = .ok (.aload_n 0, 1) := by decide +kernel
theorem dX0_sort_11 : decode cX0_sort 11 = .ok (.iload_n 1, 1) := by decide +kernel
theorem dX0_sort_12 : decode cX0_sort 12 = .ok (.iload_n 3, 1) := by decide +kernel
theorem dX0_sort_13 : decode cX0_sort 13 = .ok (.invokevirtual 51, 3) := by decide +kernel
theorem dX0_sort_16 : decode cX0_sort 16 = .ok (.ifCond .eq 98, 3) := by decide +kernel
theorem dX0_sort_19 : decode cX0_sort 19 = .ok (.iload_n 2, 1) := by decide +kernel
theorem dX0_sort_20 : decode cX0_sort 20 = .ok (.istore 4, 2) := by decide +kernel
theorem dX0_sort_22 : decode cX0_sort 22 = .ok (.iload 4, 2) := by decide +kernel
theorem dX0_sort_24 : decode cX0_sort 24 = .ok (.ifCond .le 73, 3) := by decide +kernel
theorem dX0_sort_27 : decode cX0_sort 27 = .ok (.aload_n 0, 1) := by decide +kernel
theorem dX0_sort_28 : decode cX0_sort 28 = .ok (.getfield 17, 3) := by decide +kernel
theorem dX0_sort_31 : decode cX0_sort 31 = .ok (.iload_n 1, 1) := by decide +kernel
theorem dX0_sort_32 : decode cX0_sort 32 = .ok (.bipush 12, 2) := by decide +kernel
theorem dX0_sort_34 : decode cX0_sort 34 = .ok (.imul, 1) := by decide +kernel
theorem dX0_sort_35 : decode cX0_sort 35 = .ok (.aload_n 0, 1) := by decide +kernel
theorem dX0_sort_36 : decode cX0_sort 36 = .ok (.getfield 24, 3) := by decide +kernel
theorem dX0_sort_39 : decode cX0_sort 39 = .ok (.iload_n 1, 1) := by decide +kernel
theorem dX0_sort_40 : decode cX0_sort 40 = .ok (.bipush 12, 2) := by decide +kernel
theorem dX0_sort_42 : decode cX0_sort 42 = .ok (.imul, 1) := by decide +kernel
theorem dX0_sort_43 : decode cX0_sort 43 = .ok (.iload 4, 2) := by decide +kernel
theorem dX0_sort_45 : decode cX0_sort 45 = .ok (.iadd, 1) := by decide +kernel
theorem dX0_sort_46 : decode cX0_sort 46 = .ok (.iconst 1, 1) := by decide +kernel
theorem dX0_sort_47 : decode cX0_sort 47 = .ok (.isub, 1) := by decide +kernel
theorem dX0_sort_48 : decode cX0_sort 48 = .ok (.baload, 1) := by decide +kernel
theorem dX0_sort_49 : decode cX0_sort 49 = .ok (.iadd, 1) := by decide +kernel
theorem dX0_sort_50 : decode cX0_sort 50 = .ok (.saload, 1) := by decide +kernel
theorem dX0_sort_51 : decode cX0_sort 51 = .ok (.aload_n 0, 1) := by decide +kernel
theorem dX0_sort_52 : decode cX0_sort 52 = .ok (.getfield 17, 3) := by decide +kernel
theorem dX0_sort_55 : decode cX0_sort 55 = .ok (.iload_n 1, 1) := by decide +kernel
theorem dX0_sort_56 : decode cX0_sort 56 = .ok (.bipush 12, 2) := by decide +kernel
theorem dX0_sort_58 : decode cX0_sort 58 = .ok (.imul, 1) := by decide +kernel
theorem dX0_sort_59 : decode cX0_sort 59 = .ok (.iload_n 3, 1) := by decide +kernel
theorem dX0_sort_60 : decode cX0_sort 60 = .ok (.iadd, 1) := by decide +kernel
theorem dX0_sort_61 : decode cX0_sort 61 = .ok (.saload, 1) := by decide +kernel
theorem dX0_sort_62 : decode cX0_sort 62 = .ok (.if_icmp .ge 35, 3) := by decide +kernel
theorem dX0_sort_65 : decode cX0_sort 65 = .ok (.aload_n 0, 1) := by decide +kernel
theorem dX0_sort_66 : decode cX0_sort 66 = .ok (.getfield 24, 3) := by decide +kernel
theorem dX0_sort_69 : decode cX0_sort 69 = .ok (.iload_n 1, 1) := by decide +kernel
theorem dX0_sort_70 : decode cX0_sort 70 = .ok (.bipush 12, 2) := by decide +kernel
theorem dX0_sort_72 : decode cX0_sort 72 = .ok (.imul, 1) := by decide +kernel
theorem dX0_sort_73 : decode cX0_sort 73 = .ok (.iload 4, 2) := by decide +kernel
theorem dX0_sort_75 : decode cX0_sort 75 = .ok (.iadd, 1) := by decide +kernel
theorem dX0_sort_76 : decode cX0_sort 76 = .ok (.aload_n 0, 1) := by decide +kernel
theorem dX0_sort_77 : decode cX0_sort 77 = .ok (.getfield 24, 3) := by decide +kernel
theorem dX0_sort_80 : decode cX0_sort 80 = .ok (.iload_n 1, 1) := by decide +kernel
theorem dX0_sort_81 : decode cX0_sort 81 = .ok (.bipush 12, 2) := by decide +kernel
theorem dX0_sort_83 : decode cX0_sort 83 = .ok (.imul, 1) := by decide +kernel
theorem dX0_sort_84 : decode cX0_sort 84 = .ok (.iload 4, 2) := by decide +kernel
theorem dX0_sort_86 : decode cX0_sort 86 = .ok (.iadd, 1) := by decide +kernel
theorem dX0_sort_87 : decode cX0_sort 87 = .ok (.iconst 1, 1) := by decide +kernel
theorem dX0_sort_88 : decode cX0_sort 88 = .ok (.isub, 1) := by decide +kernel
theorem dX0_sort_89 : decode cX0_sort 89 = .ok (.baload, 1) := by decide +kernel
theorem dX0_sort_90 : decode cX0_sort 90 = .ok (.bastore, 1) := by decide +kernel
theorem dX0_sort_91 : decode cX0_sort 91 = .ok (.iinc 4 (-1), 3) := by decide +kernel
theorem dX0_sort_94 : decode cX0_sort 94 = .ok (.goto (-72), 3) := by decide +kernel
theorem dX0_sort_97 : decode cX0_sort 97 = .ok (.aload_n 0, 1) := by decide +kernel
theorem dX0_sort_98 : decode cX0_sort 98 = .ok (.getfield 24, 3) := by decide +kernel
theorem dX0_sort_101 : decode cX0_sort 101 = .ok (.iload_n 1, 1) := by decide +kernel
theorem dX0_sort_102 : decode cX0_sort 102 = .ok (.bipush 12, 2) := by decide +kernel
theorem dX0_sort_104 : decode cX0_sort 104 = .ok (.imul, 1) := by decide +kernel
theorem dX0_sort_105 : decode cX0_sort 105 = .ok (.iload 4, 2) := by decide +kernel
theorem dX0_sort_107 : decode cX0_sort 107 = .ok (.iadd, 1) := by decide +kernel
theorem dX0_sort_108 : decode cX0_sort 108 = .ok (.iload_n 3, 1) := by decide +kernel
theorem dX0_sort_109 : decode cX0_sort 109 = .ok (.i2b, 1) := by decide +kernel
theorem dX0_sort_110 : decode cX0_sort 110 = .ok (.bastore, 1) := by decide +kernel
theorem dX0_sort_111 : decode cX0_sort 111 = .ok (.iinc 2 1, 3) := by decide +kernel
theorem dX0_sort_114 : decode cX0_sort 114 = .ok (.iinc 3 1, 3) := by decide +kernel
theorem dX0_sort_117 : decode cX0_sort 117 = .ok (.goto (-113), 3) := by decide +kernel
theorem dX0_sort_120 : decode cX0_sort 120 = .ok (.aload_n 0, 1) := by decide +kernel
theorem dX0_sort_121 : decode cX0_sort 121 = .ok (.getfield 27, 3) := by decide +kernel
theorem dX0_sort_124 : decode cX0_sort 124 = .ok (.iload_n 1, 1) := by decide +kernel
theorem dX0_sort_125 : decode cX0_sort 125 = .ok (.iload_n 2, 1) := by decide +kernel
theorem dX0_sort_126 : decode cX0_sort 126 = .ok (.i2b, 1) := by decide +kernel
theorem dX0_sort_127 : decode cX0_sort 127 = .ok (.bastore, 1) := by decide +kernel
theorem dX0_sort_128 : decode cX0_sort 128 = .ok (.aload_n 0, 1) := by decide +kernel
theorem dX0_sort_129 : decode cX0_sort 129 = .ok (.getfield 30, 3) := by decide +kernel
theorem dX0_sort_132 : decode cX0_sort 132 = .ok (.iload_n 1, 1) := by decide +kernel
theorem dX0_sort_133 : decode cX0_sort 133 = .ok (.iconst 0, 1) := by decide +kernel
theorem dX0_sort_134 : decode cX0_sort 134 = .ok (.bastore, 1) := by decide +kernel
theorem dX0_sort_135 : decode cX0_sort 135 = .ok (.return_, 1) := by decide +kernel
abbrev cX0_produce : ByteArray := prog_1_method_19_code
def yX0_produce : MethodName := ⟨RX0, "produce", "()Z"⟩
theorem dX0_produce_0 : decode cX0_produce 0 = .ok (.aload_n 0, 1) := by decide +kernel
theorem dX0_produce_1 : decode cX0_produce 1 = .ok (.invokevirtual 85, 3) := by decide +kernel
theorem dX0_produce_4 : decode cX0_produce 4 = .ok (.iconst 0, 1) := by decide +kernel
theorem dX0_produce_5 : decode cX0_produce 5 = .ok (.istore_n 1, 1) := by decide +kernel
theorem dX0_produce_6 : decode cX0_produce 6 = .ok (.iload_n 1, 1) := by decide +kernel
theorem dX0_produce_7 : decode cX0_produce 7 = .ok (.bipush 25, 2) := by decide +kernel
theorem dX0_produce_9 : decode cX0_produce 9 = .ok (.if_icmp .ge 120, 3) := by decide +kernel
theorem dX0_produce_12 : decode cX0_produce 12 = .ok (.aload_n 0, 1) := by decide +kernel
theorem dX0_produce_13 : decode cX0_produce 13 = .ok (.getfield 66, 3) := by decide +kernel
theorem dX0_produce_16 : decode cX0_produce 16 = .ok (.ifCond .ne 113, 3) := by decide +kernel
theorem dX0_produce_19 : decode cX0_produce 19 = .ok (.aload_n 0, 1) := by decide +kernel
theorem dX0_produce_20 : decode cX0_produce 20 = .ok (.iconst 0, 1) := by decide +kernel
theorem dX0_produce_21 : decode cX0_produce 21 = .ok (.invokevirtual 88, 3) := by decide +kernel
theorem dX0_produce_24 : decode cX0_produce 24 = .ok (.istore_n 2, 1) := by decide +kernel
theorem dX0_produce_25 : decode cX0_produce 25 = .ok (.aload_n 0, 1) := by decide +kernel
theorem dX0_produce_26 : decode cX0_produce 26 = .ok (.iconst 1, 1) := by decide +kernel
theorem dX0_produce_27 : decode cX0_produce 27 = .ok (.invokevirtual 88, 3) := by decide +kernel
theorem dX0_produce_30 : decode cX0_produce 30 = .ok (.istore_n 3, 1) := by decide +kernel
theorem dX0_produce_31 : decode cX0_produce 31 = .ok (.iload_n 2, 1) := by decide +kernel
theorem dX0_produce_32 : decode cX0_produce 32 = .ok (.iload_n 3, 1) := by decide +kernel
theorem dX0_produce_33 : decode cX0_produce 33 = .ok (.if_icmp .le 7, 3) := by decide +kernel
theorem dX0_produce_36 : decode cX0_produce 36 = .ok (.iload_n 2, 1) := by decide +kernel
theorem dX0_produce_37 : decode cX0_produce 37 = .ok (.goto 4, 3) := by decide +kernel
theorem dX0_produce_40 : decode cX0_produce 40 = .ok (.iload_n 3, 1) := by decide +kernel
theorem dX0_produce_41 : decode cX0_produce 41 = .ok (.istore 4, 2) := by decide +kernel
theorem dX0_produce_43 : decode cX0_produce 43 = .ok (.aload_n 0, 1) := by decide +kernel
theorem dX0_produce_44 : decode cX0_produce 44 = .ok (.getfield 69, 3) := by decide +kernel
theorem dX0_produce_47 : decode cX0_produce 47 = .ok (.ifCond .le 49, 3) := by decide +kernel
theorem dX0_produce_50 : decode cX0_produce 50 = .ok (.aload_n 0, 1) := by decide +kernel
theorem dX0_produce_51 : decode cX0_produce 51 = .ok (.aload_n 0, 1) := by decide +kernel
theorem dX0_produce_52 : decode cX0_produce 52 = .ok (.getfield 33, 3) := by decide +kernel
theorem dX0_produce_55 : decode cX0_produce 55 = .ok (.iconst 0, 1) := by decide +kernel
theorem dX0_produce_56 : decode cX0_produce 56 = .ok (.saload, 1) := by decide +kernel
theorem dX0_produce_57 : decode cX0_produce 57 = .ok (.invokevirtual 62, 3) := by decide +kernel
theorem dX0_produce_60 : decode cX0_produce 60 = .ok (.iload 4, 2) := by decide +kernel
theorem dX0_produce_62 : decode cX0_produce 62 = .ok (.if_icmp .le 34, 3) := by decide +kernel
theorem dX0_produce_65 : decode cX0_produce 65 = .ok (.aload_n 0, 1) := by decide +kernel
theorem dX0_produce_66 : decode cX0_produce 66 = .ok (.getfield 36, 3) := by decide +kernel
theorem dX0_produce_69 : decode cX0_produce 69 = .ok (.aload_n 0, 1) := by decide +kernel
theorem dX0_produce_70 : decode cX0_produce 70 = .ok (.getfield 72, 3) := by decide +kernel
theorem dX0_produce_73 : decode cX0_produce 73 = .ok (.aload_n 0, 1) := by decide +kernel
theorem dX0_produce_74 : decode cX0_produce 74 = .ok (.getfield 33, 3) := by decide +kernel
theorem dX0_produce_77 : decode cX0_produce 77 = .ok (.iconst 0, 1) := by decide +kernel
theorem dX0_produce_78 : decode cX0_produce 78 = .ok (.saload, 1) := by decide +kernel
theorem dX0_produce_79 : decode cX0_produce 79 = .ok (.sastore, 1) := by decide +kernel
theorem dX0_produce_80 : decode cX0_produce 80 = .ok (.aload_n 0, 1) := by decide +kernel
theorem dX0_produce_81 : decode cX0_produce 81 = .ok (.dup, 1) := by decide +kernel
theorem dX0_produce_82 : decode cX0_produce 82 = .ok (.getfield 72, 3) := by decide +kernel
theorem dX0_produce_85 : decode cX0_produce 85 = .ok (.iconst 1, 1) := by decide +kernel
theorem dX0_produce_86 : decode cX0_produce 86 = .ok (.iadd, 1) := by decide +kernel
theorem dX0_produce_87 : decode cX0_produce 87 = .ok (.putfield 72, 3) := by decide +kernel
theorem dX0_produce_90 : decode cX0_produce 90 = .ok (.aload_n 0, 1) := by decide +kernel
theorem dX0_produce_91 : decode cX0_produce 91 = .ok (.invokevirtual 91, 3) := by decide +kernel
theorem dX0_produce_94 : decode cX0_produce 94 = .ok (.iconst 1, 1) := by decide +kernel
theorem dX0_produce_95 : decode cX0_produce 95 = .ok (.ireturn, 1) := by decide +kernel
theorem dX0_produce_96 : decode cX0_produce 96 = .ok (.iload 4, 2) := by decide +kernel
theorem dX0_produce_98 : decode cX0_produce 98 = .ok (.ifCond .ge 11, 3) := by decide +kernel
theorem dX0_produce_101 : decode cX0_produce 101 = .ok (.aload_n 0, 1) := by decide +kernel
theorem dX0_produce_102 : decode cX0_produce 102 = .ok (.iconst 1, 1) := by decide +kernel
theorem dX0_produce_103 : decode cX0_produce 103 = .ok (.putfield 66, 3) := by decide +kernel
theorem dX0_produce_106 : decode cX0_produce 106 = .ok (.goto 17, 3) := by decide +kernel
theorem dX0_produce_109 : decode cX0_produce 109 = .ok (.aload_n 0, 1) := by decide +kernel
theorem dX0_produce_110 : decode cX0_produce 110 = .ok (.iload_n 2, 1) := by decide +kernel
theorem dX0_produce_111 : decode cX0_produce 111 = .ok (.iload_n 3, 1) := by decide +kernel
theorem dX0_produce_112 : decode cX0_produce 112 = .ok (.if_icmp .lt 7, 3) := by decide +kernel
theorem dX0_produce_115 : decode cX0_produce 115 = .ok (.iconst 0, 1) := by decide +kernel
theorem dX0_produce_116 : decode cX0_produce 116 = .ok (.goto 4, 3) := by decide +kernel
theorem dX0_produce_119 : decode cX0_produce 119 = .ok (.iconst 1, 1) := by decide +kernel
theorem dX0_produce_120 : decode cX0_produce 120 = .ok (.invokevirtual 94, 3) := by decide +kernel
theorem dX0_produce_123 : decode cX0_produce 123 = .ok (.iinc 1 1, 3) := by decide +kernel
theorem dX0_produce_126 : decode cX0_produce 126 = .ok (.goto (-120), 3) := by decide +kernel
theorem dX0_produce_129 : decode cX0_produce 129 = .ok (.iconst 0, 1) := by decide +kernel
theorem dX0_produce_130 : decode cX0_produce 130 = .ok (.ireturn, 1) := by decide +kernel
abbrev cX0_hope : ByteArray := prog_1_method_17_code
def yX0_hope : MethodName := ⟨RX0, "hope", "(I)I"⟩
theorem dX0_hope_0 : decode cX0_hope 0 = .ok (.iconst 1, 1) := by decide +kernel
theorem dX0_hope_1 : decode cX0_hope 1 = .ok (.iload_n 1, 1) := by decide +kernel
theorem dX0_hope_2 : decode cX0_hope 2 = .ok (.isub, 1) := by decide +kernel
theorem dX0_hope_3 : decode cX0_hope 3 = .ok (.istore_n 2, 1) := by decide +kernel
theorem dX0_hope_4 : decode cX0_hope 4 = .ok (.aload_n 0, 1) := by decide +kernel
theorem dX0_hope_5 : decode cX0_hope 5 = .ok (.iload_n 1, 1) := by decide +kernel
theorem dX0_hope_6 : decode cX0_hope 6 = .ok (.invokevirtual 79, 3) := by decide +kernel
theorem dX0_hope_9 : decode cX0_hope 9 = .ok (.ifCond .eq 12, 3) := by decide +kernel
theorem dX0_hope_12 : decode cX0_hope 12 = .ok (.aload_n 0, 1) := by decide +kernel
theorem dX0_hope_13 : decode cX0_hope 13 = .ok (.getfield 27, 3) := by decide +kernel
theorem dX0_hope_16 : decode cX0_hope 16 = .ok (.iload_n 2, 1) := by decide +kernel
theorem dX0_hope_17 : decode cX0_hope 17 = .ok (.baload, 1) := by decide +kernel
theorem dX0_hope_18 : decode cX0_hope 18 = .ok (.ifCond .ne 5, 3) := by decide +kernel
theorem dX0_hope_21 : decode cX0_hope 21 = .ok (.iconst (-1), 1) := by decide +kernel
theorem dX0_hope_22 : decode cX0_hope 22 = .ok (.ireturn, 1) := by decide +kernel
theorem dX0_hope_23 : decode cX0_hope 23 = .ok (.aload_n 0, 1) := by decide +kernel
theorem dX0_hope_24 : decode cX0_hope 24 = .ok (.iload_n 1, 1) := by decide +kernel
theorem dX0_hope_25 : decode cX0_hope 25 = .ok (.aload_n 0, 1) := by decide +kernel
theorem dX0_hope_26 : decode cX0_hope 26 = .ok (.getfield 24, 3) := by decide +kernel
theorem dX0_hope_29 : decode cX0_hope 29 = .ok (.iload_n 1, 1) := by decide +kernel
theorem dX0_hope_30 : decode cX0_hope 30 = .ok (.bipush 12, 2) := by decide +kernel
theorem dX0_hope_32 : decode cX0_hope 32 = .ok (.imul, 1) := by decide +kernel
theorem dX0_hope_33 : decode cX0_hope 33 = .ok (.aload_n 0, 1) := by decide +kernel
theorem dX0_hope_34 : decode cX0_hope 34 = .ok (.getfield 30, 3) := by decide +kernel
theorem dX0_hope_37 : decode cX0_hope 37 = .ok (.iload_n 1, 1) := by decide +kernel
theorem dX0_hope_38 : decode cX0_hope 38 = .ok (.baload, 1) := by decide +kernel
theorem dX0_hope_39 : decode cX0_hope 39 = .ok (.iadd, 1) := by decide +kernel
theorem dX0_hope_40 : decode cX0_hope 40 = .ok (.baload, 1) := by decide +kernel
theorem dX0_hope_41 : decode cX0_hope 41 = .ok (.invokevirtual 58, 3) := by decide +kernel
theorem dX0_hope_44 : decode cX0_hope 44 = .ok (.istore_n 3, 1) := by decide +kernel
theorem dX0_hope_45 : decode cX0_hope 45 = .ok (.iload_n 3, 1) := by decide +kernel
theorem dX0_hope_46 : decode cX0_hope 46 = .ok (.aload_n 0, 1) := by decide +kernel
theorem dX0_hope_47 : decode cX0_hope 47 = .ok (.iload_n 2, 1) := by decide +kernel
theorem dX0_hope_48 : decode cX0_hope 48 = .ok (.aload_n 0, 1) := by decide +kernel
theorem dX0_hope_49 : decode cX0_hope 49 = .ok (.getfield 24, 3) := by decide +kernel
theorem dX0_hope_52 : decode cX0_hope 52 = .ok (.iload_n 2, 1) := by decide +kernel
theorem dX0_hope_53 : decode cX0_hope 53 = .ok (.bipush 12, 2) := by decide +kernel
theorem dX0_hope_55 : decode cX0_hope 55 = .ok (.imul, 1) := by decide +kernel
theorem dX0_hope_56 : decode cX0_hope 56 = .ok (.baload, 1) := by decide +kernel
theorem dX0_hope_57 : decode cX0_hope 57 = .ok (.invokevirtual 58, 3) := by decide +kernel
theorem dX0_hope_60 : decode cX0_hope 60 = .ok (.iadd, 1) := by decide +kernel
theorem dX0_hope_61 : decode cX0_hope 61 = .ok (.ireturn, 1) := by decide +kernel
abbrev cX0_unread : ByteArray := prog_1_method_16_code
def yX0_unread : MethodName := ⟨RX0, "unread", "(I)Z"⟩
theorem dX0_unread_0 : decode cX0_unread 0 = .ok (.aload_n 0, 1) := by decide +kernel
theorem dX0_unread_1 : decode cX0_unread 1 = .ok (.getfield 30, 3) := by decide +kernel
theorem dX0_unread_4 : decode cX0_unread 4 = .ok (.iload_n 1, 1) := by decide +kernel
theorem dX0_unread_5 : decode cX0_unread 5 = .ok (.baload, 1) := by decide +kernel
theorem dX0_unread_6 : decode cX0_unread 6 = .ok (.aload_n 0, 1) := by decide +kernel
theorem dX0_unread_7 : decode cX0_unread 7 = .ok (.getfield 27, 3) := by decide +kernel
theorem dX0_unread_10 : decode cX0_unread 10 = .ok (.iload_n 1, 1) := by decide +kernel
theorem dX0_unread_11 : decode cX0_unread 11 = .ok (.baload, 1) := by decide +kernel
theorem dX0_unread_12 : decode cX0_unread 12 = .ok (.if_icmp .ge 7, 3) := by decide +kernel
theorem dX0_unread_15 : decode cX0_unread 15 = .ok (.iconst 1, 1) := by decide +kernel
theorem dX0_unread_16 : decode cX0_unread 16 = .ok (.goto 4, 3) := by decide +kernel
theorem dX0_unread_19 : decode cX0_unread 19 = .ok (.iconst 0, 1) := by decide +kernel
theorem dX0_unread_20 : decode cX0_unread 20 = .ok (.ireturn, 1) := by decide +kernel
abbrev cX0_part : ByteArray := prog_1_method_11_code
def yX0_part : MethodName := ⟨RX0, "part", "(II)I"⟩
theorem dX0_part_0 : decode cX0_part 0 = .ok (.aload_n 0, 1) := by decide +kernel
theorem dX0_part_1 : decode cX0_part 1 = .ok (.getfield 21, 3) := by decide +kernel
theorem dX0_part_4 : decode cX0_part 4 = .ok (.iload_n 1, 1) := by decide +kernel
theorem dX0_part_5 : decode cX0_part 5 = .ok (.baload, 1) := by decide +kernel
theorem dX0_part_6 : decode cX0_part 6 = .ok (.aload_n 0, 1) := by decide +kernel
theorem dX0_part_7 : decode cX0_part 7 = .ok (.getfield 17, 3) := by decide +kernel
theorem dX0_part_10 : decode cX0_part 10 = .ok (.iload_n 1, 1) := by decide +kernel
theorem dX0_part_11 : decode cX0_part 11 = .ok (.bipush 12, 2) := by decide +kernel
theorem dX0_part_13 : decode cX0_part 13 = .ok (.imul, 1) := by decide +kernel
theorem dX0_part_14 : decode cX0_part 14 = .ok (.iload_n 2, 1) := by decide +kernel
theorem dX0_part_15 : decode cX0_part 15 = .ok (.iadd, 1) := by decide +kernel
theorem dX0_part_16 : decode cX0_part 16 = .ok (.saload, 1) := by decide +kernel
theorem dX0_part_17 : decode cX0_part 17 = .ok (.imul, 1) := by decide +kernel
theorem dX0_part_18 : decode cX0_part 18 = .ok (.ireturn, 1) := by decide +kernel
abbrev cX0_valueOf : ByteArray := prog_1_method_12_code
def yX0_valueOf : MethodName := ⟨RX0, "valueOf", "(I)I"⟩
theorem dX0_valueOf_0 : decode cX0_valueOf 0 = .ok (.aload_n 0, 1) := by decide +kernel
theorem dX0_valueOf_1 : decode cX0_valueOf 1 = .ok (.iconst 0, 1) := by decide +kernel
theorem dX0_valueOf_2 : decode cX0_valueOf 2 = .ok (.iload_n 1, 1) := by decide +kernel
theorem dX0_valueOf_3 : decode cX0_valueOf 3 = .ok (.iconst 4, 1) := by decide +kernel
theorem dX0_valueOf_4 : decode cX0_valueOf 4 = .ok (.ishr, 1) := by decide +kernel
theorem dX0_valueOf_5 : decode cX0_valueOf 5 = .ok (.invokevirtual 58, 3) := by decide +kernel
theorem dX0_valueOf_8 : decode cX0_valueOf 8 = .ok (.istore_n 2, 1) := by decide +kernel
theorem dX0_valueOf_9 : decode cX0_valueOf 9 = .ok (.iload_n 2, 1) := by decide +kernel
theorem dX0_valueOf_10 : decode cX0_valueOf 10 = .ok (.aload_n 0, 1) := by decide +kernel
theorem dX0_valueOf_11 : decode cX0_valueOf 11 = .ok (.iconst 1, 1) := by decide +kernel
theorem dX0_valueOf_12 : decode cX0_valueOf 12 = .ok (.iload_n 1, 1) := by decide +kernel
theorem dX0_valueOf_13 : decode cX0_valueOf 13 = .ok (.bipush 15, 2) := by decide +kernel
theorem dX0_valueOf_15 : decode cX0_valueOf 15 = .ok (.iand, 1) := by decide +kernel
theorem dX0_valueOf_16 : decode cX0_valueOf 16 = .ok (.invokevirtual 58, 3) := by decide +kernel
theorem dX0_valueOf_19 : decode cX0_valueOf 19 = .ok (.iadd, 1) := by decide +kernel
theorem dX0_valueOf_20 : decode cX0_valueOf 20 = .ok (.ireturn, 1) := by decide +kernel
abbrev cX0_pop : ByteArray := prog_1_method_21_code
def yX0_pop : MethodName := ⟨RX0, "pop", "()V"⟩
theorem dX0_pop_0 : decode cX0_pop 0 = .ok (.aload_n 0, 1) := by decide +kernel
theorem dX0_pop_1 : decode cX0_pop 1 = .ok (.dup, 1) := by decide +kernel
theorem dX0_pop_2 : decode cX0_pop 2 = .ok (.getfield 69, 3) := by decide +kernel
theorem dX0_pop_5 : decode cX0_pop 5 = .ok (.iconst 1, 1) := by decide +kernel
theorem dX0_pop_6 : decode cX0_pop 6 = .ok (.isub, 1) := by decide +kernel
theorem dX0_pop_7 : decode cX0_pop 7 = .ok (.putfield 69, 3) := by decide +kernel
theorem dX0_pop_10 : decode cX0_pop 10 = .ok (.aload_n 0, 1) := by decide +kernel
theorem dX0_pop_11 : decode cX0_pop 11 = .ok (.getfield 33, 3) := by decide +kernel
theorem dX0_pop_14 : decode cX0_pop 14 = .ok (.aload_n 0, 1) := by decide +kernel
theorem dX0_pop_15 : decode cX0_pop 15 = .ok (.getfield 69, 3) := by decide +kernel
theorem dX0_pop_18 : decode cX0_pop 18 = .ok (.saload, 1) := by decide +kernel
theorem dX0_pop_19 : decode cX0_pop 19 = .ok (.istore_n 1, 1) := by decide +kernel
theorem dX0_pop_20 : decode cX0_pop 20 = .ok (.iconst 0, 1) := by decide +kernel
theorem dX0_pop_21 : decode cX0_pop 21 = .ok (.istore_n 2, 1) := by decide +kernel
theorem dX0_pop_22 : decode cX0_pop 22 = .ok (.aload_n 0, 1) := by decide +kernel
theorem dX0_pop_23 : decode cX0_pop 23 = .ok (.iconst 0, 1) := by decide +kernel
theorem dX0_pop_24 : decode cX0_pop 24 = .ok (.invokevirtual 100, 3) := by decide +kernel
theorem dX0_pop_27 : decode cX0_pop 27 = .ok (.istore_n 3, 1) := by decide +kernel
theorem dX0_pop_28 : decode cX0_pop 28 = .ok (.iload_n 3, 1) := by decide +kernel
theorem dX0_pop_29 : decode cX0_pop 29 = .ok (.ifCond .lt 40, 3) := by decide +kernel
theorem dX0_pop_32 : decode cX0_pop 32 = .ok (.aload_n 0, 1) := by decide +kernel
theorem dX0_pop_33 : decode cX0_pop 33 = .ok (.aload_n 0, 1) := by decide +kernel
theorem dX0_pop_34 : decode cX0_pop 34 = .ok (.getfield 33, 3) := by decide +kernel
theorem dX0_pop_37 : decode cX0_pop 37 = .ok (.iload_n 3, 1) := by decide +kernel
theorem dX0_pop_38 : decode cX0_pop 38 = .ok (.saload, 1) := by decide +kernel
theorem dX0_pop_39 : decode cX0_pop 39 = .ok (.iload_n 1, 1) := by decide +kernel
theorem dX0_pop_40 : decode cX0_pop 40 = .ok (.invokevirtual 97, 3) := by decide +kernel
theorem dX0_pop_43 : decode cX0_pop 43 = .ok (.ifCond .eq 26, 3) := by decide +kernel
theorem dX0_pop_46 : decode cX0_pop 46 = .ok (.aload_n 0, 1) := by decide +kernel
theorem dX0_pop_47 : decode cX0_pop 47 = .ok (.getfield 33, 3) := by decide +kernel
theorem dX0_pop_50 : decode cX0_pop 50 = .ok (.iload_n 2, 1) := by decide +kernel
theorem dX0_pop_51 : decode cX0_pop 51 = .ok (.aload_n 0, 1) := by decide +kernel
theorem dX0_pop_52 : decode cX0_pop 52 = .ok (.getfield 33, 3) := by decide +kernel
theorem dX0_pop_55 : decode cX0_pop 55 = .ok (.iload_n 3, 1) := by decide +kernel
theorem dX0_pop_56 : decode cX0_pop 56 = .ok (.saload, 1) := by decide +kernel
theorem dX0_pop_57 : decode cX0_pop 57 = .ok (.sastore, 1) := by decide +kernel
theorem dX0_pop_58 : decode cX0_pop 58 = .ok (.iload_n 3, 1) := by decide +kernel
theorem dX0_pop_59 : decode cX0_pop 59 = .ok (.istore_n 2, 1) := by decide +kernel
theorem dX0_pop_60 : decode cX0_pop 60 = .ok (.aload_n 0, 1) := by decide +kernel
theorem dX0_pop_61 : decode cX0_pop 61 = .ok (.iload_n 2, 1) := by decide +kernel
theorem dX0_pop_62 : decode cX0_pop 62 = .ok (.invokevirtual 100, 3) := by decide +kernel
theorem dX0_pop_65 : decode cX0_pop 65 = .ok (.istore_n 3, 1) := by decide +kernel
theorem dX0_pop_66 : decode cX0_pop 66 = .ok (.goto (-38), 3) := by decide +kernel
theorem dX0_pop_69 : decode cX0_pop 69 = .ok (.aload_n 0, 1) := by decide +kernel
theorem dX0_pop_70 : decode cX0_pop 70 = .ok (.getfield 33, 3) := by decide +kernel
theorem dX0_pop_73 : decode cX0_pop 73 = .ok (.iload_n 2, 1) := by decide +kernel
theorem dX0_pop_74 : decode cX0_pop 74 = .ok (.iload_n 1, 1) := by decide +kernel
theorem dX0_pop_75 : decode cX0_pop 75 = .ok (.i2s, 1) := by decide +kernel
theorem dX0_pop_76 : decode cX0_pop 76 = .ok (.sastore, 1) := by decide +kernel
theorem dX0_pop_77 : decode cX0_pop 77 = .ok (.return_, 1) := by decide +kernel
abbrev cX0_lesserChild : ByteArray := prog_1_method_22_code
def yX0_lesserChild : MethodName := ⟨RX0, "lesserChild", "(I)I"⟩
theorem dX0_lesserChild_0 : decode cX0_lesserChild 0 = .ok (.iconst 2, 1) := by decide +kernel
theorem dX0_lesserChild_1 : decode cX0_lesserChild 1 = .ok (.iload_n 1, 1) := by decide +kernel
theorem dX0_lesserChild_2 : decode cX0_lesserChild 2 = .ok (.imul, 1) := by decide +kernel
theorem dX0_lesserChild_3 : decode cX0_lesserChild 3 = .ok (.iconst 1, 1) := by decide +kernel
theorem dX0_lesserChild_4 : decode cX0_lesserChild 4 = .ok (.iadd, 1) := by decide +kernel
theorem dX0_lesserChild_5 : decode cX0_lesserChild 5 = .ok (.istore_n 2, 1) := by decide +kernel
theorem dX0_lesserChild_6 : decode cX0_lesserChild 6 = .ok (.iload_n 2, 1) := by decide +kernel
theorem dX0_lesserChild_7 : decode cX0_lesserChild 7 = .ok (.iconst 1, 1) := by decide +kernel
theorem dX0_lesserChild_8 : decode cX0_lesserChild 8 = .ok (.iadd, 1) := by decide +kernel
theorem dX0_lesserChild_9 : decode cX0_lesserChild 9 = .ok (.istore_n 3, 1) := by decide +kernel
theorem dX0_lesserChild_10 : decode cX0_lesserChild 10 = .ok (.iload_n 2, 1) := by decide +kernel
theorem dX0_lesserChild_11 : decode cX0_lesserChild 11 = .ok (.aload_n 0, 1) := by decide +kernel
theorem dX0_lesserChild_12 : decode cX0_lesserChild 12 = .ok (.getfield 69, 3) := by decide +kernel
theorem dX0_lesserChild_15 : decode cX0_lesserChild 15 = .ok (.if_icmp .lt 5, 3) := by decide +kernel
theorem dX0_lesserChild_18 : decode cX0_lesserChild 18 = .ok (.iconst (-1), 1) := by decide +kernel
theorem dX0_lesserChild_19 : decode cX0_lesserChild 19 = .ok (.ireturn, 1) := by decide +kernel
theorem dX0_lesserChild_20 : decode cX0_lesserChild 20 = .ok (.iload_n 3, 1) := by decide +kernel
theorem dX0_lesserChild_21 : decode cX0_lesserChild 21 = .ok (.aload_n 0, 1) := by decide +kernel
theorem dX0_lesserChild_22 : decode cX0_lesserChild 22 = .ok (.getfield 69, 3) := by decide +kernel
theorem dX0_lesserChild_25 : decode cX0_lesserChild 25 = .ok (.if_icmp .ge 26, 3) := by decide +kernel
theorem dX0_lesserChild_28 : decode cX0_lesserChild 28 = .ok (.aload_n 0, 1) := by decide +kernel
theorem dX0_lesserChild_29 : decode cX0_lesserChild 29 = .ok (.aload_n 0, 1) := by decide +kernel
theorem dX0_lesserChild_30 : decode cX0_lesserChild 30 = .ok (.getfield 33, 3) := by decide +kernel
theorem dX0_lesserChild_33 : decode cX0_lesserChild 33 = .ok (.iload_n 3, 1) := by decide +kernel
theorem dX0_lesserChild_34 : decode cX0_lesserChild 34 = .ok (.saload, 1) := by decide +kernel
theorem dX0_lesserChild_35 : decode cX0_lesserChild 35 = .ok (.aload_n 0, 1) := by decide +kernel
theorem dX0_lesserChild_36 : decode cX0_lesserChild 36 = .ok (.getfield 33, 3) := by decide +kernel
theorem dX0_lesserChild_39 : decode cX0_lesserChild 39 = .ok (.iload_n 2, 1) := by decide +kernel
theorem dX0_lesserChild_40 : decode cX0_lesserChild 40 = .ok (.saload, 1) := by decide +kernel
theorem dX0_lesserChild_41 : decode cX0_lesserChild 41 = .ok (.invokevirtual 97, 3) := by decide +kernel
theorem dX0_lesserChild_44 : decode cX0_lesserChild 44 = .ok (.ifCond .eq 7, 3) := by decide +kernel
theorem dX0_lesserChild_47 : decode cX0_lesserChild 47 = .ok (.iload_n 3, 1) := by decide +kernel
theorem dX0_lesserChild_48 : decode cX0_lesserChild 48 = .ok (.goto 4, 3) := by decide +kernel
theorem dX0_lesserChild_51 : decode cX0_lesserChild 51 = .ok (.iload_n 2, 1) := by decide +kernel
theorem dX0_lesserChild_52 : decode cX0_lesserChild 52 = .ok (.ireturn, 1) := by decide +kernel
end NMB
end
section
section NMC
set_option maxRecDepth 100000
abbrev cX0_before : ByteArray := prog_1_method_13_code
def yX0_before : MethodName := ⟨RX0, "before", "(II)Z"⟩
theorem dX0_before_0 : decode cX0_before 0 = .ok (.aload_n 0, 1) := by decide +kernel
theorem dX0_before_1 : decode cX0_before 1 = .ok (.iload_n 1, 1) := by decide +kernel
theorem dX0_before_2 : decode cX0_before 2 = .ok (.invokevirtual 62, 3) := by decide +kernel
theorem dX0_before_5 : decode cX0_before 5 = .ok (.istore_n 3, 1) := by decide +kernel
theorem dX0_before_6 : decode cX0_before 6 = .ok (.aload_n 0, 1) := by decide +kernel
theorem dX0_before_7 : decode cX0_before 7 = .ok (.iload_n 2, 1) := by decide +kernel
theorem dX0_before_8 : decode cX0_before 8 = .ok (.invokevirtual 62, 3) := by decide +kernel
theorem dX0_before_11 : decode cX0_before 11 = .ok (.istore 4, 2) := by decide +kernel
theorem dX0_before_13 : decode cX0_before 13 = .ok (.iload_n 3, 1) := by decide +kernel
theorem dX0_before_14 : decode cX0_before 14 = .ok (.iload 4, 2) := by decide +kernel
theorem dX0_before_16 : decode cX0_before 16 = .ok (.if_icmp .gt 14, 3) := by decide +kernel
theorem dX0_before_19 : decode cX0_before 19 = .ok (.iload_n 3, 1) := by decide +kernel
theorem dX0_before_20 : decode cX0_before 20 = .ok (.iload 4, 2) := by decide +kernel
theorem dX0_before_22 : decode cX0_before 22 = .ok (.if_icmp .ne 12, 3) := by decide +kernel
theorem dX0_before_25 : decode cX0_before 25 = .ok (.iload_n 1, 1) := by decide +kernel
theorem dX0_before_26 : decode cX0_before 26 = .ok (.iload_n 2, 1) := by decide +kernel
theorem dX0_before_27 : decode cX0_before 27 = .ok (.if_icmp .ge 7, 3) := by decide +kernel
theorem dX0_before_30 : decode cX0_before 30 = .ok (.iconst 1, 1) := by decide +kernel
theorem dX0_before_31 : decode cX0_before 31 = .ok (.goto 4, 3) := by decide +kernel
theorem dX0_before_34 : decode cX0_before 34 = .ok (.iconst 0, 1) := by decide +kernel
theorem dX0_before_35 : decode cX0_before 35 = .ok (.ireturn, 1) := by decide +kernel
abbrev cX0_readOne : ByteArray := prog_1_method_18_code
def yX0_readOne : MethodName := ⟨RX0, "readOne", "(I)V"⟩
theorem dX0_readOne_0 : decode cX0_readOne 0 = .ok (.aload_n 0, 1) := by decide +kernel
theorem dX0_readOne_1 : decode cX0_readOne 1 = .ok (.getfield 24, 3) := by decide +kernel
theorem dX0_readOne_4 : decode cX0_readOne 4 = .ok (.iload_n 1, 1) := by decide +kernel
theorem dX0_readOne_5 : decode cX0_readOne 5 = .ok (.bipush 12, 2) := by decide +kernel
theorem dX0_readOne_7 : decode cX0_readOne 7 = .ok (.imul, 1) := by decide +kernel
theorem dX0_readOne_8 : decode cX0_readOne 8 = .ok (.aload_n 0, 1) := by decide +kernel
theorem dX0_readOne_9 : decode cX0_readOne 9 = .ok (.getfield 30, 3) := by decide +kernel
theorem dX0_readOne_12 : decode cX0_readOne 12 = .ok (.iload_n 1, 1) := by decide +kernel
theorem dX0_readOne_13 : decode cX0_readOne 13 = .ok (.baload, 1) := by decide +kernel
theorem dX0_readOne_14 : decode cX0_readOne 14 = .ok (.iadd, 1) := by decide +kernel
theorem dX0_readOne_15 : decode cX0_readOne 15 = .ok (.baload, 1) := by decide +kernel
theorem dX0_readOne_16 : decode cX0_readOne 16 = .ok (.istore_n 2, 1) := by decide +kernel
theorem dX0_readOne_17 : decode cX0_readOne 17 = .ok (.aload_n 0, 1) := by decide +kernel
theorem dX0_readOne_18 : decode cX0_readOne 18 = .ok (.getfield 30, 3) := by decide +kernel
theorem dX0_readOne_21 : decode cX0_readOne 21 = .ok (.iload_n 1, 1) := by decide +kernel
theorem dX0_readOne_22 : decode cX0_readOne 22 = .ok (.dup2, 1) := by decide +kernel
theorem dX0_readOne_23 : decode cX0_readOne 23 = .ok (.baload, 1) := by decide +kernel
theorem dX0_readOne_24 : decode cX0_readOne 24 = .ok (.iconst 1, 1) := by decide +kernel
theorem dX0_readOne_25 : decode cX0_readOne 25 = .ok (.iadd, 1) := by decide +kernel
theorem dX0_readOne_26 : decode cX0_readOne 26 = .ok (.i2b, 1) := by decide +kernel
theorem dX0_readOne_27 : decode cX0_readOne 27 = .ok (.bastore, 1) := by decide +kernel
theorem dX0_readOne_28 : decode cX0_readOne 28 = .ok (.iconst 1, 1) := by decide +kernel
theorem dX0_readOne_29 : decode cX0_readOne 29 = .ok (.iload_n 1, 1) := by decide +kernel
theorem dX0_readOne_30 : decode cX0_readOne 30 = .ok (.isub, 1) := by decide +kernel
theorem dX0_readOne_31 : decode cX0_readOne 31 = .ok (.istore_n 3, 1) := by decide +kernel
theorem dX0_readOne_32 : decode cX0_readOne 32 = .ok (.iconst 0, 1) := by decide +kernel
theorem dX0_readOne_33 : decode cX0_readOne 33 = .ok (.istore 4, 2) := by decide +kernel
theorem dX0_readOne_35 : decode cX0_readOne 35 = .ok (.iload 4, 2) := by decide +kernel
theorem dX0_readOne_37 : decode cX0_readOne 37 = .ok (.aload_n 0, 1) := by decide +kernel
theorem dX0_readOne_38 : decode cX0_readOne 38 = .ok (.getfield 30, 3) := by decide +kernel
theorem dX0_readOne_41 : decode cX0_readOne 41 = .ok (.iload_n 3, 1) := by decide +kernel
theorem dX0_readOne_42 : decode cX0_readOne 42 = .ok (.baload, 1) := by decide +kernel
theorem dX0_readOne_43 : decode cX0_readOne 43 = .ok (.if_icmp .ge 78, 3) := by decide +kernel
theorem dX0_readOne_46 : decode cX0_readOne 46 = .ok (.aload_n 0, 1) := by decide +kernel
theorem dX0_readOne_47 : decode cX0_readOne 47 = .ok (.getfield 24, 3) := by decide +kernel
theorem dX0_readOne_50 : decode cX0_readOne 50 = .ok (.iload_n 3, 1) := by decide +kernel
theorem dX0_readOne_51 : decode cX0_readOne 51 = .ok (.bipush 12, 2) := by decide +kernel
theorem dX0_readOne_53 : decode cX0_readOne 53 = .ok (.imul, 1) := by decide +kernel
theorem dX0_readOne_54 : decode cX0_readOne 54 = .ok (.iload 4, 2) := by decide +kernel
theorem dX0_readOne_56 : decode cX0_readOne 56 = .ok (.iadd, 1) := by decide +kernel
theorem dX0_readOne_57 : decode cX0_readOne 57 = .ok (.baload, 1) := by decide +kernel
theorem dX0_readOne_58 : decode cX0_readOne 58 = .ok (.istore 5, 2) := by decide +kernel
theorem dX0_readOne_60 : decode cX0_readOne 60 = .ok (.aload_n 0, 1) := by decide +kernel
theorem dX0_readOne_61 : decode cX0_readOne 61 = .ok (.getfield 13, 3) := by decide +kernel
theorem dX0_readOne_64 : decode cX0_readOne 64 = .ok (.iload_n 3, 1) := by decide +kernel
theorem dX0_readOne_65 : decode cX0_readOne 65 = .ok (.bipush 12, 2) := by decide +kernel
theorem dX0_readOne_67 : decode cX0_readOne 67 = .ok (.imul, 1) := by decide +kernel
theorem dX0_readOne_68 : decode cX0_readOne 68 = .ok (.iload 5, 2) := by decide +kernel
theorem dX0_readOne_70 : decode cX0_readOne 70 = .ok (.iadd, 1) := by decide +kernel
theorem dX0_readOne_71 : decode cX0_readOne 71 = .ok (.baload, 1) := by decide +kernel
theorem dX0_readOne_72 : decode cX0_readOne 72 = .ok (.aload_n 0, 1) := by decide +kernel
theorem dX0_readOne_73 : decode cX0_readOne 73 = .ok (.getfield 13, 3) := by decide +kernel
theorem dX0_readOne_76 : decode cX0_readOne 76 = .ok (.iload_n 1, 1) := by decide +kernel
theorem dX0_readOne_77 : decode cX0_readOne 77 = .ok (.bipush 12, 2) := by decide +kernel
theorem dX0_readOne_79 : decode cX0_readOne 79 = .ok (.imul, 1) := by decide +kernel
theorem dX0_readOne_80 : decode cX0_readOne 80 = .ok (.iload_n 2, 1) := by decide +kernel
theorem dX0_readOne_81 : decode cX0_readOne 81 = .ok (.iadd, 1) := by decide +kernel
theorem dX0_readOne_82 : decode cX0_readOne 82 = .ok (.baload, 1) := by decide +kernel
theorem dX0_readOne_83 : decode cX0_readOne 83 = .ok (.if_icmp .ne 32, 3) := by decide +kernel
theorem dX0_readOne_86 : decode cX0_readOne 86 = .ok (.iload_n 1, 1) := by decide +kernel
theorem dX0_readOne_87 : decode cX0_readOne 87 = .ok (.ifCond .ne 13, 3) := by decide +kernel
theorem dX0_readOne_90 : decode cX0_readOne 90 = .ok (.iload_n 2, 1) := by decide +kernel
theorem dX0_readOne_91 : decode cX0_readOne 91 = .ok (.bipush 16, 2) := by decide +kernel
theorem dX0_readOne_93 : decode cX0_readOne 93 = .ok (.imul, 1) := by decide +kernel
theorem dX0_readOne_94 : decode cX0_readOne 94 = .ok (.iload 5, 2) := by decide +kernel
theorem dX0_readOne_96 : decode cX0_readOne 96 = .ok (.iadd, 1) := by decide +kernel
theorem dX0_readOne_97 : decode cX0_readOne 97 = .ok (.goto 10, 3) := by decide +kernel
theorem dX0_readOne_100 : decode cX0_readOne 100 = .ok (.iload 5, 2) := by decide +kernel
theorem dX0_readOne_102 : decode cX0_readOne 102 = .ok (.bipush 16, 2) := by decide +kernel
theorem dX0_readOne_104 : decode cX0_readOne 104 = .ok (.imul, 1) := by decide +kernel
theorem dX0_readOne_105 : decode cX0_readOne 105 = .ok (.iload_n 2, 1) := by decide +kernel
theorem dX0_readOne_106 : decode cX0_readOne 106 = .ok (.iadd, 1) := by decide +kernel
theorem dX0_readOne_107 : decode cX0_readOne 107 = .ok (.istore 6, 2) := by decide +kernel
theorem dX0_readOne_109 : decode cX0_readOne 109 = .ok (.aload_n 0, 1) := by decide +kernel
theorem dX0_readOne_110 : decode cX0_readOne 110 = .ok (.iload 6, 2) := by decide +kernel
theorem dX0_readOne_112 : decode cX0_readOne 112 = .ok (.invokevirtual 82, 3) := by decide +kernel
theorem dX0_readOne_115 : decode cX0_readOne 115 = .ok (.iinc 4 1, 3) := by decide +kernel
theorem dX0_readOne_118 : decode cX0_readOne 118 = .ok (.goto (-83), 3) := by decide +kernel
theorem dX0_readOne_121 : decode cX0_readOne 121 = .ok (.return_, 1) := by decide +kernel
abbrev cX0_push : ByteArray := prog_1_method_20_code
def yX0_push : MethodName := ⟨RX0, "push", "(I)V"⟩
theorem dX0_push_0 : decode cX0_push 0 = .ok (.aload_n 0, 1) := by decide +kernel
theorem dX0_push_1 : decode cX0_push 1 = .ok (.getfield 69, 3) := by decide +kernel
theorem dX0_push_4 : decode cX0_push 4 = .ok (.istore_n 2, 1) := by decide +kernel
theorem dX0_push_5 : decode cX0_push 5 = .ok (.aload_n 0, 1) := by decide +kernel
theorem dX0_push_6 : decode cX0_push 6 = .ok (.dup, 1) := by decide +kernel
theorem dX0_push_7 : decode cX0_push 7 = .ok (.getfield 69, 3) := by decide +kernel
theorem dX0_push_10 : decode cX0_push 10 = .ok (.iconst 1, 1) := by decide +kernel
theorem dX0_push_11 : decode cX0_push 11 = .ok (.iadd, 1) := by decide +kernel
theorem dX0_push_12 : decode cX0_push 12 = .ok (.putfield 69, 3) := by decide +kernel
theorem dX0_push_15 : decode cX0_push 15 = .ok (.iload_n 2, 1) := by decide +kernel
theorem dX0_push_16 : decode cX0_push 16 = .ok (.ifCond .le 46, 3) := by decide +kernel
theorem dX0_push_19 : decode cX0_push 19 = .ok (.aload_n 0, 1) := by decide +kernel
theorem dX0_push_20 : decode cX0_push 20 = .ok (.iload_n 1, 1) := by decide +kernel
theorem dX0_push_21 : decode cX0_push 21 = .ok (.aload_n 0, 1) := by decide +kernel
theorem dX0_push_22 : decode cX0_push 22 = .ok (.getfield 33, 3) := by decide +kernel
theorem dX0_push_25 : decode cX0_push 25 = .ok (.iload_n 2, 1) := by decide +kernel
theorem dX0_push_26 : decode cX0_push 26 = .ok (.iconst 1, 1) := by decide +kernel
theorem dX0_push_27 : decode cX0_push 27 = .ok (.isub, 1) := by decide +kernel
theorem dX0_push_28 : decode cX0_push 28 = .ok (.iconst 1, 1) := by decide +kernel
theorem dX0_push_29 : decode cX0_push 29 = .ok (.ishr, 1) := by decide +kernel
theorem dX0_push_30 : decode cX0_push 30 = .ok (.saload, 1) := by decide +kernel
theorem dX0_push_31 : decode cX0_push 31 = .ok (.invokevirtual 97, 3) := by decide +kernel
theorem dX0_push_34 : decode cX0_push 34 = .ok (.ifCond .eq 28, 3) := by decide +kernel
theorem dX0_push_37 : decode cX0_push 37 = .ok (.aload_n 0, 1) := by decide +kernel
theorem dX0_push_38 : decode cX0_push 38 = .ok (.getfield 33, 3) := by decide +kernel
theorem dX0_push_41 : decode cX0_push 41 = .ok (.iload_n 2, 1) := by decide +kernel
theorem dX0_push_42 : decode cX0_push 42 = .ok (.aload_n 0, 1) := by decide +kernel
theorem dX0_push_43 : decode cX0_push 43 = .ok (.getfield 33, 3) := by decide +kernel
theorem dX0_push_46 : decode cX0_push 46 = .ok (.iload_n 2, 1) := by decide +kernel
theorem dX0_push_47 : decode cX0_push 47 = .ok (.iconst 1, 1) := by decide +kernel
theorem dX0_push_48 : decode cX0_push 48 = .ok (.isub, 1) := by decide +kernel
theorem dX0_push_49 : decode cX0_push 49 = .ok (.iconst 1, 1) := by decide +kernel
theorem dX0_push_50 : decode cX0_push 50 = .ok (.ishr, 1) := by decide +kernel
theorem dX0_push_51 : decode cX0_push 51 = .ok (.saload, 1) := by decide +kernel
theorem dX0_push_52 : decode cX0_push 52 = .ok (.sastore, 1) := by decide +kernel
theorem dX0_push_53 : decode cX0_push 53 = .ok (.iload_n 2, 1) := by decide +kernel
theorem dX0_push_54 : decode cX0_push 54 = .ok (.iconst 1, 1) := by decide +kernel
theorem dX0_push_55 : decode cX0_push 55 = .ok (.isub, 1) := by decide +kernel
theorem dX0_push_56 : decode cX0_push 56 = .ok (.iconst 1, 1) := by decide +kernel
theorem dX0_push_57 : decode cX0_push 57 = .ok (.ishr, 1) := by decide +kernel
theorem dX0_push_58 : decode cX0_push 58 = .ok (.istore_n 2, 1) := by decide +kernel
theorem dX0_push_59 : decode cX0_push 59 = .ok (.goto (-44), 3) := by decide +kernel
theorem dX0_push_62 : decode cX0_push 62 = .ok (.aload_n 0, 1) := by decide +kernel
theorem dX0_push_63 : decode cX0_push 63 = .ok (.getfield 33, 3) := by decide +kernel
theorem dX0_push_66 : decode cX0_push 66 = .ok (.iload_n 2, 1) := by decide +kernel
theorem dX0_push_67 : decode cX0_push 67 = .ok (.iload_n 1, 1) := by decide +kernel
theorem dX0_push_68 : decode cX0_push 68 = .ok (.i2s, 1) := by decide +kernel
theorem dX0_push_69 : decode cX0_push 69 = .ok (.sastore, 1) := by decide +kernel
theorem dX0_push_70 : decode cX0_push 70 = .ok (.return_, 1) := by decide +kernel
abbrev cX0_passed : ByteArray := prog_1_method_25_code
def yX0_passed : MethodName := ⟨RX0, "passed", "()I"⟩
theorem dX0_passed_0 : decode cX0_passed 0 = .ok (.aload_n 0, 1) := by decide +kernel
theorem dX0_passed_1 : decode cX0_passed 1 = .ok (.getfield 47, 3) := by decide +kernel
theorem dX0_passed_4 : decode cX0_passed 4 = .ok (.ireturn, 1) := by decide +kernel
abbrev cX0_lastValue : ByteArray := prog_1_method_26_code
def yX0_lastValue : MethodName := ⟨RX0, "lastValue", "()I"⟩
theorem dX0_lastValue_0 : decode cX0_lastValue 0 = .ok (.aload_n 0, 1) := by decide +kernel
theorem dX0_lastValue_1 : decode cX0_lastValue 1 = .ok (.getfield 47, 3) := by decide +kernel
theorem dX0_lastValue_4 : decode cX0_lastValue 4 = .ok (.ifCond .ne 5, 3) := by decide +kernel
theorem dX0_lastValue_7 : decode cX0_lastValue 7 = .ok (.iconst (-1), 1) := by decide +kernel
theorem dX0_lastValue_8 : decode cX0_lastValue 8 = .ok (.ireturn, 1) := by decide +kernel
theorem dX0_lastValue_9 : decode cX0_lastValue 9 = .ok (.aload_n 0, 1) := by decide +kernel
theorem dX0_lastValue_10 : decode cX0_lastValue 10 = .ok (.aload_n 0, 1) := by decide +kernel
theorem dX0_lastValue_11 : decode cX0_lastValue 11 = .ok (.getfield 36, 3) := by decide +kernel
theorem dX0_lastValue_14 : decode cX0_lastValue 14 = .ok (.aload_n 0, 1) := by decide +kernel
theorem dX0_lastValue_15 : decode cX0_lastValue 15 = .ok (.getfield 47, 3) := by decide +kernel
theorem dX0_lastValue_18 : decode cX0_lastValue 18 = .ok (.iconst 1, 1) := by decide +kernel
theorem dX0_lastValue_19 : decode cX0_lastValue 19 = .ok (.isub, 1) := by decide +kernel
theorem dX0_lastValue_20 : decode cX0_lastValue 20 = .ok (.saload, 1) := by decide +kernel
theorem dX0_lastValue_21 : decode cX0_lastValue 21 = .ok (.invokevirtual 62, 3) := by decide +kernel
theorem dX0_lastValue_24 : decode cX0_lastValue 24 = .ok (.ireturn, 1) := by decide +kernel
abbrev cX0_rewind : ByteArray := prog_1_method_27_code
def yX0_rewind : MethodName := ⟨RX0, "rewind", "()V"⟩
theorem dX0_rewind_0 : decode cX0_rewind 0 = .ok (.aload_n 0, 1) := by decide +kernel
theorem dX0_rewind_1 : decode cX0_rewind 1 = .ok (.iconst 0, 1) := by decide +kernel
theorem dX0_rewind_2 : decode cX0_rewind 2 = .ok (.putfield 47, 3) := by decide +kernel
theorem dX0_rewind_5 : decode cX0_rewind 5 = .ok (.return_, 1) := by decide +kernel
abbrev cX0_pairAt : ByteArray := prog_1_method_28_code
def yX0_pairAt : MethodName := ⟨RX0, "pairAt", "(I)I"⟩
theorem dX0_pairAt_0 : decode cX0_pairAt 0 = .ok (.iload_n 1, 1) := by decide +kernel
theorem dX0_pairAt_1 : decode cX0_pairAt 1 = .ok (.ifCond .lt 18, 3) := by decide +kernel
theorem dX0_pairAt_4 : decode cX0_pairAt 4 = .ok (.iload_n 1, 1) := by decide +kernel
theorem dX0_pairAt_5 : decode cX0_pairAt 5 = .ok (.sipush 144, 3) := by decide +kernel
theorem dX0_pairAt_8 : decode cX0_pairAt 8 = .ok (.if_icmp .ge 11, 3) := by decide +kernel
theorem dX0_pairAt_11 : decode cX0_pairAt 11 = .ok (.aload_n 0, 1) := by decide +kernel
theorem dX0_pairAt_12 : decode cX0_pairAt 12 = .ok (.iload_n 1, 1) := by decide +kernel
theorem dX0_pairAt_13 : decode cX0_pairAt 13 = .ok (.invokevirtual 107, 3) := by decide +kernel
theorem dX0_pairAt_16 : decode cX0_pairAt 16 = .ok (.ifCond .ne 5, 3) := by decide +kernel
theorem dX0_pairAt_19 : decode cX0_pairAt 19 = .ok (.iconst (-1), 1) := by decide +kernel
theorem dX0_pairAt_20 : decode cX0_pairAt 20 = .ok (.ireturn, 1) := by decide +kernel
theorem dX0_pairAt_21 : decode cX0_pairAt 21 = .ok (.aload_n 0, 1) := by decide +kernel
theorem dX0_pairAt_22 : decode cX0_pairAt 22 = .ok (.getfield 36, 3) := by decide +kernel
theorem dX0_pairAt_25 : decode cX0_pairAt 25 = .ok (.iload_n 1, 1) := by decide +kernel
theorem dX0_pairAt_26 : decode cX0_pairAt 26 = .ok (.saload, 1) := by decide +kernel
theorem dX0_pairAt_27 : decode cX0_pairAt 27 = .ok (.ireturn, 1) := by decide +kernel
abbrev cX0_pairs : ByteArray := prog_1_method_29_code
def yX0_pairs : MethodName := ⟨RX0, "pairs", "()I"⟩
theorem dX0_pairs_0 : decode cX0_pairs 0 = .ok (.iconst 0, 1) := by decide +kernel
theorem dX0_pairs_1 : decode cX0_pairs 1 = .ok (.istore_n 1, 1) := by decide +kernel
theorem dX0_pairs_2 : decode cX0_pairs 2 = .ok (.iconst 0, 1) := by decide +kernel
theorem dX0_pairs_3 : decode cX0_pairs 3 = .ok (.istore_n 2, 1) := by decide +kernel
theorem dX0_pairs_4 : decode cX0_pairs 4 = .ok (.iload_n 2, 1) := by decide +kernel
theorem dX0_pairs_5 : decode cX0_pairs 5 = .ok (.bipush 8, 2) := by decide +kernel
theorem dX0_pairs_7 : decode cX0_pairs 7 = .ok (.if_icmp .ge 27, 3) := by decide +kernel
theorem dX0_pairs_10 : decode cX0_pairs 10 = .ok (.aload_n 0, 1) := by decide +kernel
theorem dX0_pairs_11 : decode cX0_pairs 11 = .ok (.iconst 0, 1) := by decide +kernel
theorem dX0_pairs_12 : decode cX0_pairs 12 = .ok (.iload_n 2, 1) := by decide +kernel
theorem dX0_pairs_13 : decode cX0_pairs 13 = .ok (.invokevirtual 110, 3) := by decide +kernel
theorem dX0_pairs_16 : decode cX0_pairs 16 = .ok (.istore_n 3, 1) := by decide +kernel
theorem dX0_pairs_17 : decode cX0_pairs 17 = .ok (.iload_n 1, 1) := by decide +kernel
theorem dX0_pairs_18 : decode cX0_pairs 18 = .ok (.iload_n 3, 1) := by decide +kernel
theorem dX0_pairs_19 : decode cX0_pairs 19 = .ok (.aload_n 0, 1) := by decide +kernel
theorem dX0_pairs_20 : decode cX0_pairs 20 = .ok (.iconst 1, 1) := by decide +kernel
theorem dX0_pairs_21 : decode cX0_pairs 21 = .ok (.iload_n 2, 1) := by decide +kernel
theorem dX0_pairs_22 : decode cX0_pairs 22 = .ok (.invokevirtual 110, 3) := by decide +kernel
theorem dX0_pairs_25 : decode cX0_pairs 25 = .ok (.imul, 1) := by decide +kernel
theorem dX0_pairs_26 : decode cX0_pairs 26 = .ok (.iadd, 1) := by decide +kernel
theorem dX0_pairs_27 : decode cX0_pairs 27 = .ok (.istore_n 1, 1) := by decide +kernel
theorem dX0_pairs_28 : decode cX0_pairs 28 = .ok (.iinc 2 1, 3) := by decide +kernel
theorem dX0_pairs_31 : decode cX0_pairs 31 = .ok (.goto (-27), 3) := by decide +kernel
theorem dX0_pairs_34 : decode cX0_pairs 34 = .ok (.iload_n 1, 1) := by decide +kernel
theorem dX0_pairs_35 : decode cX0_pairs 35 = .ok (.ireturn, 1) := by decide +kernel
abbrev cX0_withKey : ByteArray := prog_1_method_30_code
def yX0_withKey : MethodName := ⟨RX0, "withKey", "(II)I"⟩
theorem dX0_withKey_0 : decode cX0_withKey 0 = .ok (.iconst 0, 1) := by decide +kernel
theorem dX0_withKey_1 : decode cX0_withKey 1 = .ok (.istore_n 3, 1) := by decide +kernel
theorem dX0_withKey_2 : decode cX0_withKey 2 = .ok (.iconst 0, 1) := by decide +kernel
theorem dX0_withKey_3 : decode cX0_withKey 3 = .ok (.istore 4, 2) := by decide +kernel
theorem dX0_withKey_5 : decode cX0_withKey 5 = .ok (.iload 4, 2) := by decide +kernel
theorem dX0_withKey_7 : decode cX0_withKey 7 = .ok (.bipush 12, 2) := by decide +kernel
theorem dX0_withKey_9 : decode cX0_withKey 9 = .ok (.if_icmp .ge 38, 3) := by decide +kernel
theorem dX0_withKey_12 : decode cX0_withKey 12 = .ok (.aload_n 0, 1) := by decide +kernel
theorem dX0_withKey_13 : decode cX0_withKey 13 = .ok (.iload_n 1, 1) := by decide +kernel
theorem dX0_withKey_14 : decode cX0_withKey 14 = .ok (.iload 4, 2) := by decide +kernel
theorem dX0_withKey_16 : decode cX0_withKey 16 = .ok (.invokevirtual 51, 3) := by decide +kernel
theorem dX0_withKey_19 : decode cX0_withKey 19 = .ok (.ifCond .eq 22, 3) := by decide +kernel
theorem dX0_withKey_22 : decode cX0_withKey 22 = .ok (.aload_n 0, 1) := by decide +kernel
theorem dX0_withKey_23 : decode cX0_withKey 23 = .ok (.getfield 13, 3) := by decide +kernel
theorem dX0_withKey_26 : decode cX0_withKey 26 = .ok (.iload_n 1, 1) := by decide +kernel
theorem dX0_withKey_27 : decode cX0_withKey 27 = .ok (.bipush 12, 2) := by decide +kernel
theorem dX0_withKey_29 : decode cX0_withKey 29 = .ok (.imul, 1) := by decide +kernel
theorem dX0_withKey_30 : decode cX0_withKey 30 = .ok (.iload 4, 2) := by decide +kernel
theorem dX0_withKey_32 : decode cX0_withKey 32 = .ok (.iadd, 1) := by decide +kernel
theorem dX0_withKey_33 : decode cX0_withKey 33 = .ok (.baload, 1) := by decide +kernel
theorem dX0_withKey_34 : decode cX0_withKey 34 = .ok (.iload_n 2, 1) := by decide +kernel
theorem dX0_withKey_35 : decode cX0_withKey 35 = .ok (.if_icmp .ne 6, 3) := by decide +kernel
theorem dX0_withKey_38 : decode cX0_withKey 38 = .ok (.iinc 3 1, 3) := by decide +kernel
theorem dX0_withKey_41 : decode cX0_withKey 41 = .ok (.iinc 4 1, 3) := by decide +kernel
theorem dX0_withKey_44 : decode cX0_withKey 44 = .ok (.goto (-39), 3) := by decide +kernel
theorem dX0_withKey_47 : decode cX0_withKey 47 = .ok (.iload_n 3, 1) := by decide +kernel
theorem dX0_withKey_48 : decode cX0_withKey 48 = .ok (.ireturn, 1) := by decide +kernel
abbrev cX0_atLeast : ByteArray := prog_1_method_31_code
def yX0_atLeast : MethodName := ⟨RX0, "atLeast", "(I)I"⟩
theorem dX0_atLeast_0 : decode cX0_atLeast 0 = .ok (.iconst 0, 1) := by decide +kernel
theorem dX0_atLeast_1 : decode cX0_atLeast 1 = .ok (.istore_n 2, 1) := by decide +kernel
theorem dX0_atLeast_2 : decode cX0_atLeast 2 = .ok (.iload_n 2, 1) := by decide +kernel
theorem dX0_atLeast_3 : decode cX0_atLeast 3 = .ok (.sipush 144, 3) := by decide +kernel
theorem dX0_atLeast_6 : decode cX0_atLeast 6 = .ok (.if_icmp .ge 33, 3) := by decide +kernel
theorem dX0_atLeast_9 : decode cX0_atLeast 9 = .ok (.aload_n 0, 1) := by decide +kernel
theorem dX0_atLeast_10 : decode cX0_atLeast 10 = .ok (.iload_n 2, 1) := by decide +kernel
theorem dX0_atLeast_11 : decode cX0_atLeast 11 = .ok (.invokevirtual 107, 3) := by decide +kernel
theorem dX0_atLeast_14 : decode cX0_atLeast 14 = .ok (.ifCond .eq 17, 3) := by decide +kernel
theorem dX0_atLeast_17 : decode cX0_atLeast 17 = .ok (.aload_n 0, 1) := by decide +kernel
theorem dX0_atLeast_18 : decode cX0_atLeast 18 = .ok (.aload_n 0, 1) := by decide +kernel
theorem dX0_atLeast_19 : decode cX0_atLeast 19 = .ok (.getfield 36, 3) := by decide +kernel
theorem dX0_atLeast_22 : decode cX0_atLeast 22 = .ok (.iload_n 2, 1) := by decide +kernel
theorem dX0_atLeast_23 : decode cX0_atLeast 23 = .ok (.saload, 1) := by decide +kernel
theorem dX0_atLeast_24 : decode cX0_atLeast 24 = .ok (.invokevirtual 62, 3) := by decide +kernel
theorem dX0_atLeast_27 : decode cX0_atLeast 27 = .ok (.iload_n 1, 1) := by decide +kernel
theorem dX0_atLeast_28 : decode cX0_atLeast 28 = .ok (.if_icmp .ge 5, 3) := by decide +kernel
theorem dX0_atLeast_31 : decode cX0_atLeast 31 = .ok (.iload_n 2, 1) := by decide +kernel
theorem dX0_atLeast_32 : decode cX0_atLeast 32 = .ok (.ireturn, 1) := by decide +kernel
theorem dX0_atLeast_33 : decode cX0_atLeast 33 = .ok (.iinc 2 1, 3) := by decide +kernel
theorem dX0_atLeast_36 : decode cX0_atLeast 36 = .ok (.goto (-34), 3) := by decide +kernel
theorem dX0_atLeast_39 : decode cX0_atLeast 39 = .ok (.sipush 144, 3) := by decide +kernel
theorem dX0_atLeast_42 : decode cX0_atLeast 42 = .ok (.ireturn, 1) := by decide +kernel
abbrev cX0_bestPlace : ByteArray := prog_1_method_32_code
def yX0_bestPlace : MethodName := ⟨RX0, "bestPlace", "(II)I"⟩
theorem dX0_bestPlace_0 : decode cX0_bestPlace 0 = .ok (.aload_n 0, 1) := by decide +kernel
theorem dX0_bestPlace_1 : decode cX0_bestPlace 1 = .ok (.iload_n 1, 1) := by decide +kernel
theorem dX0_bestPlace_2 : decode cX0_bestPlace 2 = .ok (.iload_n 2, 1) := by decide +kernel
theorem dX0_bestPlace_3 : decode cX0_bestPlace 3 = .ok (.invokevirtual 51, 3) := by decide +kernel
theorem dX0_bestPlace_6 : decode cX0_bestPlace 6 = .ok (.ifCond .ne 5, 3) := by decide +kernel
theorem dX0_bestPlace_9 : decode cX0_bestPlace 9 = .ok (.iconst (-1), 1) := by decide +kernel
theorem dX0_bestPlace_10 : decode cX0_bestPlace 10 = .ok (.ireturn, 1) := by decide +kernel
theorem dX0_bestPlace_11 : decode cX0_bestPlace 11 = .ok (.iconst 0, 1) := by decide +kernel
theorem dX0_bestPlace_12 : decode cX0_bestPlace 12 = .ok (.istore_n 3, 1) := by decide +kernel
theorem dX0_bestPlace_13 : decode cX0_bestPlace 13 = .ok (.iload_n 3, 1) := by decide +kernel
theorem dX0_bestPlace_14 : decode cX0_bestPlace 14 = .ok (.sipush 144, 3) := by decide +kernel
theorem dX0_bestPlace_17 : decode cX0_bestPlace 17 = .ok (.if_icmp .ge 53, 3) := by decide +kernel
theorem dX0_bestPlace_20 : decode cX0_bestPlace 20 = .ok (.aload_n 0, 1) := by decide +kernel
theorem dX0_bestPlace_21 : decode cX0_bestPlace 21 = .ok (.iload_n 3, 1) := by decide +kernel
theorem dX0_bestPlace_22 : decode cX0_bestPlace 22 = .ok (.invokevirtual 107, 3) := by decide +kernel
theorem dX0_bestPlace_25 : decode cX0_bestPlace 25 = .ok (.ifCond .ne 5, 3) := by decide +kernel
theorem dX0_bestPlace_28 : decode cX0_bestPlace 28 = .ok (.iconst (-1), 1) := by decide +kernel
theorem dX0_bestPlace_29 : decode cX0_bestPlace 29 = .ok (.ireturn, 1) := by decide +kernel
theorem dX0_bestPlace_30 : decode cX0_bestPlace 30 = .ok (.iload_n 1, 1) := by decide +kernel
theorem dX0_bestPlace_31 : decode cX0_bestPlace 31 = .ok (.ifCond .ne 14, 3) := by decide +kernel
theorem dX0_bestPlace_34 : decode cX0_bestPlace 34 = .ok (.aload_n 0, 1) := by decide +kernel
theorem dX0_bestPlace_35 : decode cX0_bestPlace 35 = .ok (.getfield 36, 3) := by decide +kernel
theorem dX0_bestPlace_38 : decode cX0_bestPlace 38 = .ok (.iload_n 3, 1) := by decide +kernel
theorem dX0_bestPlace_39 : decode cX0_bestPlace 39 = .ok (.saload, 1) := by decide +kernel
theorem dX0_bestPlace_40 : decode cX0_bestPlace 40 = .ok (.iconst 4, 1) := by decide +kernel
theorem dX0_bestPlace_41 : decode cX0_bestPlace 41 = .ok (.ishr, 1) := by decide +kernel
theorem dX0_bestPlace_42 : decode cX0_bestPlace 42 = .ok (.goto 12, 3) := by decide +kernel
theorem dX0_bestPlace_45 : decode cX0_bestPlace 45 = .ok (.aload_n 0, 1) := by decide +kernel
theorem dX0_bestPlace_46 : decode cX0_bestPlace 46 = .ok (.getfield 36, 3) := by decide +kernel
theorem dX0_bestPlace_49 : decode cX0_bestPlace 49 = .ok (.iload_n 3, 1) := by decide +kernel
theorem dX0_bestPlace_50 : decode cX0_bestPlace 50 = .ok (.saload, 1) := by decide +kernel
theorem dX0_bestPlace_51 : decode cX0_bestPlace 51 = .ok (.bipush 15, 2) := by decide +kernel
theorem dX0_bestPlace_53 : decode cX0_bestPlace 53 = .ok (.iand, 1) := by decide +kernel
theorem dX0_bestPlace_54 : decode cX0_bestPlace 54 = .ok (.istore 4, 2) := by decide +kernel
theorem dX0_bestPlace_56 : decode cX0_bestPlace 56 = .ok (.iload 4, 2) := by decide +kernel
theorem dX0_bestPlace_58 : decode cX0_bestPlace 58 = .ok (.iload_n 2, 1) := by decide +kernel
theorem dX0_bestPlace_59 : decode cX0_bestPlace 59 = .ok (.if_icmp .ne 5, 3) := by decide +kernel
theorem dX0_bestPlace_62 : decode cX0_bestPlace 62 = .ok (.iload_n 3, 1) := by decide +kernel
theorem dX0_bestPlace_63 : decode cX0_bestPlace 63 = .ok (.ireturn, 1) := by decide +kernel
theorem dX0_bestPlace_64 : decode cX0_bestPlace 64 = .ok (.iinc 3 1, 3) := by decide +kernel
theorem dX0_bestPlace_67 : decode cX0_bestPlace 67 = .ok (.goto (-54), 3) := by decide +kernel
theorem dX0_bestPlace_70 : decode cX0_bestPlace 70 = .ok (.iconst (-1), 1) := by decide +kernel
theorem dX0_bestPlace_71 : decode cX0_bestPlace 71 = .ok (.ireturn, 1) := by decide +kernel
end NMC
end
section
section NMQ
set_option maxRecDepth 100000
theorem q23 : (Jvm.Cond.initialized "BestPairs") ∈ lw_all := lw_g (lw_at lw_m1 1 rfl) rfl
theorem q26 : (Jvm.Cond.instantiable "BestPairs" (14 : Nat)) ∈ lw_all := lw_g (lw_at lw_m1 4 rfl) rfl
theorem q28 : (Jvm.Cond.instanceMethod ({ cls := "BestPairs", name := "<init>", desc := "()V" } : Jvm.MethodName)) ∈ lw_all := lw_g (lw_at lw_m1 6 rfl) rfl
theorem q29 : (Jvm.Cond.code ({ cls := "BestPairs", name := "<init>", desc := "()V" } : Jvm.MethodName) prog_1_method_1_code (1 : Nat) (Option.none : Option Jvm.ClassFile.FieldType)) ∈ lw_all := lw_g (lw_at lw_m1 7 rfl) rfl
theorem q30 : (Jvm.Cond.methodLink "BestPairs" (1 : Nat) ({ cls := "java/lang/Object", name := "<init>", desc := "()V" } : Jvm.MethodName)) ∈ lw_all := lw_g (lw_at lw_m1 8 rfl) rfl
theorem q33 : (Jvm.Cond.fieldLink "BestPairs" (7 : Nat) "BestPairs" "present" "[I") ∈ lw_all := lw_g (lw_at lw_m1 11 rfl) rfl
theorem q34 : (Jvm.Cond.fieldLink "BestPairs" (13 : Nat) "BestPairs" "keys" "[B") ∈ lw_all := lw_g (lw_at lw_m1 12 rfl) rfl
theorem q35 : (Jvm.Cond.fieldLink "BestPairs" (17 : Nat) "BestPairs" "scores" "[S") ∈ lw_all := lw_g (lw_at lw_m1 13 rfl) rfl
theorem q36 : (Jvm.Cond.fieldLink "BestPairs" (21 : Nat) "BestPairs" "weights" "[B") ∈ lw_all := lw_g (lw_at lw_m1 14 rfl) rfl
theorem q37 : (Jvm.Cond.fieldLink "BestPairs" (43 : Nat) "BestPairs" "begun" "Z") ∈ lw_all := lw_g (lw_at lw_m1 15 rfl) rfl
theorem q38 : (Jvm.Cond.fieldLink "BestPairs" (24 : Nat) "BestPairs" "sorted" "[B") ∈ lw_all := lw_g (lw_at lw_m1 16 rfl) rfl
theorem q39 : (Jvm.Cond.fieldLink "BestPairs" (27 : Nat) "BestPairs" "sizes" "[B") ∈ lw_all := lw_g (lw_at lw_m1 17 rfl) rfl
theorem q40 : (Jvm.Cond.fieldLink "BestPairs" (30 : Nat) "BestPairs" "read" "[B") ∈ lw_all := lw_g (lw_at lw_m1 18 rfl) rfl
theorem q41 : (Jvm.Cond.fieldLink "BestPairs" (33 : Nat) "BestPairs" "heap" "[S") ∈ lw_all := lw_g (lw_at lw_m1 19 rfl) rfl
theorem q42 : (Jvm.Cond.fieldLink "BestPairs" (69 : Nat) "BestPairs" "heapSize" "I") ∈ lw_all := lw_g (lw_at lw_m1 20 rfl) rfl
theorem q43 : (Jvm.Cond.fieldLink "BestPairs" (36 : Nat) "BestPairs" "ranked" "[S") ∈ lw_all := lw_g (lw_at lw_m1 21 rfl) rfl
theorem q44 : (Jvm.Cond.fieldLink "BestPairs" (72 : Nat) "BestPairs" "rankedSize" "I") ∈ lw_all := lw_g (lw_at lw_m1 22 rfl) rfl
theorem q45 : (Jvm.Cond.fieldLink "BestPairs" (66 : Nat) "BestPairs" "done" "Z") ∈ lw_all := lw_g (lw_at lw_m1 23 rfl) rfl
theorem q46 : (Jvm.Cond.fieldLink "BestPairs" (47 : Nat) "BestPairs" "cursor" "I") ∈ lw_all := lw_g (lw_at lw_m1 24 rfl) rfl
theorem q47 : (Jvm.Cond.laysFinal "BestPairs" "BestPairs" "present" "[I") ∈ lw_all := lw_g (lw_at lw_m1 25 rfl) rfl
theorem q48 : (Jvm.Cond.soleField "BestPairs" "present") ∈ lw_all := lw_g (lw_at lw_m1 26 rfl) rfl
theorem q49 : (Jvm.Cond.laysFinal "BestPairs" "BestPairs" "keys" "[B") ∈ lw_all := lw_g (lw_at lw_m1 27 rfl) rfl
theorem q50 : (Jvm.Cond.soleField "BestPairs" "keys") ∈ lw_all := lw_g (lw_at lw_m1 28 rfl) rfl
theorem q51 : (Jvm.Cond.laysFinal "BestPairs" "BestPairs" "scores" "[S") ∈ lw_all := lw_g (lw_at lw_m1 29 rfl) rfl
theorem q52 : (Jvm.Cond.soleField "BestPairs" "scores") ∈ lw_all := lw_g (lw_at lw_m1 30 rfl) rfl
theorem q53 : (Jvm.Cond.laysFinal "BestPairs" "BestPairs" "weights" "[B") ∈ lw_all := lw_g (lw_at lw_m1 31 rfl) rfl
theorem q54 : (Jvm.Cond.soleField "BestPairs" "weights") ∈ lw_all := lw_g (lw_at lw_m1 32 rfl) rfl
theorem q55 : (Jvm.Cond.lays "BestPairs" "BestPairs" "begun" "Z") ∈ lw_all := lw_g (lw_at lw_m1 33 rfl) rfl
theorem q56 : (Jvm.Cond.soleField "BestPairs" "begun") ∈ lw_all := lw_g (lw_at lw_m1 34 rfl) rfl
theorem q57 : (Jvm.Cond.laysFinal "BestPairs" "BestPairs" "sorted" "[B") ∈ lw_all := lw_g (lw_at lw_m1 35 rfl) rfl
theorem q58 : (Jvm.Cond.soleField "BestPairs" "sorted") ∈ lw_all := lw_g (lw_at lw_m1 36 rfl) rfl
theorem q59 : (Jvm.Cond.laysFinal "BestPairs" "BestPairs" "sizes" "[B") ∈ lw_all := lw_g (lw_at lw_m1 37 rfl) rfl
theorem q60 : (Jvm.Cond.soleField "BestPairs" "sizes") ∈ lw_all := lw_g (lw_at lw_m1 38 rfl) rfl
theorem q61 : (Jvm.Cond.laysFinal "BestPairs" "BestPairs" "read" "[B") ∈ lw_all := lw_g (lw_at lw_m1 39 rfl) rfl
theorem q62 : (Jvm.Cond.soleField "BestPairs" "read") ∈ lw_all := lw_g (lw_at lw_m1 40 rfl) rfl
theorem q63 : (Jvm.Cond.laysFinal "BestPairs" "BestPairs" "heap" "[S") ∈ lw_all := lw_g (lw_at lw_m1 41 rfl) rfl
theorem q64 : (Jvm.Cond.soleField "BestPairs" "heap") ∈ lw_all := lw_g (lw_at lw_m1 42 rfl) rfl
theorem q65 : (Jvm.Cond.lays "BestPairs" "BestPairs" "heapSize" "I") ∈ lw_all := lw_g (lw_at lw_m1 43 rfl) rfl
theorem q66 : (Jvm.Cond.soleField "BestPairs" "heapSize") ∈ lw_all := lw_g (lw_at lw_m1 44 rfl) rfl
theorem q67 : (Jvm.Cond.laysFinal "BestPairs" "BestPairs" "ranked" "[S") ∈ lw_all := lw_g (lw_at lw_m1 45 rfl) rfl
theorem q68 : (Jvm.Cond.soleField "BestPairs" "ranked") ∈ lw_all := lw_g (lw_at lw_m1 46 rfl) rfl
theorem q69 : (Jvm.Cond.lays "BestPairs" "BestPairs" "rankedSize" "I") ∈ lw_all := lw_g (lw_at lw_m1 47 rfl) rfl
theorem q70 : (Jvm.Cond.soleField "BestPairs" "rankedSize") ∈ lw_all := lw_g (lw_at lw_m1 48 rfl) rfl
theorem q71 : (Jvm.Cond.lays "BestPairs" "BestPairs" "done" "Z") ∈ lw_all := lw_g (lw_at lw_m1 49 rfl) rfl
theorem q72 : (Jvm.Cond.soleField "BestPairs" "done") ∈ lw_all := lw_g (lw_at lw_m1 50 rfl) rfl
theorem q73 : (Jvm.Cond.lays "BestPairs" "BestPairs" "cursor" "I") ∈ lw_all := lw_g (lw_at lw_m1 51 rfl) rfl
theorem q74 : (Jvm.Cond.soleField "BestPairs" "cursor") ∈ lw_all := lw_g (lw_at lw_m1 52 rfl) rfl
theorem q75 : (Jvm.Cond.superclass "BestPairs" "java/lang/Object") ∈ lw_all := lw_g (lw_at lw_m1 53 rfl) rfl
theorem q80 : (Jvm.Cond.instanceMethod ({ cls := "BestPairs", name := "enter", desc := "(III)I" } : Jvm.MethodName)) ∈ lw_all := lw_g (lw_at lw_m1 58 rfl) rfl
theorem q81 : (Jvm.Cond.selects "BestPairs" ({ cls := "BestPairs", name := "enter", desc := "(III)I" } : Jvm.MethodName) ({ cls := "BestPairs", name := "enter", desc := "(III)I" } : Jvm.MethodName)) ∈ lw_all := lw_g (lw_at lw_m1 59 rfl) rfl
theorem q82 : (Jvm.Cond.code ({ cls := "BestPairs", name := "enter", desc := "(III)I" } : Jvm.MethodName) prog_1_method_5_code (5 : Nat) (Option.some Jvm.ClassFile.FieldType.int)) ∈ lw_all := lw_g (lw_at lw_m1 60 rfl) rfl
theorem q83 : (Jvm.Cond.methodLink "BestPairs" (39 : Nat) ({ cls := "BestPairs", name := "isList", desc := "(I)Z" } : Jvm.MethodName)) ∈ lw_all := lw_g (lw_at lw_m1 61 rfl) rfl
theorem q84 : (Jvm.Cond.static ({ cls := "BestPairs", name := "isList", desc := "(I)Z" } : Jvm.MethodName)) ∈ lw_all := lw_g (lw_at lw_m1 62 rfl) rfl
theorem q85 : (Jvm.Cond.code ({ cls := "BestPairs", name := "isList", desc := "(I)Z" } : Jvm.MethodName) prog_1_method_2_code (1 : Nat) (Option.some Jvm.ClassFile.FieldType.boolean)) ∈ lw_all := lw_g (lw_at lw_m1 63 rfl) rfl
theorem q86 : (Jvm.Cond.methodLink "BestPairs" (51 : Nat) ({ cls := "BestPairs", name := "has", desc := "(II)Z" } : Jvm.MethodName)) ∈ lw_all := lw_g (lw_at lw_m1 64 rfl) rfl
theorem q87 : (Jvm.Cond.privateMethod ({ cls := "BestPairs", name := "has", desc := "(II)Z" } : Jvm.MethodName)) ∈ lw_tbl := lw_at lw_m1 65 rfl
theorem q88 : (Jvm.Cond.instanceMethod ({ cls := "BestPairs", name := "has", desc := "(II)Z" } : Jvm.MethodName)) ∈ lw_all := lw_g (lw_at lw_m1 66 rfl) rfl
theorem q89 : (Jvm.Cond.code ({ cls := "BestPairs", name := "has", desc := "(II)Z" } : Jvm.MethodName) prog_1_method_3_code (3 : Nat) (Option.some Jvm.ClassFile.FieldType.boolean)) ∈ lw_all := lw_g (lw_at lw_m1 67 rfl) rfl
theorem q90 : (Jvm.Cond.methodLink "BestPairs" (55 : Nat) ({ cls := "BestPairs", name := "changed", desc := "()V" } : Jvm.MethodName)) ∈ lw_all := lw_g (lw_at lw_m1 68 rfl) rfl
theorem q91 : (Jvm.Cond.privateMethod ({ cls := "BestPairs", name := "changed", desc := "()V" } : Jvm.MethodName)) ∈ lw_tbl := lw_at lw_m1 69 rfl
theorem q92 : (Jvm.Cond.instanceMethod ({ cls := "BestPairs", name := "changed", desc := "()V" } : Jvm.MethodName)) ∈ lw_all := lw_g (lw_at lw_m1 70 rfl) rfl
theorem q93 : (Jvm.Cond.code ({ cls := "BestPairs", name := "changed", desc := "()V" } : Jvm.MethodName) prog_1_method_4_code (1 : Nat) (Option.none : Option Jvm.ClassFile.FieldType)) ∈ lw_all := lw_g (lw_at lw_m1 71 rfl) rfl
theorem q95 : (Jvm.Cond.instanceMethod ({ cls := "BestPairs", name := "remove", desc := "(II)Z" } : Jvm.MethodName)) ∈ lw_all := lw_g (lw_at lw_m1 73 rfl) rfl
theorem q96 : (Jvm.Cond.selects "BestPairs" ({ cls := "BestPairs", name := "remove", desc := "(II)Z" } : Jvm.MethodName) ({ cls := "BestPairs", name := "remove", desc := "(II)Z" } : Jvm.MethodName)) ∈ lw_all := lw_g (lw_at lw_m1 74 rfl) rfl
theorem q97 : (Jvm.Cond.code ({ cls := "BestPairs", name := "remove", desc := "(II)Z" } : Jvm.MethodName) prog_1_method_6_code (3 : Nat) (Option.some Jvm.ClassFile.FieldType.boolean)) ∈ lw_all := lw_g (lw_at lw_m1 75 rfl) rfl
theorem q99 : (Jvm.Cond.instanceMethod ({ cls := "BestPairs", name := "rescore", desc := "(III)Z" } : Jvm.MethodName)) ∈ lw_all := lw_g (lw_at lw_m1 77 rfl) rfl
theorem q100 : (Jvm.Cond.selects "BestPairs" ({ cls := "BestPairs", name := "rescore", desc := "(III)Z" } : Jvm.MethodName) ({ cls := "BestPairs", name := "rescore", desc := "(III)Z" } : Jvm.MethodName)) ∈ lw_all := lw_g (lw_at lw_m1 78 rfl) rfl
theorem q101 : (Jvm.Cond.code ({ cls := "BestPairs", name := "rescore", desc := "(III)Z" } : Jvm.MethodName) prog_1_method_7_code (4 : Nat) (Option.some Jvm.ClassFile.FieldType.boolean)) ∈ lw_all := lw_g (lw_at lw_m1 79 rfl) rfl
theorem q103 : (Jvm.Cond.instanceMethod ({ cls := "BestPairs", name := "weigh", desc := "(II)Z" } : Jvm.MethodName)) ∈ lw_all := lw_g (lw_at lw_m1 81 rfl) rfl
theorem q104 : (Jvm.Cond.selects "BestPairs" ({ cls := "BestPairs", name := "weigh", desc := "(II)Z" } : Jvm.MethodName) ({ cls := "BestPairs", name := "weigh", desc := "(II)Z" } : Jvm.MethodName)) ∈ lw_all := lw_g (lw_at lw_m1 82 rfl) rfl
theorem q105 : (Jvm.Cond.code ({ cls := "BestPairs", name := "weigh", desc := "(II)Z" } : Jvm.MethodName) prog_1_method_8_code (3 : Nat) (Option.some Jvm.ClassFile.FieldType.boolean)) ∈ lw_all := lw_g (lw_at lw_m1 83 rfl) rfl
theorem q107 : (Jvm.Cond.instanceMethod ({ cls := "BestPairs", name := "entries", desc := "(I)I" } : Jvm.MethodName)) ∈ lw_all := lw_g (lw_at lw_m1 85 rfl) rfl
theorem q108 : (Jvm.Cond.selects "BestPairs" ({ cls := "BestPairs", name := "entries", desc := "(I)I" } : Jvm.MethodName) ({ cls := "BestPairs", name := "entries", desc := "(I)I" } : Jvm.MethodName)) ∈ lw_all := lw_g (lw_at lw_m1 86 rfl) rfl
theorem q109 : (Jvm.Cond.code ({ cls := "BestPairs", name := "entries", desc := "(I)I" } : Jvm.MethodName) prog_1_method_9_code (2 : Nat) (Option.some Jvm.ClassFile.FieldType.int)) ∈ lw_all := lw_g (lw_at lw_m1 87 rfl) rfl
theorem q111 : (Jvm.Cond.instanceMethod ({ cls := "BestPairs", name := "score", desc := "(II)I" } : Jvm.MethodName)) ∈ lw_all := lw_g (lw_at lw_m1 89 rfl) rfl
theorem q112 : (Jvm.Cond.selects "BestPairs" ({ cls := "BestPairs", name := "score", desc := "(II)I" } : Jvm.MethodName) ({ cls := "BestPairs", name := "score", desc := "(II)I" } : Jvm.MethodName)) ∈ lw_all := lw_g (lw_at lw_m1 90 rfl) rfl
theorem q113 : (Jvm.Cond.code ({ cls := "BestPairs", name := "score", desc := "(II)I" } : Jvm.MethodName) prog_1_method_10_code (3 : Nat) (Option.some Jvm.ClassFile.FieldType.int)) ∈ lw_all := lw_g (lw_at lw_m1 91 rfl) rfl
theorem q115 : (Jvm.Cond.instanceMethod ({ cls := "BestPairs", name := "next", desc := "()I" } : Jvm.MethodName)) ∈ lw_all := lw_g (lw_at lw_m1 93 rfl) rfl
theorem q116 : (Jvm.Cond.selects "BestPairs" ({ cls := "BestPairs", name := "next", desc := "()I" } : Jvm.MethodName) ({ cls := "BestPairs", name := "next", desc := "()I" } : Jvm.MethodName)) ∈ lw_all := lw_g (lw_at lw_m1 94 rfl) rfl
theorem q117 : (Jvm.Cond.code ({ cls := "BestPairs", name := "next", desc := "()I" } : Jvm.MethodName) prog_1_method_24_code (2 : Nat) (Option.some Jvm.ClassFile.FieldType.int)) ∈ lw_all := lw_g (lw_at lw_m1 95 rfl) rfl
theorem q118 : (Jvm.Cond.methodLink "BestPairs" (107 : Nat) ({ cls := "BestPairs", name := "reach", desc := "(I)Z" } : Jvm.MethodName)) ∈ lw_all := lw_g (lw_at lw_m1 96 rfl) rfl
theorem q119 : (Jvm.Cond.privateMethod ({ cls := "BestPairs", name := "reach", desc := "(I)Z" } : Jvm.MethodName)) ∈ lw_tbl := lw_at lw_m1 97 rfl
theorem q120 : (Jvm.Cond.instanceMethod ({ cls := "BestPairs", name := "reach", desc := "(I)Z" } : Jvm.MethodName)) ∈ lw_all := lw_g (lw_at lw_m1 98 rfl) rfl
theorem q121 : (Jvm.Cond.code ({ cls := "BestPairs", name := "reach", desc := "(I)Z" } : Jvm.MethodName) prog_1_method_23_code (4 : Nat) (Option.some Jvm.ClassFile.FieldType.boolean)) ∈ lw_all := lw_g (lw_at lw_m1 99 rfl) rfl
theorem q122 : (Jvm.Cond.methodLink "BestPairs" (85 : Nat) ({ cls := "BestPairs", name := "begin", desc := "()V" } : Jvm.MethodName)) ∈ lw_all := lw_g (lw_at lw_m1 100 rfl) rfl
theorem q123 : (Jvm.Cond.privateMethod ({ cls := "BestPairs", name := "begin", desc := "()V" } : Jvm.MethodName)) ∈ lw_tbl := lw_at lw_m1 101 rfl
theorem q124 : (Jvm.Cond.instanceMethod ({ cls := "BestPairs", name := "begin", desc := "()V" } : Jvm.MethodName)) ∈ lw_all := lw_g (lw_at lw_m1 102 rfl) rfl
theorem q125 : (Jvm.Cond.code ({ cls := "BestPairs", name := "begin", desc := "()V" } : Jvm.MethodName) prog_1_method_14_code (1 : Nat) (Option.none : Option Jvm.ClassFile.FieldType)) ∈ lw_all := lw_g (lw_at lw_m1 103 rfl) rfl
theorem q126 : (Jvm.Cond.methodLink "BestPairs" (75 : Nat) ({ cls := "BestPairs", name := "sort", desc := "(I)V" } : Jvm.MethodName)) ∈ lw_all := lw_g (lw_at lw_m1 104 rfl) rfl
theorem q127 : (Jvm.Cond.privateMethod ({ cls := "BestPairs", name := "sort", desc := "(I)V" } : Jvm.MethodName)) ∈ lw_tbl := lw_at lw_m1 105 rfl
theorem q128 : (Jvm.Cond.instanceMethod ({ cls := "BestPairs", name := "sort", desc := "(I)V" } : Jvm.MethodName)) ∈ lw_all := lw_g (lw_at lw_m1 106 rfl) rfl
theorem q129 : (Jvm.Cond.code ({ cls := "BestPairs", name := "sort", desc := "(I)V" } : Jvm.MethodName) prog_1_method_15_code (5 : Nat) (Option.none : Option Jvm.ClassFile.FieldType)) ∈ lw_all := lw_g (lw_at lw_m1 107 rfl) rfl
theorem q130 : (Jvm.Cond.methodLink "BestPairs" (103 : Nat) ({ cls := "BestPairs", name := "produce", desc := "()Z" } : Jvm.MethodName)) ∈ lw_all := lw_g (lw_at lw_m1 108 rfl) rfl
theorem q131 : (Jvm.Cond.privateMethod ({ cls := "BestPairs", name := "produce", desc := "()Z" } : Jvm.MethodName)) ∈ lw_tbl := lw_at lw_m1 109 rfl
theorem q132 : (Jvm.Cond.instanceMethod ({ cls := "BestPairs", name := "produce", desc := "()Z" } : Jvm.MethodName)) ∈ lw_all := lw_g (lw_at lw_m1 110 rfl) rfl
theorem q133 : (Jvm.Cond.code ({ cls := "BestPairs", name := "produce", desc := "()Z" } : Jvm.MethodName) prog_1_method_19_code (5 : Nat) (Option.some Jvm.ClassFile.FieldType.boolean)) ∈ lw_all := lw_g (lw_at lw_m1 111 rfl) rfl
theorem q134 : (Jvm.Cond.methodLink "BestPairs" (88 : Nat) ({ cls := "BestPairs", name := "hope", desc := "(I)I" } : Jvm.MethodName)) ∈ lw_all := lw_g (lw_at lw_m1 112 rfl) rfl
theorem q135 : (Jvm.Cond.privateMethod ({ cls := "BestPairs", name := "hope", desc := "(I)I" } : Jvm.MethodName)) ∈ lw_tbl := lw_at lw_m1 113 rfl
theorem q136 : (Jvm.Cond.instanceMethod ({ cls := "BestPairs", name := "hope", desc := "(I)I" } : Jvm.MethodName)) ∈ lw_all := lw_g (lw_at lw_m1 114 rfl) rfl
theorem q137 : (Jvm.Cond.code ({ cls := "BestPairs", name := "hope", desc := "(I)I" } : Jvm.MethodName) prog_1_method_17_code (4 : Nat) (Option.some Jvm.ClassFile.FieldType.int)) ∈ lw_all := lw_g (lw_at lw_m1 115 rfl) rfl
theorem q138 : (Jvm.Cond.methodLink "BestPairs" (79 : Nat) ({ cls := "BestPairs", name := "unread", desc := "(I)Z" } : Jvm.MethodName)) ∈ lw_all := lw_g (lw_at lw_m1 116 rfl) rfl
theorem q139 : (Jvm.Cond.privateMethod ({ cls := "BestPairs", name := "unread", desc := "(I)Z" } : Jvm.MethodName)) ∈ lw_tbl := lw_at lw_m1 117 rfl
theorem q140 : (Jvm.Cond.instanceMethod ({ cls := "BestPairs", name := "unread", desc := "(I)Z" } : Jvm.MethodName)) ∈ lw_all := lw_g (lw_at lw_m1 118 rfl) rfl
theorem q141 : (Jvm.Cond.code ({ cls := "BestPairs", name := "unread", desc := "(I)Z" } : Jvm.MethodName) prog_1_method_16_code (2 : Nat) (Option.some Jvm.ClassFile.FieldType.boolean)) ∈ lw_all := lw_g (lw_at lw_m1 119 rfl) rfl
theorem q142 : (Jvm.Cond.methodLink "BestPairs" (58 : Nat) ({ cls := "BestPairs", name := "part", desc := "(II)I" } : Jvm.MethodName)) ∈ lw_all := lw_g (lw_at lw_m1 120 rfl) rfl
theorem q143 : (Jvm.Cond.privateMethod ({ cls := "BestPairs", name := "part", desc := "(II)I" } : Jvm.MethodName)) ∈ lw_tbl := lw_at lw_m1 121 rfl
theorem q144 : (Jvm.Cond.instanceMethod ({ cls := "BestPairs", name := "part", desc := "(II)I" } : Jvm.MethodName)) ∈ lw_all := lw_g (lw_at lw_m1 122 rfl) rfl
theorem q145 : (Jvm.Cond.code ({ cls := "BestPairs", name := "part", desc := "(II)I" } : Jvm.MethodName) prog_1_method_11_code (3 : Nat) (Option.some Jvm.ClassFile.FieldType.int)) ∈ lw_all := lw_g (lw_at lw_m1 123 rfl) rfl
theorem q146 : (Jvm.Cond.methodLink "BestPairs" (62 : Nat) ({ cls := "BestPairs", name := "valueOf", desc := "(I)I" } : Jvm.MethodName)) ∈ lw_all := lw_g (lw_at lw_m1 124 rfl) rfl
theorem q147 : (Jvm.Cond.privateMethod ({ cls := "BestPairs", name := "valueOf", desc := "(I)I" } : Jvm.MethodName)) ∈ lw_tbl := lw_at lw_m1 125 rfl
theorem q148 : (Jvm.Cond.instanceMethod ({ cls := "BestPairs", name := "valueOf", desc := "(I)I" } : Jvm.MethodName)) ∈ lw_all := lw_g (lw_at lw_m1 126 rfl) rfl
theorem q149 : (Jvm.Cond.code ({ cls := "BestPairs", name := "valueOf", desc := "(I)I" } : Jvm.MethodName) prog_1_method_12_code (3 : Nat) (Option.some Jvm.ClassFile.FieldType.int)) ∈ lw_all := lw_g (lw_at lw_m1 127 rfl) rfl
theorem q150 : (Jvm.Cond.methodLink "BestPairs" (91 : Nat) ({ cls := "BestPairs", name := "pop", desc := "()V" } : Jvm.MethodName)) ∈ lw_all := lw_g (lw_at lw_m1 128 rfl) rfl
theorem q151 : (Jvm.Cond.privateMethod ({ cls := "BestPairs", name := "pop", desc := "()V" } : Jvm.MethodName)) ∈ lw_tbl := lw_at lw_m1 129 rfl
theorem q152 : (Jvm.Cond.instanceMethod ({ cls := "BestPairs", name := "pop", desc := "()V" } : Jvm.MethodName)) ∈ lw_all := lw_g (lw_at lw_m1 130 rfl) rfl
theorem q153 : (Jvm.Cond.code ({ cls := "BestPairs", name := "pop", desc := "()V" } : Jvm.MethodName) prog_1_method_21_code (4 : Nat) (Option.none : Option Jvm.ClassFile.FieldType)) ∈ lw_all := lw_g (lw_at lw_m1 131 rfl) rfl
theorem q154 : (Jvm.Cond.methodLink "BestPairs" (100 : Nat) ({ cls := "BestPairs", name := "lesserChild", desc := "(I)I" } : Jvm.MethodName)) ∈ lw_all := lw_g (lw_at lw_m1 132 rfl) rfl
theorem q155 : (Jvm.Cond.privateMethod ({ cls := "BestPairs", name := "lesserChild", desc := "(I)I" } : Jvm.MethodName)) ∈ lw_tbl := lw_at lw_m1 133 rfl
theorem q156 : (Jvm.Cond.instanceMethod ({ cls := "BestPairs", name := "lesserChild", desc := "(I)I" } : Jvm.MethodName)) ∈ lw_all := lw_g (lw_at lw_m1 134 rfl) rfl
theorem q157 : (Jvm.Cond.code ({ cls := "BestPairs", name := "lesserChild", desc := "(I)I" } : Jvm.MethodName) prog_1_method_22_code (4 : Nat) (Option.some Jvm.ClassFile.FieldType.int)) ∈ lw_all := lw_g (lw_at lw_m1 135 rfl) rfl
theorem q158 : (Jvm.Cond.methodLink "BestPairs" (97 : Nat) ({ cls := "BestPairs", name := "before", desc := "(II)Z" } : Jvm.MethodName)) ∈ lw_all := lw_g (lw_at lw_m1 136 rfl) rfl
theorem q159 : (Jvm.Cond.privateMethod ({ cls := "BestPairs", name := "before", desc := "(II)Z" } : Jvm.MethodName)) ∈ lw_tbl := lw_at lw_m1 137 rfl
theorem q160 : (Jvm.Cond.instanceMethod ({ cls := "BestPairs", name := "before", desc := "(II)Z" } : Jvm.MethodName)) ∈ lw_all := lw_g (lw_at lw_m1 138 rfl) rfl
theorem q161 : (Jvm.Cond.code ({ cls := "BestPairs", name := "before", desc := "(II)Z" } : Jvm.MethodName) prog_1_method_13_code (5 : Nat) (Option.some Jvm.ClassFile.FieldType.boolean)) ∈ lw_all := lw_g (lw_at lw_m1 139 rfl) rfl
theorem q162 : (Jvm.Cond.methodLink "BestPairs" (94 : Nat) ({ cls := "BestPairs", name := "readOne", desc := "(I)V" } : Jvm.MethodName)) ∈ lw_all := lw_g (lw_at lw_m1 140 rfl) rfl
theorem q163 : (Jvm.Cond.privateMethod ({ cls := "BestPairs", name := "readOne", desc := "(I)V" } : Jvm.MethodName)) ∈ lw_tbl := lw_at lw_m1 141 rfl
theorem q164 : (Jvm.Cond.instanceMethod ({ cls := "BestPairs", name := "readOne", desc := "(I)V" } : Jvm.MethodName)) ∈ lw_all := lw_g (lw_at lw_m1 142 rfl) rfl
theorem q165 : (Jvm.Cond.code ({ cls := "BestPairs", name := "readOne", desc := "(I)V" } : Jvm.MethodName) prog_1_method_18_code (7 : Nat) (Option.none : Option Jvm.ClassFile.FieldType)) ∈ lw_all := lw_g (lw_at lw_m1 143 rfl) rfl
theorem q166 : (Jvm.Cond.methodLink "BestPairs" (82 : Nat) ({ cls := "BestPairs", name := "push", desc := "(I)V" } : Jvm.MethodName)) ∈ lw_all := lw_g (lw_at lw_m1 144 rfl) rfl
theorem q167 : (Jvm.Cond.privateMethod ({ cls := "BestPairs", name := "push", desc := "(I)V" } : Jvm.MethodName)) ∈ lw_tbl := lw_at lw_m1 145 rfl
theorem q168 : (Jvm.Cond.instanceMethod ({ cls := "BestPairs", name := "push", desc := "(I)V" } : Jvm.MethodName)) ∈ lw_all := lw_g (lw_at lw_m1 146 rfl) rfl
theorem q169 : (Jvm.Cond.code ({ cls := "BestPairs", name := "push", desc := "(I)V" } : Jvm.MethodName) prog_1_method_20_code (3 : Nat) (Option.none : Option Jvm.ClassFile.FieldType)) ∈ lw_all := lw_g (lw_at lw_m1 147 rfl) rfl
theorem q171 : (Jvm.Cond.instanceMethod ({ cls := "BestPairs", name := "passed", desc := "()I" } : Jvm.MethodName)) ∈ lw_all := lw_g (lw_at lw_m1 149 rfl) rfl
theorem q172 : (Jvm.Cond.selects "BestPairs" ({ cls := "BestPairs", name := "passed", desc := "()I" } : Jvm.MethodName) ({ cls := "BestPairs", name := "passed", desc := "()I" } : Jvm.MethodName)) ∈ lw_all := lw_g (lw_at lw_m1 150 rfl) rfl
theorem q173 : (Jvm.Cond.code ({ cls := "BestPairs", name := "passed", desc := "()I" } : Jvm.MethodName) prog_1_method_25_code (1 : Nat) (Option.some Jvm.ClassFile.FieldType.int)) ∈ lw_all := lw_g (lw_at lw_m1 151 rfl) rfl
theorem q175 : (Jvm.Cond.instanceMethod ({ cls := "BestPairs", name := "lastValue", desc := "()I" } : Jvm.MethodName)) ∈ lw_all := lw_g (lw_at lw_m1 153 rfl) rfl
theorem q176 : (Jvm.Cond.selects "BestPairs" ({ cls := "BestPairs", name := "lastValue", desc := "()I" } : Jvm.MethodName) ({ cls := "BestPairs", name := "lastValue", desc := "()I" } : Jvm.MethodName)) ∈ lw_all := lw_g (lw_at lw_m1 154 rfl) rfl
theorem q177 : (Jvm.Cond.code ({ cls := "BestPairs", name := "lastValue", desc := "()I" } : Jvm.MethodName) prog_1_method_26_code (1 : Nat) (Option.some Jvm.ClassFile.FieldType.int)) ∈ lw_all := lw_g (lw_at lw_m1 155 rfl) rfl
theorem q179 : (Jvm.Cond.instanceMethod ({ cls := "BestPairs", name := "rewind", desc := "()V" } : Jvm.MethodName)) ∈ lw_all := lw_g (lw_at lw_m1 157 rfl) rfl
theorem q180 : (Jvm.Cond.selects "BestPairs" ({ cls := "BestPairs", name := "rewind", desc := "()V" } : Jvm.MethodName) ({ cls := "BestPairs", name := "rewind", desc := "()V" } : Jvm.MethodName)) ∈ lw_all := lw_g (lw_at lw_m1 158 rfl) rfl
theorem q181 : (Jvm.Cond.code ({ cls := "BestPairs", name := "rewind", desc := "()V" } : Jvm.MethodName) prog_1_method_27_code (1 : Nat) (Option.none : Option Jvm.ClassFile.FieldType)) ∈ lw_all := lw_g (lw_at lw_m1 159 rfl) rfl
theorem q183 : (Jvm.Cond.instanceMethod ({ cls := "BestPairs", name := "pairAt", desc := "(I)I" } : Jvm.MethodName)) ∈ lw_all := lw_g (lw_at lw_m1 161 rfl) rfl
theorem q184 : (Jvm.Cond.selects "BestPairs" ({ cls := "BestPairs", name := "pairAt", desc := "(I)I" } : Jvm.MethodName) ({ cls := "BestPairs", name := "pairAt", desc := "(I)I" } : Jvm.MethodName)) ∈ lw_all := lw_g (lw_at lw_m1 162 rfl) rfl
theorem q185 : (Jvm.Cond.code ({ cls := "BestPairs", name := "pairAt", desc := "(I)I" } : Jvm.MethodName) prog_1_method_28_code (2 : Nat) (Option.some Jvm.ClassFile.FieldType.int)) ∈ lw_all := lw_g (lw_at lw_m1 163 rfl) rfl
theorem q187 : (Jvm.Cond.instanceMethod ({ cls := "BestPairs", name := "pairs", desc := "()I" } : Jvm.MethodName)) ∈ lw_all := lw_g (lw_at lw_m1 165 rfl) rfl
theorem q188 : (Jvm.Cond.selects "BestPairs" ({ cls := "BestPairs", name := "pairs", desc := "()I" } : Jvm.MethodName) ({ cls := "BestPairs", name := "pairs", desc := "()I" } : Jvm.MethodName)) ∈ lw_all := lw_g (lw_at lw_m1 166 rfl) rfl
theorem q189 : (Jvm.Cond.code ({ cls := "BestPairs", name := "pairs", desc := "()I" } : Jvm.MethodName) prog_1_method_29_code (4 : Nat) (Option.some Jvm.ClassFile.FieldType.int)) ∈ lw_all := lw_g (lw_at lw_m1 167 rfl) rfl
theorem q190 : (Jvm.Cond.methodLink "BestPairs" (110 : Nat) ({ cls := "BestPairs", name := "withKey", desc := "(II)I" } : Jvm.MethodName)) ∈ lw_all := lw_g (lw_at lw_m1 168 rfl) rfl
theorem q191 : (Jvm.Cond.privateMethod ({ cls := "BestPairs", name := "withKey", desc := "(II)I" } : Jvm.MethodName)) ∈ lw_tbl := lw_at lw_m1 169 rfl
theorem q192 : (Jvm.Cond.instanceMethod ({ cls := "BestPairs", name := "withKey", desc := "(II)I" } : Jvm.MethodName)) ∈ lw_all := lw_g (lw_at lw_m1 170 rfl) rfl
theorem q193 : (Jvm.Cond.code ({ cls := "BestPairs", name := "withKey", desc := "(II)I" } : Jvm.MethodName) prog_1_method_30_code (5 : Nat) (Option.some Jvm.ClassFile.FieldType.int)) ∈ lw_all := lw_g (lw_at lw_m1 171 rfl) rfl
theorem q195 : (Jvm.Cond.instanceMethod ({ cls := "BestPairs", name := "atLeast", desc := "(I)I" } : Jvm.MethodName)) ∈ lw_all := lw_g (lw_at lw_m1 173 rfl) rfl
theorem q196 : (Jvm.Cond.selects "BestPairs" ({ cls := "BestPairs", name := "atLeast", desc := "(I)I" } : Jvm.MethodName) ({ cls := "BestPairs", name := "atLeast", desc := "(I)I" } : Jvm.MethodName)) ∈ lw_all := lw_g (lw_at lw_m1 174 rfl) rfl
theorem q197 : (Jvm.Cond.code ({ cls := "BestPairs", name := "atLeast", desc := "(I)I" } : Jvm.MethodName) prog_1_method_31_code (3 : Nat) (Option.some Jvm.ClassFile.FieldType.int)) ∈ lw_all := lw_g (lw_at lw_m1 175 rfl) rfl
theorem q199 : (Jvm.Cond.instanceMethod ({ cls := "BestPairs", name := "bestPlace", desc := "(II)I" } : Jvm.MethodName)) ∈ lw_all := lw_g (lw_at lw_m1 177 rfl) rfl
theorem q200 : (Jvm.Cond.selects "BestPairs" ({ cls := "BestPairs", name := "bestPlace", desc := "(II)I" } : Jvm.MethodName) ({ cls := "BestPairs", name := "bestPlace", desc := "(II)I" } : Jvm.MethodName)) ∈ lw_all := lw_g (lw_at lw_m1 178 rfl) rfl
theorem q201 : (Jvm.Cond.code ({ cls := "BestPairs", name := "bestPlace", desc := "(II)I" } : Jvm.MethodName) prog_1_method_32_code (5 : Nat) (Option.some Jvm.ClassFile.FieldType.int)) ∈ lw_all := lw_g (lw_at lw_m1 179 rfl) rfl
theorem in_X0 : ∀ w ∈ wsX00, w ∈ lw_all := lw_in wsX00 [47, 49, 51, 53, 55, 57, 59, 61, 63, 65, 67, 69, 71, 73] (by decide +kernel) (by decide +kernel)

end NMQ
end
section
section NMM
/-! BestPairsModel -/
set_option maxRecDepth 100000
def RX1 : String := "BestPairsModel"
def TX1 : u_T := fun k => match k with
  | 0 => ("BestPairsModel", "there", "[Z", false)
  | 1 => ("BestPairsModel", "keys", "[I", false)
  | 2 => ("BestPairsModel", "scores", "[I", false)
  | 3 => ("BestPairsModel", "weight", "[I", false)
  | _ => ("BestPairsModel", "cursor", "I", false)
def tyX1 : Nat → FieldType := fun k => match k with
  | 0 => .array .boolean
  | 1 => .array .int
  | 2 => .array .int
  | 3 => .array .int
  | _ => .int
abbrev wsX10 : List Cond := u_ws RX1 TX1 5
theorem nmX1 : ∀ a, a < 5 → ∀ b, b < 5 → a ≠ b → (TX1 a).2.1 ≠ (TX1 b).2.1 := by decide +kernel
theorem tyX1_ok : ∀ k, k < 5 → parseFieldDescriptor (TX1 k).2.2.1 = some (tyX1 k) := by decide +kernel
abbrev cX1_init : ByteArray := prog_3_method_1_code
def yX1_init : MethodName := ⟨RX1, "<init>", "()V"⟩
theorem dX1_init_0 : decode cX1_init 0 = .ok (.aload_n 0, 1) := by decide +kernel
theorem dX1_init_1 : decode cX1_init 1 = .ok (.invokespecial 1, 3) := by decide +kernel
theorem dX1_init_4 : decode cX1_init 4 = .ok (.aload_n 0, 1) := by decide +kernel
theorem dX1_init_5 : decode cX1_init 5 = .ok (.bipush 24, 2) := by decide +kernel
theorem dX1_init_7 : decode cX1_init 7 = .ok (.newarray .boolean, 2) := by decide +kernel
theorem dX1_init_9 : decode cX1_init 9 = .ok (.putfield 7, 3) := by decide +kernel
theorem dX1_init_12 : decode cX1_init 12 = .ok (.aload_n 0, 1) := by decide +kernel
theorem dX1_init_13 : decode cX1_init 13 = .ok (.bipush 24, 2) := by decide +kernel
theorem dX1_init_15 : decode cX1_init 15 = .ok (.newarray .int, 2) := by decide +kernel
theorem dX1_init_17 : decode cX1_init 17 = .ok (.putfield 13, 3) := by decide +kernel
theorem dX1_init_20 : decode cX1_init 20 = .ok (.aload_n 0, 1) := by decide +kernel
theorem dX1_init_21 : decode cX1_init 21 = .ok (.bipush 24, 2) := by decide +kernel
theorem dX1_init_23 : decode cX1_init 23 = .ok (.newarray .int, 2) := by decide +kernel
theorem dX1_init_25 : decode cX1_init 25 = .ok (.putfield 17, 3) := by decide +kernel
theorem dX1_init_28 : decode cX1_init 28 = .ok (.aload_n 0, 1) := by decide +kernel
theorem dX1_init_29 : decode cX1_init 29 = .ok (.iconst 2, 1) := by decide +kernel
theorem dX1_init_30 : decode cX1_init 30 = .ok (.newarray .int, 2) := by decide +kernel
theorem dX1_init_32 : decode cX1_init 32 = .ok (.putfield 20, 3) := by decide +kernel
theorem dX1_init_35 : decode cX1_init 35 = .ok (.aload_n 0, 1) := by decide +kernel
theorem dX1_init_36 : decode cX1_init 36 = .ok (.getfield 20, 3) := by decide +kernel
theorem dX1_init_39 : decode cX1_init 39 = .ok (.iconst 0, 1) := by decide +kernel
theorem dX1_init_40 : decode cX1_init 40 = .ok (.iconst 1, 1) := by decide +kernel
theorem dX1_init_41 : decode cX1_init 41 = .ok (.iastore, 1) := by decide +kernel
theorem dX1_init_42 : decode cX1_init 42 = .ok (.aload_n 0, 1) := by decide +kernel
theorem dX1_init_43 : decode cX1_init 43 = .ok (.getfield 20, 3) := by decide +kernel
theorem dX1_init_46 : decode cX1_init 46 = .ok (.iconst 1, 1) := by decide +kernel
theorem dX1_init_47 : decode cX1_init 47 = .ok (.iconst 1, 1) := by decide +kernel
theorem dX1_init_48 : decode cX1_init 48 = .ok (.iastore, 1) := by decide +kernel
theorem dX1_init_49 : decode cX1_init 49 = .ok (.return_, 1) := by decide +kernel
abbrev cX1_enter : ByteArray := prog_3_method_3_code
def yX1_enter : MethodName := ⟨RX1, "enter", "(III)I"⟩
theorem dX1_enter_0 : decode cX1_enter 0 = .ok (.iload_n 1, 1) := by decide +kernel
theorem dX1_enter_1 : decode cX1_enter 1 = .ok (.ifCond .eq 8, 3) := by decide +kernel
theorem dX1_enter_4 : decode cX1_enter 4 = .ok (.iload_n 1, 1) := by decide +kernel
theorem dX1_enter_5 : decode cX1_enter 5 = .ok (.iconst 1, 1) := by decide +kernel
theorem dX1_enter_6 : decode cX1_enter 6 = .ok (.if_icmp .ne 24, 3) := by decide +kernel
theorem dX1_enter_9 : decode cX1_enter 9 = .ok (.iload_n 2, 1) := by decide +kernel
theorem dX1_enter_10 : decode cX1_enter 10 = .ok (.ifCond .lt 20, 3) := by decide +kernel
theorem dX1_enter_13 : decode cX1_enter 13 = .ok (.iload_n 2, 1) := by decide +kernel
theorem dX1_enter_14 : decode cX1_enter 14 = .ok (.bipush 7, 2) := by decide +kernel
theorem dX1_enter_16 : decode cX1_enter 16 = .ok (.if_icmp .gt 14, 3) := by decide +kernel
theorem dX1_enter_19 : decode cX1_enter 19 = .ok (.iload_n 3, 1) := by decide +kernel
theorem dX1_enter_20 : decode cX1_enter 20 = .ok (.ifCond .lt 10, 3) := by decide +kernel
theorem dX1_enter_23 : decode cX1_enter 23 = .ok (.iload_n 3, 1) := by decide +kernel
theorem dX1_enter_24 : decode cX1_enter 24 = .ok (.sipush 1000, 3) := by decide +kernel
theorem dX1_enter_27 : decode cX1_enter 27 = .ok (.if_icmp .le 5, 3) := by decide +kernel
theorem dX1_enter_30 : decode cX1_enter 30 = .ok (.iconst (-1), 1) := by decide +kernel
theorem dX1_enter_31 : decode cX1_enter 31 = .ok (.ireturn, 1) := by decide +kernel
theorem dX1_enter_32 : decode cX1_enter 32 = .ok (.iconst 0, 1) := by decide +kernel
theorem dX1_enter_33 : decode cX1_enter 33 = .ok (.istore 4, 2) := by decide +kernel
theorem dX1_enter_35 : decode cX1_enter 35 = .ok (.iload 4, 2) := by decide +kernel
theorem dX1_enter_37 : decode cX1_enter 37 = .ok (.bipush 12, 2) := by decide +kernel
theorem dX1_enter_39 : decode cX1_enter 39 = .ok (.if_icmp .ge 71, 3) := by decide +kernel
theorem dX1_enter_42 : decode cX1_enter 42 = .ok (.aload_n 0, 1) := by decide +kernel
theorem dX1_enter_43 : decode cX1_enter 43 = .ok (.getfield 7, 3) := by decide +kernel
theorem dX1_enter_46 : decode cX1_enter 46 = .ok (.bipush 12, 2) := by decide +kernel
theorem dX1_enter_48 : decode cX1_enter 48 = .ok (.iload_n 1, 1) := by decide +kernel
theorem dX1_enter_49 : decode cX1_enter 49 = .ok (.imul, 1) := by decide +kernel
theorem dX1_enter_50 : decode cX1_enter 50 = .ok (.iload 4, 2) := by decide +kernel
theorem dX1_enter_52 : decode cX1_enter 52 = .ok (.iadd, 1) := by decide +kernel
theorem dX1_enter_53 : decode cX1_enter 53 = .ok (.baload, 1) := by decide +kernel
theorem dX1_enter_54 : decode cX1_enter 54 = .ok (.ifCond .ne 50, 3) := by decide +kernel
theorem dX1_enter_57 : decode cX1_enter 57 = .ok (.aload_n 0, 1) := by decide +kernel
theorem dX1_enter_58 : decode cX1_enter 58 = .ok (.getfield 7, 3) := by decide +kernel
theorem dX1_enter_61 : decode cX1_enter 61 = .ok (.bipush 12, 2) := by decide +kernel
theorem dX1_enter_63 : decode cX1_enter 63 = .ok (.iload_n 1, 1) := by decide +kernel
theorem dX1_enter_64 : decode cX1_enter 64 = .ok (.imul, 1) := by decide +kernel
theorem dX1_enter_65 : decode cX1_enter 65 = .ok (.iload 4, 2) := by decide +kernel
theorem dX1_enter_67 : decode cX1_enter 67 = .ok (.iadd, 1) := by decide +kernel
theorem dX1_enter_68 : decode cX1_enter 68 = .ok (.iconst 1, 1) := by decide +kernel
theorem dX1_enter_69 : decode cX1_enter 69 = .ok (.bastore, 1) := by decide +kernel
theorem dX1_enter_70 : decode cX1_enter 70 = .ok (.aload_n 0, 1) := by decide +kernel
theorem dX1_enter_71 : decode cX1_enter 71 = .ok (.getfield 13, 3) := by decide +kernel
theorem dX1_enter_74 : decode cX1_enter 74 = .ok (.bipush 12, 2) := by decide +kernel
theorem dX1_enter_76 : decode cX1_enter 76 = .ok (.iload_n 1, 1) := by decide +kernel
theorem dX1_enter_77 : decode cX1_enter 77 = .ok (.imul, 1) := by decide +kernel
theorem dX1_enter_78 : decode cX1_enter 78 = .ok (.iload 4, 2) := by decide +kernel
theorem dX1_enter_80 : decode cX1_enter 80 = .ok (.iadd, 1) := by decide +kernel
theorem dX1_enter_81 : decode cX1_enter 81 = .ok (.iload_n 2, 1) := by decide +kernel
theorem dX1_enter_82 : decode cX1_enter 82 = .ok (.iastore, 1) := by decide +kernel
theorem dX1_enter_83 : decode cX1_enter 83 = .ok (.aload_n 0, 1) := by decide +kernel
theorem dX1_enter_84 : decode cX1_enter 84 = .ok (.getfield 17, 3) := by decide +kernel
theorem dX1_enter_87 : decode cX1_enter 87 = .ok (.bipush 12, 2) := by decide +kernel
theorem dX1_enter_89 : decode cX1_enter 89 = .ok (.iload_n 1, 1) := by decide +kernel
theorem dX1_enter_90 : decode cX1_enter 90 = .ok (.imul, 1) := by decide +kernel
theorem dX1_enter_91 : decode cX1_enter 91 = .ok (.iload 4, 2) := by decide +kernel
theorem dX1_enter_93 : decode cX1_enter 93 = .ok (.iadd, 1) := by decide +kernel
theorem dX1_enter_94 : decode cX1_enter 94 = .ok (.iload_n 3, 1) := by decide +kernel
theorem dX1_enter_95 : decode cX1_enter 95 = .ok (.iastore, 1) := by decide +kernel
theorem dX1_enter_96 : decode cX1_enter 96 = .ok (.aload_n 0, 1) := by decide +kernel
theorem dX1_enter_97 : decode cX1_enter 97 = .ok (.iconst 0, 1) := by decide +kernel
theorem dX1_enter_98 : decode cX1_enter 98 = .ok (.putfield 23, 3) := by decide +kernel
theorem dX1_enter_101 : decode cX1_enter 101 = .ok (.iload 4, 2) := by decide +kernel
theorem dX1_enter_103 : decode cX1_enter 103 = .ok (.ireturn, 1) := by decide +kernel
theorem dX1_enter_104 : decode cX1_enter 104 = .ok (.iinc 4 1, 3) := by decide +kernel
theorem dX1_enter_107 : decode cX1_enter 107 = .ok (.goto (-72), 3) := by decide +kernel
theorem dX1_enter_110 : decode cX1_enter 110 = .ok (.bipush (-2), 2) := by decide +kernel
theorem dX1_enter_112 : decode cX1_enter 112 = .ok (.ireturn, 1) := by decide +kernel
abbrev cX1_remove : ByteArray := prog_3_method_4_code
def yX1_remove : MethodName := ⟨RX1, "remove", "(II)Z"⟩
theorem dX1_remove_0 : decode cX1_remove 0 = .ok (.aload_n 0, 1) := by decide +kernel
theorem dX1_remove_1 : decode cX1_remove 1 = .ok (.iload_n 1, 1) := by decide +kernel
theorem dX1_remove_2 : decode cX1_remove 2 = .ok (.iload_n 2, 1) := by decide +kernel
theorem dX1_remove_3 : decode cX1_remove 3 = .ok (.invokevirtual 27, 3) := by decide +kernel
theorem dX1_remove_6 : decode cX1_remove 6 = .ok (.ifCond .ne 5, 3) := by decide +kernel
theorem dX1_remove_9 : decode cX1_remove 9 = .ok (.iconst 0, 1) := by decide +kernel
theorem dX1_remove_10 : decode cX1_remove 10 = .ok (.ireturn, 1) := by decide +kernel
theorem dX1_remove_11 : decode cX1_remove 11 = .ok (.aload_n 0, 1) := by decide +kernel
theorem dX1_remove_12 : decode cX1_remove 12 = .ok (.getfield 7, 3) := by decide +kernel
theorem dX1_remove_15 : decode cX1_remove 15 = .ok (.bipush 12, 2) := by decide +kernel
theorem dX1_remove_17 : decode cX1_remove 17 = .ok (.iload_n 1, 1) := by decide +kernel
theorem dX1_remove_18 : decode cX1_remove 18 = .ok (.imul, 1) := by decide +kernel
theorem dX1_remove_19 : decode cX1_remove 19 = .ok (.iload_n 2, 1) := by decide +kernel
theorem dX1_remove_20 : decode cX1_remove 20 = .ok (.iadd, 1) := by decide +kernel
theorem dX1_remove_21 : decode cX1_remove 21 = .ok (.iconst 0, 1) := by decide +kernel
theorem dX1_remove_22 : decode cX1_remove 22 = .ok (.bastore, 1) := by decide +kernel
theorem dX1_remove_23 : decode cX1_remove 23 = .ok (.aload_n 0, 1) := by decide +kernel
theorem dX1_remove_24 : decode cX1_remove 24 = .ok (.iconst 0, 1) := by decide +kernel
theorem dX1_remove_25 : decode cX1_remove 25 = .ok (.putfield 23, 3) := by decide +kernel
theorem dX1_remove_28 : decode cX1_remove 28 = .ok (.iconst 1, 1) := by decide +kernel
theorem dX1_remove_29 : decode cX1_remove 29 = .ok (.ireturn, 1) := by decide +kernel
abbrev cX1_entry : ByteArray := prog_3_method_2_code
def yX1_entry : MethodName := ⟨RX1, "entry", "(II)Z"⟩
theorem dX1_entry_0 : decode cX1_entry 0 = .ok (.iload_n 1, 1) := by decide +kernel
theorem dX1_entry_1 : decode cX1_entry 1 = .ok (.ifCond .eq 8, 3) := by decide +kernel
theorem dX1_entry_4 : decode cX1_entry 4 = .ok (.iload_n 1, 1) := by decide +kernel
theorem dX1_entry_5 : decode cX1_entry 5 = .ok (.iconst 1, 1) := by decide +kernel
theorem dX1_entry_6 : decode cX1_entry 6 = .ok (.if_icmp .ne 31, 3) := by decide +kernel
theorem dX1_entry_9 : decode cX1_entry 9 = .ok (.iload_n 2, 1) := by decide +kernel
theorem dX1_entry_10 : decode cX1_entry 10 = .ok (.ifCond .lt 27, 3) := by decide +kernel
theorem dX1_entry_13 : decode cX1_entry 13 = .ok (.iload_n 2, 1) := by decide +kernel
theorem dX1_entry_14 : decode cX1_entry 14 = .ok (.bipush 12, 2) := by decide +kernel
theorem dX1_entry_16 : decode cX1_entry 16 = .ok (.if_icmp .ge 21, 3) := by decide +kernel
theorem dX1_entry_19 : decode cX1_entry 19 = .ok (.aload_n 0, 1) := by decide +kernel
theorem dX1_entry_20 : decode cX1_entry 20 = .ok (.getfield 7, 3) := by decide +kernel
theorem dX1_entry_23 : decode cX1_entry 23 = .ok (.bipush 12, 2) := by decide +kernel
theorem dX1_entry_25 : decode cX1_entry 25 = .ok (.iload_n 1, 1) := by decide +kernel
theorem dX1_entry_26 : decode cX1_entry 26 = .ok (.imul, 1) := by decide +kernel
theorem dX1_entry_27 : decode cX1_entry 27 = .ok (.iload_n 2, 1) := by decide +kernel
theorem dX1_entry_28 : decode cX1_entry 28 = .ok (.iadd, 1) := by decide +kernel
theorem dX1_entry_29 : decode cX1_entry 29 = .ok (.baload, 1) := by decide +kernel
theorem dX1_entry_30 : decode cX1_entry 30 = .ok (.ifCond .eq 7, 3) := by decide +kernel
theorem dX1_entry_33 : decode cX1_entry 33 = .ok (.iconst 1, 1) := by decide +kernel
theorem dX1_entry_34 : decode cX1_entry 34 = .ok (.goto 4, 3) := by decide +kernel
theorem dX1_entry_37 : decode cX1_entry 37 = .ok (.iconst 0, 1) := by decide +kernel
theorem dX1_entry_38 : decode cX1_entry 38 = .ok (.ireturn, 1) := by decide +kernel
abbrev cX1_rescore : ByteArray := prog_3_method_5_code
def yX1_rescore : MethodName := ⟨RX1, "rescore", "(III)Z"⟩
theorem dX1_rescore_0 : decode cX1_rescore 0 = .ok (.aload_n 0, 1) := by decide +kernel
theorem dX1_rescore_1 : decode cX1_rescore 1 = .ok (.iload_n 1, 1) := by decide +kernel
theorem dX1_rescore_2 : decode cX1_rescore 2 = .ok (.iload_n 2, 1) := by decide +kernel
theorem dX1_rescore_3 : decode cX1_rescore 3 = .ok (.invokevirtual 27, 3) := by decide +kernel
theorem dX1_rescore_6 : decode cX1_rescore 6 = .ok (.ifCond .eq 14, 3) := by decide +kernel
theorem dX1_rescore_9 : decode cX1_rescore 9 = .ok (.iload_n 3, 1) := by decide +kernel
theorem dX1_rescore_10 : decode cX1_rescore 10 = .ok (.ifCond .lt 10, 3) := by decide +kernel
theorem dX1_rescore_13 : decode cX1_rescore 13 = .ok (.iload_n 3, 1) := by decide +kernel
theorem dX1_rescore_14 : decode cX1_rescore 14 = .ok (.sipush 1000, 3) := by decide +kernel
theorem dX1_rescore_17 : decode cX1_rescore 17 = .ok (.if_icmp .le 5, 3) := by decide +kernel
theorem dX1_rescore_20 : decode cX1_rescore 20 = .ok (.iconst 0, 1) := by decide +kernel
theorem dX1_rescore_21 : decode cX1_rescore 21 = .ok (.ireturn, 1) := by decide +kernel
theorem dX1_rescore_22 : decode cX1_rescore 22 = .ok (.aload_n 0, 1) := by decide +kernel
theorem dX1_rescore_23 : decode cX1_rescore 23 = .ok (.getfield 17, 3) := by decide +kernel
theorem dX1_rescore_26 : decode cX1_rescore 26 = .ok (.bipush 12, 2) := by decide +kernel
theorem dX1_rescore_28 : decode cX1_rescore 28 = .ok (.iload_n 1, 1) := by decide +kernel
theorem dX1_rescore_29 : decode cX1_rescore 29 = .ok (.imul, 1) := by decide +kernel
theorem dX1_rescore_30 : decode cX1_rescore 30 = .ok (.iload_n 2, 1) := by decide +kernel
theorem dX1_rescore_31 : decode cX1_rescore 31 = .ok (.iadd, 1) := by decide +kernel
theorem dX1_rescore_32 : decode cX1_rescore 32 = .ok (.iload_n 3, 1) := by decide +kernel
theorem dX1_rescore_33 : decode cX1_rescore 33 = .ok (.iastore, 1) := by decide +kernel
theorem dX1_rescore_34 : decode cX1_rescore 34 = .ok (.aload_n 0, 1) := by decide +kernel
theorem dX1_rescore_35 : decode cX1_rescore 35 = .ok (.iconst 0, 1) := by decide +kernel
theorem dX1_rescore_36 : decode cX1_rescore 36 = .ok (.putfield 23, 3) := by decide +kernel
theorem dX1_rescore_39 : decode cX1_rescore 39 = .ok (.iconst 1, 1) := by decide +kernel
theorem dX1_rescore_40 : decode cX1_rescore 40 = .ok (.ireturn, 1) := by decide +kernel
abbrev cX1_weigh : ByteArray := prog_3_method_6_code
def yX1_weigh : MethodName := ⟨RX1, "weigh", "(II)Z"⟩
theorem dX1_weigh_0 : decode cX1_weigh 0 = .ok (.iload_n 1, 1) := by decide +kernel
theorem dX1_weigh_1 : decode cX1_weigh 1 = .ok (.ifCond .eq 8, 3) := by decide +kernel
theorem dX1_weigh_4 : decode cX1_weigh 4 = .ok (.iload_n 1, 1) := by decide +kernel
theorem dX1_weigh_5 : decode cX1_weigh 5 = .ok (.iconst 1, 1) := by decide +kernel
theorem dX1_weigh_6 : decode cX1_weigh 6 = .ok (.if_icmp .ne 13, 3) := by decide +kernel
theorem dX1_weigh_9 : decode cX1_weigh 9 = .ok (.iload_n 2, 1) := by decide +kernel
theorem dX1_weigh_10 : decode cX1_weigh 10 = .ok (.ifCond .lt 9, 3) := by decide +kernel
theorem dX1_weigh_13 : decode cX1_weigh 13 = .ok (.iload_n 2, 1) := by decide +kernel
theorem dX1_weigh_14 : decode cX1_weigh 14 = .ok (.bipush 9, 2) := by decide +kernel
theorem dX1_weigh_16 : decode cX1_weigh 16 = .ok (.if_icmp .le 5, 3) := by decide +kernel
theorem dX1_weigh_19 : decode cX1_weigh 19 = .ok (.iconst 0, 1) := by decide +kernel
theorem dX1_weigh_20 : decode cX1_weigh 20 = .ok (.ireturn, 1) := by decide +kernel
theorem dX1_weigh_21 : decode cX1_weigh 21 = .ok (.aload_n 0, 1) := by decide +kernel
theorem dX1_weigh_22 : decode cX1_weigh 22 = .ok (.getfield 20, 3) := by decide +kernel
theorem dX1_weigh_25 : decode cX1_weigh 25 = .ok (.iload_n 1, 1) := by decide +kernel
theorem dX1_weigh_26 : decode cX1_weigh 26 = .ok (.iload_n 2, 1) := by decide +kernel
theorem dX1_weigh_27 : decode cX1_weigh 27 = .ok (.iastore, 1) := by decide +kernel
theorem dX1_weigh_28 : decode cX1_weigh 28 = .ok (.aload_n 0, 1) := by decide +kernel
theorem dX1_weigh_29 : decode cX1_weigh 29 = .ok (.iconst 0, 1) := by decide +kernel
theorem dX1_weigh_30 : decode cX1_weigh 30 = .ok (.putfield 23, 3) := by decide +kernel
theorem dX1_weigh_33 : decode cX1_weigh 33 = .ok (.iconst 1, 1) := by decide +kernel
theorem dX1_weigh_34 : decode cX1_weigh 34 = .ok (.ireturn, 1) := by decide +kernel
abbrev cX1_entries : ByteArray := prog_3_method_7_code
def yX1_entries : MethodName := ⟨RX1, "entries", "(I)I"⟩
theorem dX1_entries_0 : decode cX1_entries 0 = .ok (.iconst 0, 1) := by decide +kernel
theorem dX1_entries_1 : decode cX1_entries 1 = .ok (.istore_n 2, 1) := by decide +kernel
theorem dX1_entries_2 : decode cX1_entries 2 = .ok (.iconst 0, 1) := by decide +kernel
theorem dX1_entries_3 : decode cX1_entries 3 = .ok (.istore_n 3, 1) := by decide +kernel
theorem dX1_entries_4 : decode cX1_entries 4 = .ok (.iload_n 3, 1) := by decide +kernel
theorem dX1_entries_5 : decode cX1_entries 5 = .ok (.bipush 12, 2) := by decide +kernel
theorem dX1_entries_7 : decode cX1_entries 7 = .ok (.if_icmp .ge 28, 3) := by decide +kernel
theorem dX1_entries_10 : decode cX1_entries 10 = .ok (.iload_n 2, 1) := by decide +kernel
theorem dX1_entries_11 : decode cX1_entries 11 = .ok (.aload_n 0, 1) := by decide +kernel
theorem dX1_entries_12 : decode cX1_entries 12 = .ok (.iload_n 1, 1) := by decide +kernel
theorem dX1_entries_13 : decode cX1_entries 13 = .ok (.iload_n 3, 1) := by decide +kernel
theorem dX1_entries_14 : decode cX1_entries 14 = .ok (.invokevirtual 27, 3) := by decide +kernel
theorem dX1_entries_17 : decode cX1_entries 17 = .ok (.ifCond .eq 9, 3) := by decide +kernel
theorem dX1_entries_20 : decode cX1_entries 20 = .ok (.iconst 1, 1) := by decide +kernel
theorem dX1_entries_21 : decode cX1_entries 21 = .ok (.iload_n 3, 1) := by decide +kernel
theorem dX1_entries_22 : decode cX1_entries 22 = .ok (.ishl, 1) := by decide +kernel
theorem dX1_entries_23 : decode cX1_entries 23 = .ok (.goto 4, 3) := by decide +kernel
theorem dX1_entries_26 : decode cX1_entries 26 = .ok (.iconst 0, 1) := by decide +kernel
theorem dX1_entries_27 : decode cX1_entries 27 = .ok (.ior, 1) := by decide +kernel
theorem dX1_entries_28 : decode cX1_entries 28 = .ok (.istore_n 2, 1) := by decide +kernel
theorem dX1_entries_29 : decode cX1_entries 29 = .ok (.iinc 3 1, 3) := by decide +kernel
theorem dX1_entries_32 : decode cX1_entries 32 = .ok (.goto (-28), 3) := by decide +kernel
theorem dX1_entries_35 : decode cX1_entries 35 = .ok (.iload_n 2, 1) := by decide +kernel
theorem dX1_entries_36 : decode cX1_entries 36 = .ok (.ireturn, 1) := by decide +kernel
abbrev cX1_score : ByteArray := prog_3_method_8_code
def yX1_score : MethodName := ⟨RX1, "score", "(II)I"⟩
theorem dX1_score_0 : decode cX1_score 0 = .ok (.aload_n 0, 1) := by decide +kernel
theorem dX1_score_1 : decode cX1_score 1 = .ok (.iload_n 1, 1) := by decide +kernel
theorem dX1_score_2 : decode cX1_score 2 = .ok (.iload_n 2, 1) := by decide +kernel
theorem dX1_score_3 : decode cX1_score 3 = .ok (.invokevirtual 27, 3) := by decide +kernel
theorem dX1_score_6 : decode cX1_score 6 = .ok (.ifCond .eq 17, 3) := by decide +kernel
theorem dX1_score_9 : decode cX1_score 9 = .ok (.aload_n 0, 1) := by decide +kernel
theorem dX1_score_10 : decode cX1_score 10 = .ok (.getfield 17, 3) := by decide +kernel
theorem dX1_score_13 : decode cX1_score 13 = .ok (.bipush 12, 2) := by decide +kernel
theorem dX1_score_15 : decode cX1_score 15 = .ok (.iload_n 1, 1) := by decide +kernel
theorem dX1_score_16 : decode cX1_score 16 = .ok (.imul, 1) := by decide +kernel
theorem dX1_score_17 : decode cX1_score 17 = .ok (.iload_n 2, 1) := by decide +kernel
theorem dX1_score_18 : decode cX1_score 18 = .ok (.iadd, 1) := by decide +kernel
theorem dX1_score_19 : decode cX1_score 19 = .ok (.iaload, 1) := by decide +kernel
theorem dX1_score_20 : decode cX1_score 20 = .ok (.goto 4, 3) := by decide +kernel
theorem dX1_score_23 : decode cX1_score 23 = .ok (.iconst (-1), 1) := by decide +kernel
theorem dX1_score_24 : decode cX1_score 24 = .ok (.ireturn, 1) := by decide +kernel
abbrev cX1_next : ByteArray := prog_3_method_14_code
def yX1_next : MethodName := ⟨RX1, "next", "()I"⟩
theorem dX1_next_0 : decode cX1_next 0 = .ok (.aload_n 0, 1) := by decide +kernel
theorem dX1_next_1 : decode cX1_next 1 = .ok (.aload_n 0, 1) := by decide +kernel
theorem dX1_next_2 : decode cX1_next 2 = .ok (.getfield 23, 3) := by decide +kernel
theorem dX1_next_5 : decode cX1_next 5 = .ok (.invokevirtual 42, 3) := by decide +kernel
theorem dX1_next_8 : decode cX1_next 8 = .ok (.istore_n 1, 1) := by decide +kernel
theorem dX1_next_9 : decode cX1_next 9 = .ok (.aload_n 0, 1) := by decide +kernel
theorem dX1_next_10 : decode cX1_next 10 = .ok (.iload_n 1, 1) := by decide +kernel
theorem dX1_next_11 : decode cX1_next 11 = .ok (.ifCond .ge 10, 3) := by decide +kernel
theorem dX1_next_14 : decode cX1_next 14 = .ok (.aload_n 0, 1) := by decide +kernel
theorem dX1_next_15 : decode cX1_next 15 = .ok (.getfield 23, 3) := by decide +kernel
theorem dX1_next_18 : decode cX1_next 18 = .ok (.goto 9, 3) := by decide +kernel
theorem dX1_next_21 : decode cX1_next 21 = .ok (.aload_n 0, 1) := by decide +kernel
theorem dX1_next_22 : decode cX1_next 22 = .ok (.getfield 23, 3) := by decide +kernel
theorem dX1_next_25 : decode cX1_next 25 = .ok (.iconst 1, 1) := by decide +kernel
theorem dX1_next_26 : decode cX1_next 26 = .ok (.iadd, 1) := by decide +kernel
theorem dX1_next_27 : decode cX1_next 27 = .ok (.putfield 23, 3) := by decide +kernel
theorem dX1_next_30 : decode cX1_next 30 = .ok (.aload_n 0, 1) := by decide +kernel
theorem dX1_next_31 : decode cX1_next 31 = .ok (.iload_n 1, 1) := by decide +kernel
theorem dX1_next_32 : decode cX1_next 32 = .ok (.invokevirtual 45, 3) := by decide +kernel
theorem dX1_next_35 : decode cX1_next 35 = .ok (.ireturn, 1) := by decide +kernel
abbrev cX1_ranked : ByteArray := prog_3_method_12_code
def yX1_ranked : MethodName := ⟨RX1, "ranked", "(I)I"⟩
theorem dX1_ranked_0 : decode cX1_ranked 0 = .ok (.iconst 0, 1) := by decide +kernel
theorem dX1_ranked_1 : decode cX1_ranked 1 = .ok (.istore_n 2, 1) := by decide +kernel
theorem dX1_ranked_2 : decode cX1_ranked 2 = .ok (.iload_n 2, 1) := by decide +kernel
theorem dX1_ranked_3 : decode cX1_ranked 3 = .ok (.sipush 144, 3) := by decide +kernel
theorem dX1_ranked_6 : decode cX1_ranked 6 = .ok (.if_icmp .ge 28, 3) := by decide +kernel
theorem dX1_ranked_9 : decode cX1_ranked 9 = .ok (.aload_n 0, 1) := by decide +kernel
theorem dX1_ranked_10 : decode cX1_ranked 10 = .ok (.iload_n 2, 1) := by decide +kernel
theorem dX1_ranked_11 : decode cX1_ranked 11 = .ok (.invokevirtual 35, 3) := by decide +kernel
theorem dX1_ranked_14 : decode cX1_ranked 14 = .ok (.ifCond .eq 14, 3) := by decide +kernel
theorem dX1_ranked_17 : decode cX1_ranked 17 = .ok (.aload_n 0, 1) := by decide +kernel
theorem dX1_ranked_18 : decode cX1_ranked 18 = .ok (.iload_n 2, 1) := by decide +kernel
theorem dX1_ranked_19 : decode cX1_ranked 19 = .ok (.invokevirtual 39, 3) := by decide +kernel
theorem dX1_ranked_22 : decode cX1_ranked 22 = .ok (.iload_n 1, 1) := by decide +kernel
theorem dX1_ranked_23 : decode cX1_ranked 23 = .ok (.if_icmp .ne 5, 3) := by decide +kernel
theorem dX1_ranked_26 : decode cX1_ranked 26 = .ok (.iload_n 2, 1) := by decide +kernel
theorem dX1_ranked_27 : decode cX1_ranked 27 = .ok (.ireturn, 1) := by decide +kernel
theorem dX1_ranked_28 : decode cX1_ranked 28 = .ok (.iinc 2 1, 3) := by decide +kernel
theorem dX1_ranked_31 : decode cX1_ranked 31 = .ok (.goto (-29), 3) := by decide +kernel
theorem dX1_ranked_34 : decode cX1_ranked 34 = .ok (.iconst (-1), 1) := by decide +kernel
theorem dX1_ranked_35 : decode cX1_ranked 35 = .ok (.ireturn, 1) := by decide +kernel
abbrev cX1_pair : ByteArray := prog_3_method_9_code
def yX1_pair : MethodName := ⟨RX1, "pair", "(I)Z"⟩
theorem dX1_pair_0 : decode cX1_pair 0 = .ok (.iload_n 1, 1) := by decide +kernel
theorem dX1_pair_1 : decode cX1_pair 1 = .ok (.bipush 12, 2) := by decide +kernel
theorem dX1_pair_3 : decode cX1_pair 3 = .ok (.idiv, 1) := by decide +kernel
theorem dX1_pair_4 : decode cX1_pair 4 = .ok (.istore_n 2, 1) := by decide +kernel
theorem dX1_pair_5 : decode cX1_pair 5 = .ok (.bipush 12, 2) := by decide +kernel
theorem dX1_pair_7 : decode cX1_pair 7 = .ok (.iload_n 1, 1) := by decide +kernel
theorem dX1_pair_8 : decode cX1_pair 8 = .ok (.bipush 12, 2) := by decide +kernel
theorem dX1_pair_10 : decode cX1_pair 10 = .ok (.irem, 1) := by decide +kernel
theorem dX1_pair_11 : decode cX1_pair 11 = .ok (.iadd, 1) := by decide +kernel
theorem dX1_pair_12 : decode cX1_pair 12 = .ok (.istore_n 3, 1) := by decide +kernel
theorem dX1_pair_13 : decode cX1_pair 13 = .ok (.aload_n 0, 1) := by decide +kernel
theorem dX1_pair_14 : decode cX1_pair 14 = .ok (.getfield 7, 3) := by decide +kernel
theorem dX1_pair_17 : decode cX1_pair 17 = .ok (.iload_n 2, 1) := by decide +kernel
theorem dX1_pair_18 : decode cX1_pair 18 = .ok (.baload, 1) := by decide +kernel
theorem dX1_pair_19 : decode cX1_pair 19 = .ok (.ifCond .eq 31, 3) := by decide +kernel
theorem dX1_pair_22 : decode cX1_pair 22 = .ok (.aload_n 0, 1) := by decide +kernel
theorem dX1_pair_23 : decode cX1_pair 23 = .ok (.getfield 7, 3) := by decide +kernel
theorem dX1_pair_26 : decode cX1_pair 26 = .ok (.iload_n 3, 1) := by decide +kernel
theorem dX1_pair_27 : decode cX1_pair 27 = .ok (.baload, 1) := by decide +kernel
theorem dX1_pair_28 : decode cX1_pair 28 = .ok (.ifCond .eq 22, 3) := by decide +kernel
theorem dX1_pair_31 : decode cX1_pair 31 = .ok (.aload_n 0, 1) := by decide +kernel
theorem dX1_pair_32 : decode cX1_pair 32 = .ok (.getfield 13, 3) := by decide +kernel
theorem dX1_pair_35 : decode cX1_pair 35 = .ok (.iload_n 2, 1) := by decide +kernel
theorem dX1_pair_36 : decode cX1_pair 36 = .ok (.iaload, 1) := by decide +kernel
theorem dX1_pair_37 : decode cX1_pair 37 = .ok (.aload_n 0, 1) := by decide +kernel
theorem dX1_pair_38 : decode cX1_pair 38 = .ok (.getfield 13, 3) := by decide +kernel
theorem dX1_pair_41 : decode cX1_pair 41 = .ok (.iload_n 3, 1) := by decide +kernel
theorem dX1_pair_42 : decode cX1_pair 42 = .ok (.iaload, 1) := by decide +kernel
theorem dX1_pair_43 : decode cX1_pair 43 = .ok (.if_icmp .ne 7, 3) := by decide +kernel
theorem dX1_pair_46 : decode cX1_pair 46 = .ok (.iconst 1, 1) := by decide +kernel
theorem dX1_pair_47 : decode cX1_pair 47 = .ok (.goto 4, 3) := by decide +kernel
theorem dX1_pair_50 : decode cX1_pair 50 = .ok (.iconst 0, 1) := by decide +kernel
theorem dX1_pair_51 : decode cX1_pair 51 = .ok (.ireturn, 1) := by decide +kernel
abbrev cX1_before : ByteArray := prog_3_method_11_code
def yX1_before : MethodName := ⟨RX1, "before", "(I)I"⟩
theorem dX1_before_0 : decode cX1_before 0 = .ok (.aload_n 0, 1) := by decide +kernel
theorem dX1_before_1 : decode cX1_before 1 = .ok (.iload_n 1, 1) := by decide +kernel
theorem dX1_before_2 : decode cX1_before 2 = .ok (.invokevirtual 31, 3) := by decide +kernel
theorem dX1_before_5 : decode cX1_before 5 = .ok (.istore_n 2, 1) := by decide +kernel
theorem dX1_before_6 : decode cX1_before 6 = .ok (.iconst 0, 1) := by decide +kernel
theorem dX1_before_7 : decode cX1_before 7 = .ok (.istore_n 3, 1) := by decide +kernel
theorem dX1_before_8 : decode cX1_before 8 = .ok (.iconst 0, 1) := by decide +kernel
theorem dX1_before_9 : decode cX1_before 9 = .ok (.istore 4, 2) := by decide +kernel
theorem dX1_before_11 : decode cX1_before 11 = .ok (.iload 4, 2) := by decide +kernel
theorem dX1_before_13 : decode cX1_before 13 = .ok (.sipush 144, 3) := by decide +kernel
theorem dX1_before_16 : decode cX1_before 16 = .ok (.if_icmp .ge 52, 3) := by decide +kernel
theorem dX1_before_19 : decode cX1_before 19 = .ok (.aload_n 0, 1) := by decide +kernel
theorem dX1_before_20 : decode cX1_before 20 = .ok (.iload 4, 2) := by decide +kernel
theorem dX1_before_22 : decode cX1_before 22 = .ok (.invokevirtual 35, 3) := by decide +kernel
theorem dX1_before_25 : decode cX1_before 25 = .ok (.ifCond .eq 37, 3) := by decide +kernel
theorem dX1_before_28 : decode cX1_before 28 = .ok (.aload_n 0, 1) := by decide +kernel
theorem dX1_before_29 : decode cX1_before 29 = .ok (.iload 4, 2) := by decide +kernel
theorem dX1_before_31 : decode cX1_before 31 = .ok (.invokevirtual 31, 3) := by decide +kernel
theorem dX1_before_34 : decode cX1_before 34 = .ok (.istore 5, 2) := by decide +kernel
theorem dX1_before_36 : decode cX1_before 36 = .ok (.iload 5, 2) := by decide +kernel
theorem dX1_before_38 : decode cX1_before 38 = .ok (.iload_n 2, 1) := by decide +kernel
theorem dX1_before_39 : decode cX1_before 39 = .ok (.if_icmp .gt 15, 3) := by decide +kernel
theorem dX1_before_42 : decode cX1_before 42 = .ok (.iload 5, 2) := by decide +kernel
theorem dX1_before_44 : decode cX1_before 44 = .ok (.iload_n 2, 1) := by decide +kernel
theorem dX1_before_45 : decode cX1_before 45 = .ok (.if_icmp .ne 15, 3) := by decide +kernel
theorem dX1_before_48 : decode cX1_before 48 = .ok (.iload 4, 2) := by decide +kernel
theorem dX1_before_50 : decode cX1_before 50 = .ok (.iload_n 1, 1) := by decide +kernel
theorem dX1_before_51 : decode cX1_before 51 = .ok (.if_icmp .ge 9, 3) := by decide +kernel
theorem dX1_before_54 : decode cX1_before 54 = .ok (.iload_n 3, 1) := by decide +kernel
theorem dX1_before_55 : decode cX1_before 55 = .ok (.iconst 1, 1) := by decide +kernel
theorem dX1_before_56 : decode cX1_before 56 = .ok (.iadd, 1) := by decide +kernel
theorem dX1_before_57 : decode cX1_before 57 = .ok (.goto 4, 3) := by decide +kernel
theorem dX1_before_60 : decode cX1_before 60 = .ok (.iload_n 3, 1) := by decide +kernel
theorem dX1_before_61 : decode cX1_before 61 = .ok (.istore_n 3, 1) := by decide +kernel
theorem dX1_before_62 : decode cX1_before 62 = .ok (.iinc 4 1, 3) := by decide +kernel
theorem dX1_before_65 : decode cX1_before 65 = .ok (.goto (-54), 3) := by decide +kernel
theorem dX1_before_68 : decode cX1_before 68 = .ok (.iload_n 3, 1) := by decide +kernel
theorem dX1_before_69 : decode cX1_before 69 = .ok (.ireturn, 1) := by decide +kernel
abbrev cX1_value : ByteArray := prog_3_method_10_code
def yX1_value : MethodName := ⟨RX1, "value", "(I)I"⟩
theorem dX1_value_0 : decode cX1_value 0 = .ok (.aload_n 0, 1) := by decide +kernel
theorem dX1_value_1 : decode cX1_value 1 = .ok (.getfield 20, 3) := by decide +kernel
theorem dX1_value_4 : decode cX1_value 4 = .ok (.iconst 0, 1) := by decide +kernel
theorem dX1_value_5 : decode cX1_value 5 = .ok (.iaload, 1) := by decide +kernel
theorem dX1_value_6 : decode cX1_value 6 = .ok (.aload_n 0, 1) := by decide +kernel
theorem dX1_value_7 : decode cX1_value 7 = .ok (.getfield 17, 3) := by decide +kernel
theorem dX1_value_10 : decode cX1_value 10 = .ok (.iload_n 1, 1) := by decide +kernel
theorem dX1_value_11 : decode cX1_value 11 = .ok (.bipush 12, 2) := by decide +kernel
theorem dX1_value_13 : decode cX1_value 13 = .ok (.idiv, 1) := by decide +kernel
theorem dX1_value_14 : decode cX1_value 14 = .ok (.iaload, 1) := by decide +kernel
theorem dX1_value_15 : decode cX1_value 15 = .ok (.imul, 1) := by decide +kernel
theorem dX1_value_16 : decode cX1_value 16 = .ok (.aload_n 0, 1) := by decide +kernel
theorem dX1_value_17 : decode cX1_value 17 = .ok (.getfield 20, 3) := by decide +kernel
theorem dX1_value_20 : decode cX1_value 20 = .ok (.iconst 1, 1) := by decide +kernel
theorem dX1_value_21 : decode cX1_value 21 = .ok (.iaload, 1) := by decide +kernel
theorem dX1_value_22 : decode cX1_value 22 = .ok (.aload_n 0, 1) := by decide +kernel
theorem dX1_value_23 : decode cX1_value 23 = .ok (.getfield 17, 3) := by decide +kernel
theorem dX1_value_26 : decode cX1_value 26 = .ok (.bipush 12, 2) := by decide +kernel
theorem dX1_value_28 : decode cX1_value 28 = .ok (.iload_n 1, 1) := by decide +kernel
theorem dX1_value_29 : decode cX1_value 29 = .ok (.bipush 12, 2) := by decide +kernel
theorem dX1_value_31 : decode cX1_value 31 = .ok (.irem, 1) := by decide +kernel
theorem dX1_value_32 : decode cX1_value 32 = .ok (.iadd, 1) := by decide +kernel
theorem dX1_value_33 : decode cX1_value 33 = .ok (.iaload, 1) := by decide +kernel
theorem dX1_value_34 : decode cX1_value 34 = .ok (.imul, 1) := by decide +kernel
theorem dX1_value_35 : decode cX1_value 35 = .ok (.iadd, 1) := by decide +kernel
theorem dX1_value_36 : decode cX1_value 36 = .ok (.ireturn, 1) := by decide +kernel
abbrev cX1_shown : ByteArray := prog_3_method_13_code
def yX1_shown : MethodName := ⟨RX1, "shown", "(I)I"⟩
theorem dX1_shown_0 : decode cX1_shown 0 = .ok (.iload_n 1, 1) := by decide +kernel
theorem dX1_shown_1 : decode cX1_shown 1 = .ok (.ifCond .ge 7, 3) := by decide +kernel
theorem dX1_shown_4 : decode cX1_shown 4 = .ok (.iconst (-1), 1) := by decide +kernel
theorem dX1_shown_5 : decode cX1_shown 5 = .ok (.goto 15, 3) := by decide +kernel
theorem dX1_shown_8 : decode cX1_shown 8 = .ok (.bipush 16, 2) := by decide +kernel
theorem dX1_shown_10 : decode cX1_shown 10 = .ok (.iload_n 1, 1) := by decide +kernel
theorem dX1_shown_11 : decode cX1_shown 11 = .ok (.bipush 12, 2) := by decide +kernel
theorem dX1_shown_13 : decode cX1_shown 13 = .ok (.idiv, 1) := by decide +kernel
theorem dX1_shown_14 : decode cX1_shown 14 = .ok (.imul, 1) := by decide +kernel
theorem dX1_shown_15 : decode cX1_shown 15 = .ok (.iload_n 1, 1) := by decide +kernel
theorem dX1_shown_16 : decode cX1_shown 16 = .ok (.bipush 12, 2) := by decide +kernel
theorem dX1_shown_18 : decode cX1_shown 18 = .ok (.irem, 1) := by decide +kernel
theorem dX1_shown_19 : decode cX1_shown 19 = .ok (.iadd, 1) := by decide +kernel
theorem dX1_shown_20 : decode cX1_shown 20 = .ok (.ireturn, 1) := by decide +kernel
abbrev cX1_passed : ByteArray := prog_3_method_15_code
def yX1_passed : MethodName := ⟨RX1, "passed", "()I"⟩
theorem dX1_passed_0 : decode cX1_passed 0 = .ok (.aload_n 0, 1) := by decide +kernel
theorem dX1_passed_1 : decode cX1_passed 1 = .ok (.getfield 23, 3) := by decide +kernel
theorem dX1_passed_4 : decode cX1_passed 4 = .ok (.ireturn, 1) := by decide +kernel
abbrev cX1_lastValue : ByteArray := prog_3_method_16_code
def yX1_lastValue : MethodName := ⟨RX1, "lastValue", "()I"⟩
theorem dX1_lastValue_0 : decode cX1_lastValue 0 = .ok (.aload_n 0, 1) := by decide +kernel
theorem dX1_lastValue_1 : decode cX1_lastValue 1 = .ok (.aload_n 0, 1) := by decide +kernel
theorem dX1_lastValue_2 : decode cX1_lastValue 2 = .ok (.getfield 23, 3) := by decide +kernel
theorem dX1_lastValue_5 : decode cX1_lastValue 5 = .ok (.iconst 1, 1) := by decide +kernel
theorem dX1_lastValue_6 : decode cX1_lastValue 6 = .ok (.isub, 1) := by decide +kernel
theorem dX1_lastValue_7 : decode cX1_lastValue 7 = .ok (.invokevirtual 42, 3) := by decide +kernel
theorem dX1_lastValue_10 : decode cX1_lastValue 10 = .ok (.istore_n 1, 1) := by decide +kernel
theorem dX1_lastValue_11 : decode cX1_lastValue 11 = .ok (.iload_n 1, 1) := by decide +kernel
theorem dX1_lastValue_12 : decode cX1_lastValue 12 = .ok (.ifCond .ge 7, 3) := by decide +kernel
theorem dX1_lastValue_15 : decode cX1_lastValue 15 = .ok (.iconst (-1), 1) := by decide +kernel
theorem dX1_lastValue_16 : decode cX1_lastValue 16 = .ok (.goto 8, 3) := by decide +kernel
theorem dX1_lastValue_19 : decode cX1_lastValue 19 = .ok (.aload_n 0, 1) := by decide +kernel
theorem dX1_lastValue_20 : decode cX1_lastValue 20 = .ok (.iload_n 1, 1) := by decide +kernel
theorem dX1_lastValue_21 : decode cX1_lastValue 21 = .ok (.invokevirtual 31, 3) := by decide +kernel
theorem dX1_lastValue_24 : decode cX1_lastValue 24 = .ok (.ireturn, 1) := by decide +kernel
abbrev cX1_rewind : ByteArray := prog_3_method_17_code
def yX1_rewind : MethodName := ⟨RX1, "rewind", "()V"⟩
theorem dX1_rewind_0 : decode cX1_rewind 0 = .ok (.aload_n 0, 1) := by decide +kernel
theorem dX1_rewind_1 : decode cX1_rewind 1 = .ok (.iconst 0, 1) := by decide +kernel
theorem dX1_rewind_2 : decode cX1_rewind 2 = .ok (.putfield 23, 3) := by decide +kernel
theorem dX1_rewind_5 : decode cX1_rewind 5 = .ok (.return_, 1) := by decide +kernel
abbrev cX1_pairAt : ByteArray := prog_3_method_18_code
def yX1_pairAt : MethodName := ⟨RX1, "pairAt", "(I)I"⟩
theorem dX1_pairAt_0 : decode cX1_pairAt 0 = .ok (.aload_n 0, 1) := by decide +kernel
theorem dX1_pairAt_1 : decode cX1_pairAt 1 = .ok (.iload_n 1, 1) := by decide +kernel
theorem dX1_pairAt_2 : decode cX1_pairAt 2 = .ok (.invokevirtual 42, 3) := by decide +kernel
theorem dX1_pairAt_5 : decode cX1_pairAt 5 = .ok (.istore_n 2, 1) := by decide +kernel
theorem dX1_pairAt_6 : decode cX1_pairAt 6 = .ok (.aload_n 0, 1) := by decide +kernel
theorem dX1_pairAt_7 : decode cX1_pairAt 7 = .ok (.iload_n 2, 1) := by decide +kernel
theorem dX1_pairAt_8 : decode cX1_pairAt 8 = .ok (.invokevirtual 45, 3) := by decide +kernel
theorem dX1_pairAt_11 : decode cX1_pairAt 11 = .ok (.ireturn, 1) := by decide +kernel
abbrev cX1_pairs : ByteArray := prog_3_method_19_code
def yX1_pairs : MethodName := ⟨RX1, "pairs", "()I"⟩
theorem dX1_pairs_0 : decode cX1_pairs 0 = .ok (.iconst 0, 1) := by decide +kernel
theorem dX1_pairs_1 : decode cX1_pairs 1 = .ok (.istore_n 1, 1) := by decide +kernel
theorem dX1_pairs_2 : decode cX1_pairs 2 = .ok (.iconst 0, 1) := by decide +kernel
theorem dX1_pairs_3 : decode cX1_pairs 3 = .ok (.istore_n 2, 1) := by decide +kernel
theorem dX1_pairs_4 : decode cX1_pairs 4 = .ok (.iload_n 2, 1) := by decide +kernel
theorem dX1_pairs_5 : decode cX1_pairs 5 = .ok (.sipush 144, 3) := by decide +kernel
theorem dX1_pairs_8 : decode cX1_pairs 8 = .ok (.if_icmp .ge 25, 3) := by decide +kernel
theorem dX1_pairs_11 : decode cX1_pairs 11 = .ok (.aload_n 0, 1) := by decide +kernel
theorem dX1_pairs_12 : decode cX1_pairs 12 = .ok (.iload_n 2, 1) := by decide +kernel
theorem dX1_pairs_13 : decode cX1_pairs 13 = .ok (.invokevirtual 35, 3) := by decide +kernel
theorem dX1_pairs_16 : decode cX1_pairs 16 = .ok (.ifCond .eq 9, 3) := by decide +kernel
theorem dX1_pairs_19 : decode cX1_pairs 19 = .ok (.iload_n 1, 1) := by decide +kernel
theorem dX1_pairs_20 : decode cX1_pairs 20 = .ok (.iconst 1, 1) := by decide +kernel
theorem dX1_pairs_21 : decode cX1_pairs 21 = .ok (.iadd, 1) := by decide +kernel
theorem dX1_pairs_22 : decode cX1_pairs 22 = .ok (.goto 4, 3) := by decide +kernel
theorem dX1_pairs_25 : decode cX1_pairs 25 = .ok (.iload_n 1, 1) := by decide +kernel
theorem dX1_pairs_26 : decode cX1_pairs 26 = .ok (.istore_n 1, 1) := by decide +kernel
theorem dX1_pairs_27 : decode cX1_pairs 27 = .ok (.iinc 2 1, 3) := by decide +kernel
theorem dX1_pairs_30 : decode cX1_pairs 30 = .ok (.goto (-26), 3) := by decide +kernel
theorem dX1_pairs_33 : decode cX1_pairs 33 = .ok (.iload_n 1, 1) := by decide +kernel
theorem dX1_pairs_34 : decode cX1_pairs 34 = .ok (.ireturn, 1) := by decide +kernel
abbrev cX1_atLeast : ByteArray := prog_3_method_20_code
def yX1_atLeast : MethodName := ⟨RX1, "atLeast", "(I)I"⟩
theorem dX1_atLeast_0 : decode cX1_atLeast 0 = .ok (.iconst 0, 1) := by decide +kernel
theorem dX1_atLeast_1 : decode cX1_atLeast 1 = .ok (.istore_n 2, 1) := by decide +kernel
theorem dX1_atLeast_2 : decode cX1_atLeast 2 = .ok (.iconst 0, 1) := by decide +kernel
theorem dX1_atLeast_3 : decode cX1_atLeast 3 = .ok (.istore_n 3, 1) := by decide +kernel
theorem dX1_atLeast_4 : decode cX1_atLeast 4 = .ok (.iload_n 3, 1) := by decide +kernel
theorem dX1_atLeast_5 : decode cX1_atLeast 5 = .ok (.sipush 144, 3) := by decide +kernel
theorem dX1_atLeast_8 : decode cX1_atLeast 8 = .ok (.if_icmp .ge 34, 3) := by decide +kernel
theorem dX1_atLeast_11 : decode cX1_atLeast 11 = .ok (.aload_n 0, 1) := by decide +kernel
theorem dX1_atLeast_12 : decode cX1_atLeast 12 = .ok (.iload_n 3, 1) := by decide +kernel
theorem dX1_atLeast_13 : decode cX1_atLeast 13 = .ok (.invokevirtual 35, 3) := by decide +kernel
theorem dX1_atLeast_16 : decode cX1_atLeast 16 = .ok (.ifCond .eq 18, 3) := by decide +kernel
theorem dX1_atLeast_19 : decode cX1_atLeast 19 = .ok (.aload_n 0, 1) := by decide +kernel
theorem dX1_atLeast_20 : decode cX1_atLeast 20 = .ok (.iload_n 3, 1) := by decide +kernel
theorem dX1_atLeast_21 : decode cX1_atLeast 21 = .ok (.invokevirtual 31, 3) := by decide +kernel
theorem dX1_atLeast_24 : decode cX1_atLeast 24 = .ok (.iload_n 1, 1) := by decide +kernel
theorem dX1_atLeast_25 : decode cX1_atLeast 25 = .ok (.if_icmp .lt 9, 3) := by decide +kernel
theorem dX1_atLeast_28 : decode cX1_atLeast 28 = .ok (.iload_n 2, 1) := by decide +kernel
theorem dX1_atLeast_29 : decode cX1_atLeast 29 = .ok (.iconst 1, 1) := by decide +kernel
theorem dX1_atLeast_30 : decode cX1_atLeast 30 = .ok (.iadd, 1) := by decide +kernel
theorem dX1_atLeast_31 : decode cX1_atLeast 31 = .ok (.goto 4, 3) := by decide +kernel
theorem dX1_atLeast_34 : decode cX1_atLeast 34 = .ok (.iload_n 2, 1) := by decide +kernel
theorem dX1_atLeast_35 : decode cX1_atLeast 35 = .ok (.istore_n 2, 1) := by decide +kernel
theorem dX1_atLeast_36 : decode cX1_atLeast 36 = .ok (.iinc 3 1, 3) := by decide +kernel
theorem dX1_atLeast_39 : decode cX1_atLeast 39 = .ok (.goto (-35), 3) := by decide +kernel
theorem dX1_atLeast_42 : decode cX1_atLeast 42 = .ok (.iload_n 2, 1) := by decide +kernel
theorem dX1_atLeast_43 : decode cX1_atLeast 43 = .ok (.ireturn, 1) := by decide +kernel
abbrev cX1_bestPlace : ByteArray := prog_3_method_21_code
def yX1_bestPlace : MethodName := ⟨RX1, "bestPlace", "(II)I"⟩
theorem dX1_bestPlace_0 : decode cX1_bestPlace 0 = .ok (.iconst (-1), 1) := by decide +kernel
theorem dX1_bestPlace_1 : decode cX1_bestPlace 1 = .ok (.istore_n 3, 1) := by decide +kernel
theorem dX1_bestPlace_2 : decode cX1_bestPlace 2 = .ok (.iconst 0, 1) := by decide +kernel
theorem dX1_bestPlace_3 : decode cX1_bestPlace 3 = .ok (.istore 4, 2) := by decide +kernel
theorem dX1_bestPlace_5 : decode cX1_bestPlace 5 = .ok (.iload 4, 2) := by decide +kernel
theorem dX1_bestPlace_7 : decode cX1_bestPlace 7 = .ok (.sipush 144, 3) := by decide +kernel
theorem dX1_bestPlace_10 : decode cX1_bestPlace 10 = .ok (.if_icmp .ge 73, 3) := by decide +kernel
theorem dX1_bestPlace_13 : decode cX1_bestPlace 13 = .ok (.aload_n 0, 1) := by decide +kernel
theorem dX1_bestPlace_14 : decode cX1_bestPlace 14 = .ok (.iload_n 1, 1) := by decide +kernel
theorem dX1_bestPlace_15 : decode cX1_bestPlace 15 = .ok (.iload_n 2, 1) := by decide +kernel
theorem dX1_bestPlace_16 : decode cX1_bestPlace 16 = .ok (.invokevirtual 27, 3) := by decide +kernel
theorem dX1_bestPlace_19 : decode cX1_bestPlace 19 = .ok (.ifCond .eq 64, 3) := by decide +kernel
theorem dX1_bestPlace_22 : decode cX1_bestPlace 22 = .ok (.aload_n 0, 1) := by decide +kernel
theorem dX1_bestPlace_23 : decode cX1_bestPlace 23 = .ok (.iload 4, 2) := by decide +kernel
theorem dX1_bestPlace_25 : decode cX1_bestPlace 25 = .ok (.invokevirtual 35, 3) := by decide +kernel
theorem dX1_bestPlace_28 : decode cX1_bestPlace 28 = .ok (.ifCond .eq 49, 3) := by decide +kernel
theorem dX1_bestPlace_31 : decode cX1_bestPlace 31 = .ok (.iload_n 1, 1) := by decide +kernel
theorem dX1_bestPlace_32 : decode cX1_bestPlace 32 = .ok (.ifCond .ne 11, 3) := by decide +kernel
theorem dX1_bestPlace_35 : decode cX1_bestPlace 35 = .ok (.iload 4, 2) := by decide +kernel
theorem dX1_bestPlace_37 : decode cX1_bestPlace 37 = .ok (.bipush 12, 2) := by decide +kernel
theorem dX1_bestPlace_39 : decode cX1_bestPlace 39 = .ok (.idiv, 1) := by decide +kernel
theorem dX1_bestPlace_40 : decode cX1_bestPlace 40 = .ok (.goto 8, 3) := by decide +kernel
theorem dX1_bestPlace_43 : decode cX1_bestPlace 43 = .ok (.iload 4, 2) := by decide +kernel
theorem dX1_bestPlace_45 : decode cX1_bestPlace 45 = .ok (.bipush 12, 2) := by decide +kernel
theorem dX1_bestPlace_47 : decode cX1_bestPlace 47 = .ok (.irem, 1) := by decide +kernel
theorem dX1_bestPlace_48 : decode cX1_bestPlace 48 = .ok (.iload_n 2, 1) := by decide +kernel
theorem dX1_bestPlace_49 : decode cX1_bestPlace 49 = .ok (.if_icmp .ne 28, 3) := by decide +kernel
theorem dX1_bestPlace_52 : decode cX1_bestPlace 52 = .ok (.aload_n 0, 1) := by decide +kernel
theorem dX1_bestPlace_53 : decode cX1_bestPlace 53 = .ok (.iload 4, 2) := by decide +kernel
theorem dX1_bestPlace_55 : decode cX1_bestPlace 55 = .ok (.invokevirtual 39, 3) := by decide +kernel
theorem dX1_bestPlace_58 : decode cX1_bestPlace 58 = .ok (.istore 5, 2) := by decide +kernel
theorem dX1_bestPlace_60 : decode cX1_bestPlace 60 = .ok (.iload_n 3, 1) := by decide +kernel
theorem dX1_bestPlace_61 : decode cX1_bestPlace 61 = .ok (.ifCond .lt 9, 3) := by decide +kernel
theorem dX1_bestPlace_64 : decode cX1_bestPlace 64 = .ok (.iload 5, 2) := by decide +kernel
theorem dX1_bestPlace_66 : decode cX1_bestPlace 66 = .ok (.iload_n 3, 1) := by decide +kernel
theorem dX1_bestPlace_67 : decode cX1_bestPlace 67 = .ok (.if_icmp .ge 8, 3) := by decide +kernel
theorem dX1_bestPlace_70 : decode cX1_bestPlace 70 = .ok (.iload 5, 2) := by decide +kernel
theorem dX1_bestPlace_72 : decode cX1_bestPlace 72 = .ok (.goto 4, 3) := by decide +kernel
theorem dX1_bestPlace_75 : decode cX1_bestPlace 75 = .ok (.iload_n 3, 1) := by decide +kernel
theorem dX1_bestPlace_76 : decode cX1_bestPlace 76 = .ok (.istore_n 3, 1) := by decide +kernel
theorem dX1_bestPlace_77 : decode cX1_bestPlace 77 = .ok (.iinc 4 1, 3) := by decide +kernel
theorem dX1_bestPlace_80 : decode cX1_bestPlace 80 = .ok (.goto (-75), 3) := by decide +kernel
theorem dX1_bestPlace_83 : decode cX1_bestPlace 83 = .ok (.iload_n 3, 1) := by decide +kernel
theorem dX1_bestPlace_84 : decode cX1_bestPlace 84 = .ok (.ireturn, 1) := by decide +kernel
end NMM
end
section
section NMN
set_option maxRecDepth 100000
theorem q24 : (Jvm.Cond.initialized "BestPairsModel") ∈ lw_all := lw_g (lw_at lw_m1 2 rfl) rfl
theorem q203 : (Jvm.Cond.instantiable "BestPairsModel" (5 : Nat)) ∈ lw_all := lw_g (lw_at lw_m1 181 rfl) rfl
theorem q205 : (Jvm.Cond.instanceMethod ({ cls := "BestPairsModel", name := "<init>", desc := "()V" } : Jvm.MethodName)) ∈ lw_all := lw_g (lw_at lw_m1 183 rfl) rfl
theorem q206 : (Jvm.Cond.code ({ cls := "BestPairsModel", name := "<init>", desc := "()V" } : Jvm.MethodName) prog_3_method_1_code (1 : Nat) (Option.none : Option Jvm.ClassFile.FieldType)) ∈ lw_all := lw_g (lw_at lw_m1 184 rfl) rfl
theorem q207 : (Jvm.Cond.methodLink "BestPairsModel" (1 : Nat) ({ cls := "java/lang/Object", name := "<init>", desc := "()V" } : Jvm.MethodName)) ∈ lw_all := lw_g (lw_at lw_m1 185 rfl) rfl
theorem q208 : (Jvm.Cond.fieldLink "BestPairsModel" (7 : Nat) "BestPairsModel" "there" "[Z") ∈ lw_all := lw_g (lw_at lw_m1 186 rfl) rfl
theorem q209 : (Jvm.Cond.fieldLink "BestPairsModel" (13 : Nat) "BestPairsModel" "keys" "[I") ∈ lw_all := lw_g (lw_at lw_m1 187 rfl) rfl
theorem q210 : (Jvm.Cond.fieldLink "BestPairsModel" (17 : Nat) "BestPairsModel" "scores" "[I") ∈ lw_all := lw_g (lw_at lw_m1 188 rfl) rfl
theorem q211 : (Jvm.Cond.fieldLink "BestPairsModel" (20 : Nat) "BestPairsModel" "weight" "[I") ∈ lw_all := lw_g (lw_at lw_m1 189 rfl) rfl
theorem q212 : (Jvm.Cond.fieldLink "BestPairsModel" (23 : Nat) "BestPairsModel" "cursor" "I") ∈ lw_all := lw_g (lw_at lw_m1 190 rfl) rfl
theorem q213 : (Jvm.Cond.lays "BestPairsModel" "BestPairsModel" "there" "[Z") ∈ lw_all := lw_g (lw_at lw_m1 191 rfl) rfl
theorem q214 : (Jvm.Cond.soleField "BestPairsModel" "there") ∈ lw_all := lw_g (lw_at lw_m1 192 rfl) rfl
theorem q215 : (Jvm.Cond.lays "BestPairsModel" "BestPairsModel" "keys" "[I") ∈ lw_all := lw_g (lw_at lw_m1 193 rfl) rfl
theorem q216 : (Jvm.Cond.soleField "BestPairsModel" "keys") ∈ lw_all := lw_g (lw_at lw_m1 194 rfl) rfl
theorem q217 : (Jvm.Cond.lays "BestPairsModel" "BestPairsModel" "scores" "[I") ∈ lw_all := lw_g (lw_at lw_m1 195 rfl) rfl
theorem q218 : (Jvm.Cond.soleField "BestPairsModel" "scores") ∈ lw_all := lw_g (lw_at lw_m1 196 rfl) rfl
theorem q219 : (Jvm.Cond.lays "BestPairsModel" "BestPairsModel" "weight" "[I") ∈ lw_all := lw_g (lw_at lw_m1 197 rfl) rfl
theorem q220 : (Jvm.Cond.soleField "BestPairsModel" "weight") ∈ lw_all := lw_g (lw_at lw_m1 198 rfl) rfl
theorem q221 : (Jvm.Cond.lays "BestPairsModel" "BestPairsModel" "cursor" "I") ∈ lw_all := lw_g (lw_at lw_m1 199 rfl) rfl
theorem q222 : (Jvm.Cond.soleField "BestPairsModel" "cursor") ∈ lw_all := lw_g (lw_at lw_m1 200 rfl) rfl
theorem q223 : (Jvm.Cond.superclass "BestPairsModel" "java/lang/Object") ∈ lw_all := lw_g (lw_at lw_m1 201 rfl) rfl
theorem q226 : (Jvm.Cond.instanceMethod ({ cls := "BestPairsModel", name := "enter", desc := "(III)I" } : Jvm.MethodName)) ∈ lw_all := lw_g (lw_at lw_m1 204 rfl) rfl
theorem q227 : (Jvm.Cond.selects "BestPairsModel" ({ cls := "BestPairsModel", name := "enter", desc := "(III)I" } : Jvm.MethodName) ({ cls := "BestPairsModel", name := "enter", desc := "(III)I" } : Jvm.MethodName)) ∈ lw_all := lw_g (lw_at lw_m1 205 rfl) rfl
theorem q228 : (Jvm.Cond.code ({ cls := "BestPairsModel", name := "enter", desc := "(III)I" } : Jvm.MethodName) prog_3_method_3_code (5 : Nat) (Option.some Jvm.ClassFile.FieldType.int)) ∈ lw_all := lw_g (lw_at lw_m1 206 rfl) rfl
theorem q230 : (Jvm.Cond.instanceMethod ({ cls := "BestPairsModel", name := "remove", desc := "(II)Z" } : Jvm.MethodName)) ∈ lw_all := lw_g (lw_at lw_m1 208 rfl) rfl
theorem q231 : (Jvm.Cond.selects "BestPairsModel" ({ cls := "BestPairsModel", name := "remove", desc := "(II)Z" } : Jvm.MethodName) ({ cls := "BestPairsModel", name := "remove", desc := "(II)Z" } : Jvm.MethodName)) ∈ lw_all := lw_g (lw_at lw_m1 209 rfl) rfl
theorem q232 : (Jvm.Cond.code ({ cls := "BestPairsModel", name := "remove", desc := "(II)Z" } : Jvm.MethodName) prog_3_method_4_code (3 : Nat) (Option.some Jvm.ClassFile.FieldType.boolean)) ∈ lw_all := lw_g (lw_at lw_m1 210 rfl) rfl
theorem q233 : (Jvm.Cond.methodLink "BestPairsModel" (27 : Nat) ({ cls := "BestPairsModel", name := "entry", desc := "(II)Z" } : Jvm.MethodName)) ∈ lw_all := lw_g (lw_at lw_m1 211 rfl) rfl
theorem q234 : (Jvm.Cond.privateMethod ({ cls := "BestPairsModel", name := "entry", desc := "(II)Z" } : Jvm.MethodName)) ∈ lw_tbl := lw_at lw_m1 212 rfl
theorem q235 : (Jvm.Cond.instanceMethod ({ cls := "BestPairsModel", name := "entry", desc := "(II)Z" } : Jvm.MethodName)) ∈ lw_all := lw_g (lw_at lw_m1 213 rfl) rfl
theorem q236 : (Jvm.Cond.code ({ cls := "BestPairsModel", name := "entry", desc := "(II)Z" } : Jvm.MethodName) prog_3_method_2_code (3 : Nat) (Option.some Jvm.ClassFile.FieldType.boolean)) ∈ lw_all := lw_g (lw_at lw_m1 214 rfl) rfl
theorem q238 : (Jvm.Cond.instanceMethod ({ cls := "BestPairsModel", name := "rescore", desc := "(III)Z" } : Jvm.MethodName)) ∈ lw_all := lw_g (lw_at lw_m1 216 rfl) rfl
theorem q239 : (Jvm.Cond.selects "BestPairsModel" ({ cls := "BestPairsModel", name := "rescore", desc := "(III)Z" } : Jvm.MethodName) ({ cls := "BestPairsModel", name := "rescore", desc := "(III)Z" } : Jvm.MethodName)) ∈ lw_all := lw_g (lw_at lw_m1 217 rfl) rfl
theorem q240 : (Jvm.Cond.code ({ cls := "BestPairsModel", name := "rescore", desc := "(III)Z" } : Jvm.MethodName) prog_3_method_5_code (4 : Nat) (Option.some Jvm.ClassFile.FieldType.boolean)) ∈ lw_all := lw_g (lw_at lw_m1 218 rfl) rfl
theorem q242 : (Jvm.Cond.instanceMethod ({ cls := "BestPairsModel", name := "weigh", desc := "(II)Z" } : Jvm.MethodName)) ∈ lw_all := lw_g (lw_at lw_m1 220 rfl) rfl
theorem q243 : (Jvm.Cond.selects "BestPairsModel" ({ cls := "BestPairsModel", name := "weigh", desc := "(II)Z" } : Jvm.MethodName) ({ cls := "BestPairsModel", name := "weigh", desc := "(II)Z" } : Jvm.MethodName)) ∈ lw_all := lw_g (lw_at lw_m1 221 rfl) rfl
theorem q244 : (Jvm.Cond.code ({ cls := "BestPairsModel", name := "weigh", desc := "(II)Z" } : Jvm.MethodName) prog_3_method_6_code (3 : Nat) (Option.some Jvm.ClassFile.FieldType.boolean)) ∈ lw_all := lw_g (lw_at lw_m1 222 rfl) rfl
theorem q246 : (Jvm.Cond.instanceMethod ({ cls := "BestPairsModel", name := "entries", desc := "(I)I" } : Jvm.MethodName)) ∈ lw_all := lw_g (lw_at lw_m1 224 rfl) rfl
theorem q247 : (Jvm.Cond.selects "BestPairsModel" ({ cls := "BestPairsModel", name := "entries", desc := "(I)I" } : Jvm.MethodName) ({ cls := "BestPairsModel", name := "entries", desc := "(I)I" } : Jvm.MethodName)) ∈ lw_all := lw_g (lw_at lw_m1 225 rfl) rfl
theorem q248 : (Jvm.Cond.code ({ cls := "BestPairsModel", name := "entries", desc := "(I)I" } : Jvm.MethodName) prog_3_method_7_code (4 : Nat) (Option.some Jvm.ClassFile.FieldType.int)) ∈ lw_all := lw_g (lw_at lw_m1 226 rfl) rfl
theorem q250 : (Jvm.Cond.instanceMethod ({ cls := "BestPairsModel", name := "score", desc := "(II)I" } : Jvm.MethodName)) ∈ lw_all := lw_g (lw_at lw_m1 228 rfl) rfl
theorem q251 : (Jvm.Cond.selects "BestPairsModel" ({ cls := "BestPairsModel", name := "score", desc := "(II)I" } : Jvm.MethodName) ({ cls := "BestPairsModel", name := "score", desc := "(II)I" } : Jvm.MethodName)) ∈ lw_all := lw_g (lw_at lw_m1 229 rfl) rfl
theorem q252 : (Jvm.Cond.code ({ cls := "BestPairsModel", name := "score", desc := "(II)I" } : Jvm.MethodName) prog_3_method_8_code (3 : Nat) (Option.some Jvm.ClassFile.FieldType.int)) ∈ lw_all := lw_g (lw_at lw_m1 230 rfl) rfl
theorem q254 : (Jvm.Cond.instanceMethod ({ cls := "BestPairsModel", name := "next", desc := "()I" } : Jvm.MethodName)) ∈ lw_all := lw_g (lw_at lw_m1 232 rfl) rfl
theorem q255 : (Jvm.Cond.selects "BestPairsModel" ({ cls := "BestPairsModel", name := "next", desc := "()I" } : Jvm.MethodName) ({ cls := "BestPairsModel", name := "next", desc := "()I" } : Jvm.MethodName)) ∈ lw_all := lw_g (lw_at lw_m1 233 rfl) rfl
theorem q256 : (Jvm.Cond.code ({ cls := "BestPairsModel", name := "next", desc := "()I" } : Jvm.MethodName) prog_3_method_14_code (2 : Nat) (Option.some Jvm.ClassFile.FieldType.int)) ∈ lw_all := lw_g (lw_at lw_m1 234 rfl) rfl
theorem q257 : (Jvm.Cond.methodLink "BestPairsModel" (42 : Nat) ({ cls := "BestPairsModel", name := "ranked", desc := "(I)I" } : Jvm.MethodName)) ∈ lw_all := lw_g (lw_at lw_m1 235 rfl) rfl
theorem q258 : (Jvm.Cond.privateMethod ({ cls := "BestPairsModel", name := "ranked", desc := "(I)I" } : Jvm.MethodName)) ∈ lw_tbl := lw_at lw_m1 236 rfl
theorem q259 : (Jvm.Cond.instanceMethod ({ cls := "BestPairsModel", name := "ranked", desc := "(I)I" } : Jvm.MethodName)) ∈ lw_all := lw_g (lw_at lw_m1 237 rfl) rfl
theorem q260 : (Jvm.Cond.code ({ cls := "BestPairsModel", name := "ranked", desc := "(I)I" } : Jvm.MethodName) prog_3_method_12_code (3 : Nat) (Option.some Jvm.ClassFile.FieldType.int)) ∈ lw_all := lw_g (lw_at lw_m1 238 rfl) rfl
theorem q261 : (Jvm.Cond.methodLink "BestPairsModel" (35 : Nat) ({ cls := "BestPairsModel", name := "pair", desc := "(I)Z" } : Jvm.MethodName)) ∈ lw_all := lw_g (lw_at lw_m1 239 rfl) rfl
theorem q262 : (Jvm.Cond.privateMethod ({ cls := "BestPairsModel", name := "pair", desc := "(I)Z" } : Jvm.MethodName)) ∈ lw_tbl := lw_at lw_m2 0 rfl
theorem q263 : (Jvm.Cond.instanceMethod ({ cls := "BestPairsModel", name := "pair", desc := "(I)Z" } : Jvm.MethodName)) ∈ lw_all := lw_g (lw_at lw_m2 1 rfl) rfl
theorem q264 : (Jvm.Cond.code ({ cls := "BestPairsModel", name := "pair", desc := "(I)Z" } : Jvm.MethodName) prog_3_method_9_code (4 : Nat) (Option.some Jvm.ClassFile.FieldType.boolean)) ∈ lw_all := lw_g (lw_at lw_m2 2 rfl) rfl
theorem q265 : (Jvm.Cond.methodLink "BestPairsModel" (39 : Nat) ({ cls := "BestPairsModel", name := "before", desc := "(I)I" } : Jvm.MethodName)) ∈ lw_all := lw_g (lw_at lw_m2 3 rfl) rfl
theorem q266 : (Jvm.Cond.privateMethod ({ cls := "BestPairsModel", name := "before", desc := "(I)I" } : Jvm.MethodName)) ∈ lw_tbl := lw_at lw_m2 4 rfl
theorem q267 : (Jvm.Cond.instanceMethod ({ cls := "BestPairsModel", name := "before", desc := "(I)I" } : Jvm.MethodName)) ∈ lw_all := lw_g (lw_at lw_m2 5 rfl) rfl
theorem q268 : (Jvm.Cond.code ({ cls := "BestPairsModel", name := "before", desc := "(I)I" } : Jvm.MethodName) prog_3_method_11_code (6 : Nat) (Option.some Jvm.ClassFile.FieldType.int)) ∈ lw_all := lw_g (lw_at lw_m2 6 rfl) rfl
theorem q269 : (Jvm.Cond.methodLink "BestPairsModel" (31 : Nat) ({ cls := "BestPairsModel", name := "value", desc := "(I)I" } : Jvm.MethodName)) ∈ lw_all := lw_g (lw_at lw_m2 7 rfl) rfl
theorem q270 : (Jvm.Cond.privateMethod ({ cls := "BestPairsModel", name := "value", desc := "(I)I" } : Jvm.MethodName)) ∈ lw_tbl := lw_at lw_m2 8 rfl
theorem q271 : (Jvm.Cond.instanceMethod ({ cls := "BestPairsModel", name := "value", desc := "(I)I" } : Jvm.MethodName)) ∈ lw_all := lw_g (lw_at lw_m2 9 rfl) rfl
theorem q272 : (Jvm.Cond.code ({ cls := "BestPairsModel", name := "value", desc := "(I)I" } : Jvm.MethodName) prog_3_method_10_code (2 : Nat) (Option.some Jvm.ClassFile.FieldType.int)) ∈ lw_all := lw_g (lw_at lw_m2 10 rfl) rfl
theorem q273 : (Jvm.Cond.methodLink "BestPairsModel" (45 : Nat) ({ cls := "BestPairsModel", name := "shown", desc := "(I)I" } : Jvm.MethodName)) ∈ lw_all := lw_g (lw_at lw_m2 11 rfl) rfl
theorem q274 : (Jvm.Cond.privateMethod ({ cls := "BestPairsModel", name := "shown", desc := "(I)I" } : Jvm.MethodName)) ∈ lw_tbl := lw_at lw_m2 12 rfl
theorem q275 : (Jvm.Cond.instanceMethod ({ cls := "BestPairsModel", name := "shown", desc := "(I)I" } : Jvm.MethodName)) ∈ lw_all := lw_g (lw_at lw_m2 13 rfl) rfl
theorem q276 : (Jvm.Cond.code ({ cls := "BestPairsModel", name := "shown", desc := "(I)I" } : Jvm.MethodName) prog_3_method_13_code (2 : Nat) (Option.some Jvm.ClassFile.FieldType.int)) ∈ lw_all := lw_g (lw_at lw_m2 14 rfl) rfl
theorem q278 : (Jvm.Cond.instanceMethod ({ cls := "BestPairsModel", name := "passed", desc := "()I" } : Jvm.MethodName)) ∈ lw_all := lw_g (lw_at lw_m2 16 rfl) rfl
theorem q279 : (Jvm.Cond.selects "BestPairsModel" ({ cls := "BestPairsModel", name := "passed", desc := "()I" } : Jvm.MethodName) ({ cls := "BestPairsModel", name := "passed", desc := "()I" } : Jvm.MethodName)) ∈ lw_all := lw_g (lw_at lw_m2 17 rfl) rfl
theorem q280 : (Jvm.Cond.code ({ cls := "BestPairsModel", name := "passed", desc := "()I" } : Jvm.MethodName) prog_3_method_15_code (1 : Nat) (Option.some Jvm.ClassFile.FieldType.int)) ∈ lw_all := lw_g (lw_at lw_m2 18 rfl) rfl
theorem q282 : (Jvm.Cond.instanceMethod ({ cls := "BestPairsModel", name := "lastValue", desc := "()I" } : Jvm.MethodName)) ∈ lw_all := lw_g (lw_at lw_m2 20 rfl) rfl
theorem q283 : (Jvm.Cond.selects "BestPairsModel" ({ cls := "BestPairsModel", name := "lastValue", desc := "()I" } : Jvm.MethodName) ({ cls := "BestPairsModel", name := "lastValue", desc := "()I" } : Jvm.MethodName)) ∈ lw_all := lw_g (lw_at lw_m2 21 rfl) rfl
theorem q284 : (Jvm.Cond.code ({ cls := "BestPairsModel", name := "lastValue", desc := "()I" } : Jvm.MethodName) prog_3_method_16_code (2 : Nat) (Option.some Jvm.ClassFile.FieldType.int)) ∈ lw_all := lw_g (lw_at lw_m2 22 rfl) rfl
theorem q286 : (Jvm.Cond.instanceMethod ({ cls := "BestPairsModel", name := "rewind", desc := "()V" } : Jvm.MethodName)) ∈ lw_all := lw_g (lw_at lw_m2 24 rfl) rfl
theorem q287 : (Jvm.Cond.selects "BestPairsModel" ({ cls := "BestPairsModel", name := "rewind", desc := "()V" } : Jvm.MethodName) ({ cls := "BestPairsModel", name := "rewind", desc := "()V" } : Jvm.MethodName)) ∈ lw_all := lw_g (lw_at lw_m2 25 rfl) rfl
theorem q288 : (Jvm.Cond.code ({ cls := "BestPairsModel", name := "rewind", desc := "()V" } : Jvm.MethodName) prog_3_method_17_code (1 : Nat) (Option.none : Option Jvm.ClassFile.FieldType)) ∈ lw_all := lw_g (lw_at lw_m2 26 rfl) rfl
theorem q290 : (Jvm.Cond.instanceMethod ({ cls := "BestPairsModel", name := "pairAt", desc := "(I)I" } : Jvm.MethodName)) ∈ lw_all := lw_g (lw_at lw_m2 28 rfl) rfl
theorem q291 : (Jvm.Cond.selects "BestPairsModel" ({ cls := "BestPairsModel", name := "pairAt", desc := "(I)I" } : Jvm.MethodName) ({ cls := "BestPairsModel", name := "pairAt", desc := "(I)I" } : Jvm.MethodName)) ∈ lw_all := lw_g (lw_at lw_m2 29 rfl) rfl
theorem q292 : (Jvm.Cond.code ({ cls := "BestPairsModel", name := "pairAt", desc := "(I)I" } : Jvm.MethodName) prog_3_method_18_code (3 : Nat) (Option.some Jvm.ClassFile.FieldType.int)) ∈ lw_all := lw_g (lw_at lw_m2 30 rfl) rfl
theorem q294 : (Jvm.Cond.instanceMethod ({ cls := "BestPairsModel", name := "pairs", desc := "()I" } : Jvm.MethodName)) ∈ lw_all := lw_g (lw_at lw_m2 32 rfl) rfl
theorem q295 : (Jvm.Cond.selects "BestPairsModel" ({ cls := "BestPairsModel", name := "pairs", desc := "()I" } : Jvm.MethodName) ({ cls := "BestPairsModel", name := "pairs", desc := "()I" } : Jvm.MethodName)) ∈ lw_all := lw_g (lw_at lw_m2 33 rfl) rfl
theorem q296 : (Jvm.Cond.code ({ cls := "BestPairsModel", name := "pairs", desc := "()I" } : Jvm.MethodName) prog_3_method_19_code (3 : Nat) (Option.some Jvm.ClassFile.FieldType.int)) ∈ lw_all := lw_g (lw_at lw_m2 34 rfl) rfl
theorem q298 : (Jvm.Cond.instanceMethod ({ cls := "BestPairsModel", name := "atLeast", desc := "(I)I" } : Jvm.MethodName)) ∈ lw_all := lw_g (lw_at lw_m2 36 rfl) rfl
theorem q299 : (Jvm.Cond.selects "BestPairsModel" ({ cls := "BestPairsModel", name := "atLeast", desc := "(I)I" } : Jvm.MethodName) ({ cls := "BestPairsModel", name := "atLeast", desc := "(I)I" } : Jvm.MethodName)) ∈ lw_all := lw_g (lw_at lw_m2 37 rfl) rfl
theorem q300 : (Jvm.Cond.code ({ cls := "BestPairsModel", name := "atLeast", desc := "(I)I" } : Jvm.MethodName) prog_3_method_20_code (4 : Nat) (Option.some Jvm.ClassFile.FieldType.int)) ∈ lw_all := lw_g (lw_at lw_m2 38 rfl) rfl
theorem q302 : (Jvm.Cond.instanceMethod ({ cls := "BestPairsModel", name := "bestPlace", desc := "(II)I" } : Jvm.MethodName)) ∈ lw_all := lw_g (lw_at lw_m2 40 rfl) rfl
theorem q303 : (Jvm.Cond.selects "BestPairsModel" ({ cls := "BestPairsModel", name := "bestPlace", desc := "(II)I" } : Jvm.MethodName) ({ cls := "BestPairsModel", name := "bestPlace", desc := "(II)I" } : Jvm.MethodName)) ∈ lw_all := lw_g (lw_at lw_m2 41 rfl) rfl
theorem q304 : (Jvm.Cond.code ({ cls := "BestPairsModel", name := "bestPlace", desc := "(II)I" } : Jvm.MethodName) prog_3_method_21_code (6 : Nat) (Option.some Jvm.ClassFile.FieldType.int)) ∈ lw_all := lw_g (lw_at lw_m2 42 rfl) rfl
theorem in_X1 : ∀ w ∈ wsX10, w ∈ lw_all := lw_in wsX10 [213, 215, 217, 219, 221] (by decide +kernel) (by decide +kernel)

end NMN
end
section
section NML
/-! the law's own entry -/
set_option maxRecDepth 100000
abbrev cL_law : ByteArray := code
theorem dL_law_0 : decode cL_law 0 = .ok (.new 7, 3) := by decide +kernel
theorem dL_law_3 : decode cL_law 3 = .ok (.dup, 1) := by decide +kernel
theorem dL_law_4 : decode cL_law 4 = .ok (.invokespecial 9, 3) := by decide +kernel
theorem dL_law_7 : decode cL_law 7 = .ok (.astore_n 1, 1) := by decide +kernel
theorem dL_law_8 : decode cL_law 8 = .ok (.new 10, 3) := by decide +kernel
theorem dL_law_11 : decode cL_law 11 = .ok (.dup, 1) := by decide +kernel
theorem dL_law_12 : decode cL_law 12 = .ok (.invokespecial 12, 3) := by decide +kernel
theorem dL_law_15 : decode cL_law 15 = .ok (.astore_n 2, 1) := by decide +kernel
theorem dL_law_16 : decode cL_law 16 = .ok (.iconst 0, 1) := by decide +kernel
theorem dL_law_17 : decode cL_law 17 = .ok (.istore_n 3, 1) := by decide +kernel
theorem dL_law_18 : decode cL_law 18 = .ok (.iload_n 3, 1) := by decide +kernel
theorem dL_law_19 : decode cL_law 19 = .ok (.aload_n 0, 1) := by decide +kernel
theorem dL_law_20 : decode cL_law 20 = .ok (.arraylength, 1) := by decide +kernel
theorem dL_law_21 : decode cL_law 21 = .ok (.iconst 4, 1) := by decide +kernel
theorem dL_law_22 : decode cL_law 22 = .ok (.isub, 1) := by decide +kernel
theorem dL_law_23 : decode cL_law 23 = .ok (.if_icmp .gt 437, 3) := by decide +kernel
theorem dL_law_26 : decode cL_law 26 = .ok (.aload_n 0, 1) := by decide +kernel
theorem dL_law_27 : decode cL_law 27 = .ok (.iload_n 3, 1) := by decide +kernel
theorem dL_law_28 : decode cL_law 28 = .ok (.iaload, 1) := by decide +kernel
theorem dL_law_29 : decode cL_law 29 = .ok (.bipush 15, 2) := by decide +kernel
theorem dL_law_31 : decode cL_law 31 = .ok (.iand, 1) := by decide +kernel
theorem dL_law_32 : decode cL_law 32 = .ok (.tableswitch 422 0 13 #[72, 115, 148, 191, 224, 247, 280, 293, 306, 319, 330, 353, 366, 389], 72) := by decide +kernel
theorem dL_law_104 : decode cL_law 104 = .ok (.aload_n 1, 1) := by decide +kernel
theorem dL_law_105 : decode cL_law 105 = .ok (.aload_n 0, 1) := by decide +kernel
theorem dL_law_106 : decode cL_law 106 = .ok (.iload_n 3, 1) := by decide +kernel
theorem dL_law_107 : decode cL_law 107 = .ok (.iconst 1, 1) := by decide +kernel
theorem dL_law_108 : decode cL_law 108 = .ok (.iadd, 1) := by decide +kernel
theorem dL_law_109 : decode cL_law 109 = .ok (.iaload, 1) := by decide +kernel
theorem dL_law_110 : decode cL_law 110 = .ok (.aload_n 0, 1) := by decide +kernel
theorem dL_law_111 : decode cL_law 111 = .ok (.iload_n 3, 1) := by decide +kernel
theorem dL_law_112 : decode cL_law 112 = .ok (.iconst 2, 1) := by decide +kernel
theorem dL_law_113 : decode cL_law 113 = .ok (.iadd, 1) := by decide +kernel
theorem dL_law_114 : decode cL_law 114 = .ok (.iaload, 1) := by decide +kernel
theorem dL_law_115 : decode cL_law 115 = .ok (.aload_n 0, 1) := by decide +kernel
theorem dL_law_116 : decode cL_law 116 = .ok (.iload_n 3, 1) := by decide +kernel
theorem dL_law_117 : decode cL_law 117 = .ok (.iconst 3, 1) := by decide +kernel
theorem dL_law_118 : decode cL_law 118 = .ok (.iadd, 1) := by decide +kernel
theorem dL_law_119 : decode cL_law 119 = .ok (.iaload, 1) := by decide +kernel
theorem dL_law_120 : decode cL_law 120 = .ok (.invokevirtual 13, 3) := by decide +kernel
theorem dL_law_123 : decode cL_law 123 = .ok (.aload_n 2, 1) := by decide +kernel
theorem dL_law_124 : decode cL_law 124 = .ok (.aload_n 0, 1) := by decide +kernel
theorem dL_law_125 : decode cL_law 125 = .ok (.iload_n 3, 1) := by decide +kernel
theorem dL_law_126 : decode cL_law 126 = .ok (.iconst 1, 1) := by decide +kernel
theorem dL_law_127 : decode cL_law 127 = .ok (.iadd, 1) := by decide +kernel
theorem dL_law_128 : decode cL_law 128 = .ok (.iaload, 1) := by decide +kernel
theorem dL_law_129 : decode cL_law 129 = .ok (.aload_n 0, 1) := by decide +kernel
theorem dL_law_130 : decode cL_law 130 = .ok (.iload_n 3, 1) := by decide +kernel
theorem dL_law_131 : decode cL_law 131 = .ok (.iconst 2, 1) := by decide +kernel
theorem dL_law_132 : decode cL_law 132 = .ok (.iadd, 1) := by decide +kernel
theorem dL_law_133 : decode cL_law 133 = .ok (.iaload, 1) := by decide +kernel
theorem dL_law_134 : decode cL_law 134 = .ok (.aload_n 0, 1) := by decide +kernel
theorem dL_law_135 : decode cL_law 135 = .ok (.iload_n 3, 1) := by decide +kernel
theorem dL_law_136 : decode cL_law 136 = .ok (.iconst 3, 1) := by decide +kernel
theorem dL_law_137 : decode cL_law 137 = .ok (.iadd, 1) := by decide +kernel
theorem dL_law_138 : decode cL_law 138 = .ok (.iaload, 1) := by decide +kernel
theorem dL_law_139 : decode cL_law 139 = .ok (.invokevirtual 17, 3) := by decide +kernel
theorem dL_law_142 : decode cL_law 142 = .ok (.if_icmp .eq 312, 3) := by decide +kernel
theorem dL_law_145 : decode cL_law 145 = .ok (.iconst 0, 1) := by decide +kernel
theorem dL_law_146 : decode cL_law 146 = .ok (.ireturn, 1) := by decide +kernel
theorem dL_law_147 : decode cL_law 147 = .ok (.aload_n 1, 1) := by decide +kernel
theorem dL_law_148 : decode cL_law 148 = .ok (.aload_n 0, 1) := by decide +kernel
theorem dL_law_149 : decode cL_law 149 = .ok (.iload_n 3, 1) := by decide +kernel
theorem dL_law_150 : decode cL_law 150 = .ok (.iconst 1, 1) := by decide +kernel
theorem dL_law_151 : decode cL_law 151 = .ok (.iadd, 1) := by decide +kernel
theorem dL_law_152 : decode cL_law 152 = .ok (.iaload, 1) := by decide +kernel
theorem dL_law_153 : decode cL_law 153 = .ok (.aload_n 0, 1) := by decide +kernel
theorem dL_law_154 : decode cL_law 154 = .ok (.iload_n 3, 1) := by decide +kernel
theorem dL_law_155 : decode cL_law 155 = .ok (.iconst 2, 1) := by decide +kernel
theorem dL_law_156 : decode cL_law 156 = .ok (.iadd, 1) := by decide +kernel
theorem dL_law_157 : decode cL_law 157 = .ok (.iaload, 1) := by decide +kernel
theorem dL_law_158 : decode cL_law 158 = .ok (.invokevirtual 18, 3) := by decide +kernel
theorem dL_law_161 : decode cL_law 161 = .ok (.aload_n 2, 1) := by decide +kernel
theorem dL_law_162 : decode cL_law 162 = .ok (.aload_n 0, 1) := by decide +kernel
theorem dL_law_163 : decode cL_law 163 = .ok (.iload_n 3, 1) := by decide +kernel
theorem dL_law_164 : decode cL_law 164 = .ok (.iconst 1, 1) := by decide +kernel
theorem dL_law_165 : decode cL_law 165 = .ok (.iadd, 1) := by decide +kernel
theorem dL_law_166 : decode cL_law 166 = .ok (.iaload, 1) := by decide +kernel
theorem dL_law_167 : decode cL_law 167 = .ok (.aload_n 0, 1) := by decide +kernel
theorem dL_law_168 : decode cL_law 168 = .ok (.iload_n 3, 1) := by decide +kernel
theorem dL_law_169 : decode cL_law 169 = .ok (.iconst 2, 1) := by decide +kernel
theorem dL_law_170 : decode cL_law 170 = .ok (.iadd, 1) := by decide +kernel
theorem dL_law_171 : decode cL_law 171 = .ok (.iaload, 1) := by decide +kernel
theorem dL_law_172 : decode cL_law 172 = .ok (.invokevirtual 22, 3) := by decide +kernel
theorem dL_law_175 : decode cL_law 175 = .ok (.if_icmp .eq 279, 3) := by decide +kernel
theorem dL_law_178 : decode cL_law 178 = .ok (.iconst 0, 1) := by decide +kernel
theorem dL_law_179 : decode cL_law 179 = .ok (.ireturn, 1) := by decide +kernel
theorem dL_law_180 : decode cL_law 180 = .ok (.aload_n 1, 1) := by decide +kernel
theorem dL_law_181 : decode cL_law 181 = .ok (.aload_n 0, 1) := by decide +kernel
theorem dL_law_182 : decode cL_law 182 = .ok (.iload_n 3, 1) := by decide +kernel
theorem dL_law_183 : decode cL_law 183 = .ok (.iconst 1, 1) := by decide +kernel
theorem dL_law_184 : decode cL_law 184 = .ok (.iadd, 1) := by decide +kernel
theorem dL_law_185 : decode cL_law 185 = .ok (.iaload, 1) := by decide +kernel
theorem dL_law_186 : decode cL_law 186 = .ok (.aload_n 0, 1) := by decide +kernel
theorem dL_law_187 : decode cL_law 187 = .ok (.iload_n 3, 1) := by decide +kernel
theorem dL_law_188 : decode cL_law 188 = .ok (.iconst 2, 1) := by decide +kernel
theorem dL_law_189 : decode cL_law 189 = .ok (.iadd, 1) := by decide +kernel
theorem dL_law_190 : decode cL_law 190 = .ok (.iaload, 1) := by decide +kernel
theorem dL_law_191 : decode cL_law 191 = .ok (.aload_n 0, 1) := by decide +kernel
theorem dL_law_192 : decode cL_law 192 = .ok (.iload_n 3, 1) := by decide +kernel
theorem dL_law_193 : decode cL_law 193 = .ok (.iconst 3, 1) := by decide +kernel
theorem dL_law_194 : decode cL_law 194 = .ok (.iadd, 1) := by decide +kernel
theorem dL_law_195 : decode cL_law 195 = .ok (.iaload, 1) := by decide +kernel
theorem dL_law_196 : decode cL_law 196 = .ok (.invokevirtual 23, 3) := by decide +kernel
theorem dL_law_199 : decode cL_law 199 = .ok (.aload_n 2, 1) := by decide +kernel
theorem dL_law_200 : decode cL_law 200 = .ok (.aload_n 0, 1) := by decide +kernel
theorem dL_law_201 : decode cL_law 201 = .ok (.iload_n 3, 1) := by decide +kernel
theorem dL_law_202 : decode cL_law 202 = .ok (.iconst 1, 1) := by decide +kernel
theorem dL_law_203 : decode cL_law 203 = .ok (.iadd, 1) := by decide +kernel
theorem dL_law_204 : decode cL_law 204 = .ok (.iaload, 1) := by decide +kernel
theorem dL_law_205 : decode cL_law 205 = .ok (.aload_n 0, 1) := by decide +kernel
theorem dL_law_206 : decode cL_law 206 = .ok (.iload_n 3, 1) := by decide +kernel
theorem dL_law_207 : decode cL_law 207 = .ok (.iconst 2, 1) := by decide +kernel
theorem dL_law_208 : decode cL_law 208 = .ok (.iadd, 1) := by decide +kernel
theorem dL_law_209 : decode cL_law 209 = .ok (.iaload, 1) := by decide +kernel
theorem dL_law_210 : decode cL_law 210 = .ok (.aload_n 0, 1) := by decide +kernel
theorem dL_law_211 : decode cL_law 211 = .ok (.iload_n 3, 1) := by decide +kernel
theorem dL_law_212 : decode cL_law 212 = .ok (.iconst 3, 1) := by decide +kernel
theorem dL_law_213 : decode cL_law 213 = .ok (.iadd, 1) := by decide +kernel
theorem dL_law_214 : decode cL_law 214 = .ok (.iaload, 1) := by decide +kernel
theorem dL_law_215 : decode cL_law 215 = .ok (.invokevirtual 27, 3) := by decide +kernel
theorem dL_law_218 : decode cL_law 218 = .ok (.if_icmp .eq 236, 3) := by decide +kernel
theorem dL_law_221 : decode cL_law 221 = .ok (.iconst 0, 1) := by decide +kernel
theorem dL_law_222 : decode cL_law 222 = .ok (.ireturn, 1) := by decide +kernel
theorem dL_law_223 : decode cL_law 223 = .ok (.aload_n 1, 1) := by decide +kernel
theorem dL_law_224 : decode cL_law 224 = .ok (.aload_n 0, 1) := by decide +kernel
theorem dL_law_225 : decode cL_law 225 = .ok (.iload_n 3, 1) := by decide +kernel
theorem dL_law_226 : decode cL_law 226 = .ok (.iconst 1, 1) := by decide +kernel
theorem dL_law_227 : decode cL_law 227 = .ok (.iadd, 1) := by decide +kernel
theorem dL_law_228 : decode cL_law 228 = .ok (.iaload, 1) := by decide +kernel
theorem dL_law_229 : decode cL_law 229 = .ok (.aload_n 0, 1) := by decide +kernel
theorem dL_law_230 : decode cL_law 230 = .ok (.iload_n 3, 1) := by decide +kernel
theorem dL_law_231 : decode cL_law 231 = .ok (.iconst 2, 1) := by decide +kernel
theorem dL_law_232 : decode cL_law 232 = .ok (.iadd, 1) := by decide +kernel
theorem dL_law_233 : decode cL_law 233 = .ok (.iaload, 1) := by decide +kernel
theorem dL_law_234 : decode cL_law 234 = .ok (.invokevirtual 28, 3) := by decide +kernel
theorem dL_law_237 : decode cL_law 237 = .ok (.aload_n 2, 1) := by decide +kernel
theorem dL_law_238 : decode cL_law 238 = .ok (.aload_n 0, 1) := by decide +kernel
theorem dL_law_239 : decode cL_law 239 = .ok (.iload_n 3, 1) := by decide +kernel
theorem dL_law_240 : decode cL_law 240 = .ok (.iconst 1, 1) := by decide +kernel
theorem dL_law_241 : decode cL_law 241 = .ok (.iadd, 1) := by decide +kernel
theorem dL_law_242 : decode cL_law 242 = .ok (.iaload, 1) := by decide +kernel
theorem dL_law_243 : decode cL_law 243 = .ok (.aload_n 0, 1) := by decide +kernel
theorem dL_law_244 : decode cL_law 244 = .ok (.iload_n 3, 1) := by decide +kernel
theorem dL_law_245 : decode cL_law 245 = .ok (.iconst 2, 1) := by decide +kernel
theorem dL_law_246 : decode cL_law 246 = .ok (.iadd, 1) := by decide +kernel
theorem dL_law_247 : decode cL_law 247 = .ok (.iaload, 1) := by decide +kernel
theorem dL_law_248 : decode cL_law 248 = .ok (.invokevirtual 31, 3) := by decide +kernel
theorem dL_law_251 : decode cL_law 251 = .ok (.if_icmp .eq 203, 3) := by decide +kernel
theorem dL_law_254 : decode cL_law 254 = .ok (.iconst 0, 1) := by decide +kernel
theorem dL_law_255 : decode cL_law 255 = .ok (.ireturn, 1) := by decide +kernel
theorem dL_law_256 : decode cL_law 256 = .ok (.aload_n 1, 1) := by decide +kernel
theorem dL_law_257 : decode cL_law 257 = .ok (.aload_n 0, 1) := by decide +kernel
theorem dL_law_258 : decode cL_law 258 = .ok (.iload_n 3, 1) := by decide +kernel
theorem dL_law_259 : decode cL_law 259 = .ok (.iconst 1, 1) := by decide +kernel
theorem dL_law_260 : decode cL_law 260 = .ok (.iadd, 1) := by decide +kernel
theorem dL_law_261 : decode cL_law 261 = .ok (.iaload, 1) := by decide +kernel
theorem dL_law_262 : decode cL_law 262 = .ok (.invokevirtual 32, 3) := by decide +kernel
theorem dL_law_265 : decode cL_law 265 = .ok (.aload_n 2, 1) := by decide +kernel
theorem dL_law_266 : decode cL_law 266 = .ok (.aload_n 0, 1) := by decide +kernel
theorem dL_law_267 : decode cL_law 267 = .ok (.iload_n 3, 1) := by decide +kernel
theorem dL_law_268 : decode cL_law 268 = .ok (.iconst 1, 1) := by decide +kernel
theorem dL_law_269 : decode cL_law 269 = .ok (.iadd, 1) := by decide +kernel
theorem dL_law_270 : decode cL_law 270 = .ok (.iaload, 1) := by decide +kernel
theorem dL_law_271 : decode cL_law 271 = .ok (.invokevirtual 36, 3) := by decide +kernel
theorem dL_law_274 : decode cL_law 274 = .ok (.if_icmp .eq 180, 3) := by decide +kernel
theorem dL_law_277 : decode cL_law 277 = .ok (.iconst 0, 1) := by decide +kernel
theorem dL_law_278 : decode cL_law 278 = .ok (.ireturn, 1) := by decide +kernel
theorem dL_law_279 : decode cL_law 279 = .ok (.aload_n 1, 1) := by decide +kernel
theorem dL_law_280 : decode cL_law 280 = .ok (.aload_n 0, 1) := by decide +kernel
theorem dL_law_281 : decode cL_law 281 = .ok (.iload_n 3, 1) := by decide +kernel
theorem dL_law_282 : decode cL_law 282 = .ok (.iconst 1, 1) := by decide +kernel
theorem dL_law_283 : decode cL_law 283 = .ok (.iadd, 1) := by decide +kernel
theorem dL_law_284 : decode cL_law 284 = .ok (.iaload, 1) := by decide +kernel
theorem dL_law_285 : decode cL_law 285 = .ok (.aload_n 0, 1) := by decide +kernel
theorem dL_law_286 : decode cL_law 286 = .ok (.iload_n 3, 1) := by decide +kernel
theorem dL_law_287 : decode cL_law 287 = .ok (.iconst 2, 1) := by decide +kernel
theorem dL_law_288 : decode cL_law 288 = .ok (.iadd, 1) := by decide +kernel
theorem dL_law_289 : decode cL_law 289 = .ok (.iaload, 1) := by decide +kernel
theorem dL_law_290 : decode cL_law 290 = .ok (.invokevirtual 37, 3) := by decide +kernel
theorem dL_law_293 : decode cL_law 293 = .ok (.aload_n 2, 1) := by decide +kernel
theorem dL_law_294 : decode cL_law 294 = .ok (.aload_n 0, 1) := by decide +kernel
theorem dL_law_295 : decode cL_law 295 = .ok (.iload_n 3, 1) := by decide +kernel
theorem dL_law_296 : decode cL_law 296 = .ok (.iconst 1, 1) := by decide +kernel
theorem dL_law_297 : decode cL_law 297 = .ok (.iadd, 1) := by decide +kernel
theorem dL_law_298 : decode cL_law 298 = .ok (.iaload, 1) := by decide +kernel
theorem dL_law_299 : decode cL_law 299 = .ok (.aload_n 0, 1) := by decide +kernel
theorem dL_law_300 : decode cL_law 300 = .ok (.iload_n 3, 1) := by decide +kernel
theorem dL_law_301 : decode cL_law 301 = .ok (.iconst 2, 1) := by decide +kernel
theorem dL_law_302 : decode cL_law 302 = .ok (.iadd, 1) := by decide +kernel
theorem dL_law_303 : decode cL_law 303 = .ok (.iaload, 1) := by decide +kernel
theorem dL_law_304 : decode cL_law 304 = .ok (.invokevirtual 41, 3) := by decide +kernel
theorem dL_law_307 : decode cL_law 307 = .ok (.if_icmp .eq 147, 3) := by decide +kernel
theorem dL_law_310 : decode cL_law 310 = .ok (.iconst 0, 1) := by decide +kernel
theorem dL_law_311 : decode cL_law 311 = .ok (.ireturn, 1) := by decide +kernel
theorem dL_law_312 : decode cL_law 312 = .ok (.aload_n 1, 1) := by decide +kernel
theorem dL_law_313 : decode cL_law 313 = .ok (.invokevirtual 42, 3) := by decide +kernel
theorem dL_law_316 : decode cL_law 316 = .ok (.aload_n 2, 1) := by decide +kernel
theorem dL_law_317 : decode cL_law 317 = .ok (.invokevirtual 46, 3) := by decide +kernel
theorem dL_law_320 : decode cL_law 320 = .ok (.if_icmp .eq 134, 3) := by decide +kernel
theorem dL_law_323 : decode cL_law 323 = .ok (.iconst 0, 1) := by decide +kernel
theorem dL_law_324 : decode cL_law 324 = .ok (.ireturn, 1) := by decide +kernel
theorem dL_law_325 : decode cL_law 325 = .ok (.aload_n 1, 1) := by decide +kernel
theorem dL_law_326 : decode cL_law 326 = .ok (.invokevirtual 47, 3) := by decide +kernel
theorem dL_law_329 : decode cL_law 329 = .ok (.aload_n 2, 1) := by decide +kernel
theorem dL_law_330 : decode cL_law 330 = .ok (.invokevirtual 50, 3) := by decide +kernel
theorem dL_law_333 : decode cL_law 333 = .ok (.if_icmp .eq 121, 3) := by decide +kernel
theorem dL_law_336 : decode cL_law 336 = .ok (.iconst 0, 1) := by decide +kernel
theorem dL_law_337 : decode cL_law 337 = .ok (.ireturn, 1) := by decide +kernel
theorem dL_law_338 : decode cL_law 338 = .ok (.aload_n 1, 1) := by decide +kernel
theorem dL_law_339 : decode cL_law 339 = .ok (.invokevirtual 51, 3) := by decide +kernel
theorem dL_law_342 : decode cL_law 342 = .ok (.aload_n 2, 1) := by decide +kernel
theorem dL_law_343 : decode cL_law 343 = .ok (.invokevirtual 54, 3) := by decide +kernel
theorem dL_law_346 : decode cL_law 346 = .ok (.if_icmp .eq 108, 3) := by decide +kernel
theorem dL_law_349 : decode cL_law 349 = .ok (.iconst 0, 1) := by decide +kernel
theorem dL_law_350 : decode cL_law 350 = .ok (.ireturn, 1) := by decide +kernel
theorem dL_law_351 : decode cL_law 351 = .ok (.aload_n 1, 1) := by decide +kernel
theorem dL_law_352 : decode cL_law 352 = .ok (.invokevirtual 55, 3) := by decide +kernel
theorem dL_law_355 : decode cL_law 355 = .ok (.aload_n 2, 1) := by decide +kernel
theorem dL_law_356 : decode cL_law 356 = .ok (.invokevirtual 58, 3) := by decide +kernel
theorem dL_law_359 : decode cL_law 359 = .ok (.goto 95, 3) := by decide +kernel
theorem dL_law_362 : decode cL_law 362 = .ok (.aload_n 1, 1) := by decide +kernel
theorem dL_law_363 : decode cL_law 363 = .ok (.aload_n 0, 1) := by decide +kernel
theorem dL_law_364 : decode cL_law 364 = .ok (.iload_n 3, 1) := by decide +kernel
theorem dL_law_365 : decode cL_law 365 = .ok (.iconst 1, 1) := by decide +kernel
theorem dL_law_366 : decode cL_law 366 = .ok (.iadd, 1) := by decide +kernel
theorem dL_law_367 : decode cL_law 367 = .ok (.iaload, 1) := by decide +kernel
theorem dL_law_368 : decode cL_law 368 = .ok (.invokevirtual 59, 3) := by decide +kernel
theorem dL_law_371 : decode cL_law 371 = .ok (.aload_n 2, 1) := by decide +kernel
theorem dL_law_372 : decode cL_law 372 = .ok (.aload_n 0, 1) := by decide +kernel
theorem dL_law_373 : decode cL_law 373 = .ok (.iload_n 3, 1) := by decide +kernel
theorem dL_law_374 : decode cL_law 374 = .ok (.iconst 1, 1) := by decide +kernel
theorem dL_law_375 : decode cL_law 375 = .ok (.iadd, 1) := by decide +kernel
theorem dL_law_376 : decode cL_law 376 = .ok (.iaload, 1) := by decide +kernel
theorem dL_law_377 : decode cL_law 377 = .ok (.invokevirtual 62, 3) := by decide +kernel
theorem dL_law_380 : decode cL_law 380 = .ok (.if_icmp .eq 74, 3) := by decide +kernel
theorem dL_law_383 : decode cL_law 383 = .ok (.iconst 0, 1) := by decide +kernel
theorem dL_law_384 : decode cL_law 384 = .ok (.ireturn, 1) := by decide +kernel
theorem dL_law_385 : decode cL_law 385 = .ok (.aload_n 1, 1) := by decide +kernel
theorem dL_law_386 : decode cL_law 386 = .ok (.invokevirtual 63, 3) := by decide +kernel
theorem dL_law_389 : decode cL_law 389 = .ok (.aload_n 2, 1) := by decide +kernel
theorem dL_law_390 : decode cL_law 390 = .ok (.invokevirtual 66, 3) := by decide +kernel
theorem dL_law_393 : decode cL_law 393 = .ok (.if_icmp .eq 61, 3) := by decide +kernel
theorem dL_law_396 : decode cL_law 396 = .ok (.iconst 0, 1) := by decide +kernel
theorem dL_law_397 : decode cL_law 397 = .ok (.ireturn, 1) := by decide +kernel
theorem dL_law_398 : decode cL_law 398 = .ok (.aload_n 1, 1) := by decide +kernel
theorem dL_law_399 : decode cL_law 399 = .ok (.aload_n 0, 1) := by decide +kernel
theorem dL_law_400 : decode cL_law 400 = .ok (.iload_n 3, 1) := by decide +kernel
theorem dL_law_401 : decode cL_law 401 = .ok (.iconst 1, 1) := by decide +kernel
theorem dL_law_402 : decode cL_law 402 = .ok (.iadd, 1) := by decide +kernel
theorem dL_law_403 : decode cL_law 403 = .ok (.iaload, 1) := by decide +kernel
theorem dL_law_404 : decode cL_law 404 = .ok (.invokevirtual 67, 3) := by decide +kernel
theorem dL_law_407 : decode cL_law 407 = .ok (.aload_n 2, 1) := by decide +kernel
theorem dL_law_408 : decode cL_law 408 = .ok (.aload_n 0, 1) := by decide +kernel
theorem dL_law_409 : decode cL_law 409 = .ok (.iload_n 3, 1) := by decide +kernel
theorem dL_law_410 : decode cL_law 410 = .ok (.iconst 1, 1) := by decide +kernel
theorem dL_law_411 : decode cL_law 411 = .ok (.iadd, 1) := by decide +kernel
theorem dL_law_412 : decode cL_law 412 = .ok (.iaload, 1) := by decide +kernel
theorem dL_law_413 : decode cL_law 413 = .ok (.invokevirtual 70, 3) := by decide +kernel
theorem dL_law_416 : decode cL_law 416 = .ok (.if_icmp .eq 38, 3) := by decide +kernel
theorem dL_law_419 : decode cL_law 419 = .ok (.iconst 0, 1) := by decide +kernel
theorem dL_law_420 : decode cL_law 420 = .ok (.ireturn, 1) := by decide +kernel
theorem dL_law_421 : decode cL_law 421 = .ok (.aload_n 1, 1) := by decide +kernel
theorem dL_law_422 : decode cL_law 422 = .ok (.aload_n 0, 1) := by decide +kernel
theorem dL_law_423 : decode cL_law 423 = .ok (.iload_n 3, 1) := by decide +kernel
theorem dL_law_424 : decode cL_law 424 = .ok (.iconst 1, 1) := by decide +kernel
theorem dL_law_425 : decode cL_law 425 = .ok (.iadd, 1) := by decide +kernel
theorem dL_law_426 : decode cL_law 426 = .ok (.iaload, 1) := by decide +kernel
theorem dL_law_427 : decode cL_law 427 = .ok (.aload_n 0, 1) := by decide +kernel
theorem dL_law_428 : decode cL_law 428 = .ok (.iload_n 3, 1) := by decide +kernel
theorem dL_law_429 : decode cL_law 429 = .ok (.iconst 2, 1) := by decide +kernel
theorem dL_law_430 : decode cL_law 430 = .ok (.iadd, 1) := by decide +kernel
theorem dL_law_431 : decode cL_law 431 = .ok (.iaload, 1) := by decide +kernel
theorem dL_law_432 : decode cL_law 432 = .ok (.invokevirtual 71, 3) := by decide +kernel
theorem dL_law_435 : decode cL_law 435 = .ok (.aload_n 2, 1) := by decide +kernel
theorem dL_law_436 : decode cL_law 436 = .ok (.aload_n 0, 1) := by decide +kernel
theorem dL_law_437 : decode cL_law 437 = .ok (.iload_n 3, 1) := by decide +kernel
theorem dL_law_438 : decode cL_law 438 = .ok (.iconst 1, 1) := by decide +kernel
theorem dL_law_439 : decode cL_law 439 = .ok (.iadd, 1) := by decide +kernel
theorem dL_law_440 : decode cL_law 440 = .ok (.iaload, 1) := by decide +kernel
theorem dL_law_441 : decode cL_law 441 = .ok (.aload_n 0, 1) := by decide +kernel
theorem dL_law_442 : decode cL_law 442 = .ok (.iload_n 3, 1) := by decide +kernel
theorem dL_law_443 : decode cL_law 443 = .ok (.iconst 2, 1) := by decide +kernel
theorem dL_law_444 : decode cL_law 444 = .ok (.iadd, 1) := by decide +kernel
theorem dL_law_445 : decode cL_law 445 = .ok (.iaload, 1) := by decide +kernel
theorem dL_law_446 : decode cL_law 446 = .ok (.invokevirtual 74, 3) := by decide +kernel
theorem dL_law_449 : decode cL_law 449 = .ok (.if_icmp .eq 5, 3) := by decide +kernel
theorem dL_law_452 : decode cL_law 452 = .ok (.iconst 0, 1) := by decide +kernel
theorem dL_law_453 : decode cL_law 453 = .ok (.ireturn, 1) := by decide +kernel
theorem dL_law_454 : decode cL_law 454 = .ok (.iinc 3 4, 3) := by decide +kernel
theorem dL_law_457 : decode cL_law 457 = .ok (.goto (-439), 3) := by decide +kernel
theorem dL_law_460 : decode cL_law 460 = .ok (.iconst 1, 1) := by decide +kernel
theorem dL_law_461 : decode cL_law 461 = .ok (.ireturn, 1) := by decide +kernel

theorem q76 : (Jvm.Cond.arrayClass Jvm.ClassFile.FieldType.int) ∈ lw_all := lw_g (lw_at lw_m1 54 rfl) rfl
set_option maxRecDepth 100000
theorem q77 : (Jvm.Cond.arrayClass Jvm.ClassFile.FieldType.byte) ∈ lw_all := lw_g (lw_at lw_m1 55 rfl) rfl
theorem q78 : (Jvm.Cond.arrayClass Jvm.ClassFile.FieldType.short) ∈ lw_all := lw_g (lw_at lw_m1 56 rfl) rfl
theorem q224 : (Jvm.Cond.arrayClass Jvm.ClassFile.FieldType.boolean) ∈ lw_all := lw_g (lw_at lw_m1 202 rfl) rfl

theorem q22 : (Jvm.Cond.initialized "BestPairsLaw") ∈ lw_all := lw_g (lw_at lw_m1 0 rfl) rfl
set_option maxRecDepth 100000
theorem q25 : (Jvm.Cond.classLink "BestPairsLaw" (7 : Nat) "BestPairs") ∈ lw_all := lw_g (lw_at lw_m1 3 rfl) rfl
theorem q27 : (Jvm.Cond.methodLink "BestPairsLaw" (9 : Nat) ({ cls := "BestPairs", name := "<init>", desc := "()V" } : Jvm.MethodName)) ∈ lw_all := lw_g (lw_at lw_m1 5 rfl) rfl
theorem q79 : (Jvm.Cond.methodLink "BestPairsLaw" (13 : Nat) ({ cls := "BestPairs", name := "enter", desc := "(III)I" } : Jvm.MethodName)) ∈ lw_all := lw_g (lw_at lw_m1 57 rfl) rfl
theorem q94 : (Jvm.Cond.methodLink "BestPairsLaw" (18 : Nat) ({ cls := "BestPairs", name := "remove", desc := "(II)Z" } : Jvm.MethodName)) ∈ lw_all := lw_g (lw_at lw_m1 72 rfl) rfl
theorem q98 : (Jvm.Cond.methodLink "BestPairsLaw" (23 : Nat) ({ cls := "BestPairs", name := "rescore", desc := "(III)Z" } : Jvm.MethodName)) ∈ lw_all := lw_g (lw_at lw_m1 76 rfl) rfl
theorem q102 : (Jvm.Cond.methodLink "BestPairsLaw" (28 : Nat) ({ cls := "BestPairs", name := "weigh", desc := "(II)Z" } : Jvm.MethodName)) ∈ lw_all := lw_g (lw_at lw_m1 80 rfl) rfl
theorem q106 : (Jvm.Cond.methodLink "BestPairsLaw" (32 : Nat) ({ cls := "BestPairs", name := "entries", desc := "(I)I" } : Jvm.MethodName)) ∈ lw_all := lw_g (lw_at lw_m1 84 rfl) rfl
theorem q110 : (Jvm.Cond.methodLink "BestPairsLaw" (37 : Nat) ({ cls := "BestPairs", name := "score", desc := "(II)I" } : Jvm.MethodName)) ∈ lw_all := lw_g (lw_at lw_m1 88 rfl) rfl
theorem q114 : (Jvm.Cond.methodLink "BestPairsLaw" (42 : Nat) ({ cls := "BestPairs", name := "next", desc := "()I" } : Jvm.MethodName)) ∈ lw_all := lw_g (lw_at lw_m1 92 rfl) rfl
theorem q170 : (Jvm.Cond.methodLink "BestPairsLaw" (47 : Nat) ({ cls := "BestPairs", name := "passed", desc := "()I" } : Jvm.MethodName)) ∈ lw_all := lw_g (lw_at lw_m1 148 rfl) rfl
theorem q174 : (Jvm.Cond.methodLink "BestPairsLaw" (51 : Nat) ({ cls := "BestPairs", name := "lastValue", desc := "()I" } : Jvm.MethodName)) ∈ lw_all := lw_g (lw_at lw_m1 152 rfl) rfl
theorem q178 : (Jvm.Cond.methodLink "BestPairsLaw" (55 : Nat) ({ cls := "BestPairs", name := "rewind", desc := "()V" } : Jvm.MethodName)) ∈ lw_all := lw_g (lw_at lw_m1 156 rfl) rfl
theorem q182 : (Jvm.Cond.methodLink "BestPairsLaw" (59 : Nat) ({ cls := "BestPairs", name := "pairAt", desc := "(I)I" } : Jvm.MethodName)) ∈ lw_all := lw_g (lw_at lw_m1 160 rfl) rfl
theorem q186 : (Jvm.Cond.methodLink "BestPairsLaw" (63 : Nat) ({ cls := "BestPairs", name := "pairs", desc := "()I" } : Jvm.MethodName)) ∈ lw_all := lw_g (lw_at lw_m1 164 rfl) rfl
theorem q194 : (Jvm.Cond.methodLink "BestPairsLaw" (67 : Nat) ({ cls := "BestPairs", name := "atLeast", desc := "(I)I" } : Jvm.MethodName)) ∈ lw_all := lw_g (lw_at lw_m1 172 rfl) rfl
theorem q198 : (Jvm.Cond.methodLink "BestPairsLaw" (71 : Nat) ({ cls := "BestPairs", name := "bestPlace", desc := "(II)I" } : Jvm.MethodName)) ∈ lw_all := lw_g (lw_at lw_m1 176 rfl) rfl
theorem q202 : (Jvm.Cond.classLink "BestPairsLaw" (10 : Nat) "BestPairsModel") ∈ lw_all := lw_g (lw_at lw_m1 180 rfl) rfl
theorem q204 : (Jvm.Cond.methodLink "BestPairsLaw" (12 : Nat) ({ cls := "BestPairsModel", name := "<init>", desc := "()V" } : Jvm.MethodName)) ∈ lw_all := lw_g (lw_at lw_m1 182 rfl) rfl
theorem q225 : (Jvm.Cond.methodLink "BestPairsLaw" (17 : Nat) ({ cls := "BestPairsModel", name := "enter", desc := "(III)I" } : Jvm.MethodName)) ∈ lw_all := lw_g (lw_at lw_m1 203 rfl) rfl
theorem q229 : (Jvm.Cond.methodLink "BestPairsLaw" (22 : Nat) ({ cls := "BestPairsModel", name := "remove", desc := "(II)Z" } : Jvm.MethodName)) ∈ lw_all := lw_g (lw_at lw_m1 207 rfl) rfl
theorem q237 : (Jvm.Cond.methodLink "BestPairsLaw" (27 : Nat) ({ cls := "BestPairsModel", name := "rescore", desc := "(III)Z" } : Jvm.MethodName)) ∈ lw_all := lw_g (lw_at lw_m1 215 rfl) rfl
theorem q241 : (Jvm.Cond.methodLink "BestPairsLaw" (31 : Nat) ({ cls := "BestPairsModel", name := "weigh", desc := "(II)Z" } : Jvm.MethodName)) ∈ lw_all := lw_g (lw_at lw_m1 219 rfl) rfl
theorem q245 : (Jvm.Cond.methodLink "BestPairsLaw" (36 : Nat) ({ cls := "BestPairsModel", name := "entries", desc := "(I)I" } : Jvm.MethodName)) ∈ lw_all := lw_g (lw_at lw_m1 223 rfl) rfl
theorem q249 : (Jvm.Cond.methodLink "BestPairsLaw" (41 : Nat) ({ cls := "BestPairsModel", name := "score", desc := "(II)I" } : Jvm.MethodName)) ∈ lw_all := lw_g (lw_at lw_m1 227 rfl) rfl
theorem q253 : (Jvm.Cond.methodLink "BestPairsLaw" (46 : Nat) ({ cls := "BestPairsModel", name := "next", desc := "()I" } : Jvm.MethodName)) ∈ lw_all := lw_g (lw_at lw_m1 231 rfl) rfl
theorem q277 : (Jvm.Cond.methodLink "BestPairsLaw" (50 : Nat) ({ cls := "BestPairsModel", name := "passed", desc := "()I" } : Jvm.MethodName)) ∈ lw_all := lw_g (lw_at lw_m2 15 rfl) rfl
theorem q281 : (Jvm.Cond.methodLink "BestPairsLaw" (54 : Nat) ({ cls := "BestPairsModel", name := "lastValue", desc := "()I" } : Jvm.MethodName)) ∈ lw_all := lw_g (lw_at lw_m2 19 rfl) rfl
theorem q285 : (Jvm.Cond.methodLink "BestPairsLaw" (58 : Nat) ({ cls := "BestPairsModel", name := "rewind", desc := "()V" } : Jvm.MethodName)) ∈ lw_all := lw_g (lw_at lw_m2 23 rfl) rfl
theorem q289 : (Jvm.Cond.methodLink "BestPairsLaw" (62 : Nat) ({ cls := "BestPairsModel", name := "pairAt", desc := "(I)I" } : Jvm.MethodName)) ∈ lw_all := lw_g (lw_at lw_m2 27 rfl) rfl
theorem q293 : (Jvm.Cond.methodLink "BestPairsLaw" (66 : Nat) ({ cls := "BestPairsModel", name := "pairs", desc := "()I" } : Jvm.MethodName)) ∈ lw_all := lw_g (lw_at lw_m2 31 rfl) rfl
theorem q297 : (Jvm.Cond.methodLink "BestPairsLaw" (70 : Nat) ({ cls := "BestPairsModel", name := "atLeast", desc := "(I)I" } : Jvm.MethodName)) ∈ lw_all := lw_g (lw_at lw_m2 35 rfl) rfl
theorem q301 : (Jvm.Cond.methodLink "BestPairsLaw" (74 : Nat) ({ cls := "BestPairsModel", name := "bestPlace", desc := "(II)I" } : Jvm.MethodName)) ∈ lw_all := lw_g (lw_at lw_m2 39 rfl) rfl

/-! java/lang/Object -/
set_option maxRecDepth 100000
def RJ0 : String := "java/lang/Object"
abbrev cJ0_init : ByteArray := object_method_1_code
def yJ0_init : MethodName := ⟨RJ0, "<init>", "()V"⟩
theorem dJ0_init_0 : decode cJ0_init 0 = .ok (.return_, 1) := by decide +kernel
theorem q31 : (Jvm.Cond.instanceMethod ({ cls := "java/lang/Object", name := "<init>", desc := "()V" } : Jvm.MethodName)) ∈ lw_all := lw_g (lw_at lw_m1 9 rfl) rfl
theorem q32 : (Jvm.Cond.code ({ cls := "java/lang/Object", name := "<init>", desc := "()V" } : Jvm.MethodName) object_method_1_code (1 : Nat) (Option.none : Option Jvm.ClassFile.FieldType)) ∈ lw_all := lw_g (lw_at lw_m1 10 rfl) rfl

end NML
end
section
/-! counting, point updates, codes of pairs -/
section CNT
def updN (f : Nat → Nat) (k x : Nat) : Nat → Nat := fun j => if j = k then x else f j
theorem updN_s (f : Nat → Nat) (k x : Nat) : updN f k x k = x := by simp [updN]
theorem updN_n {f : Nat → Nat} {k x j : Nat} (h : j ≠ k) : updN f k x j = f j := by simp [updN, h]
theorem updN_b {f : Nat → Nat} {k x : Nat} {p : Nat → Prop} (h : ∀ j, p (f j)) (hx : p x) : ∀ j, p (updN f k x j) := by
  intro j
  unfold updN
  split
  · exact hx
  · exact h j
def cnt (f : Nat → Bool) : Nat → Nat
  | 0 => 0
  | n + 1 => cnt f n + (if f n = true then 1 else 0)
theorem cnt_le (f : Nat → Bool) : ∀ n, cnt f n ≤ n
  | 0 => Nat.le_refl 0
  | n + 1 => by
    have h := cnt_le f n
    show cnt f n + (if f n = true then 1 else 0) ≤ n + 1
    split <;> omega
theorem cnt_congr {f g : Nat → Bool} : ∀ n, (∀ o, o < n → f o = g o) → cnt f n = cnt g n
  | 0, _ => rfl
  | n + 1, h => by
    show cnt f n + (if f n = true then 1 else 0) = cnt g n + (if g n = true then 1 else 0)
    rw [cnt_congr n (fun o ho => h o (by omega)), h n (by omega)]
theorem cnt_zero {f : Nat → Bool} : ∀ n, (∀ o, o < n → f o = false) → cnt f n = 0
  | 0, _ => rfl
  | n + 1, h => by
    show cnt f n + (if f n = true then 1 else 0) = 0
    rw [cnt_zero n (fun o ho => h o (by omega)), h n (by omega)]
    simp
theorem cnt_rem {f : Nat → Bool} {x : Nat} : ∀ n, x < n → f x = true → cnt f n = cnt (fun o => f o && !(o == x)) n + 1
  | 0, h, _ => absurd h (by omega)
  | n + 1, h, hx => by
    show cnt f n + (if f n = true then 1 else 0) = cnt (fun o => f o && !(o == x)) n + (if (f n && !(n == x)) = true then 1 else 0) + 1
    by_cases e : n = x
    · subst e
      have h1 : cnt f n = cnt (fun o => f o && !(o == n)) n := cnt_congr n (fun o ho => by
        have h2 : (o == n) = false := by simp; omega
        show f o = (f o && !(o == n))
        rw [h2]; simp)
      rw [← h1, hx]
      simp
    · have h1 := cnt_rem (f := f) (x := x) n (by omega) hx
      have h2 : (n == x) = false := by simp; exact e
      rw [h1, h2]
      simp
      split <;> omega
theorem cnt_inj : ∀ (j : Nat) (g : Nat → Nat) (f : Nat → Bool) (n : Nat), (∀ i, i < j → g i < n ∧ f (g i) = true) → (∀ i k, i < j → k < j → g i = g k → i = k) → j ≤ cnt f n
  | 0, _, _, _, _, _ => Nat.zero_le _
  | j + 1, g, f, n, h1, h2 => by
    obtain ⟨a, b⟩ := h1 j (by omega)
    rw [cnt_rem n a b]
    have h3 := cnt_inj j g (fun o => f o && !(o == g j)) n (fun i hi => ⟨(h1 i (by omega)).1, by
      have h4 : (g i == g j) = false := by
        simp
        intro e
        have h5 := h2 i j (by omega) (by omega) e
        omega
      show (f (g i) && !(g i == g j)) = true
      rw [h4, (h1 i (by omega)).2]
      rfl⟩) (fun i k hi hk e => h2 i k (by omega) (by omega) e)
    omega
theorem cnt_bij : ∀ (j : Nat) (g : Nat → Nat) (f : Nat → Bool) (n : Nat), (∀ i, i < j → g i < n ∧ f (g i) = true) → (∀ i k, i < j → k < j → g i = g k → i = k) → (∀ o, o < n → f o = true → ∃ i, i < j ∧ g i = o) → cnt f n = j
  | 0, _, f, n, _, _, h3 => cnt_zero n (fun o ho => by
      cases hf : f o with
      | false => rfl
      | true =>
        obtain ⟨i, hi, -⟩ := h3 o ho hf
        omega)
  | j + 1, g, f, n, h1, h2, h3 => by
    obtain ⟨a, b⟩ := h1 j (by omega)
    rw [cnt_rem n a b]
    have h4 := cnt_bij j g (fun o => f o && !(o == g j)) n (fun i hi => ⟨(h1 i (by omega)).1, by
      have h4 : (g i == g j) = false := by
        simp
        intro e
        have h5 := h2 i j (by omega) (by omega) e
        omega
      show (f (g i) && !(g i == g j)) = true
      rw [h4, (h1 i (by omega)).2]
      rfl⟩) (fun i k hi hk e => h2 i k (by omega) (by omega) e) (fun o ho hf => by
      have hf2 : (f o && !(o == g j)) = true := hf
      rw [Bool.and_eq_true] at hf2
      obtain ⟨i, hi, e⟩ := h3 o ho hf2.1
      refine ⟨i, ?_, e⟩
      rcases Nat.lt_or_ge i j with q | q
      · exact q
      · have hij : i = j := by omega
        subst hij
        have h6 := hf2.2
        rw [e] at h6
        simp at h6)
    omega
theorem cnt_all (n : Nat) : cnt (fun _ => true) n = n := by
  induction n with
  | zero => rfl
  | succ n ih =>
    show cnt (fun _ => true) n + (if true = true then 1 else 0) = n + 1
    rw [ih]; simp
/-- an injection into the first N numbers -/
theorem inj_le {j N : Nat} (g : Nat → Nat) (h1 : ∀ i, i < j → g i < N) (h2 : ∀ i k, i < j → k < j → g i = g k → i = k) : j ≤ N := by
  have h := cnt_inj j g (fun _ => true) N (fun i hi => ⟨h1 i hi, rfl⟩) h2
  rw [cnt_all] at h
  exact h
theorem cnt_mono {f g : Nat → Bool} : ∀ n, (∀ o, o < n → f o = true → g o = true) → cnt f n ≤ cnt g n
  | 0, _ => Nat.le_refl _
  | n + 1, h => by
    have h1 := cnt_mono n (fun o ho => h o (by omega))
    have h2 := h n (by omega)
    show cnt f n + (if f n = true then 1 else 0) ≤ cnt g n + (if g n = true then 1 else 0)
    cases hf : f n with
    | false => simp; omega
    | true => rw [h2 hf]; simp; omega
theorem cnt_lt {f g : Nat → Bool} {x n : Nat} (h : ∀ o, o < n → f o = true → g o = true) (hx : x < n) (hg : g x = true) (hf : f x = false) : cnt f n < cnt g n := by
  rw [cnt_rem n hx hg]
  have h1 : cnt f n ≤ cnt (fun o => g o && !(o == x)) n := cnt_mono n (fun o ho hfo => by
    have h2 : (o == x) = false := by
      simp
      intro e
      rw [e, hf] at hfo
      cases hfo
    show (g o && !(o == x)) = true
    rw [h2, h o ho hfo]; rfl)
  omega
end CNT
section CODE
/-- a code 16 * l + r of numbers l, r under 12 -/
def cOK (c : Nat) : Prop := c < 192 ∧ c % 16 < 12
/-- a code's number from 0 to 143, and back -/
def pn (c : Nat) : Nat := 12 * (c / 16) + c % 16
def cd (p : Nat) : Nat := 16 * (p / 12) + p % 12
theorem pn_lt {c : Nat} (h : cOK c) : pn c < 144 := by unfold cOK at h; unfold pn; omega
theorem pn_div {c : Nat} (h : cOK c) : pn c / 12 = c / 16 := by unfold cOK at h; unfold pn; omega
theorem pn_mod {c : Nat} (h : cOK c) : pn c % 12 = c % 16 := by unfold cOK at h; unfold pn; omega
theorem cd_pn {c : Nat} (h : cOK c) : cd (pn c) = c := by unfold cOK at h; unfold pn cd; omega
theorem cd_ok {p : Nat} (h : p < 144) : cOK (cd p) := by unfold cOK cd; omega
theorem pn_cd {p : Nat} (h : p < 144) : pn (cd p) = p := by unfold pn cd; omega
theorem pn_inj {a b : Nat} (ha : cOK a) (hb : cOK b) (h : pn a = pn b) : a = b := by rw [← cd_pn ha, ← cd_pn hb, h]
theorem pn_ltI {a b : Nat} (ha : cOK a) (hb : cOK b) : pn a < pn b ↔ a < b := by unfold cOK at ha hb; unfold pn; omega
theorem cOK_mk {l r : Nat} (hl : l < 12) (hr : r < 12) : cOK (16 * l + r) ∧ (16 * l + r) / 16 = l ∧ (16 * l + r) % 16 = r := by unfold cOK; omega
/-- values, of a code and of a number -/
def valC (W S : Nat → Nat) (c : Nat) : Nat := W 0 * S (c / 16) + W 1 * S (12 + c % 16)
def valP (W S : Nat → Nat) (p : Nat) : Nat := W 0 * S (p / 12) + W 1 * S (12 + p % 12)
theorem val_pn {W S : Nat → Nat} {c : Nat} (h : cOK c) : valP W S (pn c) = valC W S c := by
  unfold valP valC
  rw [pn_div h, pn_mod h]
theorem part_le {W S : Nat → Nat} (hW : ∀ j, W j ≤ 9) (hS : ∀ j, S j ≤ 1000) (a b : Nat) : W a * S b ≤ 9000 := Nat.mul_le_mul (hW a) (hS b)
theorem valC_le {W S : Nat → Nat} (hW : ∀ j, W j ≤ 9) (hS : ∀ j, S j ≤ 1000) (c : Nat) : valC W S c ≤ 18000 := by
  have h1 := part_le hW hS 0 (c / 16)
  have h2 := part_le hW hS 1 (12 + c % 16)
  unfold valC
  omega
theorem valP_le {W S : Nat → Nat} (hW : ∀ j, W j ≤ 9) (hS : ∀ j, S j ≤ 1000) (p : Nat) : valP W S p ≤ 18000 := by
  have h1 := part_le hW hS 0 (p / 12)
  have h2 := part_le hW hS 1 (12 + p % 12)
  unfold valP
  omega
/-- the order's key: the lesser goes before -/
def kap (W S : Nat → Nat) (c : Nat) : Nat := (18000 - valC W S c) * 256 + c
def kapP (W S : Nat → Nat) (p : Nat) : Nat := (18000 - valP W S p) * 256 + p
theorem kap_lt {W S : Nat → Nat} (hW : ∀ j, W j ≤ 9) (hS : ∀ j, S j ≤ 1000) {a b : Nat} (ha : a < 256) (hb : b < 256) : kap W S a < kap W S b ↔ (valC W S b < valC W S a ∨ (valC W S a = valC W S b ∧ a < b)) := by
  have h1 := valC_le hW hS a
  have h2 := valC_le hW hS b
  unfold kap
  omega
theorem kapP_lt {W S : Nat → Nat} (hW : ∀ j, W j ≤ 9) (hS : ∀ j, S j ≤ 1000) {a b : Nat} (ha : a < 256) (hb : b < 256) : kapP W S a < kapP W S b ↔ (valP W S b < valP W S a ∨ (valP W S a = valP W S b ∧ a < b)) := by
  have h1 := valP_le hW hS a
  have h2 := valP_le hW hS b
  unfold kapP
  omega
theorem kap_pn {W S : Nat → Nat} (hW : ∀ j, W j ≤ 9) (hS : ∀ j, S j ≤ 1000) {a b : Nat} (ha : cOK a) (hb : cOK b) : kapP W S (pn a) < kapP W S (pn b) ↔ kap W S a < kap W S b := by
  have h1 := pn_lt ha
  have h2 := pn_lt hb
  have h3 : a < 256 := by unfold cOK at ha; omega
  have h4 : b < 256 := by unfold cOK at hb; omega
  rw [kapP_lt hW hS (by omega) (by omega), kap_lt hW hS h3 h4, val_pn ha, val_pn hb, pn_ltI ha hb]
theorem kap_inj {W S : Nat → Nat} {a b : Nat} (ha : a < 256) (hb : b < 256) (h : kap W S a = kap W S b) : a = b := by
  unfold kap at h
  omega
theorem kapP_inj {W S : Nat → Nat} {a b : Nat} (ha : a < 256) (hb : b < 256) (h : kapP W S a = kapP W S b) : a = b := by
  unfold kapP at h
  omega
/-- number p stands for a pair -/
def prP (P K : Nat → Nat) (p : Nat) : Bool := (P 0).testBit (p / 12) && (P 1).testBit (p % 12) && (K (p / 12) == K (12 + p % 12))
def prC (P K : Nat → Nat) (c : Nat) : Prop := cOK c ∧ prP P K (pn c) = true
theorem prC_iff {P K : Nat → Nat} {c : Nat} : prC P K c ↔ cOK c ∧ (P 0).testBit (c / 16) = true ∧ (P 1).testBit (c % 16) = true ∧ K (c / 16) = K (12 + c % 16) := by
  unfold prC prP
  constructor
  · rintro ⟨h, h1⟩
    rw [pn_div h, pn_mod h] at h1
    simp only [Bool.and_eq_true, beq_iff_eq] at h1
    exact ⟨h, h1.1.1, h1.1.2, h1.2⟩
  · rintro ⟨h, h1, h2, h3⟩
    rw [pn_div h, pn_mod h]
    simp only [Bool.and_eq_true, beq_iff_eq]
    exact ⟨h, ⟨h1, h2⟩, h3⟩
/-- how many pairs go before number p -/
def bcP (P K S W : Nat → Nat) (p : Nat) : Nat := cnt (fun o => prP P K o && decide (kapP W S o < kapP W S p)) 144
theorem bcP_le (P K S W : Nat → Nat) (p : Nat) : bcP P K S W p ≤ 144 := cnt_le _ _
theorem bcP_lt {P K S W : Nat → Nat} {p q : Nat} (hp : p < 144) (h : prP P K p = true) (hk : kapP W S p < kapP W S q) : bcP P K S W p < bcP P K S W q := by
  unfold bcP
  refine cnt_lt (x := p) ?_ hp ?_ ?_
  · intro o _ h1
    simp only [Bool.and_eq_true, decide_eq_true_eq] at h1 ⊢
    exact ⟨h1.1, by omega⟩
  · simp only [Bool.and_eq_true, decide_eq_true_eq]
    exact ⟨h, hk⟩
  · simp
theorem bcP_inj {P K S W : Nat → Nat} {p q : Nat} (hp : p < 144) (hq : q < 144) (h1 : prP P K p = true) (h2 : prP P K q = true) (h : bcP P K S W p = bcP P K S W q) : p = q := by
  rcases Nat.lt_trichotomy (kapP W S p) (kapP W S q) with k | k | k
  · have h3 := bcP_lt (P := P) (K := K) hp h1 k
    omega
  · exact kapP_inj (by omega) (by omega) k
  · have h3 := bcP_lt (P := P) (K := K) hq h2 k
    omega
end CODE
end
section
/-! arrays up to order, the heap, the insertion sort: pure -/
section PM
/-- B holds on its first n places what A holds there, in some order -/
def Pm (A B : Nat → Nat) (n : Nat) : Prop := ∃ f g : Nat → Nat, (∀ i, i < n → f i < n ∧ g (f i) = i) ∧ (∀ i, i < n → g i < n ∧ f (g i) = i) ∧ ∀ i, i < n → B i = A (f i)
theorem Pm.rf (A : Nat → Nat) (n : Nat) : Pm A A n := ⟨fun i => i, fun i => i, fun i h => ⟨h, rfl⟩, fun i h => ⟨h, rfl⟩, fun _ _ => rfl⟩
theorem Pm.tr {A B C : Nat → Nat} {n : Nat} (h1 : Pm A B n) (h2 : Pm B C n) : Pm A C n := by
  obtain ⟨f, g, a1, a2, a3⟩ := h1
  obtain ⟨f', g', b1, b2, b3⟩ := h2
  refine ⟨fun i => f (f' i), fun i => g' (g i), fun i h => ?_, fun i h => ?_, fun i h => ?_⟩
  · have q1 := b1 i h
    have q2 := a1 (f' i) q1.1
    exact ⟨q2.1, by show g' (g (f (f' i))) = i; rw [q2.2]; exact q1.2⟩
  · have q1 := a2 i h
    have q2 := b2 (g i) q1.1
    exact ⟨q2.1, by show f (f' (g' (g i))) = i; rw [q2.2]; exact q1.2⟩
  · rw [b3 i h, a3 _ (b1 i h).1]
theorem Pm.hole {g : Nat → Nat} {k q c n : Nat} (hk : k < n) (hq : q < n) (hkq : k ≠ q) : Pm (updN g k c) (updN (updN g k (g q)) q c) n := by
  have key : ∀ i, i < n → (if i = k then q else if i = q then k else i) < n ∧ (if (if i = k then q else if i = q then k else i) = k then q else if (if i = k then q else if i = q then k else i) = q then k else (if i = k then q else if i = q then k else i)) = i := by
    intro i h
    by_cases e1 : i = k
    · subst e1
      rw [if_pos rfl]
      refine ⟨hq, ?_⟩
      rw [if_neg (Ne.symm hkq), if_pos rfl]
    · rw [if_neg e1]
      by_cases e2 : i = q
      · subst e2
        rw [if_pos rfl, if_pos rfl]
        exact ⟨hk, rfl⟩
      · rw [if_neg e2, if_neg e1, if_neg e2]
        exact ⟨h, rfl⟩
  refine ⟨fun i => if i = k then q else if i = q then k else i, fun i => if i = k then q else if i = q then k else i, key, key, fun i h => ?_⟩
  show updN (updN g k (g q)) q c i = updN g k c (if i = k then q else if i = q then k else i)
  by_cases e1 : i = k
  · subst e1
    rw [if_pos rfl, updN_n hkq, updN_s, updN_n (Ne.symm hkq)]
  · rw [if_neg e1]
    by_cases e2 : i = q
    · subst e2
      rw [if_pos rfl, updN_s, updN_s]
    · rw [if_neg e2, updN_n e2, updN_n e1, updN_n e1]
theorem Pm.mem {A B : Nat → Nat} {n x : Nat} (h : Pm A B n) : (∃ j, j < n ∧ B j = x) ↔ (∃ j, j < n ∧ A j = x) := by
  obtain ⟨f, g, a1, a2, a3⟩ := h
  constructor
  · rintro ⟨j, hj, e⟩
    exact ⟨f j, (a1 j hj).1, by rw [← a3 j hj]; exact e⟩
  · rintro ⟨j, hj, e⟩
    exact ⟨g j, (a2 j hj).1, by rw [a3 _ (a2 j hj).1, (a2 j hj).2]; exact e⟩
theorem Pm.inj {A B : Nat → Nat} {n : Nat} (h : Pm A B n) (hA : ∀ i j, i < n → j < n → A i = A j → i = j) : ∀ i j, i < n → j < n → B i = B j → i = j := by
  obtain ⟨f, g, a1, a2, a3⟩ := h
  intro i j hi hj e
  rw [a3 i hi, a3 j hj] at e
  have h1 := hA _ _ (a1 i hi).1 (a1 j hj).1 e
  rw [← (a1 i hi).2, ← (a1 j hj).2, h1]
end PM
section HEAP
/-- the heap's order: no place goes before its parent -/
def HpO (κ : Nat → Nat) (A : Nat → Nat) (n : Nat) : Prop := ∀ j, 0 < j → j < n → κ (A ((j - 1) / 2)) ≤ κ (A j)
theorem HpO.root {κ A : Nat → Nat} {n : Nat} (h : HpO κ A n) : ∀ j, j < n → κ (A 0) ≤ κ (A j) := by
  intro j
  induction j using Nat.strongRecOn with
  | ind j ih =>
    intro hj
    rcases Nat.eq_zero_or_pos j with e | e
    · subst e; exact Nat.le_refl _
    · exact Nat.le_trans (ih ((j - 1) / 2) (by omega) (by omega)) (h j e hj)
/-- the way up: the hole is at k, c is to be put there -/
def UpI (κ : Nat → Nat) (hp : Nat → Nat) (n c : Nat) (g : Nat → Nat) (k : Nat) : Prop :=
  k ≤ n ∧ Pm (updN hp n c) (updN g k c) (n + 1) ∧ (∀ j, 0 < j → j < n + 1 → j ≠ k → κ (updN g k c ((j - 1) / 2)) ≤ κ (updN g k c j)) ∧ (0 < k → ∀ j, 0 < j → j < n + 1 → (j - 1) / 2 = k → κ (updN g k c ((k - 1) / 2)) ≤ κ (updN g k c j))
theorem UpI.init {κ hp : Nat → Nat} {n c : Nat} (h : HpO κ hp n) : UpI κ hp n c hp n := by
  refine ⟨Nat.le_refl n, Pm.rf _ _, fun j h1 h2 h3 => ?_, fun h0 j h1 h2 h3 => absurd h3 (by omega)⟩
  rw [updN_n (show (j - 1) / 2 ≠ n by omega), updN_n h3]
  exact h j h1 (by omega)
theorem UpI.step {κ hp : Nat → Nat} {n c : Nat} {g : Nat → Nat} {k : Nat} (h : UpI κ hp n c g k) (h0 : 0 < k) (hc : κ c < κ (g ((k - 1) / 2))) : UpI κ hp n c (updN g k (g ((k - 1) / 2))) ((k - 1) / 2) := by
  obtain ⟨h1, h2, h3, h4⟩ := h
  have hqk : (k - 1) / 2 ≠ k := by omega
  generalize hq : (k - 1) / 2 = q at *
  have a1 : ∀ x, x ≠ k → updN g k c x = g x := fun x hx => updN_n hx
  have b1 : ∀ x, x ≠ k → x ≠ q → updN (updN g k (g q)) q c x = g x := fun x hx hy => by rw [updN_n hy, updN_n hx]
  have b2 : updN (updN g k (g q)) q c k = g q := by rw [updN_n (Ne.symm hqk), updN_s]
  have b3 : updN (updN g k (g q)) q c q = c := updN_s _ _ _
  refine ⟨by omega, h2.tr (Pm.hole (by omega) (by omega) (Ne.symm hqk)), fun j j1 j2 j3 => ?_, fun q0 j j1 j2 j3 => ?_⟩
  · by_cases e : j = k
    · subst e
      rw [hq, b2, b3]
      omega
    · have o := h3 j j1 j2 e
      rw [b1 j e j3]
      rw [a1 j e] at o
      by_cases e2 : (j - 1) / 2 = k
      · rw [e2, b2]
        have o2 := h4 h0 j j1 j2 e2
        rw [a1 q hqk, a1 j e] at o2
        exact o2
      · by_cases e3 : (j - 1) / 2 = q
        · rw [e3, b3]
          rw [e3, a1 q hqk] at o
          omega
        · rw [b1 _ e2 e3]
          rw [a1 _ e2] at o
          exact o
  · have e4 : (q - 1) / 2 ≠ k := by omega
    have e5 : (q - 1) / 2 ≠ q := by omega
    rw [b1 _ e4 e5]
    have o := h3 q q0 (by omega) hqk
    rw [a1 q hqk, a1 _ e4] at o
    by_cases e : j = k
    · subst e
      rw [b2]
      exact o
    · have o2 := h3 j j1 j2 e
      rw [j3, a1 q hqk, a1 j e] at o2
      rw [b1 j e (by omega)]
      omega
theorem UpI.fin {κ hp : Nat → Nat} {n c : Nat} {g : Nat → Nat} {k : Nat} (h : UpI κ hp n c g k) (hc : 0 < k → ¬ κ c < κ (g ((k - 1) / 2))) : HpO κ (updN g k c) (n + 1) ∧ Pm (updN hp n c) (updN g k c) (n + 1) := by
  obtain ⟨h1, h2, h3, h4⟩ := h
  refine ⟨fun j j1 j2 => ?_, h2⟩
  by_cases e : j = k
  · subst e
    rw [updN_s, updN_n (show (j - 1) / 2 ≠ j by omega)]
    have o := hc j1
    omega
  · exact h3 j j1 j2 e
/-- the way down: the hole is at k, c is to be put there -/
def DnI (κ : Nat → Nat) (hp : Nat → Nat) (n c : Nat) (g : Nat → Nat) (k : Nat) : Prop :=
  (k < n ∨ k = 0) ∧ Pm (updN hp 0 c) (updN g k c) n ∧ (∀ j, 0 < j → j < n → (j - 1) / 2 ≠ k → κ (updN g k c ((j - 1) / 2)) ≤ κ (updN g k c j)) ∧ (0 < k → ∀ j, 0 < j → j < n → (j - 1) / 2 = k → κ (updN g k c ((k - 1) / 2)) ≤ κ (updN g k c j))
theorem DnI.init {κ hp : Nat → Nat} {n c : Nat} (h : HpO κ hp (n + 1)) : DnI κ hp n c hp 0 := by
  refine ⟨Or.inr rfl, Pm.rf _ _, fun j h1 h2 h3 => ?_, fun h0 => absurd h0 (by omega)⟩
  rw [updN_n h3, updN_n (show j ≠ 0 by omega)]
  exact h j h1 (by omega)
theorem DnI.step {κ hp : Nat → Nat} {n c : Nat} {g : Nat → Nat} {k x : Nat} (h : DnI κ hp n c g k) (x0 : 0 < x) (xn : x < n) (xk : (x - 1) / 2 = k) (hs : ∀ y, 0 < y → y < n → (y - 1) / 2 = k → κ (g x) ≤ κ (g y)) (hc : κ (g x) < κ c) : DnI κ hp n c (updN g k (g x)) x := by
  obtain ⟨h1, h2, h3, h4⟩ := h
  have hkx : k ≠ x := by omega
  have a1 : ∀ z, z ≠ k → updN g k c z = g z := fun z hz => updN_n hz
  have b1 : ∀ z, z ≠ k → z ≠ x → updN (updN g k (g x)) x c z = g z := fun z hz hy => by rw [updN_n hy, updN_n hz]
  have b2 : updN (updN g k (g x)) x c k = g x := by rw [updN_n hkx, updN_s]
  have b3 : updN (updN g k (g x)) x c x = c := updN_s _ _ _
  refine ⟨Or.inl xn, h2.tr (Pm.hole (by omega) xn hkx), fun j j1 j2 j3 => ?_, fun _ j j1 j2 j3 => ?_⟩
  · by_cases e : (j - 1) / 2 = k
    · rw [e, b2]
      by_cases e2 : j = x
      · rw [e2, b3]
        omega
      · rw [b1 j (by omega) e2]
        exact hs j j1 j2 e
    · rw [b1 _ e j3]
      have e3 : j ≠ x := fun z => e (by rw [z]; exact xk)
      have o := h3 j j1 j2 e
      rw [a1 _ e] at o
      by_cases e2 : j = k
      · subst e2
        rw [b2]
        have o2 := h4 j1 x x0 xn xk
        rw [a1 _ e, a1 x (Ne.symm hkx)] at o2
        exact o2
      · rw [b1 j e2 e3]
        rw [a1 j e2] at o
        exact o
  · rw [xk, b2, b1 j (by omega) (by omega)]
    have o := h3 j j1 j2 (by omega)
    rw [j3, a1 x (Ne.symm hkx), a1 j (by omega)] at o
    exact o
theorem DnI.fin {κ hp : Nat → Nat} {n c : Nat} {g : Nat → Nat} {k : Nat} (h : DnI κ hp n c g k) (hc : ∀ j, 0 < j → j < n → (j - 1) / 2 = k → κ c ≤ κ (g j)) : HpO κ (updN g k c) n ∧ Pm (updN hp 0 c) (updN g k c) n := by
  obtain ⟨h1, h2, h3, h4⟩ := h
  refine ⟨fun j j1 j2 => ?_, h2⟩
  by_cases e : (j - 1) / 2 = k
  · rw [e, updN_s, updN_n (show j ≠ k by omega)]
    exact hc j j1 j2 e
  · exact h3 j j1 j2 e
end HEAP
section SORT
/-- a segment: the n entries under i, from the best score down -/
def SegI (pb : Nat → Bool) (sc s : Nat → Nat) (n i : Nat) : Prop :=
  (∀ k, k < n → s k < i ∧ pb (s k) = true) ∧ (∀ k l, k < n → l < n → s k = s l → k = l) ∧ (∀ x, x < i → pb x = true → ∃ k, k < n ∧ s k = x) ∧ (∀ k l, k ≤ l → l < n → sc (s l) ≤ sc (s k)) ∧ n ≤ i
theorem SegI.zero {pb : Nat → Bool} {sc s : Nat → Nat} : SegI pb sc s 0 0 :=
  ⟨fun k h => absurd h (by omega), fun k l h => absurd h (by omega), fun x h => absurd h (by omega), fun k l _ h => absurd h (by omega), Nat.le_refl 0⟩
theorem SegI.skip {pb : Nat → Bool} {sc s : Nat → Nat} {n i : Nat} (h : SegI pb sc s n i) (hi : pb i = false) : SegI pb sc s n (i + 1) := by
  obtain ⟨h1, h2, h3, h4, h5⟩ := h
  refine ⟨fun k hk => ⟨by have := (h1 k hk).1; omega, (h1 k hk).2⟩, h2, fun x hx hp => ?_, h4, by omega⟩
  rcases Nat.lt_or_ge x i with q | q
  · exact h3 x q hp
  · have e : x = i := by omega
    rw [e, hi] at hp
    cases hp
theorem SegI.congr {pb : Nat → Bool} {sc s s' : Nat → Nat} {n i : Nat} (h : SegI pb sc s n i) (e : ∀ k, k < n → s' k = s k) : SegI pb sc s' n i := by
  obtain ⟨h1, h2, h3, h4, h5⟩ := h
  refine ⟨fun k hk => by rw [e k hk]; exact h1 k hk, fun k l hk hl q => h2 k l hk hl (by rw [← e k hk, ← e l hl]; exact q), fun x hx hp => ?_, fun k l hk hl => by rw [e l hl, e k (by omega)]; exact h4 k l hk hl, h5⟩
  obtain ⟨k, a, b⟩ := h3 x hx hp
  exact ⟨k, a, by rw [e k a]; exact b⟩
/-- one insertion: the hole is at k, i is to be put there -/
def InsI (sc s : Nat → Nat) (n i : Nat) (g : Nat → Nat) (k : Nat) : Prop :=
  k ≤ n ∧ Pm (updN s n i) (updN g k i) (n + 1) ∧ (∀ a b, a ≤ b → b < n + 1 → a ≠ k → b ≠ k → sc (g b) ≤ sc (g a)) ∧ ∀ b, k < b → b < n + 1 → sc (g b) ≤ sc i
theorem InsI.init {pb : Nat → Bool} {sc s : Nat → Nat} {n i : Nat} (h : SegI pb sc s n i) : InsI sc s n i s n :=
  ⟨Nat.le_refl n, Pm.rf _ _, fun a b h1 h2 h3 h4 => h.2.2.2.1 a b h1 (by omega), fun b h1 h2 => absurd h2 (by omega)⟩
theorem InsI.step {sc s : Nat → Nat} {n i : Nat} {g : Nat → Nat} {k : Nat} (h : InsI sc s n i g (k + 1)) (hc : sc (g k) < sc i) : InsI sc s n i (updN g (k + 1) (g k)) k := by
  obtain ⟨h1, h2, h3, h4⟩ := h
  have a1 : ∀ z, z ≠ k + 1 → updN g (k + 1) (g k) z = g z := fun z hz => updN_n hz
  have a2 : updN g (k + 1) (g k) (k + 1) = g k := updN_s _ _ _
  refine ⟨by omega, h2.tr (Pm.hole (by omega) (by omega) (by omega)), fun a b q1 q2 q3 q4 => ?_, fun b q1 q2 => ?_⟩
  · by_cases e : a = k + 1
    · by_cases e2 : b = k + 1
      · rw [e, e2]; exact Nat.le_refl _
      · rw [e, a2, a1 b e2]
        exact h3 k b (by omega) q2 (by omega) e2
    · rw [a1 a e]
      by_cases e2 : b = k + 1
      · rw [e2, a2]
        exact h3 a k (by omega) (by omega) e (by omega)
      · rw [a1 b e2]
        exact h3 a b q1 q2 e e2
  · by_cases e2 : b = k + 1
    · rw [e2, a2]; omega
    · rw [a1 b e2]
      exact h4 b (by omega) q2
theorem InsI.fin {pb : Nat → Bool} {sc s : Nat → Nat} {n i : Nat} {g : Nat → Nat} {k : Nat} (h0 : SegI pb sc s n i) (hi : pb i = true) (h : InsI sc s n i g k) (hc : 0 < k → ¬ sc (g (k - 1)) < sc i) : SegI pb sc (updN g k i) (n + 1) (i + 1) := by
  obtain ⟨s1, s2, s3, s4, s5⟩ := h0
  obtain ⟨h1, h2, h3, h4⟩ := h
  have m0 : ∀ x, (∃ j, j < n + 1 ∧ updN s n i j = x) ↔ x = i ∨ ∃ j, j < n ∧ s j = x := by
    intro x
    constructor
    · rintro ⟨j, hj, e⟩
      by_cases q : j = n
      · rw [q, updN_s] at e
        exact Or.inl e.symm
      · rw [updN_n q] at e
        exact Or.inr ⟨j, by omega, e⟩
    · rintro (e | ⟨j, hj, e⟩)
      · exact ⟨n, by omega, by rw [updN_s]; exact e.symm⟩
      · exact ⟨j, by omega, by rw [updN_n (by omega)]; exact e⟩
  refine ⟨fun j hj => ?_, h2.inj (fun a b ha hb e => ?_), fun x hx hp => ?_, fun a b q1 q2 => ?_, by omega⟩
  · rcases (m0 _).mp (h2.mem.mp ⟨j, hj, rfl⟩) with e | ⟨a, ha, e⟩
    · rw [e]; exact ⟨by omega, hi⟩
    · have q := s1 a ha
      rw [← e]
      exact ⟨by omega, q.2⟩
  · by_cases e1 : a = n
    · by_cases e2 : b = n
      · omega
      · rw [e1, updN_s, updN_n e2] at e
        have q := (s1 b (by omega)).1
        omega
    · by_cases e2 : b = n
      · rw [e2, updN_s, updN_n e1] at e
        have q := (s1 a (by omega)).1
        omega
      · rw [updN_n e1, updN_n e2] at e
        exact s2 a b (by omega) (by omega) e
  · apply h2.mem.mpr
    apply (m0 x).mpr
    by_cases e : x = i
    · exact Or.inl e
    · exact Or.inr (s3 x (by omega) hp)
  · by_cases e : a = k
    · by_cases e2 : b = k
      · rw [e, e2]; exact Nat.le_refl _
      · rw [e, updN_s, updN_n e2]
        exact h4 b (by omega) q2
    · rw [updN_n e]
      by_cases e2 : b = k
      · rw [e2, updN_s]
        have o := hc (by omega)
        have o2 := h3 a (k - 1) (by omega) (by omega) e (by omega)
        omega
      · rw [updN_n e2]
        exact h3 a b q1 q2 e e2
end SORT
end
section
/-! the ranking's state: pure -/
section RANK
/-- the codes of the pairs both of whose entries have been read -/
def mtd (K so rd : Nat → Nat) (c : Nat) : Prop := ∃ x y, x < rd 0 ∧ y < rd 1 ∧ c = 16 * so x + so (12 + y) ∧ K (so x) = K (12 + so (12 + y))
/-- heap and ranking hold the codes M, each once -/
def Cont (M : Nat → Prop) (hp : Nat → Nat) (hn : Nat) (rk : Nat → Nat) (rn : Nat) : Prop :=
  (∀ j, j < hn → M (hp j)) ∧ (∀ j, j < rn → M (rk j)) ∧ (∀ c, M c → (∃ j, j < hn ∧ hp j = c) ∨ (∃ j, j < rn ∧ rk j = c)) ∧ (∀ i j, i < hn → j < hn → hp i = hp j → i = j) ∧ (∀ i j, i < rn → j < rn → rk i = rk j → i = j) ∧ (∀ i j, i < hn → j < rn → hp i ≠ rk j)
/-- the ranking holds the first of all, in order -/
def Top (κ : Nat → Nat) (Q : Nat → Prop) (rk : Nat → Nat) (rn : Nat) : Prop := (∀ i j, i < j → j < rn → κ (rk i) < κ (rk j)) ∧ ∀ j c, j < rn → Q c → (∀ i, i < rn → rk i ≠ c) → κ (rk j) < κ c
theorem Cont.congr {M M' : Nat → Prop} {hp : Nat → Nat} {hn : Nat} {rk : Nat → Nat} {rn : Nat} (h : Cont M hp hn rk rn) (e : ∀ c, M c ↔ M' c) : Cont M' hp hn rk rn :=
  ⟨fun j hj => (e _).mp (h.1 j hj), fun j hj => (e _).mp (h.2.1 j hj), fun c hc => h.2.2.1 c ((e c).mpr hc), h.2.2.2⟩
theorem Cont.push {M : Nat → Prop} {hp hp' : Nat → Nat} {hn : Nat} {rk : Nat → Nat} {rn c : Nat} (h : Cont M hp hn rk rn) (hc : ¬ M c) (hq : Pm (updN hp hn c) hp' (hn + 1)) : Cont (fun x => M x ∨ x = c) hp' (hn + 1) rk rn := by
  obtain ⟨h1, h2, h3, h4, h5, h6⟩ := h
  have m0 : ∀ x, (∃ j, j < hn + 1 ∧ updN hp hn c j = x) ↔ x = c ∨ ∃ j, j < hn ∧ hp j = x := by
    intro x
    constructor
    · rintro ⟨j, hj, e⟩
      by_cases q : j = hn
      · rw [q, updN_s] at e
        exact Or.inl e.symm
      · rw [updN_n q] at e
        exact Or.inr ⟨j, by omega, e⟩
    · rintro (e | ⟨j, hj, e⟩)
      · exact ⟨hn, by omega, by rw [updN_s]; exact e.symm⟩
      · exact ⟨j, by omega, by rw [updN_n (by omega)]; exact e⟩
  have m1 : ∀ x, (∃ j, j < hn + 1 ∧ hp' j = x) ↔ x = c ∨ ∃ j, j < hn ∧ hp j = x := fun x => hq.mem.trans (m0 x)
  refine ⟨fun j hj => ?_, fun j hj => Or.inl (h2 j hj), fun x hx => ?_, hq.inj (fun a b ha hb e => ?_), h5, fun i j hi hj e => ?_⟩
  · rcases (m1 _).mp ⟨j, hj, rfl⟩ with e | ⟨a, ha, e⟩
    · exact Or.inr e
    · rw [← e]; exact Or.inl (h1 a ha)
  · rcases hx with hx | hx
    · rcases h3 x hx with q | q
      · exact Or.inl ((m1 x).mpr (Or.inr q))
      · exact Or.inr q
    · exact Or.inl ((m1 x).mpr (Or.inl hx))
  · by_cases e1 : a = hn
    · by_cases e2 : b = hn
      · omega
      · rw [e1, updN_s, updN_n e2] at e
        exact absurd (by rw [e]; exact h1 b (by omega)) hc
    · by_cases e2 : b = hn
      · rw [e2, updN_s, updN_n e1] at e
        exact absurd (by rw [← e]; exact h1 a (by omega)) hc
      · rw [updN_n e1, updN_n e2] at e
        exact h4 a b (by omega) (by omega) e
  · rcases (m1 _).mp ⟨i, hi, rfl⟩ with q | ⟨a, ha, q⟩
    · exact hc (by rw [← q, e]; exact h2 j hj)
    · exact h6 a j ha hj (by rw [q]; exact e)
theorem Cont.pop {M : Nat → Prop} {hp hp' : Nat → Nat} {n : Nat} {rk : Nat → Nat} {rn : Nat} (h : Cont M hp (n + 1) rk rn) (hq : Pm (updN hp 0 (hp n)) hp' n) : Cont M hp' n (updN rk rn (hp 0)) (rn + 1) := by
  obtain ⟨h1, h2, h3, h4, h5, h6⟩ := h
  have m0 : ∀ x, (∃ j, j < n ∧ updN hp 0 (hp n) j = x) ↔ x ≠ hp 0 ∧ ∃ j, j < n + 1 ∧ hp j = x := by
    intro x
    constructor
    · rintro ⟨j, hj, e⟩
      by_cases q : j = 0
      · rw [q, updN_s] at e
        refine ⟨fun z => ?_, n, by omega, e⟩
        have z1 := h4 n 0 (by omega) (by omega) (by rw [e, z])
        omega
      · rw [updN_n q] at e
        refine ⟨fun z => ?_, j, by omega, e⟩
        have z1 := h4 j 0 (by omega) (by omega) (by rw [e, z])
        omega
    · rintro ⟨e0, j, hj, e⟩
      have j0 : j ≠ 0 := fun z => e0 (by rw [← e, z])
      by_cases q : j = n
      · exact ⟨0, by omega, by rw [updN_s, ← q]; exact e⟩
      · exact ⟨j, by omega, by rw [updN_n j0]; exact e⟩
  have m1 : ∀ x, (∃ j, j < n ∧ hp' j = x) ↔ x ≠ hp 0 ∧ ∃ j, j < n + 1 ∧ hp j = x := fun x => hq.mem.trans (m0 x)
  refine ⟨fun j hj => ?_, fun j hj => ?_, fun x hx => ?_, hq.inj (fun a b ha hb e => ?_), fun i j hi hj e => ?_, fun i j hi hj e => ?_⟩
  · obtain ⟨-, a, ha, e⟩ := (m1 _).mp ⟨j, hj, rfl⟩
    rw [← e]; exact h1 a ha
  · by_cases e : j = rn
    · rw [e, updN_s]; exact h1 0 (by omega)
    · rw [updN_n e]; exact h2 j (by omega)
  · by_cases e : x = hp 0
    · exact Or.inr ⟨rn, by omega, by rw [updN_s]; exact e.symm⟩
    · rcases h3 x hx with q | ⟨j, hj, q⟩
      · exact Or.inl ((m1 x).mpr ⟨e, q⟩)
      · exact Or.inr ⟨j, by omega, by rw [updN_n (by omega)]; exact q⟩
  · by_cases e1 : a = 0
    · by_cases e2 : b = 0
      · omega
      · rw [e1, updN_s, updN_n e2] at e
        have z := h4 n b (by omega) (by omega) e
        omega
    · by_cases e2 : b = 0
      · rw [e2, updN_s, updN_n e1] at e
        have z := h4 a n (by omega) (by omega) e
        omega
      · rw [updN_n e1, updN_n e2] at e
        exact h4 a b (by omega) (by omega) e
  · by_cases e1 : i = rn
    · by_cases e2 : j = rn
      · omega
      · rw [e1, updN_s, updN_n e2] at e
        exact absurd e (h6 0 j (by omega) (by omega))
    · by_cases e2 : j = rn
      · rw [e2, updN_s, updN_n e1] at e
        exact absurd e.symm (h6 0 i (by omega) (by omega))
      · rw [updN_n e1, updN_n e2] at e
        exact h5 i j (by omega) (by omega) e
  · obtain ⟨n0, a, ha, q⟩ := (m1 _).mp ⟨i, hi, rfl⟩
    by_cases e2 : j = rn
    · rw [e2, updN_s] at e
      exact n0 e
    · rw [updN_n e2] at e
      exact h6 a j ha (by omega) (by rw [q]; exact e)
theorem Cont.card {M : Nat → Prop} {hp : Nat → Nat} {hn : Nat} {rk : Nat → Nat} {rn : Nat} (h : Cont M hp hn rk rn) (hM : ∀ c, M c → cOK c) : hn + rn ≤ 144 := by
  obtain ⟨h1, h2, h3, h4, h5, h6⟩ := h
  refine inj_le (fun i => if i < hn then pn (hp i) else pn (rk (i - hn))) (fun i hi => ?_) (fun i k hi hk e => ?_)
  · show (if i < hn then pn (hp i) else pn (rk (i - hn))) < 144
    split
    · exact pn_lt (hM _ (h1 i (by assumption)))
    · exact pn_lt (hM _ (h2 _ (by omega)))
  · have e : (if i < hn then pn (hp i) else pn (rk (i - hn))) = (if k < hn then pn (hp k) else pn (rk (k - hn))) := e
    by_cases q1 : i < hn
    · rw [if_pos q1] at e
      by_cases q2 : k < hn
      · rw [if_pos q2] at e
        exact h4 i k q1 q2 (pn_inj (hM _ (h1 i q1)) (hM _ (h1 k q2)) e)
      · rw [if_neg q2] at e
        exact absurd (pn_inj (hM _ (h1 i q1)) (hM _ (h2 (k - hn) (by omega))) e) (h6 i (k - hn) q1 (by omega))
    · rw [if_neg q1] at e
      by_cases q2 : k < hn
      · rw [if_pos q2] at e
        exact absurd (pn_inj (hM _ (h1 k q2)) (hM _ (h2 (i - hn) (by omega))) e.symm) (h6 k (i - hn) q2 (by omega))
      · rw [if_neg q2] at e
        have z := h5 (i - hn) (k - hn) (by omega) (by omega) (pn_inj (hM _ (h2 _ (by omega))) (hM _ (h2 _ (by omega))) e)
        omega
theorem Cont.card1 {M : Nat → Prop} {hp : Nat → Nat} {hn : Nat} {rk : Nat → Nat} {rn c : Nat} (h : Cont M hp hn rk rn) (hM : ∀ c, M c → cOK c) (hc : ¬ M c) (hk : cOK c) : hn + rn < 144 := by
  have h1 := (h.push hc (Pm.rf _ _)).card (fun x hx => by
    rcases hx with q | q
    · exact hM x q
    · rw [q]; exact hk)
  omega
/-- the state of a ranking that has begun -/
def RI (P K S W so si rd hp : Nat → Nat) (hn : Nat) (rk : Nat → Nat) (rn dn : Nat) : Prop :=
  SegI (fun i => (P 0).testBit i) S so (si 0) 12 ∧ SegI (fun i => (P 1).testBit i) (fun i => S (12 + i)) (fun k => so (12 + k)) (si 1) 12 ∧ rd 0 ≤ si 0 ∧ rd 1 ≤ si 1 ∧ HpO (kap W S) hp hn ∧ Cont (mtd K so rd) hp hn rk rn ∧ Top (kap W S) (prC P K) rk rn ∧ (dn = 1 → ∀ c, prC P K c → ∃ j, j < rn ∧ rk j = c)
theorem mtd_pr {P K S so si rd : Nat → Nat} (s0 : SegI (fun i => (P 0).testBit i) S so (si 0) 12) (s1 : SegI (fun i => (P 1).testBit i) (fun i => S (12 + i)) (fun k => so (12 + k)) (si 1) 12) (r0 : rd 0 ≤ si 0) (r1 : rd 1 ≤ si 1) {c : Nat} (h : mtd K so rd c) : prC P K c := by
  obtain ⟨x, y, hx, hy, e, ek⟩ := h
  have a := s0.1 x (by omega)
  have b := s1.1 y (by omega)
  have b1 : so (12 + y) < 12 := b.1
  have b2 : (P 1).testBit (so (12 + y)) = true := b.2
  have q := cOK_mk a.1 b1
  rw [← e] at q
  rw [prC_iff, q.2.1, q.2.2]
  exact ⟨q.1, a.2, b2, ek⟩
theorem RI.start {P K S W so si rd hp rk : Nat → Nat} (s0 : SegI (fun i => (P 0).testBit i) S so (si 0) 12) (s1 : SegI (fun i => (P 1).testBit i) (fun i => S (12 + i)) (fun k => so (12 + k)) (si 1) 12) (r0 : rd 0 = 0) (r1 : rd 1 = 0) : RI P K S W so si rd hp 0 rk 0 0 := by
  refine ⟨s0, s1, by omega, by omega, fun j _ h => absurd h (by omega), ⟨fun j h => absurd h (by omega), fun j h => absurd h (by omega), fun c h => ?_, fun i j h => absurd h (by omega), fun i j h => absurd h (by omega), fun i j h => absurd h (by omega)⟩, ⟨fun i j _ h => absurd h (by omega), fun j c h => absurd h (by omega)⟩, fun h => absurd h (by decide)⟩
  obtain ⟨x, y, hx, -⟩ := h
  omega
theorem RI.unmet {P K S W so si rd hp : Nat → Nat} {hn : Nat} {rk : Nat → Nat} {rn dn : Nat} (h : RI P K S W so si rd hp hn rk rn dn) {c : Nat} (hc : prC P K c) (hm : ¬ mtd K so rd c) :
    (rd 0 < si 0 ∧ si 1 ≠ 0 ∧ valC W S c ≤ W 0 * S (so (rd 0)) + W 1 * S (12 + so 12)) ∨ (rd 1 < si 1 ∧ si 0 ≠ 0 ∧ valC W S c ≤ W 1 * S (12 + so (12 + rd 1)) + W 0 * S (so 0)) := by
  obtain ⟨s0, s1, r0, r1, -⟩ := h
  obtain ⟨ck, p0, p1, ek⟩ := prC_iff.mp hc
  obtain ⟨x, hx, ex⟩ := s0.2.2.1 (c / 16) (by unfold cOK at ck; omega) p0
  obtain ⟨y, hy, ey⟩ := s1.2.2.1 (c % 16) ck.2 p1
  have ey : so (12 + y) = c % 16 := ey
  have t0 : S (so x) ≤ S (so 0) := s0.2.2.2.1 0 x (by omega) hx
  have t1 : S (12 + so (12 + y)) ≤ S (12 + so (12 + 0)) := s1.2.2.2.1 0 y (by omega) hy
  rw [ex] at t0
  rw [ey] at t1
  have ev : valC W S c = W 0 * S (c / 16) + W 1 * S (12 + c % 16) := rfl
  by_cases q0 : x < rd 0
  · by_cases q1 : y < rd 1
    · exact absurd ⟨x, y, q0, q1, by rw [ex, ey]; omega, by rw [ex, ey]; exact ek⟩ hm
    · right
      refine ⟨by omega, by omega, ?_⟩
      have t2 : S (12 + so (12 + y)) ≤ S (12 + so (12 + rd 1)) := s1.2.2.2.1 (rd 1) y (by omega) hy
      rw [ey] at t2
      have u0 := Nat.mul_le_mul_left (W 0) t0
      have u1 := Nat.mul_le_mul_left (W 1) t2
      omega
  · left
    refine ⟨by omega, by omega, ?_⟩
    have t2 : S (so x) ≤ S (so (rd 0)) := s0.2.2.2.1 (rd 0) x (by omega) hx
    rw [ex] at t2
    have u0 := Nat.mul_le_mul_left (W 0) t2
    have u1 := Nat.mul_le_mul_left (W 1) t1
    have e12 : so (12 + 0) = so 12 := rfl
    rw [e12] at u1
    omega
theorem RI.ok {P K S W so si rd hp : Nat → Nat} {hn : Nat} {rk : Nat → Nat} {rn dn : Nat} (h : RI P K S W so si rd hp hn rk rn dn) : ∀ c, mtd K so rd c → cOK c := fun c hc => (mtd_pr h.1 h.2.1 h.2.2.1 h.2.2.2.1 hc).1
theorem RI.card {P K S W so si rd hp : Nat → Nat} {hn : Nat} {rk : Nat → Nat} {rn dn : Nat} (h : RI P K S W so si rd hp hn rk rn dn) : hn + rn ≤ 144 := h.2.2.2.2.2.1.card h.ok
/-- nothing to hope for, and the heap is empty: all is given out -/
theorem RI.finish {P K S W so si rd hp : Nat → Nat} {rk : Nat → Nat} {rn dn : Nat} (h : RI P K S W so si rd hp 0 rk rn dn) (h0 : ¬ (rd 0 < si 0 ∧ si 1 ≠ 0)) (h1 : ¬ (rd 1 < si 1 ∧ si 0 ≠ 0)) : RI P K S W so si rd hp 0 rk rn 1 := by
  have hu := fun c => h.unmet (c := c)
  obtain ⟨a1, a2, a3, a4, a5, a6, a7, -⟩ := h
  refine ⟨a1, a2, a3, a4, a5, a6, a7, fun _ c hc => ?_⟩
  by_cases hm : mtd K so rd c
  · rcases a6.2.2.1 c hm with ⟨j, hj, -⟩ | q
    · omega
    · exact q
  · rcases hu c hc hm with q | q
    · exact absurd ⟨q.1, q.2.1⟩ h0
    · exact absurd ⟨q.1, q.2.1⟩ h1
/-- the heap's first pair is given out -/
theorem RI.give {P K S W so si rd hp hp' : Nat → Nat} {n : Nat} {rk : Nat → Nat} {rn dn : Nat} (hW : ∀ j, W j ≤ 9) (hS : ∀ j, S j ≤ 1000) (h : RI P K S W so si rd hp (n + 1) rk rn dn) (hdn : dn = 0)
    (h0 : rd 0 < si 0 → si 1 ≠ 0 → W 0 * S (so (rd 0)) + W 1 * S (12 + so 12) < valC W S (hp 0)) (h1 : rd 1 < si 1 → si 0 ≠ 0 → W 1 * S (12 + so (12 + rd 1)) + W 0 * S (so 0) < valC W S (hp 0))
    (ho : HpO (kap W S) hp' n) (hq : Pm (updN hp 0 (hp n)) hp' n) : RI P K S W so si rd hp' n (updN rk rn (hp 0)) (rn + 1) dn := by
  have hu := fun c => h.unmet (c := c)
  have hok := h.ok
  obtain ⟨a1, a2, a3, a4, a5, a6, a7, -⟩ := h
  have pr : ∀ c, mtd K so rd c → prC P K c := fun c hc => mtd_pr a1 a2 a3 a4 hc
  have lt256 : ∀ c, cOK c → c < 256 := fun c hc => by unfold cOK at hc; omega
  have m0 := a6.1 0 (by omega)
  -- the first of the heap goes before every pair that is neither it nor ranked
  have first : ∀ c, prC P K c → c ≠ hp 0 → (∀ i, i < rn → rk i ≠ c) → kap W S (hp 0) < kap W S c := by
    intro c hc hne hr
    by_cases hm : mtd K so rd c
    · rcases a6.2.2.1 c hm with ⟨j, hj, e⟩ | ⟨j, hj, e⟩
      · have r := a5.root j hj
        rw [e] at r
        rcases Nat.lt_or_ge (kap W S (hp 0)) (kap W S c) with q | q
        · exact q
        · exact absurd (kap_inj (W := W) (S := S) (lt256 _ hc.1) (lt256 _ (hok _ m0)) (by omega)) hne
      · exact absurd e (hr j hj)
    · rw [kap_lt hW hS (lt256 _ (hok _ m0)) (lt256 _ hc.1)]
      left
      rcases hu c hc hm with ⟨q1, q2, q3⟩ | ⟨q1, q2, q3⟩
      · have z := h0 q1 q2
        omega
      · have z := h1 q1 q2
        omega
  have nr : ∀ i, i < rn → rk i ≠ hp 0 := fun i hi e => a6.2.2.2.2.2 0 i (by omega) hi e.symm
  refine ⟨a1, a2, a3, a4, ho, a6.pop hq, ⟨fun i j hij hj => ?_, fun j c hj hc hr => ?_⟩, fun e => by omega⟩
  · by_cases e : j = rn
    · rw [e, updN_s, updN_n (by omega)]
      exact a7.2 i (hp 0) (by omega) (pr _ m0) nr
    · rw [updN_n e, updN_n (by omega)]
      exact a7.1 i j hij (by omega)
  · have hr' : ∀ i, i < rn → rk i ≠ c := fun i hi => by
      have z := hr i (by omega)
      rw [updN_n (by omega)] at z
      exact z
    by_cases e : j = rn
    · rw [e, updN_s]
      have z := hr rn (by omega)
      rw [updN_s] at z
      exact first c hc (Ne.symm z) hr'
    · rw [updN_n e]
      exact a7.2 j c (by omega) hc hr'
end RANK
end
section
/-! reading one entry, and what a ranking says: pure -/
section READ
/-- the code of entry i of list b with entry j of the other -/
def cb (b i j : Nat) : Nat := if b = 0 then 16 * i + j else 16 * j + i
theorem cb0 (i j : Nat) : cb 0 i j = 16 * i + j := by simp [cb]
theorem cb1 (i j : Nat) : cb 1 i j = 16 * j + i := by simp [cb]
/-- the codes met when entry i of list b has met the first k of the other list -/
def rdM (K so rd : Nat → Nat) (b i k c : Nat) : Prop := mtd K so rd c ∨ ∃ y, y < k ∧ K (12 * (1 - b) + so (12 * (1 - b) + y)) = K (12 * b + i) ∧ c = cb b i (so (12 * (1 - b) + y))
theorem rdM0 {K so rd : Nat → Nat} {i k c : Nat} : rdM K so rd 0 i k c ↔ (mtd K so rd c ∨ ∃ y, y < k ∧ K (12 + so (12 + y)) = K i ∧ c = 16 * i + so (12 + y)) := by
  unfold rdM
  rw [show 12 * (1 - 0) = 12 from rfl, show 12 * 0 = 0 from rfl, Nat.zero_add]
  constructor
  · rintro (h | ⟨y, h1, h2, h3⟩)
    · exact Or.inl h
    · exact Or.inr ⟨y, h1, h2, by rw [h3, cb0]⟩
  · rintro (h | ⟨y, h1, h2, h3⟩)
    · exact Or.inl h
    · exact Or.inr ⟨y, h1, h2, by rw [h3, cb0]⟩
theorem rdM1 {K so rd : Nat → Nat} {i k c : Nat} : rdM K so rd 1 i k c ↔ (mtd K so rd c ∨ ∃ y, y < k ∧ K (so y) = K (12 + i) ∧ c = 16 * so y + i) := by
  unfold rdM
  rw [show 12 * (1 - 1) = 0 from rfl, show 12 * 1 = 12 from rfl]
  constructor
  · rintro (h | ⟨y, h1, h2, h3⟩)
    · exact Or.inl h
    · rw [Nat.zero_add, Nat.zero_add] at h2
      rw [Nat.zero_add, cb1] at h3
      exact Or.inr ⟨y, h1, h2, h3⟩
  · rintro (h | ⟨y, h1, h2, h3⟩)
    · exact Or.inl h
    · refine Or.inr ⟨y, h1, ?_, ?_⟩
      · rw [Nat.zero_add, Nat.zero_add]; exact h2
      · rw [Nat.zero_add, cb1]; exact h3
/-- while entry so (12 * b + rd b) of list b is being read: k of the other list's entries are done -/
def RdI (P K S W so si rd hp : Nat → Nat) (hn : Nat) (rk : Nat → Nat) (rn b k : Nat) : Prop := HpO (kap W S) hp hn ∧ Cont (rdM K so rd b (so (12 * b + rd b)) k) hp hn rk rn
theorem RdI.init {P K S W so si rd hp : Nat → Nat} {hn : Nat} {rk : Nat → Nat} {rn dn b : Nat} (h : RI P K S W so si rd hp hn rk rn dn) : RdI P K S W so si rd hp hn rk rn b 0 := by
  refine ⟨h.2.2.2.2.1, h.2.2.2.2.2.1.congr (fun c => ?_)⟩
  unfold rdM
  constructor
  · exact Or.inl
  · rintro (q | ⟨y, hy, -⟩)
    · exact q
    · omega
theorem RdI.skip {P K S W so si rd hp : Nat → Nat} {hn : Nat} {rk : Nat → Nat} {rn b k : Nat} (h : RdI P K S W so si rd hp hn rk rn b k) (hk : K (12 * (1 - b) + so (12 * (1 - b) + k)) ≠ K (12 * b + so (12 * b + rd b))) : RdI P K S W so si rd hp hn rk rn b (k + 1) := by
  refine ⟨h.1, h.2.congr (fun c => ?_)⟩
  unfold rdM
  constructor
  · rintro (q | ⟨y, hy, q⟩)
    · exact Or.inl q
    · exact Or.inr ⟨y, by omega, q⟩
  · rintro (q | ⟨y, hy, q1, q2⟩)
    · exact Or.inl q
    · by_cases e : y = k
      · subst e
        exact absurd q1 hk
      · exact Or.inr ⟨y, by omega, q1, q2⟩
/-- what stays while an entry is read -/
def RdS (P S so si rd : Nat → Nat) : Prop := SegI (fun i => (P 0).testBit i) S so (si 0) 12 ∧ SegI (fun i => (P 1).testBit i) (fun i => S (12 + i)) (fun k => so (12 + k)) (si 1) 12 ∧ rd 0 ≤ si 0 ∧ rd 1 ≤ si 1
theorem RI.rds {P K S W so si rd hp : Nat → Nat} {hn : Nat} {rk : Nat → Nat} {rn dn : Nat} (h : RI P K S W so si rd hp hn rk rn dn) : RdS P S so si rd := ⟨h.1, h.2.1, h.2.2.1, h.2.2.2.1⟩
theorem rdM_ok {P K S so si rd : Nat → Nat} {b k : Nat} (h : RdS P S so si rd) (hb : b < 2) (hr : rd b < si b) (hk : k ≤ rd (1 - b)) : ∀ c, rdM K so rd b (so (12 * b + rd b)) k c → cOK c := by
  obtain ⟨s0, s1, r0, r1⟩ := h
  intro c
  rcases (show b = 0 ∨ b = 1 by omega) with e | e
  · subst e
    rw [show 12 * 0 = 0 from rfl, Nat.zero_add, rdM0]
    rintro (q | ⟨y, hy, -, q⟩)
    · exact (mtd_pr (K := K) s0 s1 r0 r1 q).1
    · have a := (s0.1 (rd 0) hr).1
      have hk' : k ≤ rd 1 := hk
      have a2 : so (12 + y) < 12 := (s1.1 y (by omega)).1
      rw [q]
      exact (cOK_mk a a2).1
  · subst e
    rw [show 12 * 1 = 12 from rfl, rdM1]
    rintro (q | ⟨y, hy, -, q⟩)
    · exact (mtd_pr (K := K) s0 s1 r0 r1 q).1
    · have a : so (12 + rd 1) < 12 := (s1.1 (rd 1) hr).1
      have hk' : k ≤ rd 0 := hk
      have a2 := (s0.1 y (by omega)).1
      rw [q]
      exact (cOK_mk a2 a).1
theorem rdM_new {P K S so si rd : Nat → Nat} {b k : Nat} (h : RdS P S so si rd) (hb : b < 2) (hr : rd b < si b) (hk : k < rd (1 - b)) : cOK (cb b (so (12 * b + rd b)) (so (12 * (1 - b) + k))) ∧ ¬ rdM K so rd b (so (12 * b + rd b)) k (cb b (so (12 * b + rd b)) (so (12 * (1 - b) + k))) := by
  obtain ⟨s0, s1, r0, r1⟩ := h
  rcases (show b = 0 ∨ b = 1 by omega) with e | e
  · subst e
    have hk' : k < rd 1 := hk
    have a := (s0.1 (rd 0) hr).1
    have a2 : so (12 + k) < 12 := (s1.1 k (by omega)).1
    rw [show 12 * (1 - 0) = 12 from rfl, show 12 * 0 = 0 from rfl, Nat.zero_add, rdM0, cb0]
    refine ⟨(cOK_mk a a2).1, ?_⟩
    rintro (⟨x, y, hx, hy, q, -⟩ | ⟨y, hy, -, q⟩)
    · have b1 := (s0.1 x (by omega)).1
      have b2 : so (12 + y) < 12 := (s1.1 y (by omega)).1
      have z := s0.2.1 x (rd 0) (by omega) hr (by omega)
      omega
    · have b2 : so (12 + y) < 12 := (s1.1 y (by omega)).1
      have z := s1.2.1 y k (by omega) (by omega) (show so (12 + y) = so (12 + k) by omega)
      omega
  · subst e
    have hk' : k < rd 0 := hk
    have a : so (12 + rd 1) < 12 := (s1.1 (rd 1) hr).1
    have a2 := (s0.1 k (by omega)).1
    rw [show 12 * (1 - 1) = 0 from rfl, show 12 * 1 = 12 from rfl, Nat.zero_add, rdM1, cb1]
    refine ⟨(cOK_mk a2 a).1, ?_⟩
    rintro (⟨x, y, hx, hy, q, -⟩ | ⟨y, hy, -, q⟩)
    · have b1 := (s0.1 x (by omega)).1
      have b2 : so (12 + y) < 12 := (s1.1 y (by omega)).1
      have z := s1.2.1 y (rd 1) (by omega) hr (show so (12 + y) = so (12 + rd 1) by omega)
      omega
    · have b2 := (s0.1 y (by omega)).1
      have z := s0.2.1 y k (by omega) (by omega) (by omega)
      omega
theorem RdI.room {P K S W so si rd hp : Nat → Nat} {hn : Nat} {rk : Nat → Nat} {rn b k : Nat} (h : RdI P K S W so si rd hp hn rk rn b k) (hs : RdS P S so si rd) (hb : b < 2) (hr : rd b < si b) (hk : k < rd (1 - b)) : hn + rn < 144 :=
  h.2.card1 (rdM_ok hs hb hr (by omega)) (rdM_new hs hb hr hk).2 (rdM_new (K := K) hs hb hr hk).1
theorem RdI.push {P K S W so si rd hp hp' : Nat → Nat} {hn : Nat} {rk : Nat → Nat} {rn b k : Nat} (h : RdI P K S W so si rd hp hn rk rn b k) (hs : RdS P S so si rd) (hb : b < 2) (hr : rd b < si b) (hk : k < rd (1 - b)) (he : K (12 * (1 - b) + so (12 * (1 - b) + k)) = K (12 * b + so (12 * b + rd b)))
    (ho : HpO (kap W S) hp' (hn + 1)) (hq : Pm (updN hp hn (cb b (so (12 * b + rd b)) (so (12 * (1 - b) + k)))) hp' (hn + 1)) : RdI P K S W so si rd hp' (hn + 1) rk rn b (k + 1) := by
  refine ⟨ho, (h.2.push (rdM_new hs hb hr hk).2 hq).congr (fun c => ?_)⟩
  unfold rdM
  constructor
  · rintro ((q | ⟨y, hy, q⟩) | q)
    · exact Or.inl q
    · exact Or.inr ⟨y, by omega, q⟩
    · exact Or.inr ⟨k, by omega, he, q⟩
  · rintro (q | ⟨y, hy, q1, q2⟩)
    · exact Or.inl (Or.inl q)
    · by_cases e : y = k
      · subst e
        exact Or.inr q2
      · exact Or.inl (Or.inr ⟨y, by omega, q1, q2⟩)
theorem RdI.fin {P K S W so si rd hp hp0 : Nat → Nat} {hn hn0 : Nat} {rk : Nat → Nat} {rn dn b : Nat} (h0 : RI P K S W so si rd hp0 hn0 rk rn dn) (hb : b < 2) (hr : rd b < si b) (h : RdI P K S W so si rd hp hn rk rn b (rd (1 - b))) : RI P K S W so si (updN rd b (rd b + 1)) hp hn rk rn dn := by
  obtain ⟨s0, s1, r0, r1, -, -, t, d⟩ := h0
  obtain ⟨ho, hc⟩ := h
  rcases (show b = 0 ∨ b = 1 by omega) with e | e
  · subst e
    have u0 : updN rd 0 (rd 0 + 1) 0 = rd 0 + 1 := updN_s _ _ _
    have u1 : updN rd 0 (rd 0 + 1) 1 = rd 1 := updN_n (by decide)
    refine ⟨s0, s1, by rw [u0]; omega, by rw [u1]; omega, ho, hc.congr (fun c => ?_), t, d⟩
    rw [show 12 * 0 = 0 from rfl, Nat.zero_add, rdM0]
    unfold mtd
    rw [u0, u1]
    constructor
    · rintro (⟨x, y, q1, q2, q3⟩ | ⟨y, q1, q2, q3⟩)
      · exact ⟨x, y, by omega, q2, q3⟩
      · exact ⟨rd 0, y, by omega, q1, q3, q2.symm⟩
    · rintro ⟨x, y, q1, q2, q3, q4⟩
      by_cases e : x = rd 0
      · subst e
        exact Or.inr ⟨y, q2, q4.symm, q3⟩
      · exact Or.inl ⟨x, y, by omega, q2, q3, q4⟩
  · subst e
    have u0 : updN rd 1 (rd 1 + 1) 0 = rd 0 := updN_n (by decide)
    have u1 : updN rd 1 (rd 1 + 1) 1 = rd 1 + 1 := updN_s _ _ _
    refine ⟨s0, s1, by rw [u0]; omega, by rw [u1]; omega, ho, hc.congr (fun c => ?_), t, d⟩
    rw [show 12 * 1 = 12 from rfl, rdM1]
    unfold mtd
    rw [u0, u1]
    constructor
    · rintro (⟨x, y, q1, q2, q3⟩ | ⟨y, q1, q2, q3⟩)
      · exact ⟨x, y, q1, by omega, q3⟩
      · exact ⟨y, rd 1, q1, by omega, q3, q2⟩
    · rintro ⟨x, y, q1, q2, q3, q4⟩
      by_cases e : y = rd 1
      · subst e
        exact Or.inr ⟨x, q1, q4, q3⟩
      · exact Or.inl ⟨x, y, q1, by omega, q3, q4⟩
end READ
section SAYS
variable {P K S W so si rd hp rk : Nat → Nat} {hn rn dn : Nat}
theorem RI.pr (h : RI P K S W so si rd hp hn rk rn dn) {j : Nat} (hj : j < rn) : prC P K (rk j) := mtd_pr h.1 h.2.1 h.2.2.1 h.2.2.2.1 (h.2.2.2.2.2.1.2.1 j hj)
theorem RI.mono (h : RI P K S W so si rd hp hn rk rn dn) {i j : Nat} (hij : i ≤ j) (hj : j < rn) : kap W S (rk i) ≤ kap W S (rk j) := by
  rcases Nat.lt_or_eq_of_le hij with q | q
  · exact Nat.le_of_lt (h.2.2.2.2.2.2.1.1 i j q hj)
  · rw [q]; exact Nat.le_refl _
theorem lt256 {c : Nat} (h : cOK c) : c < 256 := by unfold cOK at h; omega
/-- the ranked pair at place j is the one with j pairs before it -/
theorem RI.place (hW : ∀ j, W j ≤ 9) (hS : ∀ j, S j ≤ 1000) (h : RI P K S W so si rd hp hn rk rn dn) {j : Nat} (hj : j < rn) : bcP P K S W (pn (rk j)) = j := by
  have pj := h.pr hj
  unfold bcP
  refine cnt_bij j (fun i => pn (rk i)) _ 144 (fun i hi => ?_) (fun i k hi hk e => ?_) (fun o ho hf => ?_)
  · have pi := h.pr (show i < rn by omega)
    refine ⟨pn_lt pi.1, ?_⟩
    simp only [Bool.and_eq_true, decide_eq_true_eq]
    exact ⟨pi.2, (kap_pn hW hS pi.1 pj.1).mpr (h.2.2.2.2.2.2.1.1 i j hi hj)⟩
  · exact h.2.2.2.2.2.1.2.2.2.2.1 i k (by omega) (by omega) (pn_inj (h.pr (by omega)).1 (h.pr (by omega)).1 e)
  · simp only [Bool.and_eq_true, decide_eq_true_eq] at hf
    obtain ⟨f1, f2⟩ := hf
    have co := cd_ok ho
    have po : prC P K (cd o) := ⟨co, by rw [pn_cd ho]; exact f1⟩
    rw [← pn_cd ho, kap_pn hW hS co pj.1] at f2
    by_cases q : ∃ i, i < rn ∧ rk i = cd o
    · obtain ⟨i, hi, e⟩ := q
      refine ⟨i, ?_, by show pn (rk i) = o; rw [e, pn_cd ho]⟩
      rcases Nat.lt_or_ge i j with z | z
      · exact z
      · have m := h.mono z hi
        rw [e] at m
        omega
    · have z := h.2.2.2.2.2.2.1.2 j (cd o) hj po (fun i hi e => q ⟨i, hi, e⟩)
      omega
/-- a number with place j, when j are ranked -/
theorem RI.at (hW : ∀ j, W j ≤ 9) (hS : ∀ j, S j ≤ 1000) (h : RI P K S W so si rd hp hn rk rn dn) {p : Nat} (hp' : p < 144) (hpr : prP P K p = true) (hb : bcP P K S W p < rn) : p = pn (rk (bcP P K S W p)) :=
  bcP_inj hp' (pn_lt (h.pr hb).1) hpr (h.pr hb).2 (h.place hW hS hb).symm
theorem RI.all (hW : ∀ j, W j ≤ 9) (hS : ∀ j, S j ≤ 1000) (h : RI P K S W so si rd hp hn rk rn dn) (hd : dn = 1) {p : Nat} (hp' : p < 144) (hpr : prP P K p = true) : bcP P K S W p < rn := by
  obtain ⟨j, hj, e⟩ := h.2.2.2.2.2.2.2 hd (cd p) ⟨cd_ok hp', by rw [pn_cd hp']; exact hpr⟩
  have z := h.place hW hS hj
  rw [e, pn_cd hp'] at z
  omega
theorem RI.rn_le (h : RI P K S W so si rd hp hn rk rn dn) : rn ≤ 144 := by
  have z := h.card
  omega
theorem bcP_143 {P K S W : Nat → Nat} {p : Nat} (hp : p < 144) (h : prP P K p = true) : bcP P K S W p < 144 := by
  have z := cnt_lt (f := fun o => prP P K o && decide (kapP W S o < kapP W S p)) (g := fun _ => true) (x := p) (n := 144) (fun _ _ _ => rfl) hp rfl (by simp)
  rw [cnt_all] at z
  exact z
/-- an answer by place -/
def ansG (P K S W : Nat → Nat) (F : Nat → Int32) (k : Nat) (r : Int32) : Prop := (∃ p, p < 144 ∧ prP P K p = true ∧ bcP P K S W p = k ∧ r = F p) ∨ ((∀ p, p < 144 → prP P K p = true → bcP P K S W p ≠ k) ∧ r = -1)
theorem ansG.uniq {P K S W : Nat → Nat} {F : Nat → Int32} {k : Nat} {r r' : Int32} (h : ansG P K S W F k r) (h' : ansG P K S W F k r') : r = r' := by
  rcases h with ⟨p, a1, a2, a3, a4⟩ | ⟨a1, a2⟩
  · rcases h' with ⟨q, b1, b2, b3, b4⟩ | ⟨b1, b2⟩
    · have e := bcP_inj a1 b1 a2 b2 (a3.trans b3.symm)
      rw [a4, b4, e]
    · exact absurd a3 (b1 p a1 a2)
  · rcases h' with ⟨q, b1, b2, b3, b4⟩ | ⟨b1, b2⟩
    · exact absurd b3 (a1 q b1 b2)
    · rw [a2, b2]
theorem RI.ansIn (hW : ∀ j, W j ≤ 9) (hS : ∀ j, S j ≤ 1000) (h : RI P K S W so si rd hp hn rk rn dn) {k : Nat} (hk : k < rn) (F : Nat → Int32) : ansG P K S W F k (F (pn (rk k))) := Or.inl ⟨pn (rk k), pn_lt (h.pr hk).1, (h.pr hk).2, h.place hW hS hk, rfl⟩
theorem RI.ansOut (hW : ∀ j, W j ≤ 9) (hS : ∀ j, S j ≤ 1000) (h : RI P K S W so si rd hp hn rk rn dn) {k : Nat} (hk : rn ≤ k) (hd : dn = 1) (F : Nat → Int32) : ansG P K S W F k (-1) := Or.inr ⟨fun p h1 h2 e => by
  have z := h.all hW hS hd h1 h2
  omega, rfl⟩
theorem RI.full (h : RI P K S W so si rd hp hn rk rn dn) (hr : 144 ≤ rn) {c : Nat} (hc : prC P K c) : ∃ i, i < 144 ∧ rk i = c := by
  by_cases q : ∃ i, i < 144 ∧ rk i = c
  · exact q
  · have z : 145 ≤ 144 := inj_le (fun i => if i < 144 then pn (rk i) else pn c) (fun i hi => by
      show (if i < 144 then pn (rk i) else pn c) < 144
      split
      · exact pn_lt (h.pr (by omega)).1
      · exact pn_lt hc.1) (fun i k hi hk e => by
      have e : (if i < 144 then pn (rk i) else pn c) = (if k < 144 then pn (rk k) else pn c) := e
      by_cases q1 : i < 144
      · rw [if_pos q1] at e
        by_cases q2 : k < 144
        · rw [if_pos q2] at e
          exact h.2.2.2.2.2.1.2.2.2.2.1 i k (by omega) (by omega) (pn_inj (h.pr (by omega)).1 (h.pr (by omega)).1 e)
        · rw [if_neg q2] at e
          exact absurd ⟨i, q1, pn_inj (h.pr (by omega)).1 hc.1 e⟩ q
      · rw [if_neg q1] at e
        by_cases q2 : k < 144
        · rw [if_pos q2] at e
          exact absurd ⟨k, q2, pn_inj (h.pr (by omega)).1 hc.1 e.symm⟩ q
        · omega)
    omega
/-- how many are worth at least z -/
theorem RI.atLeast (hW : ∀ j, W j ≤ 9) (hS : ∀ j, S j ≤ 1000) (h : RI P K S W so si rd hp hn rk rn dn) {k : Nat} {z : Int} (hk : k ≤ rn) (h1 : ∀ i, i < k → z ≤ (valC W S (rk i) : Int)) (h2 : (k < rn ∧ (valC W S (rk k) : Int) < z) ∨ (rn ≤ k ∧ dn = 1) ∨ k = 144) : cnt (fun p => prP P K p && decide (z ≤ (valP W S p : Int))) 144 = k := by
  refine cnt_bij k (fun i => pn (rk i)) _ 144 (fun i hi => ?_) (fun i j hi hj e => ?_) (fun o ho hf => ?_)
  · have pi := h.pr (show i < rn by omega)
    refine ⟨pn_lt pi.1, ?_⟩
    simp only [Bool.and_eq_true, decide_eq_true_eq]
    exact ⟨pi.2, by rw [val_pn pi.1]; exact h1 i hi⟩
  · exact h.2.2.2.2.2.1.2.2.2.2.1 i j (by omega) (by omega) (pn_inj (h.pr (by omega)).1 (h.pr (by omega)).1 e)
  · simp only [Bool.and_eq_true, decide_eq_true_eq] at hf
    obtain ⟨f1, f2⟩ := hf
    have co := cd_ok ho
    have po : prC P K (cd o) := ⟨co, by rw [pn_cd ho]; exact f1⟩
    have ev : valP W S o = valC W S (cd o) := by rw [← val_pn co, pn_cd ho]
    rw [ev] at f2
    have fin : ∀ i, i < k → rk i = cd o → ∃ i, i < k ∧ pn (rk i) = o := fun i hi e => ⟨i, hi, by rw [e, pn_cd ho]⟩
    rcases h2 with ⟨a1, a2⟩ | ⟨a1, a2⟩ | a1
    · have ck := (h.pr a1).1
      by_cases q : ∃ i, i < rn ∧ rk i = cd o
      · obtain ⟨i, hi, e⟩ := q
        rcases Nat.lt_or_ge i k with z1 | z1
        · exact fin i z1 e
        · have m := h.mono z1 hi
          rw [e] at m
          have m2 := kap_lt hW hS (lt256 co) (lt256 ck)
          have m3 : valC W S (rk k) < valC W S (cd o) := by omega
          have m4 := m2.mpr (Or.inl m3)
          omega
      · have t := h.2.2.2.2.2.2.1.2 k (cd o) a1 po (fun i hi e => q ⟨i, hi, e⟩)
        rw [kap_lt hW hS (lt256 ck) (lt256 co)] at t
        omega
    · obtain ⟨i, hi, e⟩ := h.2.2.2.2.2.2.2 a2 (cd o) po
      exact fin i (by omega) e
    · obtain ⟨i, hi, e⟩ := h.full (by omega) po
      exact fin i (by omega) e
/-- the least place among the pairs of a kind -/
def ansB (P K S W : Nat → Nat) (T : Nat → Bool) (r : Int32) : Prop := (∃ p, p < 144 ∧ prP P K p = true ∧ T p = true ∧ (∀ q, q < 144 → prP P K q = true → T q = true → bcP P K S W p ≤ bcP P K S W q) ∧ r = nI (bcP P K S W p)) ∨ ((∀ q, q < 144 → prP P K q = true → T q = false) ∧ r = -1)
theorem ansB.uniq {P K S W : Nat → Nat} {T : Nat → Bool} {r r' : Int32} (h : ansB P K S W T r) (h' : ansB P K S W T r') : r = r' := by
  rcases h with ⟨p, a1, a2, a3, a4, a5⟩ | ⟨a1, a2⟩
  · rcases h' with ⟨q, b1, b2, b3, b4, b5⟩ | ⟨b1, b2⟩
    · have e1 := a4 q b1 b2 b3
      have e2 := b4 p a1 a2 a3
      rw [a5, b5, show bcP P K S W p = bcP P K S W q by omega]
    · rw [b1 p a1 a2] at a3
      cases a3
  · rcases h' with ⟨q, b1, b2, b3, b4, b5⟩ | ⟨b1, b2⟩
    · rw [a1 q b1 b2] at b3
      cases b3
    · rw [a2, b2]
theorem RI.bestIn (hW : ∀ j, W j ≤ 9) (hS : ∀ j, S j ≤ 1000) (h : RI P K S W so si rd hp hn rk rn dn) {k : Nat} {T : Nat → Bool} (hk : k < rn) (hT : T (pn (rk k)) = true) (h1 : ∀ i, i < k → T (pn (rk i)) = false) : ansB P K S W T (nI k) := by
  refine Or.inl ⟨pn (rk k), pn_lt (h.pr hk).1, (h.pr hk).2, hT, fun q q1 q2 q3 => ?_, by rw [h.place hW hS hk]⟩
  rw [h.place hW hS hk]
  rcases Nat.lt_or_ge (bcP P K S W q) k with z | z
  · have e := h.at hW hS q1 q2 (by omega)
    rw [e, h1 _ z] at q3
    cases q3
  · exact z
theorem RI.bestOut (hW : ∀ j, W j ≤ 9) (hS : ∀ j, S j ≤ 1000) (h : RI P K S W so si rd hp hn rk rn dn) {k : Nat} {T : Nat → Bool} (h1 : ∀ i, i < k → T (pn (rk i)) = false) (h2 : (rn ≤ k ∧ dn = 1) ∨ (k = 144 ∧ 144 ≤ rn)) : ansB P K S W T (-1) := by
  refine Or.inr ⟨fun q q1 q2 => ?_, rfl⟩
  have pq : prC P K (cd q) := ⟨cd_ok q1, by rw [pn_cd q1]; exact q2⟩
  have key : ∃ i, i < k ∧ rk i = cd q := by
    rcases h2 with ⟨a, b⟩ | ⟨a, b⟩
    · obtain ⟨i, hi, e⟩ := h.2.2.2.2.2.2.2 b (cd q) pq
      exact ⟨i, by omega, e⟩
    · obtain ⟨i, hi, e⟩ := h.full b pq
      exact ⟨i, by omega, e⟩
  obtain ⟨i, hi, e⟩ := key
  have z := h1 i hi
  rw [e, pn_cd q1] at z
  exact z
end SAYS
section PAIRS
def sm (f : Nat → Nat) : Nat → Nat
  | 0 => 0
  | n + 1 => sm f n + f n
theorem sm_congr {f g : Nat → Nat} : ∀ n, (∀ i, i < n → f i = g i) → sm f n = sm g n
  | 0, _ => rfl
  | n + 1, h => by
    show sm f n + f n = sm g n + g n
    rw [sm_congr n (fun i hi => h i (by omega)), h n (by omega)]
theorem sm_add (f g : Nat → Nat) : ∀ n, sm (fun i => f i + g i) n = sm f n + sm g n
  | 0 => rfl
  | n + 1 => by
    show sm (fun i => f i + g i) n + (f n + g n) = (sm f n + f n) + (sm g n + g n)
    rw [sm_add f g n]; omega
theorem sm_zero {f : Nat → Nat} : ∀ n, (∀ i, i < n → f i = 0) → sm f n = 0
  | 0, _ => rfl
  | n + 1, h => by
    show sm f n + f n = 0
    rw [sm_zero n (fun i hi => h i (by omega)), h n (by omega)]
theorem sm_one {f : Nat → Nat} {x : Nat} : ∀ n, x < n → sm (fun i => if i = x then f i else 0) n = f x
  | 0, h => absurd h (by omega)
  | n + 1, h => by
    show sm (fun i => if i = x then f i else 0) n + (if n = x then f n else 0) = f x
    by_cases e : n = x
    · rw [if_pos e, sm_zero n (fun i hi => if_neg (by omega)), e, Nat.zero_add]
    · rw [if_neg e, sm_one n (by omega), Nat.add_zero]
/-- how many entries of list b have the key -/
def wk (P K : Nat → Nat) (b key n : Nat) : Nat := cnt (fun i => (P b).testBit i && (K (12 * b + i) == key)) n
theorem cnt_rows (f : Nat → Bool) : ∀ n, cnt f (12 * n) = sm (fun l => cnt (fun r => f (12 * l + r)) 12) n
  | 0 => rfl
  | n + 1 => by
    have key : ∀ m, cnt f (12 * n + m) = cnt f (12 * n) + cnt (fun r => f (12 * n + r)) m := by
      intro m
      induction m with
      | zero => rfl
      | succ m ih =>
        show cnt f (12 * n + m) + (if f (12 * n + m) = true then 1 else 0) = cnt f (12 * n) + (cnt (fun r => f (12 * n + r)) m + (if f (12 * n + m) = true then 1 else 0))
        rw [ih]; omega
    show cnt f (12 * n + 12) = sm (fun l => cnt (fun r => f (12 * l + r)) 12) n + cnt (fun r => f (12 * n + r)) 12
    rw [key 12, cnt_rows f n]
theorem pairs_row {P K : Nat → Nat} {l : Nat} (hl : l < 12) : cnt (fun r => prP P K (12 * l + r)) 12 = if (P 0).testBit l = true then wk P K 1 (K l) 12 else 0 := by
  have e : ∀ r, r < 12 → prP P K (12 * l + r) = ((P 0).testBit l && (P 1).testBit r && (K l == K (12 + r))) := by
    intro r hr
    unfold prP
    rw [show (12 * l + r) / 12 = l by omega, show (12 * l + r) % 12 = r by omega]
  rw [cnt_congr 12 e]
  by_cases h : (P 0).testBit l = true
  · rw [if_pos h]
    unfold wk
    refine cnt_congr 12 (fun r hr => ?_)
    rw [h, show 12 * 1 + r = 12 + r from rfl, Bool.true_and, Bool.beq_comm]
  · rw [if_neg h]
    refine cnt_zero 12 (fun r hr => ?_)
    rw [Bool.not_eq_true] at h
    rw [h]; rfl
theorem pairs_sum {P K : Nat → Nat} (hK : ∀ j, K j < 8) : ∀ L, sm (fun l => if (P 0).testBit l = true then wk P K 1 (K l) 12 else 0) L = sm (fun key => wk P K 0 key L * wk P K 1 key 12) 8
  | 0 => by
    show 0 = _
    rw [sm_zero 8 (fun i _ => by show 0 * _ = 0; exact Nat.zero_mul _)]
  | L + 1 => by
    show sm (fun l => if (P 0).testBit l = true then wk P K 1 (K l) 12 else 0) L + (if (P 0).testBit L = true then wk P K 1 (K L) 12 else 0) = _
    rw [pairs_sum hK L]
    have e : ∀ key, key < 8 → wk P K 0 key (L + 1) * wk P K 1 key 12 = wk P K 0 key L * wk P K 1 key 12 + (if key = K L then (if (P 0).testBit L = true then wk P K 1 key 12 else 0) else 0) := by
      intro key _
      have e1 : wk P K 0 key (L + 1) = wk P K 0 key L + (if ((P 0).testBit L && (K (12 * 0 + L) == key)) = true then 1 else 0) := rfl
      rw [e1, show 12 * 0 + L = L by omega, Nat.add_mul]
      congr 1
      by_cases h : (P 0).testBit L = true
      · rw [h, Bool.true_and]
        by_cases h2 : key = K L
        · subst h2
          simp
        · have h3 : (K L == key) = false := by simp; exact fun q => h2 q.symm
          rw [h3, if_neg h2]
          simp
      · rw [Bool.not_eq_true] at h
        rw [h]
        simp
    rw [sm_congr 8 e, sm_add, sm_one (f := fun key => if (P 0).testBit L = true then wk P K 1 key 12 else 0) 8 (hK L)]
/-- the pairs, counted one by one and by keys -/
theorem pairs_eq {P K : Nat → Nat} (hK : ∀ j, K j < 8) : cnt (prP P K) 144 = sm (fun key => wk P K 0 key 12 * wk P K 1 key 12) 8 := by
  rw [← pairs_sum hK 12]
  have h := cnt_rows (prP P K) 12
  rw [show 12 * 12 = 144 from rfl] at h
  rw [h]
  exact sm_congr 12 (fun l hl => pairs_row hl)
end PAIRS
end
section
/-! rows of our own: numbers as nI, the two worlds, starts and ends of methods, calls -/
section RWA
def nF (f : Nat → Nat) : Nat → Int32 := fun j => nI (f j)
theorem upd_nF (f : Nat → Nat) (k x : Nat) : upd (nF f) k (nI x) = nF (updN f k x) := by
  funext j
  show (if j = k then nI x else nF f j) = nI (if j = k then x else f j)
  split <;> rfl
theorem nI_b8 : ∀ n, n < 128 → (nI n).toInt8.toInt32 = nI n := by decide +kernel
theorem nI_b16 {n : Nat} (h : n < 32768) : (nI n).toInt16.toInt32 = nI n := by
  apply Int32.toInt_inj.mp
  have h1 : (nI n).toInt = (n : Int) := nI_toInt (by omega)
  rw [Int16.toInt_toInt32, Int32.toInt_toInt16, h1]
  exact Int.bmod_eq_of_le (by omega) (by omega)
theorem nI_nz {n : Nat} (h : n ≤ 1) : nI n &&& 1 = nI n := by
  rcases (show n = 0 ∨ n = 1 by omega) with e | e <;> subst e <;> decide
abbrev vwCl : List vw_C := [(RX0, TX0, 14), (RX1, TX1, 5)]
abbrev bFs (a : Nat → Nat) (bg hn rn dn cu : Nat) : List Value := [.ref (a 0), .ref (a 1), .ref (a 2), .ref (a 3), .int (nI bg), .ref (a 4), .ref (a 5), .ref (a 6), .ref (a 7), .int (nI hn), .ref (a 8), .int (nI rn), .int (nI dn), .int (nI cu)]
/-- the component's cells -/
abbrev bw (h : Nat) (a : Nat → Nat) (d : Nat → ClassId) (P K S Wt : Nat → Nat) (bg : Nat) (so si rd hp : Nat → Nat) (hn : Nat) (rk : Nat → Nat) (rn dn cu : Nat) : va_W :=
  [(h, .inr (0, bFs a bg hn rn dn cu)), (a 0, .inl (d 0, 2, .inl (nF P))), (a 1, .inl (d 1, 24, .inl (nF K))), (a 2, .inl (d 2, 24, .inl (nF S))), (a 3, .inl (d 3, 2, .inl (nF Wt))), (a 4, .inl (d 4, 24, .inl (nF so))), (a 5, .inl (d 5, 2, .inl (nF si))), (a 6, .inl (d 6, 2, .inl (nF rd))), (a 7, .inl (d 7, 144, .inl (nF hp))), (a 8, .inl (d 8, 144, .inl (nF rk)))]
abbrev bty (d : Nat → ClassId) : List (ClassId × FieldType) := [(d 0, .int), (d 1, .byte), (d 2, .short), (d 3, .byte), (d 4, .byte), (d 5, .byte), (d 6, .byte), (d 7, .short), (d 8, .short)]
def bA (h : Nat) (a : Nat → Nat) : Nat → Prop := fun q => q = h ∨ ∃ i, i < 9 ∧ q = a i
def bOK (P K S Wt : Nat → Nat) (bg : Nat) (so si rd hp : Nat → Nat) (hn : Nat) (rk : Nat → Nat) (rn dn cu : Nat) : Prop :=
  (∀ j, P j < 4096) ∧ (∀ j, K j < 8) ∧ (∀ j, S j ≤ 1000) ∧ (∀ j, Wt j ≤ 9) ∧ (∀ j, so j < 12) ∧ (∀ j, si j ≤ 12) ∧ (∀ j, rd j ≤ 12) ∧ (∀ j, cOK (hp j)) ∧ (∀ j, cOK (rk j)) ∧ bg ≤ 1 ∧ hn ≤ 144 ∧ rn ≤ 144 ∧ dn ≤ 1 ∧ cu ≤ 144
/-- the model's cells -/
abbrev mFs (a : Nat → Nat) (cu : Nat) : List Value := [.ref (a 0), .ref (a 1), .ref (a 2), .ref (a 3), .int (nI cu)]
abbrev mw (h : Nat) (a : Nat → Nat) (d : Nat → ClassId) (th K S Wt : Nat → Nat) (cu : Nat) : va_W :=
  [(h, .inr (1, mFs a cu)), (a 0, .inl (d 0, 24, .inl (nF th))), (a 1, .inl (d 1, 24, .inl (nF K))), (a 2, .inl (d 2, 24, .inl (nF S))), (a 3, .inl (d 3, 2, .inl (nF Wt)))]
abbrev mty (d : Nat → ClassId) : List (ClassId × FieldType) := [(d 0, .boolean), (d 1, .int), (d 2, .int), (d 3, .int)]
def mA (h : Nat) (a : Nat → Nat) : Nat → Prop := fun q => q = h ∨ ∃ i, i < 4 ∧ q = a i
def mOK (th K S Wt : Nat → Nat) (cu : Nat) : Prop := (∀ j, th j ≤ 1) ∧ (∀ j, K j < 8) ∧ (∀ j, S j ≤ 1000) ∧ (∀ j, Wt j ≤ 9) ∧ cu ≤ 144
/-- a world at a method's ends, and on its way -/
def gAt (D : va_G) (tys : List (ClassId × FieldType)) (A : Nat → Prop) (ws : va_W) (ok : Prop) (U : State) : Prop := ok ∧ va_P D vwCl ws U.heap ∧ va_K D vwCl tys U ∧ va_D A ws
def gX (D : va_G) (tys : List (ClassId × FieldType)) (A : Nat → Prop) (s : State) (ws : va_W) (ok : Prop) (H : Heap) (locs : List Loc) : Prop := ok ∧ va_P D vwCl ws H ∧ va_K D vwCl tys s ∧ va_D A ws ∧ va_S A s.heap H locs
abbrev bAt (D : va_G) (A : Nat → Prop) (h : Nat) (a : Nat → Nat) (d : Nat → ClassId) (P K S Wt : Nat → Nat) (bg : Nat) (so si rd hp : Nat → Nat) (hn : Nat) (rk : Nat → Nat) (rn dn cu : Nat) (U : State) : Prop := gAt D (bty d) A (bw h a d P K S Wt bg so si rd hp hn rk rn dn cu) (bOK P K S Wt bg so si rd hp hn rk rn dn cu) U
abbrev bX (D : va_G) (A : Nat → Prop) (s : State) (h : Nat) (a : Nat → Nat) (d : Nat → ClassId) (P K S Wt : Nat → Nat) (bg : Nat) (so si rd hp : Nat → Nat) (hn : Nat) (rk : Nat → Nat) (rn dn cu : Nat) (H : Heap) (locs : List Loc) : Prop := gX D (bty d) A s (bw h a d P K S Wt bg so si rd hp hn rk rn dn cu) (bOK P K S Wt bg so si rd hp hn rk rn dn cu) H locs
abbrev mAt (D : va_G) (A : Nat → Prop) (h : Nat) (a : Nat → Nat) (d : Nat → ClassId) (th K S Wt : Nat → Nat) (cu : Nat) (U : State) : Prop := gAt D (mty d) A (mw h a d th K S Wt cu) (mOK th K S Wt cu) U
abbrev mX (D : va_G) (A : Nat → Prop) (s : State) (h : Nat) (a : Nat → Nat) (d : Nat → ClassId) (th K S Wt : Nat → Nat) (cu : Nat) (H : Heap) (locs : List Loc) : Prop := gX D (mty d) A s (mw h a d th K S Wt cu) (mOK th K S Wt cu) H locs
abbrev TT : Nat → Prop := fun _ => True
abbrev FF : Nat → Prop := fun _ => False
theorem bA_in {h : Nat} {a : Nat → Nat} {d : Nat → ClassId} {P K S Wt : Nat → Nat} {bg : Nat} {so si rd hp : Nat → Nat} {hn : Nat} {rk : Nat → Nat} {rn dn cu : Nat} : ∀ (k : Nat) (q : Nat × va_E), (bw h a d P K S Wt bg so si rd hp hn rk rn dn cu)[k]? = some q → bA h a q.1 := by
  intro k q hq
  match k, hq with
  | 0, hq => cases hq; exact Or.inl rfl
  | 1, hq => cases hq; exact Or.inr ⟨0, by decide, rfl⟩
  | 2, hq => cases hq; exact Or.inr ⟨1, by decide, rfl⟩
  | 3, hq => cases hq; exact Or.inr ⟨2, by decide, rfl⟩
  | 4, hq => cases hq; exact Or.inr ⟨3, by decide, rfl⟩
  | 5, hq => cases hq; exact Or.inr ⟨4, by decide, rfl⟩
  | 6, hq => cases hq; exact Or.inr ⟨5, by decide, rfl⟩
  | 7, hq => cases hq; exact Or.inr ⟨6, by decide, rfl⟩
  | 8, hq => cases hq; exact Or.inr ⟨7, by decide, rfl⟩
  | 9, hq => cases hq; exact Or.inr ⟨8, by decide, rfl⟩
  | k + 10, hq => cases hq
theorem mA_in {h : Nat} {a : Nat → Nat} {d : Nat → ClassId} {th K S Wt : Nat → Nat} {cu : Nat} : ∀ (k : Nat) (q : Nat × va_E), (mw h a d th K S Wt cu)[k]? = some q → mA h a q.1 := by
  intro k q hq
  match k, hq with
  | 0, hq => cases hq; exact Or.inl rfl
  | 1, hq => cases hq; exact Or.inr ⟨0, by decide, rfl⟩
  | 2, hq => cases hq; exact Or.inr ⟨1, by decide, rfl⟩
  | 3, hq => cases hq; exact Or.inr ⟨2, by decide, rfl⟩
  | 4, hq => cases hq; exact Or.inr ⟨3, by decide, rfl⟩
  | k + 5, hq => cases hq
/-- the contracts: read only; with an answer; without -/
abbrev cR (l : Launch) (y : MethodName) (cc : ByteArray) (nL : Nat) (ty : FieldType) (fr lo : Nat) (av : List Value) (B : State → Prop) (post : Int32 → Prop) : Prop :=
  Met l y (ws_ y cc nL (some ty)) { frames := fr, cells := 0, slots := 0, locals := lo } (va_Pc av B) (vp_Si post) 0 0 FF
abbrev cI {S : Type} (l : Launch) (y : MethodName) (cc : ByteArray) (nL : Nat) (ty : FieldType) (fr lo : Nat) (av : List Value) (B : State → Prop) (A : Nat → Prop) (post : Int32 → S → Prop) (B' : S → State → Prop) : Prop :=
  Met l y (ws_ y cc nL (some ty)) { frames := fr, cells := 0, slots := 0, locals := lo } (va_Pc av B) (va_Qi post B' A) 0 0 A
abbrev cV {S : Type} (l : Launch) (y : MethodName) (cc : ByteArray) (nL : Nat) (fr lo : Nat) (av : List Value) (B : State → Prop) (A : Nat → Prop) (post : S → Prop) (B' : S → State → Prop) : Prop :=
  Met l y (ws_ y cc nL none) { frames := fr, cells := 0, slots := 0, locals := lo } (va_Pc av B) (va_Qv post B' A) 0 0 A
theorem g_methR {l : Launch} {y : MethodName} {cc : ByteArray} {nL : Nat} {ty : FieldType} {fr lo : Nat} {av : List Value} {D : va_G} {tys : List (ClassId × FieldType)} {ws : va_W} {ok : Prop} {post : Int32 → Prop} {own : String} (hy : plainName y.cls = true) (ho : y.cls = own) (hav : (lg_sl av).length ≤ nL)
    (body : ∀ (p : Program) (e : Env) (R : Room) (s : State) (m : MethodId) (args : Array Value) (below : List Frame) (meth : Method) (c : Code) (Q : State → Prop), CallFix p m c cc nL s args lw_all own → fr ≤ R.frames → lo ≤ R.locals →
      (∀ (v : Int32) (pc : Nat) (ls : Array Slot), post v → narrow ty (.int v) = .int v → decode cc pc = .ok (.ireturn, 1) → W p l e R s m args below meth c s.heap [] 0 0 Q (F0 m pc ls [.int v])) →
      ∀ ls : Array Slot, lv_has ls nL (lv_args 0 av) → gX D tys TT s ws ok s.heap [] → W p l e R s m args below meth c s.heap [] 0 0 Q (F0 m 0 ls [])) : cR l y cc nL ty fr lo av (gAt D tys TT ws ok) post := by
  refine Met.ofW (cc := cc) (maxL := nL) (ret := some ty) hy rfl ?_
  intro p e s m args below meth c s₁ B hml hv
  obtain ⟨rfl, hok, hP, hK, hD0⟩ := hv
  have hts := atoms_spec (ws := ws_ y cc nL (some ty)) B.pre
  have hts : ∀ w ∈ lw_all, w.before _ s = true := fun w h => hts w (List.mem_cons_of_mem _ h)
  have hl := lv_entry av (n := nL) hav
  rw [lg_entry_eq]
  generalize (lg_sl av ++ List.replicate (nL - (lg_sl av).length) Slot.unset).toArray = ls at hl ⊢
  refine body p e _ s m av.toArray below meth c _ ⟨B.exec, B.bytes, hml, by rw [← ho]; exact findClass_of_methodNamed B.named, hts⟩ (Nat.le_refl _) (Nat.le_refl _) ?_ ls hl ⟨hok, hP, hK, hD0, va_S.rf⟩
  intro v pc ls hp hn hd
  exact W.zret (v := v) B.exec B.bytes B.returns hn (fun t ht hW => ⟨v, rfl, hp, ht⟩) (fun _ h => by cases h) hd B.notSynchronized
theorem g_methI {S : Type} {l : Launch} {y : MethodName} {cc : ByteArray} {nL : Nat} {ty : FieldType} {fr lo : Nat} {av : List Value} {D : va_G} {tys : List (ClassId × FieldType)} {A : Nat → Prop} {ws : va_W} {ok : Prop} {post : Int32 → S → Prop} {ws' : S → va_W} {ok' : S → Prop} {own : String} (hy : plainName y.cls = true) (ho : y.cls = own) (hav : (lg_sl av).length ≤ nL) (hA : ∀ (k : Nat) (q : Nat × va_E), ws[k]? = some q → A q.1)
    (body : ∀ (p : Program) (e : Env) (R : Room) (s : State) (m : MethodId) (args : Array Value) (below : List Frame) (meth : Method) (c : Code) (Q : State → Prop), CallFix p m c cc nL s args lw_all own → fr ≤ R.frames → lo ≤ R.locals →
      (∀ (u : S) (v : Int32) (H : Heap) (locs : List Loc) (pc : Nat) (ls : Array Slot), gX D tys A s (ws' u) (ok' u) H locs → post v u → narrow ty (.int v) = .int v → decode cc pc = .ok (.ireturn, 1) → W p l e R s m args below meth c H locs 0 0 Q (F0 m pc ls [.int v])) →
      ∀ ls : Array Slot, lv_has ls nL (lv_args 0 av) → gX D tys A s ws ok s.heap [] → W p l e R s m args below meth c s.heap [] 0 0 Q (F0 m 0 ls [])) : cI l y cc nL ty fr lo av (gAt D tys TT ws ok) A post (fun u => gAt D tys A (ws' u) (ok' u)) := by
  refine Met.ofW (cc := cc) (maxL := nL) (ret := some ty) hy rfl ?_
  intro p e s m args below meth c s₁ B hml hv
  obtain ⟨rfl, hok, hP, hK, hD0⟩ := hv
  have hts := atoms_spec (ws := ws_ y cc nL (some ty)) B.pre
  have hts : ∀ w ∈ lw_all, w.before _ s = true := fun w h => hts w (List.mem_cons_of_mem _ h)
  have hl := lv_entry av (n := nL) hav
  rw [lg_entry_eq]
  generalize (lg_sl av ++ List.replicate (nL - (lg_sl av).length) Slot.unset).toArray = ls at hl ⊢
  refine body p e _ s m av.toArray below meth c _ ⟨B.exec, B.bytes, hml, by rw [← ho]; exact findClass_of_methodNamed B.named, hts⟩ (Nat.le_refl _) (Nat.le_refl _) ?_ ls hl ⟨hok, hP, hK, ⟨hD0.1, hA⟩, va_S.rf⟩
  intro u v H locs pc ls hX hp hn hd
  exact W.zret (v := v) B.exec B.bytes B.returns hn (fun t ht hW => ⟨⟨v, u, rfl, hp, hX.1, by rw [ht]; exact hX.2.1, va_K.moved hW.alike hX.2.2.1, hX.2.2.2.1⟩, hX.2.2.2.2.F ht⟩) hX.2.2.2.2.2.2 hd B.notSynchronized
theorem g_methV {S : Type} {l : Launch} {y : MethodName} {cc : ByteArray} {nL : Nat} {fr lo : Nat} {av : List Value} {D : va_G} {tys : List (ClassId × FieldType)} {A : Nat → Prop} {ws : va_W} {ok : Prop} {post : S → Prop} {ws' : S → va_W} {ok' : S → Prop} {own : String} (hy : plainName y.cls = true) (ho : y.cls = own) (hav : (lg_sl av).length ≤ nL) (hA : ∀ (k : Nat) (q : Nat × va_E), ws[k]? = some q → A q.1)
    (body : ∀ (p : Program) (e : Env) (R : Room) (s : State) (m : MethodId) (args : Array Value) (below : List Frame) (meth : Method) (c : Code) (Q : State → Prop), CallFix p m c cc nL s args lw_all own → fr ≤ R.frames → lo ≤ R.locals →
      (∀ (u : S) (H : Heap) (locs : List Loc) (pc : Nat) (ls : Array Slot), gX D tys A s (ws' u) (ok' u) H locs → post u → decode cc pc = .ok (.return_, 1) → W p l e R s m args below meth c H locs 0 0 Q (F0 m pc ls [])) →
      ∀ ls : Array Slot, lv_has ls nL (lv_args 0 av) → gX D tys A s ws ok s.heap [] → W p l e R s m args below meth c s.heap [] 0 0 Q (F0 m 0 ls [])) : cV l y cc nL fr lo av (gAt D tys TT ws ok) A post (fun u => gAt D tys A (ws' u) (ok' u)) := by
  refine Met.ofW (cc := cc) (maxL := nL) (ret := none) hy rfl ?_
  intro p e s m args below meth c s₁ B hml hv
  obtain ⟨rfl, hok, hP, hK, hD0⟩ := hv
  have hts := atoms_spec (ws := ws_ y cc nL none) B.pre
  have hts : ∀ w ∈ lw_all, w.before _ s = true := fun w h => hts w (List.mem_cons_of_mem _ h)
  have hl := lv_entry av (n := nL) hav
  rw [lg_entry_eq]
  generalize (lg_sl av ++ List.replicate (nL - (lg_sl av).length) Slot.unset).toArray = ls at hl ⊢
  refine body p e _ s m av.toArray below meth c _ ⟨B.exec, B.bytes, hml, by rw [← ho]; exact findClass_of_methodNamed B.named, hts⟩ (Nat.le_refl _) (Nat.le_refl _) ?_ ls hl ⟨hok, hP, hK, ⟨hD0.1, hA⟩, va_S.rf⟩
  intro u H locs pc ls hX hp hd
  exact W.vret B.exec B.bytes B.returns (fun t ht hW => ⟨⟨u, rfl, hp, hX.1, by rw [ht]; exact hX.2.1, va_K.moved hW.alike hX.2.2.1, hX.2.2.2.1⟩, hX.2.2.2.2.F ht⟩) hX.2.2.2.2.2.2 hd B.notSynchronized
end RWA
section RWB
variable {p : Program} {l : Launch} {e : Env} {R : Room} {s : State} {m : MethodId} {args : Array Value} {below : List Frame} {meth : Method} {c : Code} {H : Heap} {locs : List Loc} {Q : State → Prop} {cc code' : ByteArray} {nL nL' idx fr lo pc q0 ci h n : Nat} {own C : String} {D : va_G} {tys : List (ClassId × FieldType)} {A : Nat → Prop} {ws : va_W} {ok : Prop} {y : MethodName} {ty : FieldType} {As rest st0 fs : List Value} {qv : vw_C} {ls : Array Slot}
theorem gAt_blind {av : List Value} : FrameBlind (va_Pc av (gAt D tys A ws ok)) := fun a U g mk q => by
  obtain ⟨q0, q1, qP, qK, qD⟩ := q
  exact ⟨q0, q1, qP, va_K.moved (u := U) (U := U.calling g mk a) (Vm.Alike.refl U.vm) qK, qD⟩
theorem gX.pre {av : List Value} (X : gX D tys A s ws ok H locs) : ∀ U : State, U.heap = H → s.WarmedH U.vm → va_Pc av (gAt D tys TT ws ok) av.toArray U := fun U hU hW => ⟨rfl, X.1, by rw [hU]; exact X.2.1, va_K.moved hW.alike X.2.2.1, X.2.2.2.1.weaken (fun _ _ _ _ => trivial)⟩
/-- a call that reads -/
theorem g_callR {post : Int32 → Prop} (Y : CallFix p m c cc nL s args lw_all own) (X : gX D tys A s ws ok H locs) (hM : cR l y code' nL' ty fr lo (.ref h :: As) (gAt D tys TT ws ok) post) (hG : GoodIn lw_all (wsV own idx C y (ws_ y code' nL' (some ty))))
    (hd : y.cls = C ∧ y.cls ≠ "java/lang/invoke/MethodHandle" ∧ y.cls ≠ "java/lang/invoke/VarHandle" ∧ (parseMethodDescriptor y.desc).map (fun d => d.parameters.length) = some n) (hn : As.length = n) (hR : fr + 1 ≤ R.frames ∧ 8 + (nL' + 11) + lo ≤ R.locals)
    (hc : vwCl[ci]? = some qv) (hC : qv.1 = C) (he : ws[q0]? = some (h, .inr (ci, fs))) (hls : ls.size = nL) (hst : st0 = As.reverse ++ .ref h :: rest) (hW : (rest.map fun v => v.category).sum ≤ 8) (hdg : decode cc pc = .ok (.invokevirtual idx, 3))
    (kk : ∀ r : Int32, post r → W p l e R s m args below meth c H locs 0 0 Q (F0 m (pc + 3) ls (.int r :: rest))) : W p l e R s m args below meth c H locs 0 0 Q (F0 m pc ls st0) :=
  vp_callSi (W.runV (As := As) (rest := rest) (C := C) Y hM (cwV n Y.2.2.2.2 hG rfl rfl rfl hd hR) ⟨gAt_blind, by rw [← hC]; exact va_recv X.2.2.1 X.2.1 hc he, X.pre⟩ rfl hn hls hst (lv_room hW) hdg ⟨Nat.zero_le _, Nat.zero_le _⟩) kk
/-- a call with an answer, over the caller's own world -/
theorem g_callI {S : Type} {post : Int32 → S → Prop} {ws' : S → va_W} {ok' : S → Prop} (Y : CallFix p m c cc nL s args lw_all own) (X : gX D tys A s ws ok H locs) (hM : cI l y code' nL' ty fr lo (.ref h :: As) (gAt D tys TT ws ok) A post (fun u => gAt D tys A (ws' u) (ok' u))) (hG : GoodIn lw_all (wsV own idx C y (ws_ y code' nL' (some ty))))
    (hd : y.cls = C ∧ y.cls ≠ "java/lang/invoke/MethodHandle" ∧ y.cls ≠ "java/lang/invoke/VarHandle" ∧ (parseMethodDescriptor y.desc).map (fun d => d.parameters.length) = some n) (hn : As.length = n) (hR : fr + 1 ≤ R.frames ∧ 8 + (nL' + 11) + lo ≤ R.locals)
    (hc : vwCl[ci]? = some qv) (hC : qv.1 = C) (he : ws[q0]? = some (h, .inr (ci, fs))) (hls : ls.size = nL) (hst : st0 = As.reverse ++ .ref h :: rest) (hW : (rest.map fun v => v.category).sum ≤ 8) (hdg : decode cc pc = .ok (.invokevirtual idx, 3))
    (kk : ∀ (r : Int32) (u : S) (H1 : Heap) (locs1 : List Loc), post r u → gX D tys A s (ws' u) (ok' u) H1 locs1 → W p l e R s m args below meth c H1 locs1 0 0 Q (F0 m (pc + 3) ls (.int r :: rest))) : W p l e R s m args below meth c H locs 0 0 Q (F0 m pc ls st0) :=
  va_calli (va_runV (As := As) (rest := rest) (C := C) Y hM (cwV n Y.2.2.2.2 hG rfl rfl rfl hd hR) ⟨gAt_blind, by rw [← hC]; exact va_recv X.2.2.1 X.2.1 hc he, X.pre⟩ rfl hn hls hst (lv_room hW) hdg ⟨Nat.zero_le _, Nat.zero_le _⟩) X.2.2.2.2 (fun _ _ h => h) (fun _ h => h)
    (fun r u t H1 locs1 ht hvm hp hB _ _ hS => kk r u H1 locs1 hp ⟨hB.1, by rw [← ht]; exact hB.2.1, va_K.moved hvm.symm hB.2.2.1, hB.2.2.2, hS⟩)
theorem g_callV {S : Type} {post : S → Prop} {ws' : S → va_W} {ok' : S → Prop} (Y : CallFix p m c cc nL s args lw_all own) (X : gX D tys A s ws ok H locs) (hM : cV l y code' nL' fr lo (.ref h :: As) (gAt D tys TT ws ok) A post (fun u => gAt D tys A (ws' u) (ok' u))) (hG : GoodIn lw_all (wsV own idx C y (ws_ y code' nL' none)))
    (hd : y.cls = C ∧ y.cls ≠ "java/lang/invoke/MethodHandle" ∧ y.cls ≠ "java/lang/invoke/VarHandle" ∧ (parseMethodDescriptor y.desc).map (fun d => d.parameters.length) = some n) (hn : As.length = n) (hR : fr + 1 ≤ R.frames ∧ 8 + (nL' + 11) + lo ≤ R.locals)
    (hc : vwCl[ci]? = some qv) (hC : qv.1 = C) (he : ws[q0]? = some (h, .inr (ci, fs))) (hls : ls.size = nL) (hst : st0 = As.reverse ++ .ref h :: rest) (hW : (rest.map fun v => v.category).sum ≤ 8) (hdg : decode cc pc = .ok (.invokevirtual idx, 3))
    (kk : ∀ (u : S) (H1 : Heap) (locs1 : List Loc), post u → gX D tys A s (ws' u) (ok' u) H1 locs1 → W p l e R s m args below meth c H1 locs1 0 0 Q (F0 m (pc + 3) ls rest)) : W p l e R s m args below meth c H locs 0 0 Q (F0 m pc ls st0) :=
  va_callv (va_runV (As := As) (rest := rest) (C := C) Y hM (cwV n Y.2.2.2.2 hG rfl rfl rfl hd hR) ⟨gAt_blind, by rw [← hC]; exact va_recv X.2.2.1 X.2.1 hc he, X.pre⟩ rfl hn hls hst (lv_room hW) hdg ⟨Nat.zero_le _, Nat.zero_le _⟩) X.2.2.2.2 (fun _ _ h => h) (fun _ h => h)
    (fun u t H1 locs1 ht hvm hp hB _ _ hS => kk u H1 locs1 hp ⟨hB.1, by rw [← ht]; exact hB.2.1, va_K.moved hvm.symm hB.2.2.1, hB.2.2.2, hS⟩)
end RWB
end
section
/-! rows of our own: fields, arrays, numbers (written by gen/rows2.py) -/
section RWP
theorem nz_fit {x : Nat} (h : x ≤ 1) : fits .boolean (.int (nI x)) = true := by
  rcases (show x = 0 ∨ x = 1 by omega) with e | e <;> subst e <;> decide +kernel
theorem nz_nar {x : Nat} (h : x ≤ 1) : vp_nar .boolean (nI x) = nI x := by
  show nI x &&& 1 = nI x
  exact nI_nz h
theorem s_lw : ∀ n, n < 32 → ((nI n &&& 31).toBitVec.smod 32).toNat = n := by decide +kernel
theorem n_andI (a b : Nat) : nI a &&& nI b = nI (a &&& b) := by
  apply Int32.toBitVec_inj.mp
  show BitVec.ofNat 32 a &&& BitVec.ofNat 32 b = BitVec.ofNat 32 (a &&& b)
  exact BitVec.ofNat_and.symm
theorem n_orI (a b : Nat) : nI a ||| nI b = nI (a ||| b) := by
  apply Int32.toBitVec_inj.mp
  show BitVec.ofNat 32 a ||| BitVec.ofNat 32 b = BitVec.ofNat 32 (a ||| b)
  exact BitVec.ofNat_or.symm
theorem n_xorI (a b : Nat) : nI a ^^^ nI b = nI (a ^^^ b) := by
  apply Int32.toBitVec_inj.mp
  show BitVec.ofNat 32 a ^^^ BitVec.ofNat 32 b = BitVec.ofNat 32 (a ^^^ b)
  exact BitVec.ofNat_xor.symm
theorem n_le0 {x : Nat} (hx : x < 2 ^ 31) (h : nI x ≤ 0) : x = 0 := by
  rw [← nI_0, nI_leI hx (by decide)] at h
  omega
theorem n_nle0 {x : Nat} (hx : x < 2 ^ 31) (h : ¬ nI x ≤ 0) : 0 < x := by
  rw [← nI_0, nI_leI hx (by decide)] at h
  omega
theorem n_gt0 {x : Nat} (hx : x < 2 ^ 31) (h : 0 < nI x) : 0 < x := by
  rw [← nI_0, nI_ltI (by decide) hx] at h
  exact h
theorem n_ngt0 {x : Nat} (hx : x < 2 ^ 31) (h : ¬ 0 < nI x) : x = 0 := by
  rw [← nI_0, nI_ltI (by decide) hx] at h
  omega
end RWP
section RWC
variable {p : Program} {l : Launch} {e : Env} {R : Room} {s : State} {m : MethodId} {args : Array Value} {below : List Frame} {meth : Method} {c : Code} {H : Heap} {locs : List Loc} {Q : State → Prop} {cc : ByteArray} {nL pc h : Nat} {a : Nat → Nat} {d : Nat → ClassId} {D : va_G} {A : Nat → Prop} {rest : List Value} {ls : Array Slot} {P K S Wt : Nat → Nat} {bg : Nat} {so si rd hp : Nat → Nat} {hn : Nat} {rk : Nat → Nat} {rn dn cu : Nat}
theorem bg_0 (Y : CallFix p m c cc nL s args lw_all "BestPairs") (X : bX D A s h a d P K S Wt bg so si rd hp hn rk rn dn cu H locs) (hdg : decode cc pc = .ok (.getfield 7, 3)) (kk : W p l e R s m args below meth c H locs 0 0 Q (F0 m (pc + 3) ls (.ref (a 0) :: rest))) : W p l e R s m args below meth c H locs 0 0 Q (F0 m pc ls (.ref h :: rest)) :=
  va_get (D := D) (ci := 0) (v := .ref (a 0)) (C := RX0) (T := TX0) (N := 14) Y.1 Y.2.1 Y.2.2.2.2 in_X0 Y.2.2.2.1 X.2.2.1 X.2.1 0 rfl rfl 0 (by decide) (Y.2.2.2.2 _ q33) (fun _ h9 => h9) rfl hdg kk
theorem bg_1 (Y : CallFix p m c cc nL s args lw_all "BestPairs") (X : bX D A s h a d P K S Wt bg so si rd hp hn rk rn dn cu H locs) (hdg : decode cc pc = .ok (.getfield 13, 3)) (kk : W p l e R s m args below meth c H locs 0 0 Q (F0 m (pc + 3) ls (.ref (a 1) :: rest))) : W p l e R s m args below meth c H locs 0 0 Q (F0 m pc ls (.ref h :: rest)) :=
  va_get (D := D) (ci := 0) (v := .ref (a 1)) (C := RX0) (T := TX0) (N := 14) Y.1 Y.2.1 Y.2.2.2.2 in_X0 Y.2.2.2.1 X.2.2.1 X.2.1 0 rfl rfl 1 (by decide) (Y.2.2.2.2 _ q34) (fun _ h9 => h9) rfl hdg kk
theorem bg_2 (Y : CallFix p m c cc nL s args lw_all "BestPairs") (X : bX D A s h a d P K S Wt bg so si rd hp hn rk rn dn cu H locs) (hdg : decode cc pc = .ok (.getfield 17, 3)) (kk : W p l e R s m args below meth c H locs 0 0 Q (F0 m (pc + 3) ls (.ref (a 2) :: rest))) : W p l e R s m args below meth c H locs 0 0 Q (F0 m pc ls (.ref h :: rest)) :=
  va_get (D := D) (ci := 0) (v := .ref (a 2)) (C := RX0) (T := TX0) (N := 14) Y.1 Y.2.1 Y.2.2.2.2 in_X0 Y.2.2.2.1 X.2.2.1 X.2.1 0 rfl rfl 2 (by decide) (Y.2.2.2.2 _ q35) (fun _ h9 => h9) rfl hdg kk
theorem bg_3 (Y : CallFix p m c cc nL s args lw_all "BestPairs") (X : bX D A s h a d P K S Wt bg so si rd hp hn rk rn dn cu H locs) (hdg : decode cc pc = .ok (.getfield 21, 3)) (kk : W p l e R s m args below meth c H locs 0 0 Q (F0 m (pc + 3) ls (.ref (a 3) :: rest))) : W p l e R s m args below meth c H locs 0 0 Q (F0 m pc ls (.ref h :: rest)) :=
  va_get (D := D) (ci := 0) (v := .ref (a 3)) (C := RX0) (T := TX0) (N := 14) Y.1 Y.2.1 Y.2.2.2.2 in_X0 Y.2.2.2.1 X.2.2.1 X.2.1 0 rfl rfl 3 (by decide) (Y.2.2.2.2 _ q36) (fun _ h9 => h9) rfl hdg kk
theorem bg_4 (Y : CallFix p m c cc nL s args lw_all "BestPairs") (X : bX D A s h a d P K S Wt bg so si rd hp hn rk rn dn cu H locs) (hdg : decode cc pc = .ok (.getfield 43, 3)) (kk : bg ≤ 1 → W p l e R s m args below meth c H locs 0 0 Q (F0 m (pc + 3) ls (.int (nI bg) :: rest))) : W p l e R s m args below meth c H locs 0 0 Q (F0 m pc ls (.ref h :: rest)) :=
  va_get (D := D) (ci := 0) (v := .int (nI bg)) (C := RX0) (T := TX0) (N := 14) Y.1 Y.2.1 Y.2.2.2.2 in_X0 Y.2.2.2.1 X.2.2.1 X.2.1 0 rfl rfl 4 (by decide) (Y.2.2.2.2 _ q37) (fun _ h9 => h9) rfl hdg (kk X.1.2.2.2.2.2.2.2.2.2.1)
theorem bg_5 (Y : CallFix p m c cc nL s args lw_all "BestPairs") (X : bX D A s h a d P K S Wt bg so si rd hp hn rk rn dn cu H locs) (hdg : decode cc pc = .ok (.getfield 24, 3)) (kk : W p l e R s m args below meth c H locs 0 0 Q (F0 m (pc + 3) ls (.ref (a 4) :: rest))) : W p l e R s m args below meth c H locs 0 0 Q (F0 m pc ls (.ref h :: rest)) :=
  va_get (D := D) (ci := 0) (v := .ref (a 4)) (C := RX0) (T := TX0) (N := 14) Y.1 Y.2.1 Y.2.2.2.2 in_X0 Y.2.2.2.1 X.2.2.1 X.2.1 0 rfl rfl 5 (by decide) (Y.2.2.2.2 _ q38) (fun _ h9 => h9) rfl hdg kk
theorem bg_6 (Y : CallFix p m c cc nL s args lw_all "BestPairs") (X : bX D A s h a d P K S Wt bg so si rd hp hn rk rn dn cu H locs) (hdg : decode cc pc = .ok (.getfield 27, 3)) (kk : W p l e R s m args below meth c H locs 0 0 Q (F0 m (pc + 3) ls (.ref (a 5) :: rest))) : W p l e R s m args below meth c H locs 0 0 Q (F0 m pc ls (.ref h :: rest)) :=
  va_get (D := D) (ci := 0) (v := .ref (a 5)) (C := RX0) (T := TX0) (N := 14) Y.1 Y.2.1 Y.2.2.2.2 in_X0 Y.2.2.2.1 X.2.2.1 X.2.1 0 rfl rfl 6 (by decide) (Y.2.2.2.2 _ q39) (fun _ h9 => h9) rfl hdg kk
theorem bg_7 (Y : CallFix p m c cc nL s args lw_all "BestPairs") (X : bX D A s h a d P K S Wt bg so si rd hp hn rk rn dn cu H locs) (hdg : decode cc pc = .ok (.getfield 30, 3)) (kk : W p l e R s m args below meth c H locs 0 0 Q (F0 m (pc + 3) ls (.ref (a 6) :: rest))) : W p l e R s m args below meth c H locs 0 0 Q (F0 m pc ls (.ref h :: rest)) :=
  va_get (D := D) (ci := 0) (v := .ref (a 6)) (C := RX0) (T := TX0) (N := 14) Y.1 Y.2.1 Y.2.2.2.2 in_X0 Y.2.2.2.1 X.2.2.1 X.2.1 0 rfl rfl 7 (by decide) (Y.2.2.2.2 _ q40) (fun _ h9 => h9) rfl hdg kk
theorem bg_8 (Y : CallFix p m c cc nL s args lw_all "BestPairs") (X : bX D A s h a d P K S Wt bg so si rd hp hn rk rn dn cu H locs) (hdg : decode cc pc = .ok (.getfield 33, 3)) (kk : W p l e R s m args below meth c H locs 0 0 Q (F0 m (pc + 3) ls (.ref (a 7) :: rest))) : W p l e R s m args below meth c H locs 0 0 Q (F0 m pc ls (.ref h :: rest)) :=
  va_get (D := D) (ci := 0) (v := .ref (a 7)) (C := RX0) (T := TX0) (N := 14) Y.1 Y.2.1 Y.2.2.2.2 in_X0 Y.2.2.2.1 X.2.2.1 X.2.1 0 rfl rfl 8 (by decide) (Y.2.2.2.2 _ q41) (fun _ h9 => h9) rfl hdg kk
theorem bg_9 (Y : CallFix p m c cc nL s args lw_all "BestPairs") (X : bX D A s h a d P K S Wt bg so si rd hp hn rk rn dn cu H locs) (hdg : decode cc pc = .ok (.getfield 69, 3)) (kk : hn ≤ 144 → W p l e R s m args below meth c H locs 0 0 Q (F0 m (pc + 3) ls (.int (nI hn) :: rest))) : W p l e R s m args below meth c H locs 0 0 Q (F0 m pc ls (.ref h :: rest)) :=
  va_get (D := D) (ci := 0) (v := .int (nI hn)) (C := RX0) (T := TX0) (N := 14) Y.1 Y.2.1 Y.2.2.2.2 in_X0 Y.2.2.2.1 X.2.2.1 X.2.1 0 rfl rfl 9 (by decide) (Y.2.2.2.2 _ q42) (fun _ h9 => h9) rfl hdg (kk X.1.2.2.2.2.2.2.2.2.2.2.1)
theorem bg_10 (Y : CallFix p m c cc nL s args lw_all "BestPairs") (X : bX D A s h a d P K S Wt bg so si rd hp hn rk rn dn cu H locs) (hdg : decode cc pc = .ok (.getfield 36, 3)) (kk : W p l e R s m args below meth c H locs 0 0 Q (F0 m (pc + 3) ls (.ref (a 8) :: rest))) : W p l e R s m args below meth c H locs 0 0 Q (F0 m pc ls (.ref h :: rest)) :=
  va_get (D := D) (ci := 0) (v := .ref (a 8)) (C := RX0) (T := TX0) (N := 14) Y.1 Y.2.1 Y.2.2.2.2 in_X0 Y.2.2.2.1 X.2.2.1 X.2.1 0 rfl rfl 10 (by decide) (Y.2.2.2.2 _ q43) (fun _ h9 => h9) rfl hdg kk
theorem bg_11 (Y : CallFix p m c cc nL s args lw_all "BestPairs") (X : bX D A s h a d P K S Wt bg so si rd hp hn rk rn dn cu H locs) (hdg : decode cc pc = .ok (.getfield 72, 3)) (kk : rn ≤ 144 → W p l e R s m args below meth c H locs 0 0 Q (F0 m (pc + 3) ls (.int (nI rn) :: rest))) : W p l e R s m args below meth c H locs 0 0 Q (F0 m pc ls (.ref h :: rest)) :=
  va_get (D := D) (ci := 0) (v := .int (nI rn)) (C := RX0) (T := TX0) (N := 14) Y.1 Y.2.1 Y.2.2.2.2 in_X0 Y.2.2.2.1 X.2.2.1 X.2.1 0 rfl rfl 11 (by decide) (Y.2.2.2.2 _ q44) (fun _ h9 => h9) rfl hdg (kk X.1.2.2.2.2.2.2.2.2.2.2.2.1)
theorem bg_12 (Y : CallFix p m c cc nL s args lw_all "BestPairs") (X : bX D A s h a d P K S Wt bg so si rd hp hn rk rn dn cu H locs) (hdg : decode cc pc = .ok (.getfield 66, 3)) (kk : dn ≤ 1 → W p l e R s m args below meth c H locs 0 0 Q (F0 m (pc + 3) ls (.int (nI dn) :: rest))) : W p l e R s m args below meth c H locs 0 0 Q (F0 m pc ls (.ref h :: rest)) :=
  va_get (D := D) (ci := 0) (v := .int (nI dn)) (C := RX0) (T := TX0) (N := 14) Y.1 Y.2.1 Y.2.2.2.2 in_X0 Y.2.2.2.1 X.2.2.1 X.2.1 0 rfl rfl 12 (by decide) (Y.2.2.2.2 _ q45) (fun _ h9 => h9) rfl hdg (kk X.1.2.2.2.2.2.2.2.2.2.2.2.2.1)
theorem bg_13 (Y : CallFix p m c cc nL s args lw_all "BestPairs") (X : bX D A s h a d P K S Wt bg so si rd hp hn rk rn dn cu H locs) (hdg : decode cc pc = .ok (.getfield 47, 3)) (kk : cu ≤ 144 → W p l e R s m args below meth c H locs 0 0 Q (F0 m (pc + 3) ls (.int (nI cu) :: rest))) : W p l e R s m args below meth c H locs 0 0 Q (F0 m pc ls (.ref h :: rest)) :=
  va_get (D := D) (ci := 0) (v := .int (nI cu)) (C := RX0) (T := TX0) (N := 14) Y.1 Y.2.1 Y.2.2.2.2 in_X0 Y.2.2.2.1 X.2.2.1 X.2.1 0 rfl rfl 13 (by decide) (Y.2.2.2.2 _ q46) (fun _ h9 => h9) rfl hdg (kk X.1.2.2.2.2.2.2.2.2.2.2.2.2.2)
theorem bp_4 (Y : CallFix p m c cc nL s args lw_all "BestPairs") (X : bX D A s h a d P K S Wt bg so si rd hp hn rk rn dn cu H locs) {x : Nat} (hx : x ≤ 1) (hdg : decode cc pc = .ok (.putfield 43, 3)) (kk : ∀ (H1 : Heap) (locs1 : List Loc), bX D A s h a d P K S Wt x so si rd hp hn rk rn dn cu H1 locs1 → W p l e R s m args below meth c H1 locs1 0 0 Q (F0 m (pc + 3) ls (rest))) : W p l e R s m args below meth c H locs 0 0 Q (F0 m pc ls (.int (nI x) :: .ref h :: rest)) :=
  va_put (D := D) (ci := 0) (v := .int (nI x)) (ty := .boolean) (C := RX0) (T := TX0) (N := 14) Y.1 Y.2.1 Y.2.2.2.2 in_X0 tyX0 tyX0_ok nmX0 Y.2.2.2.1 X.2.2.1 X.2.1 X.2.2.2.1 X.2.2.2.2 0 rfl rfl 4 (by decide) (Y.2.2.2.2 _ q37) (fun _ h9 => h9) rfl (by decide +kernel) (by show Value.int (nI x &&& 1) = _; rw [nI_nz hx]) (nz_fit hx) (Nat.le_of_ble_eq_true rfl) hdg (fun H1 locs1 hP hD hS => kk H1 locs1 ⟨⟨X.1.1, X.1.2.1, X.1.2.2.1, X.1.2.2.2.1, X.1.2.2.2.2.1, X.1.2.2.2.2.2.1, X.1.2.2.2.2.2.2.1, X.1.2.2.2.2.2.2.2.1, X.1.2.2.2.2.2.2.2.2.1, hx, X.1.2.2.2.2.2.2.2.2.2.2.1, X.1.2.2.2.2.2.2.2.2.2.2.2.1, X.1.2.2.2.2.2.2.2.2.2.2.2.2.1, X.1.2.2.2.2.2.2.2.2.2.2.2.2.2⟩, hP, X.2.2.1, hD, hS⟩)
theorem bp_9 (Y : CallFix p m c cc nL s args lw_all "BestPairs") (X : bX D A s h a d P K S Wt bg so si rd hp hn rk rn dn cu H locs) {x : Nat} (hx : x ≤ 144) (hdg : decode cc pc = .ok (.putfield 69, 3)) (kk : ∀ (H1 : Heap) (locs1 : List Loc), bX D A s h a d P K S Wt bg so si rd hp x rk rn dn cu H1 locs1 → W p l e R s m args below meth c H1 locs1 0 0 Q (F0 m (pc + 3) ls (rest))) : W p l e R s m args below meth c H locs 0 0 Q (F0 m pc ls (.int (nI x) :: .ref h :: rest)) :=
  va_put (D := D) (ci := 0) (v := .int (nI x)) (ty := .int) (C := RX0) (T := TX0) (N := 14) Y.1 Y.2.1 Y.2.2.2.2 in_X0 tyX0 tyX0_ok nmX0 Y.2.2.2.1 X.2.2.1 X.2.1 X.2.2.2.1 X.2.2.2.2 0 rfl rfl 9 (by decide) (Y.2.2.2.2 _ q42) (fun _ h9 => h9) rfl (by decide +kernel) rfl rfl (Nat.le_of_ble_eq_true rfl) hdg (fun H1 locs1 hP hD hS => kk H1 locs1 ⟨⟨X.1.1, X.1.2.1, X.1.2.2.1, X.1.2.2.2.1, X.1.2.2.2.2.1, X.1.2.2.2.2.2.1, X.1.2.2.2.2.2.2.1, X.1.2.2.2.2.2.2.2.1, X.1.2.2.2.2.2.2.2.2.1, X.1.2.2.2.2.2.2.2.2.2.1, hx, X.1.2.2.2.2.2.2.2.2.2.2.2.1, X.1.2.2.2.2.2.2.2.2.2.2.2.2.1, X.1.2.2.2.2.2.2.2.2.2.2.2.2.2⟩, hP, X.2.2.1, hD, hS⟩)
theorem bp_11 (Y : CallFix p m c cc nL s args lw_all "BestPairs") (X : bX D A s h a d P K S Wt bg so si rd hp hn rk rn dn cu H locs) {x : Nat} (hx : x ≤ 144) (hdg : decode cc pc = .ok (.putfield 72, 3)) (kk : ∀ (H1 : Heap) (locs1 : List Loc), bX D A s h a d P K S Wt bg so si rd hp hn rk x dn cu H1 locs1 → W p l e R s m args below meth c H1 locs1 0 0 Q (F0 m (pc + 3) ls (rest))) : W p l e R s m args below meth c H locs 0 0 Q (F0 m pc ls (.int (nI x) :: .ref h :: rest)) :=
  va_put (D := D) (ci := 0) (v := .int (nI x)) (ty := .int) (C := RX0) (T := TX0) (N := 14) Y.1 Y.2.1 Y.2.2.2.2 in_X0 tyX0 tyX0_ok nmX0 Y.2.2.2.1 X.2.2.1 X.2.1 X.2.2.2.1 X.2.2.2.2 0 rfl rfl 11 (by decide) (Y.2.2.2.2 _ q44) (fun _ h9 => h9) rfl (by decide +kernel) rfl rfl (Nat.le_of_ble_eq_true rfl) hdg (fun H1 locs1 hP hD hS => kk H1 locs1 ⟨⟨X.1.1, X.1.2.1, X.1.2.2.1, X.1.2.2.2.1, X.1.2.2.2.2.1, X.1.2.2.2.2.2.1, X.1.2.2.2.2.2.2.1, X.1.2.2.2.2.2.2.2.1, X.1.2.2.2.2.2.2.2.2.1, X.1.2.2.2.2.2.2.2.2.2.1, X.1.2.2.2.2.2.2.2.2.2.2.1, hx, X.1.2.2.2.2.2.2.2.2.2.2.2.2.1, X.1.2.2.2.2.2.2.2.2.2.2.2.2.2⟩, hP, X.2.2.1, hD, hS⟩)
theorem bp_12 (Y : CallFix p m c cc nL s args lw_all "BestPairs") (X : bX D A s h a d P K S Wt bg so si rd hp hn rk rn dn cu H locs) {x : Nat} (hx : x ≤ 1) (hdg : decode cc pc = .ok (.putfield 66, 3)) (kk : ∀ (H1 : Heap) (locs1 : List Loc), bX D A s h a d P K S Wt bg so si rd hp hn rk rn x cu H1 locs1 → W p l e R s m args below meth c H1 locs1 0 0 Q (F0 m (pc + 3) ls (rest))) : W p l e R s m args below meth c H locs 0 0 Q (F0 m pc ls (.int (nI x) :: .ref h :: rest)) :=
  va_put (D := D) (ci := 0) (v := .int (nI x)) (ty := .boolean) (C := RX0) (T := TX0) (N := 14) Y.1 Y.2.1 Y.2.2.2.2 in_X0 tyX0 tyX0_ok nmX0 Y.2.2.2.1 X.2.2.1 X.2.1 X.2.2.2.1 X.2.2.2.2 0 rfl rfl 12 (by decide) (Y.2.2.2.2 _ q45) (fun _ h9 => h9) rfl (by decide +kernel) (by show Value.int (nI x &&& 1) = _; rw [nI_nz hx]) (nz_fit hx) (Nat.le_of_ble_eq_true rfl) hdg (fun H1 locs1 hP hD hS => kk H1 locs1 ⟨⟨X.1.1, X.1.2.1, X.1.2.2.1, X.1.2.2.2.1, X.1.2.2.2.2.1, X.1.2.2.2.2.2.1, X.1.2.2.2.2.2.2.1, X.1.2.2.2.2.2.2.2.1, X.1.2.2.2.2.2.2.2.2.1, X.1.2.2.2.2.2.2.2.2.2.1, X.1.2.2.2.2.2.2.2.2.2.2.1, X.1.2.2.2.2.2.2.2.2.2.2.2.1, hx, X.1.2.2.2.2.2.2.2.2.2.2.2.2.2⟩, hP, X.2.2.1, hD, hS⟩)
theorem bp_13 (Y : CallFix p m c cc nL s args lw_all "BestPairs") (X : bX D A s h a d P K S Wt bg so si rd hp hn rk rn dn cu H locs) {x : Nat} (hx : x ≤ 144) (hdg : decode cc pc = .ok (.putfield 47, 3)) (kk : ∀ (H1 : Heap) (locs1 : List Loc), bX D A s h a d P K S Wt bg so si rd hp hn rk rn dn x H1 locs1 → W p l e R s m args below meth c H1 locs1 0 0 Q (F0 m (pc + 3) ls (rest))) : W p l e R s m args below meth c H locs 0 0 Q (F0 m pc ls (.int (nI x) :: .ref h :: rest)) :=
  va_put (D := D) (ci := 0) (v := .int (nI x)) (ty := .int) (C := RX0) (T := TX0) (N := 14) Y.1 Y.2.1 Y.2.2.2.2 in_X0 tyX0 tyX0_ok nmX0 Y.2.2.2.1 X.2.2.1 X.2.1 X.2.2.2.1 X.2.2.2.2 0 rfl rfl 13 (by decide) (Y.2.2.2.2 _ q46) (fun _ h9 => h9) rfl (by decide +kernel) rfl rfl (Nat.le_of_ble_eq_true rfl) hdg (fun H1 locs1 hP hD hS => kk H1 locs1 ⟨⟨X.1.1, X.1.2.1, X.1.2.2.1, X.1.2.2.2.1, X.1.2.2.2.2.1, X.1.2.2.2.2.2.1, X.1.2.2.2.2.2.2.1, X.1.2.2.2.2.2.2.2.1, X.1.2.2.2.2.2.2.2.2.1, X.1.2.2.2.2.2.2.2.2.2.1, X.1.2.2.2.2.2.2.2.2.2.2.1, X.1.2.2.2.2.2.2.2.2.2.2.2.1, X.1.2.2.2.2.2.2.2.2.2.2.2.2.1, hx⟩, hP, X.2.2.1, hD, hS⟩)
theorem bl_0 (Y : CallFix p m c cc nL s args lw_all "BestPairs") (X : bX D A s h a d P K S Wt bg so si rd hp hn rk rn dn cu H locs) {j : Nat} (hj : j < 2) (hdg : decode cc pc = .ok (.iaload, 1)) (kk : P j < 4096 → W p l e R s m args below meth c H locs 0 0 Q (F0 m (pc + 1) ls (.int (nI (P j)) :: rest))) : W p l e R s m args below meth c H locs 0 0 Q (F0 m pc ls (.int (nI j) :: .ref (a 0) :: rest)) := by
  refine va_iald Y.1 Y.2.1 X.2.2.1 X.2.1 1 0 rfl rfl (vp_in_nI hj (by decide)) hdg ?_
  rw [nI_clamp (show j < 2 ^ 31 by omega)]
  exact kk (X.1.1 j)
theorem bs_0 (Y : CallFix p m c cc nL s args lw_all "BestPairs") (X : bX D A s h a d P K S Wt bg so si rd hp hn rk rn dn cu H locs) {j x : Nat} (hj : j < 2) (hx : x < 4096) (hdg : decode cc pc = .ok (.iastore, 1)) (kk : ∀ (H1 : Heap) (locs1 : List Loc), bX D A s h a d (updN P j x) K S Wt bg so si rd hp hn rk rn dn cu H1 locs1 → W p l e R s m args below meth c H1 locs1 0 0 Q (F0 m (pc + 1) ls (rest))) : W p l e R s m args below meth c H locs 0 0 Q (F0 m pc ls (.int (nI x) :: .int (nI j) :: .ref (a 0) :: rest)) := by
  refine va_iast Y.1 Y.2.1 X.2.2.1 X.2.1 X.2.2.2.1 X.2.2.2.2 1 0 rfl rfl (vp_in_nI hj (by decide)) hdg (fun H1 locs1 hP hD hS => ?_)
  rw [nI_clamp (show j < 2 ^ 31 by omega), upd_nF] at hP hD
  exact kk H1 locs1 ⟨⟨updN_b (p := fun z => z < 4096) X.1.1 hx, X.1.2.1, X.1.2.2.1, X.1.2.2.2.1, X.1.2.2.2.2.1, X.1.2.2.2.2.2.1, X.1.2.2.2.2.2.2.1, X.1.2.2.2.2.2.2.2.1, X.1.2.2.2.2.2.2.2.2.1, X.1.2.2.2.2.2.2.2.2.2.1, X.1.2.2.2.2.2.2.2.2.2.2.1, X.1.2.2.2.2.2.2.2.2.2.2.2.1, X.1.2.2.2.2.2.2.2.2.2.2.2.2.1, X.1.2.2.2.2.2.2.2.2.2.2.2.2.2⟩, hP, X.2.2.1, hD, hS⟩
theorem bl_1 (Y : CallFix p m c cc nL s args lw_all "BestPairs") (X : bX D A s h a d P K S Wt bg so si rd hp hn rk rn dn cu H locs) {j : Nat} (hj : j < 24) (hdg : decode cc pc = .ok (.baload, 1)) (kk : K j < 8 → W p l e R s m args below meth c H locs 0 0 Q (F0 m (pc + 1) ls (.int (nI (K j)) :: rest))) : W p l e R s m args below meth c H locs 0 0 Q (F0 m pc ls (.int (nI j) :: .ref (a 1) :: rest)) := by
  refine va_bald Y.1 Y.2.1 X.2.2.1 X.2.1 2 1 rfl rfl (vp_in_nI hj (by decide)) hdg ?_
  rw [nI_clamp (show j < 2 ^ 31 by omega)]
  exact kk (X.1.2.1 j)
theorem bs_1 (Y : CallFix p m c cc nL s args lw_all "BestPairs") (X : bX D A s h a d P K S Wt bg so si rd hp hn rk rn dn cu H locs) {j x : Nat} (hj : j < 24) (hx : x < 8) (hdg : decode cc pc = .ok (.bastore, 1)) (kk : ∀ (H1 : Heap) (locs1 : List Loc), bX D A s h a d P (updN K j x) S Wt bg so si rd hp hn rk rn dn cu H1 locs1 → W p l e R s m args below meth c H1 locs1 0 0 Q (F0 m (pc + 1) ls (rest))) : W p l e R s m args below meth c H locs 0 0 Q (F0 m pc ls (.int (nI x) :: .int (nI j) :: .ref (a 1) :: rest)) := by
  refine va_bast Y.1 Y.2.1 X.2.2.1 X.2.1 X.2.2.2.1 X.2.2.2.2 2 1 rfl rfl (vp_in_nI hj (by decide)) hdg (fun H1 locs1 hP hD hS => ?_)
  rw [nI_clamp (show j < 2 ^ 31 by omega), vp_nar_byte, nI_b8 _ (show x < 128 by omega), upd_nF] at hP hD
  exact kk H1 locs1 ⟨⟨X.1.1, updN_b (p := fun z => z < 8) X.1.2.1 hx, X.1.2.2.1, X.1.2.2.2.1, X.1.2.2.2.2.1, X.1.2.2.2.2.2.1, X.1.2.2.2.2.2.2.1, X.1.2.2.2.2.2.2.2.1, X.1.2.2.2.2.2.2.2.2.1, X.1.2.2.2.2.2.2.2.2.2.1, X.1.2.2.2.2.2.2.2.2.2.2.1, X.1.2.2.2.2.2.2.2.2.2.2.2.1, X.1.2.2.2.2.2.2.2.2.2.2.2.2.1, X.1.2.2.2.2.2.2.2.2.2.2.2.2.2⟩, hP, X.2.2.1, hD, hS⟩
theorem bl_2 (Y : CallFix p m c cc nL s args lw_all "BestPairs") (X : bX D A s h a d P K S Wt bg so si rd hp hn rk rn dn cu H locs) {j : Nat} (hj : j < 24) (hdg : decode cc pc = .ok (.saload, 1)) (kk : S j ≤ 1000 → W p l e R s m args below meth c H locs 0 0 Q (F0 m (pc + 1) ls (.int (nI (S j)) :: rest))) : W p l e R s m args below meth c H locs 0 0 Q (F0 m pc ls (.int (nI j) :: .ref (a 2) :: rest)) := by
  refine va_sald Y.1 Y.2.1 X.2.2.1 X.2.1 3 2 rfl rfl (vp_in_nI hj (by decide)) hdg ?_
  rw [nI_clamp (show j < 2 ^ 31 by omega)]
  exact kk (X.1.2.2.1 j)
theorem bs_2 (Y : CallFix p m c cc nL s args lw_all "BestPairs") (X : bX D A s h a d P K S Wt bg so si rd hp hn rk rn dn cu H locs) {j x : Nat} (hj : j < 24) (hx : x ≤ 1000) (hdg : decode cc pc = .ok (.sastore, 1)) (kk : ∀ (H1 : Heap) (locs1 : List Loc), bX D A s h a d P K (updN S j x) Wt bg so si rd hp hn rk rn dn cu H1 locs1 → W p l e R s m args below meth c H1 locs1 0 0 Q (F0 m (pc + 1) ls (rest))) : W p l e R s m args below meth c H locs 0 0 Q (F0 m pc ls (.int (nI x) :: .int (nI j) :: .ref (a 2) :: rest)) := by
  refine va_sast Y.1 Y.2.1 X.2.2.1 X.2.1 X.2.2.2.1 X.2.2.2.2 3 2 rfl rfl (vp_in_nI hj (by decide)) hdg (fun H1 locs1 hP hD hS => ?_)
  rw [nI_clamp (show j < 2 ^ 31 by omega), vp_nar_short, nI_b16 (show x < 32768 from (by omega)), upd_nF] at hP hD
  exact kk H1 locs1 ⟨⟨X.1.1, X.1.2.1, updN_b (p := fun z => z ≤ 1000) X.1.2.2.1 hx, X.1.2.2.2.1, X.1.2.2.2.2.1, X.1.2.2.2.2.2.1, X.1.2.2.2.2.2.2.1, X.1.2.2.2.2.2.2.2.1, X.1.2.2.2.2.2.2.2.2.1, X.1.2.2.2.2.2.2.2.2.2.1, X.1.2.2.2.2.2.2.2.2.2.2.1, X.1.2.2.2.2.2.2.2.2.2.2.2.1, X.1.2.2.2.2.2.2.2.2.2.2.2.2.1, X.1.2.2.2.2.2.2.2.2.2.2.2.2.2⟩, hP, X.2.2.1, hD, hS⟩
theorem bl_3 (Y : CallFix p m c cc nL s args lw_all "BestPairs") (X : bX D A s h a d P K S Wt bg so si rd hp hn rk rn dn cu H locs) {j : Nat} (hj : j < 2) (hdg : decode cc pc = .ok (.baload, 1)) (kk : Wt j ≤ 9 → W p l e R s m args below meth c H locs 0 0 Q (F0 m (pc + 1) ls (.int (nI (Wt j)) :: rest))) : W p l e R s m args below meth c H locs 0 0 Q (F0 m pc ls (.int (nI j) :: .ref (a 3) :: rest)) := by
  refine va_bald Y.1 Y.2.1 X.2.2.1 X.2.1 4 3 rfl rfl (vp_in_nI hj (by decide)) hdg ?_
  rw [nI_clamp (show j < 2 ^ 31 by omega)]
  exact kk (X.1.2.2.2.1 j)
theorem bs_3 (Y : CallFix p m c cc nL s args lw_all "BestPairs") (X : bX D A s h a d P K S Wt bg so si rd hp hn rk rn dn cu H locs) {j x : Nat} (hj : j < 2) (hx : x ≤ 9) (hdg : decode cc pc = .ok (.bastore, 1)) (kk : ∀ (H1 : Heap) (locs1 : List Loc), bX D A s h a d P K S (updN Wt j x) bg so si rd hp hn rk rn dn cu H1 locs1 → W p l e R s m args below meth c H1 locs1 0 0 Q (F0 m (pc + 1) ls (rest))) : W p l e R s m args below meth c H locs 0 0 Q (F0 m pc ls (.int (nI x) :: .int (nI j) :: .ref (a 3) :: rest)) := by
  refine va_bast Y.1 Y.2.1 X.2.2.1 X.2.1 X.2.2.2.1 X.2.2.2.2 4 3 rfl rfl (vp_in_nI hj (by decide)) hdg (fun H1 locs1 hP hD hS => ?_)
  rw [nI_clamp (show j < 2 ^ 31 by omega), vp_nar_byte, nI_b8 _ (show x < 128 by omega), upd_nF] at hP hD
  exact kk H1 locs1 ⟨⟨X.1.1, X.1.2.1, X.1.2.2.1, updN_b (p := fun z => z ≤ 9) X.1.2.2.2.1 hx, X.1.2.2.2.2.1, X.1.2.2.2.2.2.1, X.1.2.2.2.2.2.2.1, X.1.2.2.2.2.2.2.2.1, X.1.2.2.2.2.2.2.2.2.1, X.1.2.2.2.2.2.2.2.2.2.1, X.1.2.2.2.2.2.2.2.2.2.2.1, X.1.2.2.2.2.2.2.2.2.2.2.2.1, X.1.2.2.2.2.2.2.2.2.2.2.2.2.1, X.1.2.2.2.2.2.2.2.2.2.2.2.2.2⟩, hP, X.2.2.1, hD, hS⟩
theorem bl_4 (Y : CallFix p m c cc nL s args lw_all "BestPairs") (X : bX D A s h a d P K S Wt bg so si rd hp hn rk rn dn cu H locs) {j : Nat} (hj : j < 24) (hdg : decode cc pc = .ok (.baload, 1)) (kk : so j < 12 → W p l e R s m args below meth c H locs 0 0 Q (F0 m (pc + 1) ls (.int (nI (so j)) :: rest))) : W p l e R s m args below meth c H locs 0 0 Q (F0 m pc ls (.int (nI j) :: .ref (a 4) :: rest)) := by
  refine va_bald Y.1 Y.2.1 X.2.2.1 X.2.1 5 4 rfl rfl (vp_in_nI hj (by decide)) hdg ?_
  rw [nI_clamp (show j < 2 ^ 31 by omega)]
  exact kk (X.1.2.2.2.2.1 j)
theorem bs_4 (Y : CallFix p m c cc nL s args lw_all "BestPairs") (X : bX D A s h a d P K S Wt bg so si rd hp hn rk rn dn cu H locs) {j x : Nat} (hj : j < 24) (hx : x < 12) (hdg : decode cc pc = .ok (.bastore, 1)) (kk : ∀ (H1 : Heap) (locs1 : List Loc), bX D A s h a d P K S Wt bg (updN so j x) si rd hp hn rk rn dn cu H1 locs1 → W p l e R s m args below meth c H1 locs1 0 0 Q (F0 m (pc + 1) ls (rest))) : W p l e R s m args below meth c H locs 0 0 Q (F0 m pc ls (.int (nI x) :: .int (nI j) :: .ref (a 4) :: rest)) := by
  refine va_bast Y.1 Y.2.1 X.2.2.1 X.2.1 X.2.2.2.1 X.2.2.2.2 5 4 rfl rfl (vp_in_nI hj (by decide)) hdg (fun H1 locs1 hP hD hS => ?_)
  rw [nI_clamp (show j < 2 ^ 31 by omega), vp_nar_byte, nI_b8 _ (show x < 128 by omega), upd_nF] at hP hD
  exact kk H1 locs1 ⟨⟨X.1.1, X.1.2.1, X.1.2.2.1, X.1.2.2.2.1, updN_b (p := fun z => z < 12) X.1.2.2.2.2.1 hx, X.1.2.2.2.2.2.1, X.1.2.2.2.2.2.2.1, X.1.2.2.2.2.2.2.2.1, X.1.2.2.2.2.2.2.2.2.1, X.1.2.2.2.2.2.2.2.2.2.1, X.1.2.2.2.2.2.2.2.2.2.2.1, X.1.2.2.2.2.2.2.2.2.2.2.2.1, X.1.2.2.2.2.2.2.2.2.2.2.2.2.1, X.1.2.2.2.2.2.2.2.2.2.2.2.2.2⟩, hP, X.2.2.1, hD, hS⟩
theorem bl_5 (Y : CallFix p m c cc nL s args lw_all "BestPairs") (X : bX D A s h a d P K S Wt bg so si rd hp hn rk rn dn cu H locs) {j : Nat} (hj : j < 2) (hdg : decode cc pc = .ok (.baload, 1)) (kk : si j ≤ 12 → W p l e R s m args below meth c H locs 0 0 Q (F0 m (pc + 1) ls (.int (nI (si j)) :: rest))) : W p l e R s m args below meth c H locs 0 0 Q (F0 m pc ls (.int (nI j) :: .ref (a 5) :: rest)) := by
  refine va_bald Y.1 Y.2.1 X.2.2.1 X.2.1 6 5 rfl rfl (vp_in_nI hj (by decide)) hdg ?_
  rw [nI_clamp (show j < 2 ^ 31 by omega)]
  exact kk (X.1.2.2.2.2.2.1 j)
theorem bs_5 (Y : CallFix p m c cc nL s args lw_all "BestPairs") (X : bX D A s h a d P K S Wt bg so si rd hp hn rk rn dn cu H locs) {j x : Nat} (hj : j < 2) (hx : x ≤ 12) (hdg : decode cc pc = .ok (.bastore, 1)) (kk : ∀ (H1 : Heap) (locs1 : List Loc), bX D A s h a d P K S Wt bg so (updN si j x) rd hp hn rk rn dn cu H1 locs1 → W p l e R s m args below meth c H1 locs1 0 0 Q (F0 m (pc + 1) ls (rest))) : W p l e R s m args below meth c H locs 0 0 Q (F0 m pc ls (.int (nI x) :: .int (nI j) :: .ref (a 5) :: rest)) := by
  refine va_bast Y.1 Y.2.1 X.2.2.1 X.2.1 X.2.2.2.1 X.2.2.2.2 6 5 rfl rfl (vp_in_nI hj (by decide)) hdg (fun H1 locs1 hP hD hS => ?_)
  rw [nI_clamp (show j < 2 ^ 31 by omega), vp_nar_byte, nI_b8 _ (show x < 128 by omega), upd_nF] at hP hD
  exact kk H1 locs1 ⟨⟨X.1.1, X.1.2.1, X.1.2.2.1, X.1.2.2.2.1, X.1.2.2.2.2.1, updN_b (p := fun z => z ≤ 12) X.1.2.2.2.2.2.1 hx, X.1.2.2.2.2.2.2.1, X.1.2.2.2.2.2.2.2.1, X.1.2.2.2.2.2.2.2.2.1, X.1.2.2.2.2.2.2.2.2.2.1, X.1.2.2.2.2.2.2.2.2.2.2.1, X.1.2.2.2.2.2.2.2.2.2.2.2.1, X.1.2.2.2.2.2.2.2.2.2.2.2.2.1, X.1.2.2.2.2.2.2.2.2.2.2.2.2.2⟩, hP, X.2.2.1, hD, hS⟩
theorem bl_6 (Y : CallFix p m c cc nL s args lw_all "BestPairs") (X : bX D A s h a d P K S Wt bg so si rd hp hn rk rn dn cu H locs) {j : Nat} (hj : j < 2) (hdg : decode cc pc = .ok (.baload, 1)) (kk : rd j ≤ 12 → W p l e R s m args below meth c H locs 0 0 Q (F0 m (pc + 1) ls (.int (nI (rd j)) :: rest))) : W p l e R s m args below meth c H locs 0 0 Q (F0 m pc ls (.int (nI j) :: .ref (a 6) :: rest)) := by
  refine va_bald Y.1 Y.2.1 X.2.2.1 X.2.1 7 6 rfl rfl (vp_in_nI hj (by decide)) hdg ?_
  rw [nI_clamp (show j < 2 ^ 31 by omega)]
  exact kk (X.1.2.2.2.2.2.2.1 j)
theorem bs_6 (Y : CallFix p m c cc nL s args lw_all "BestPairs") (X : bX D A s h a d P K S Wt bg so si rd hp hn rk rn dn cu H locs) {j x : Nat} (hj : j < 2) (hx : x ≤ 12) (hdg : decode cc pc = .ok (.bastore, 1)) (kk : ∀ (H1 : Heap) (locs1 : List Loc), bX D A s h a d P K S Wt bg so si (updN rd j x) hp hn rk rn dn cu H1 locs1 → W p l e R s m args below meth c H1 locs1 0 0 Q (F0 m (pc + 1) ls (rest))) : W p l e R s m args below meth c H locs 0 0 Q (F0 m pc ls (.int (nI x) :: .int (nI j) :: .ref (a 6) :: rest)) := by
  refine va_bast Y.1 Y.2.1 X.2.2.1 X.2.1 X.2.2.2.1 X.2.2.2.2 7 6 rfl rfl (vp_in_nI hj (by decide)) hdg (fun H1 locs1 hP hD hS => ?_)
  rw [nI_clamp (show j < 2 ^ 31 by omega), vp_nar_byte, nI_b8 _ (show x < 128 by omega), upd_nF] at hP hD
  exact kk H1 locs1 ⟨⟨X.1.1, X.1.2.1, X.1.2.2.1, X.1.2.2.2.1, X.1.2.2.2.2.1, X.1.2.2.2.2.2.1, updN_b (p := fun z => z ≤ 12) X.1.2.2.2.2.2.2.1 hx, X.1.2.2.2.2.2.2.2.1, X.1.2.2.2.2.2.2.2.2.1, X.1.2.2.2.2.2.2.2.2.2.1, X.1.2.2.2.2.2.2.2.2.2.2.1, X.1.2.2.2.2.2.2.2.2.2.2.2.1, X.1.2.2.2.2.2.2.2.2.2.2.2.2.1, X.1.2.2.2.2.2.2.2.2.2.2.2.2.2⟩, hP, X.2.2.1, hD, hS⟩
theorem bl_7 (Y : CallFix p m c cc nL s args lw_all "BestPairs") (X : bX D A s h a d P K S Wt bg so si rd hp hn rk rn dn cu H locs) {j : Nat} (hj : j < 144) (hdg : decode cc pc = .ok (.saload, 1)) (kk : cOK (hp j) → W p l e R s m args below meth c H locs 0 0 Q (F0 m (pc + 1) ls (.int (nI (hp j)) :: rest))) : W p l e R s m args below meth c H locs 0 0 Q (F0 m pc ls (.int (nI j) :: .ref (a 7) :: rest)) := by
  refine va_sald Y.1 Y.2.1 X.2.2.1 X.2.1 8 7 rfl rfl (vp_in_nI hj (by decide)) hdg ?_
  rw [nI_clamp (show j < 2 ^ 31 by omega)]
  exact kk (X.1.2.2.2.2.2.2.2.1 j)
theorem bs_7 (Y : CallFix p m c cc nL s args lw_all "BestPairs") (X : bX D A s h a d P K S Wt bg so si rd hp hn rk rn dn cu H locs) {j x : Nat} (hj : j < 144) (hx : cOK (x)) (hdg : decode cc pc = .ok (.sastore, 1)) (kk : ∀ (H1 : Heap) (locs1 : List Loc), bX D A s h a d P K S Wt bg so si rd (updN hp j x) hn rk rn dn cu H1 locs1 → W p l e R s m args below meth c H1 locs1 0 0 Q (F0 m (pc + 1) ls (rest))) : W p l e R s m args below meth c H locs 0 0 Q (F0 m pc ls (.int (nI x) :: .int (nI j) :: .ref (a 7) :: rest)) := by
  refine va_sast Y.1 Y.2.1 X.2.2.1 X.2.1 X.2.2.2.1 X.2.2.2.2 8 7 rfl rfl (vp_in_nI hj (by decide)) hdg (fun H1 locs1 hP hD hS => ?_)
  rw [nI_clamp (show j < 2 ^ 31 by omega), vp_nar_short, nI_b16 (show x < 32768 from (by unfold cOK at hx; omega)), upd_nF] at hP hD
  exact kk H1 locs1 ⟨⟨X.1.1, X.1.2.1, X.1.2.2.1, X.1.2.2.2.1, X.1.2.2.2.2.1, X.1.2.2.2.2.2.1, X.1.2.2.2.2.2.2.1, updN_b (p := fun z => cOK (z)) X.1.2.2.2.2.2.2.2.1 hx, X.1.2.2.2.2.2.2.2.2.1, X.1.2.2.2.2.2.2.2.2.2.1, X.1.2.2.2.2.2.2.2.2.2.2.1, X.1.2.2.2.2.2.2.2.2.2.2.2.1, X.1.2.2.2.2.2.2.2.2.2.2.2.2.1, X.1.2.2.2.2.2.2.2.2.2.2.2.2.2⟩, hP, X.2.2.1, hD, hS⟩
theorem bl_8 (Y : CallFix p m c cc nL s args lw_all "BestPairs") (X : bX D A s h a d P K S Wt bg so si rd hp hn rk rn dn cu H locs) {j : Nat} (hj : j < 144) (hdg : decode cc pc = .ok (.saload, 1)) (kk : cOK (rk j) → W p l e R s m args below meth c H locs 0 0 Q (F0 m (pc + 1) ls (.int (nI (rk j)) :: rest))) : W p l e R s m args below meth c H locs 0 0 Q (F0 m pc ls (.int (nI j) :: .ref (a 8) :: rest)) := by
  refine va_sald Y.1 Y.2.1 X.2.2.1 X.2.1 9 8 rfl rfl (vp_in_nI hj (by decide)) hdg ?_
  rw [nI_clamp (show j < 2 ^ 31 by omega)]
  exact kk (X.1.2.2.2.2.2.2.2.2.1 j)
theorem bs_8 (Y : CallFix p m c cc nL s args lw_all "BestPairs") (X : bX D A s h a d P K S Wt bg so si rd hp hn rk rn dn cu H locs) {j x : Nat} (hj : j < 144) (hx : cOK (x)) (hdg : decode cc pc = .ok (.sastore, 1)) (kk : ∀ (H1 : Heap) (locs1 : List Loc), bX D A s h a d P K S Wt bg so si rd hp hn (updN rk j x) rn dn cu H1 locs1 → W p l e R s m args below meth c H1 locs1 0 0 Q (F0 m (pc + 1) ls (rest))) : W p l e R s m args below meth c H locs 0 0 Q (F0 m pc ls (.int (nI x) :: .int (nI j) :: .ref (a 8) :: rest)) := by
  refine va_sast Y.1 Y.2.1 X.2.2.1 X.2.1 X.2.2.2.1 X.2.2.2.2 9 8 rfl rfl (vp_in_nI hj (by decide)) hdg (fun H1 locs1 hP hD hS => ?_)
  rw [nI_clamp (show j < 2 ^ 31 by omega), vp_nar_short, nI_b16 (show x < 32768 from (by unfold cOK at hx; omega)), upd_nF] at hP hD
  exact kk H1 locs1 ⟨⟨X.1.1, X.1.2.1, X.1.2.2.1, X.1.2.2.2.1, X.1.2.2.2.2.1, X.1.2.2.2.2.2.1, X.1.2.2.2.2.2.2.1, X.1.2.2.2.2.2.2.2.1, updN_b (p := fun z => cOK (z)) X.1.2.2.2.2.2.2.2.2.1 hx, X.1.2.2.2.2.2.2.2.2.2.1, X.1.2.2.2.2.2.2.2.2.2.2.1, X.1.2.2.2.2.2.2.2.2.2.2.2.1, X.1.2.2.2.2.2.2.2.2.2.2.2.2.1, X.1.2.2.2.2.2.2.2.2.2.2.2.2.2⟩, hP, X.2.2.1, hD, hS⟩
end RWC
section RWD
variable {p : Program} {l : Launch} {e : Env} {R : Room} {s : State} {m : MethodId} {args : Array Value} {below : List Frame} {meth : Method} {c : Code} {H : Heap} {locs : List Loc} {Q : State → Prop} {cc : ByteArray} {nL pc h : Nat} {a : Nat → Nat} {d : Nat → ClassId} {D : va_G} {A : Nat → Prop} {rest : List Value} {ls : Array Slot} {th K S Wt : Nat → Nat} {cu : Nat}
theorem mg_0 (Y : CallFix p m c cc nL s args lw_all "BestPairsModel") (X : mX D A s h a d th K S Wt cu H locs) (hdg : decode cc pc = .ok (.getfield 7, 3)) (kk : W p l e R s m args below meth c H locs 0 0 Q (F0 m (pc + 3) ls (.ref (a 0) :: rest))) : W p l e R s m args below meth c H locs 0 0 Q (F0 m pc ls (.ref h :: rest)) :=
  va_get (D := D) (ci := 1) (v := .ref (a 0)) (C := RX1) (T := TX1) (N := 5) Y.1 Y.2.1 Y.2.2.2.2 in_X1 Y.2.2.2.1 X.2.2.1 X.2.1 0 rfl rfl 0 (by decide) (Y.2.2.2.2 _ q208) (fun _ h9 => h9) rfl hdg kk
theorem mg_1 (Y : CallFix p m c cc nL s args lw_all "BestPairsModel") (X : mX D A s h a d th K S Wt cu H locs) (hdg : decode cc pc = .ok (.getfield 13, 3)) (kk : W p l e R s m args below meth c H locs 0 0 Q (F0 m (pc + 3) ls (.ref (a 1) :: rest))) : W p l e R s m args below meth c H locs 0 0 Q (F0 m pc ls (.ref h :: rest)) :=
  va_get (D := D) (ci := 1) (v := .ref (a 1)) (C := RX1) (T := TX1) (N := 5) Y.1 Y.2.1 Y.2.2.2.2 in_X1 Y.2.2.2.1 X.2.2.1 X.2.1 0 rfl rfl 1 (by decide) (Y.2.2.2.2 _ q209) (fun _ h9 => h9) rfl hdg kk
theorem mg_2 (Y : CallFix p m c cc nL s args lw_all "BestPairsModel") (X : mX D A s h a d th K S Wt cu H locs) (hdg : decode cc pc = .ok (.getfield 17, 3)) (kk : W p l e R s m args below meth c H locs 0 0 Q (F0 m (pc + 3) ls (.ref (a 2) :: rest))) : W p l e R s m args below meth c H locs 0 0 Q (F0 m pc ls (.ref h :: rest)) :=
  va_get (D := D) (ci := 1) (v := .ref (a 2)) (C := RX1) (T := TX1) (N := 5) Y.1 Y.2.1 Y.2.2.2.2 in_X1 Y.2.2.2.1 X.2.2.1 X.2.1 0 rfl rfl 2 (by decide) (Y.2.2.2.2 _ q210) (fun _ h9 => h9) rfl hdg kk
theorem mg_3 (Y : CallFix p m c cc nL s args lw_all "BestPairsModel") (X : mX D A s h a d th K S Wt cu H locs) (hdg : decode cc pc = .ok (.getfield 20, 3)) (kk : W p l e R s m args below meth c H locs 0 0 Q (F0 m (pc + 3) ls (.ref (a 3) :: rest))) : W p l e R s m args below meth c H locs 0 0 Q (F0 m pc ls (.ref h :: rest)) :=
  va_get (D := D) (ci := 1) (v := .ref (a 3)) (C := RX1) (T := TX1) (N := 5) Y.1 Y.2.1 Y.2.2.2.2 in_X1 Y.2.2.2.1 X.2.2.1 X.2.1 0 rfl rfl 3 (by decide) (Y.2.2.2.2 _ q211) (fun _ h9 => h9) rfl hdg kk
theorem mg_4 (Y : CallFix p m c cc nL s args lw_all "BestPairsModel") (X : mX D A s h a d th K S Wt cu H locs) (hdg : decode cc pc = .ok (.getfield 23, 3)) (kk : cu ≤ 144 → W p l e R s m args below meth c H locs 0 0 Q (F0 m (pc + 3) ls (.int (nI cu) :: rest))) : W p l e R s m args below meth c H locs 0 0 Q (F0 m pc ls (.ref h :: rest)) :=
  va_get (D := D) (ci := 1) (v := .int (nI cu)) (C := RX1) (T := TX1) (N := 5) Y.1 Y.2.1 Y.2.2.2.2 in_X1 Y.2.2.2.1 X.2.2.1 X.2.1 0 rfl rfl 4 (by decide) (Y.2.2.2.2 _ q212) (fun _ h9 => h9) rfl hdg (kk X.1.2.2.2.2)
theorem mp_4 (Y : CallFix p m c cc nL s args lw_all "BestPairsModel") (X : mX D A s h a d th K S Wt cu H locs) {x : Nat} (hx : x ≤ 144) (hdg : decode cc pc = .ok (.putfield 23, 3)) (kk : ∀ (H1 : Heap) (locs1 : List Loc), mX D A s h a d th K S Wt x H1 locs1 → W p l e R s m args below meth c H1 locs1 0 0 Q (F0 m (pc + 3) ls (rest))) : W p l e R s m args below meth c H locs 0 0 Q (F0 m pc ls (.int (nI x) :: .ref h :: rest)) :=
  va_put (D := D) (ci := 1) (v := .int (nI x)) (ty := .int) (C := RX1) (T := TX1) (N := 5) Y.1 Y.2.1 Y.2.2.2.2 in_X1 tyX1 tyX1_ok nmX1 Y.2.2.2.1 X.2.2.1 X.2.1 X.2.2.2.1 X.2.2.2.2 0 rfl rfl 4 (by decide) (Y.2.2.2.2 _ q212) (fun _ h9 => h9) rfl (by decide +kernel) rfl rfl (Nat.le_of_ble_eq_true rfl) hdg (fun H1 locs1 hP hD hS => kk H1 locs1 ⟨⟨X.1.1, X.1.2.1, X.1.2.2.1, X.1.2.2.2.1, hx⟩, hP, X.2.2.1, hD, hS⟩)
theorem ml_0 (Y : CallFix p m c cc nL s args lw_all "BestPairsModel") (X : mX D A s h a d th K S Wt cu H locs) {j : Nat} (hj : j < 24) (hdg : decode cc pc = .ok (.baload, 1)) (kk : th j ≤ 1 → W p l e R s m args below meth c H locs 0 0 Q (F0 m (pc + 1) ls (.int (nI (th j)) :: rest))) : W p l e R s m args below meth c H locs 0 0 Q (F0 m pc ls (.int (nI j) :: .ref (a 0) :: rest)) := by
  refine va_zald Y.1 Y.2.1 X.2.2.1 X.2.1 1 0 rfl rfl (vp_in_nI hj (by decide)) hdg ?_
  rw [nI_clamp (show j < 2 ^ 31 by omega)]
  exact kk (X.1.1 j)
theorem ms_0 (Y : CallFix p m c cc nL s args lw_all "BestPairsModel") (X : mX D A s h a d th K S Wt cu H locs) {j x : Nat} (hj : j < 24) (hx : x ≤ 1) (hdg : decode cc pc = .ok (.bastore, 1)) (kk : ∀ (H1 : Heap) (locs1 : List Loc), mX D A s h a d (updN th j x) K S Wt cu H1 locs1 → W p l e R s m args below meth c H1 locs1 0 0 Q (F0 m (pc + 1) ls (rest))) : W p l e R s m args below meth c H locs 0 0 Q (F0 m pc ls (.int (nI x) :: .int (nI j) :: .ref (a 0) :: rest)) := by
  refine va_zast Y.1 Y.2.1 X.2.2.1 X.2.1 X.2.2.2.1 X.2.2.2.2 1 0 rfl rfl (vp_in_nI hj (by decide)) hdg (fun H1 locs1 hP hD hS => ?_)
  rw [nI_clamp (show j < 2 ^ 31 by omega), nz_nar hx, upd_nF] at hP hD
  exact kk H1 locs1 ⟨⟨updN_b (p := fun z => z ≤ 1) X.1.1 hx, X.1.2.1, X.1.2.2.1, X.1.2.2.2.1, X.1.2.2.2.2⟩, hP, X.2.2.1, hD, hS⟩
theorem ml_1 (Y : CallFix p m c cc nL s args lw_all "BestPairsModel") (X : mX D A s h a d th K S Wt cu H locs) {j : Nat} (hj : j < 24) (hdg : decode cc pc = .ok (.iaload, 1)) (kk : K j < 8 → W p l e R s m args below meth c H locs 0 0 Q (F0 m (pc + 1) ls (.int (nI (K j)) :: rest))) : W p l e R s m args below meth c H locs 0 0 Q (F0 m pc ls (.int (nI j) :: .ref (a 1) :: rest)) := by
  refine va_iald Y.1 Y.2.1 X.2.2.1 X.2.1 2 1 rfl rfl (vp_in_nI hj (by decide)) hdg ?_
  rw [nI_clamp (show j < 2 ^ 31 by omega)]
  exact kk (X.1.2.1 j)
theorem ms_1 (Y : CallFix p m c cc nL s args lw_all "BestPairsModel") (X : mX D A s h a d th K S Wt cu H locs) {j x : Nat} (hj : j < 24) (hx : x < 8) (hdg : decode cc pc = .ok (.iastore, 1)) (kk : ∀ (H1 : Heap) (locs1 : List Loc), mX D A s h a d th (updN K j x) S Wt cu H1 locs1 → W p l e R s m args below meth c H1 locs1 0 0 Q (F0 m (pc + 1) ls (rest))) : W p l e R s m args below meth c H locs 0 0 Q (F0 m pc ls (.int (nI x) :: .int (nI j) :: .ref (a 1) :: rest)) := by
  refine va_iast Y.1 Y.2.1 X.2.2.1 X.2.1 X.2.2.2.1 X.2.2.2.2 2 1 rfl rfl (vp_in_nI hj (by decide)) hdg (fun H1 locs1 hP hD hS => ?_)
  rw [nI_clamp (show j < 2 ^ 31 by omega), upd_nF] at hP hD
  exact kk H1 locs1 ⟨⟨X.1.1, updN_b (p := fun z => z < 8) X.1.2.1 hx, X.1.2.2.1, X.1.2.2.2.1, X.1.2.2.2.2⟩, hP, X.2.2.1, hD, hS⟩
theorem ml_2 (Y : CallFix p m c cc nL s args lw_all "BestPairsModel") (X : mX D A s h a d th K S Wt cu H locs) {j : Nat} (hj : j < 24) (hdg : decode cc pc = .ok (.iaload, 1)) (kk : S j ≤ 1000 → W p l e R s m args below meth c H locs 0 0 Q (F0 m (pc + 1) ls (.int (nI (S j)) :: rest))) : W p l e R s m args below meth c H locs 0 0 Q (F0 m pc ls (.int (nI j) :: .ref (a 2) :: rest)) := by
  refine va_iald Y.1 Y.2.1 X.2.2.1 X.2.1 3 2 rfl rfl (vp_in_nI hj (by decide)) hdg ?_
  rw [nI_clamp (show j < 2 ^ 31 by omega)]
  exact kk (X.1.2.2.1 j)
theorem ms_2 (Y : CallFix p m c cc nL s args lw_all "BestPairsModel") (X : mX D A s h a d th K S Wt cu H locs) {j x : Nat} (hj : j < 24) (hx : x ≤ 1000) (hdg : decode cc pc = .ok (.iastore, 1)) (kk : ∀ (H1 : Heap) (locs1 : List Loc), mX D A s h a d th K (updN S j x) Wt cu H1 locs1 → W p l e R s m args below meth c H1 locs1 0 0 Q (F0 m (pc + 1) ls (rest))) : W p l e R s m args below meth c H locs 0 0 Q (F0 m pc ls (.int (nI x) :: .int (nI j) :: .ref (a 2) :: rest)) := by
  refine va_iast Y.1 Y.2.1 X.2.2.1 X.2.1 X.2.2.2.1 X.2.2.2.2 3 2 rfl rfl (vp_in_nI hj (by decide)) hdg (fun H1 locs1 hP hD hS => ?_)
  rw [nI_clamp (show j < 2 ^ 31 by omega), upd_nF] at hP hD
  exact kk H1 locs1 ⟨⟨X.1.1, X.1.2.1, updN_b (p := fun z => z ≤ 1000) X.1.2.2.1 hx, X.1.2.2.2.1, X.1.2.2.2.2⟩, hP, X.2.2.1, hD, hS⟩
theorem ml_3 (Y : CallFix p m c cc nL s args lw_all "BestPairsModel") (X : mX D A s h a d th K S Wt cu H locs) {j : Nat} (hj : j < 2) (hdg : decode cc pc = .ok (.iaload, 1)) (kk : Wt j ≤ 9 → W p l e R s m args below meth c H locs 0 0 Q (F0 m (pc + 1) ls (.int (nI (Wt j)) :: rest))) : W p l e R s m args below meth c H locs 0 0 Q (F0 m pc ls (.int (nI j) :: .ref (a 3) :: rest)) := by
  refine va_iald Y.1 Y.2.1 X.2.2.1 X.2.1 4 3 rfl rfl (vp_in_nI hj (by decide)) hdg ?_
  rw [nI_clamp (show j < 2 ^ 31 by omega)]
  exact kk (X.1.2.2.2.1 j)
theorem ms_3 (Y : CallFix p m c cc nL s args lw_all "BestPairsModel") (X : mX D A s h a d th K S Wt cu H locs) {j x : Nat} (hj : j < 2) (hx : x ≤ 9) (hdg : decode cc pc = .ok (.iastore, 1)) (kk : ∀ (H1 : Heap) (locs1 : List Loc), mX D A s h a d th K S (updN Wt j x) cu H1 locs1 → W p l e R s m args below meth c H1 locs1 0 0 Q (F0 m (pc + 1) ls (rest))) : W p l e R s m args below meth c H locs 0 0 Q (F0 m pc ls (.int (nI x) :: .int (nI j) :: .ref (a 3) :: rest)) := by
  refine va_iast Y.1 Y.2.1 X.2.2.1 X.2.1 X.2.2.2.1 X.2.2.2.2 4 3 rfl rfl (vp_in_nI hj (by decide)) hdg (fun H1 locs1 hP hD hS => ?_)
  rw [nI_clamp (show j < 2 ^ 31 by omega), upd_nF] at hP hD
  exact kk H1 locs1 ⟨⟨X.1.1, X.1.2.1, X.1.2.2.1, updN_b (p := fun z => z ≤ 9) X.1.2.2.2.1 hx, X.1.2.2.2.2⟩, hP, X.2.2.1, hD, hS⟩
end RWD
section RWE
variable {p : Program} {l : Launch} {e : Env} {R : Room} {s : State} {m : MethodId} {args : Array Value} {below : List Frame} {meth : Method} {c : Code} {H : Heap} {locs : List Loc} {cells slots : Nat} {Q : State → Prop} {cc : ByteArray} {pc : Nat} {rest : List Value} {ls : Array Slot}
theorem n_iadd (hexec : p.tables.exec = Jvm.exec) (hb : c.code = cc) {x y z : Nat}  (hz : x + y = z) (hdg : decode cc pc = .ok (.iadd, 1)) (k : W p l e R s m args below meth c H locs cells slots Q (F0 m (pc + 1) ls (.int (nI z) :: rest))) : W p l e R s m args below meth c H locs cells slots Q (F0 m pc ls (.int (nI y) :: .int (nI x) :: rest)) := by
  refine lv_iadd hexec hb hdg ?_
  rw [nI_add, hz]
  exact k
theorem n_imul (hexec : p.tables.exec = Jvm.exec) (hb : c.code = cc) {x y z : Nat}  (hz : x * y = z) (hdg : decode cc pc = .ok (.imul, 1)) (k : W p l e R s m args below meth c H locs cells slots Q (F0 m (pc + 1) ls (.int (nI z) :: rest))) : W p l e R s m args below meth c H locs cells slots Q (F0 m pc ls (.int (nI y) :: .int (nI x) :: rest)) := by
  refine lv_imul hexec hb hdg ?_
  rw [pk_mul, hz]
  exact k
theorem n_isub (hexec : p.tables.exec = Jvm.exec) (hb : c.code = cc) {x y z : Nat} (hxy : y ≤ x) (hz : x - y = z) (hdg : decode cc pc = .ok (.isub, 1)) (k : W p l e R s m args below meth c H locs cells slots Q (F0 m (pc + 1) ls (.int (nI z) :: rest))) : W p l e R s m args below meth c H locs cells slots Q (F0 m pc ls (.int (nI y) :: .int (nI x) :: rest)) := by
  refine lv_isub hexec hb hdg ?_
  rw [pk_sub hxy, hz]
  exact k
theorem n_idiv (hexec : p.tables.exec = Jvm.exec) (hb : c.code = cc) {x y : Nat} (hx : x < 2 ^ 31) (h0 : 0 < y) (hy : y < 2 ^ 31) (hdg : decode cc pc = .ok (.idiv, 1)) (k : W p l e R s m args below meth c H locs cells slots Q (F0 m (pc + 1) ls (.int (nI (x / y)) :: rest))) : W p l e R s m args below meth c H locs cells slots Q (F0 m pc ls (.int (nI y) :: .int (nI x) :: rest)) := by
  refine lv_idiv hexec hb hdg (nI_ne0 h0 hy) ?_
  rw [pk_div hx h0 hy]
  exact k
theorem n_irem (hexec : p.tables.exec = Jvm.exec) (hb : c.code = cc) {x y : Nat} (hx : x < 2 ^ 31) (h0 : 0 < y) (hy : y < 2 ^ 31) (hdg : decode cc pc = .ok (.irem, 1)) (k : W p l e R s m args below meth c H locs cells slots Q (F0 m (pc + 1) ls (.int (nI (x % y)) :: rest))) : W p l e R s m args below meth c H locs cells slots Q (F0 m pc ls (.int (nI y) :: .int (nI x) :: rest)) := by
  refine lv_irem hexec hb hdg (nI_ne0 h0 hy) ?_
  rw [pk_rem hx h0 hy]
  exact k
theorem n_ishr (hexec : p.tables.exec = Jvm.exec) (hb : c.code = cc) {x y z : Nat} (hx : x < 2 ^ 31) (hy : y < 32) (hz : x / 2 ^ y = z) (hdg : decode cc pc = .ok (.ishr, 1)) (k : W p l e R s m args below meth c H locs cells slots Q (F0 m (pc + 1) ls (.int (nI z) :: rest))) : W p l e R s m args below meth c H locs cells slots Q (F0 m pc ls (.int (nI y) :: .int (nI x) :: rest)) := by
  refine lv_ishr hexec hb hdg ?_
  rw [pk_shrN hx _ y (s_lw y hy), hz]
  exact k
theorem n_ishl (hexec : p.tables.exec = Jvm.exec) (hb : c.code = cc) {y : Nat} (hy : y < 31) (hdg : decode cc pc = .ok (.ishl, 1)) (k : W p l e R s m args below meth c H locs cells slots Q (F0 m (pc + 1) ls (.int (nI (2 ^ y)) :: rest))) : W p l e R s m args below meth c H locs cells slots Q (F0 m pc ls (.int (nI y) :: .int (nI 1) :: rest)) := by
  refine lv_ishl hexec hb hdg ?_
  rw [pk_shlN _ y (s_lw y (by omega)) (by rw [Nat.one_mul]; exact Nat.pow_lt_pow_right (by decide) (by omega)), Nat.one_mul]
  exact k
theorem n_iandM (hexec : p.tables.exec = Jvm.exec) (hb : c.code = cc) {x M : Nat} (k0 : Nat) (hx : x < 2 ^ 32) (hM : (nI M).toBitVec.toNat = 2 ^ k0 - 1) {z : Nat} (hz : x % 2 ^ k0 = z) (hdg : decode cc pc = .ok (.iand, 1)) (k : W p l e R s m args below meth c H locs cells slots Q (F0 m (pc + 1) ls (.int (nI z) :: rest))) : W p l e R s m args below meth c H locs cells slots Q (F0 m pc ls (.int (nI M) :: .int (nI x) :: rest)) := by
  refine lv_iand hexec hb hdg ?_
  rw [pk_andN hx k0 hM, hz]
  exact k
theorem n_ior (hexec : p.tables.exec = Jvm.exec) (hb : c.code = cc) {x y : Nat} (hdg : decode cc pc = .ok (.ior, 1)) (k : W p l e R s m args below meth c H locs cells slots Q (F0 m (pc + 1) ls (.int (nI (x ||| y)) :: rest))) : W p l e R s m args below meth c H locs cells slots Q (F0 m pc ls (.int (nI y) :: .int (nI x) :: rest)) := by
  refine lv_ior hexec hb hdg ?_
  rw [n_orI]
  exact k
theorem n_iand (hexec : p.tables.exec = Jvm.exec) (hb : c.code = cc) {x y : Nat} (hdg : decode cc pc = .ok (.iand, 1)) (k : W p l e R s m args below meth c H locs cells slots Q (F0 m (pc + 1) ls (.int (nI (x &&& y)) :: rest))) : W p l e R s m args below meth c H locs cells slots Q (F0 m pc ls (.int (nI y) :: .int (nI x) :: rest)) := by
  refine lv_iand hexec hb hdg ?_
  rw [n_andI]
  exact k
theorem n_ixor (hexec : p.tables.exec = Jvm.exec) (hb : c.code = cc) {x y : Nat} (hdg : decode cc pc = .ok (.ixor, 1)) (k : W p l e R s m args below meth c H locs cells slots Q (F0 m (pc + 1) ls (.int (nI (x ^^^ y)) :: rest))) : W p l e R s m args below meth c H locs cells slots Q (F0 m pc ls (.int (nI y) :: .int (nI x) :: rest)) := by
  refine lv_ixor hexec hb hdg ?_
  rw [n_xorI]
  exact k
theorem n_i2b (hexec : p.tables.exec = Jvm.exec) (hb : c.code = cc) {x : Nat} (hx : x < 128) (hdg : decode cc pc = .ok (.i2b, 1)) (k : W p l e R s m args below meth c H locs cells slots Q (F0 m (pc + 1) ls (.int (nI x) :: rest))) : W p l e R s m args below meth c H locs cells slots Q (F0 m pc ls (.int (nI x) :: rest)) := lv_i2b hexec hb hdg (nI_b8 x hx) k
theorem n_i2s (hexec : p.tables.exec = Jvm.exec) (hb : c.code = cc) {x : Nat} (hx : x < 32768) (hdg : decode cc pc = .ok (.i2s, 1)) (k : W p l e R s m args below meth c H locs cells slots Q (F0 m (pc + 1) ls (.int (nI x) :: rest))) : W p l e R s m args below meth c H locs cells slots Q (F0 m pc ls (.int (nI x) :: rest)) := lv_i2s hexec hb hdg (nI_b16 hx) k
theorem n_icmp_eq (hexec : p.tables.exec = Jvm.exec) (hb : c.code = cc) {x y : Nat} {off : Int} {tgt : Nat} (hdg : decode cc pc = .ok (.if_icmp .eq off, 3)) (ht : (pc : Int) + off = (tgt : Int)) (hx : x < 2 ^ 31) (hy : y < 2 ^ 31) (kt : x = y → W p l e R s m args below meth c H locs cells slots Q (F0 m tgt ls (rest))) (kf : ¬ x = y → W p l e R s m args below meth c H locs cells slots Q (F0 m (pc + 3) ls (rest))) : W p l e R s m args below meth c H locs cells slots Q (F0 m pc ls (.int (nI y) :: .int (nI x) :: rest)) :=
  lv_icmp_eq hexec hb hdg ht (fun h => kt ((nI_eq hx hy).mp h)) (fun h => kf (fun q => h ((nI_eq hx hy).mpr q)))
theorem n_icmp_lt (hexec : p.tables.exec = Jvm.exec) (hb : c.code = cc) {x y : Nat} {off : Int} {tgt : Nat} (hdg : decode cc pc = .ok (.if_icmp .lt off, 3)) (ht : (pc : Int) + off = (tgt : Int)) (hx : x < 2 ^ 31) (hy : y < 2 ^ 31) (kt : x < y → W p l e R s m args below meth c H locs cells slots Q (F0 m tgt ls (rest))) (kf : ¬ x < y → W p l e R s m args below meth c H locs cells slots Q (F0 m (pc + 3) ls (rest))) : W p l e R s m args below meth c H locs cells slots Q (F0 m pc ls (.int (nI y) :: .int (nI x) :: rest)) :=
  lv_icmp_lt hexec hb hdg ht (fun h => kt ((nI_ltI hx hy).mp h)) (fun h => kf (fun q => h ((nI_ltI hx hy).mpr q)))
theorem n_icmp_le (hexec : p.tables.exec = Jvm.exec) (hb : c.code = cc) {x y : Nat} {off : Int} {tgt : Nat} (hdg : decode cc pc = .ok (.if_icmp .le off, 3)) (ht : (pc : Int) + off = (tgt : Int)) (hx : x < 2 ^ 31) (hy : y < 2 ^ 31) (kt : x ≤ y → W p l e R s m args below meth c H locs cells slots Q (F0 m tgt ls (rest))) (kf : ¬ x ≤ y → W p l e R s m args below meth c H locs cells slots Q (F0 m (pc + 3) ls (rest))) : W p l e R s m args below meth c H locs cells slots Q (F0 m pc ls (.int (nI y) :: .int (nI x) :: rest)) :=
  lv_icmp_le hexec hb hdg ht (fun h => kt ((nI_leI hx hy).mp h)) (fun h => kf (fun q => h ((nI_leI hx hy).mpr q)))
theorem n_icmp_gt (hexec : p.tables.exec = Jvm.exec) (hb : c.code = cc) {x y : Nat} {off : Int} {tgt : Nat} (hdg : decode cc pc = .ok (.if_icmp .gt off, 3)) (ht : (pc : Int) + off = (tgt : Int)) (hx : x < 2 ^ 31) (hy : y < 2 ^ 31) (kt : y < x → W p l e R s m args below meth c H locs cells slots Q (F0 m tgt ls (rest))) (kf : ¬ y < x → W p l e R s m args below meth c H locs cells slots Q (F0 m (pc + 3) ls (rest))) : W p l e R s m args below meth c H locs cells slots Q (F0 m pc ls (.int (nI y) :: .int (nI x) :: rest)) :=
  lv_icmp_gt hexec hb hdg ht (fun h => kt ((nI_ltI hy hx).mp h)) (fun h => kf (fun q => h ((nI_ltI hy hx).mpr q)))
theorem n_icmp_ge (hexec : p.tables.exec = Jvm.exec) (hb : c.code = cc) {x y : Nat} {off : Int} {tgt : Nat} (hdg : decode cc pc = .ok (.if_icmp .ge off, 3)) (ht : (pc : Int) + off = (tgt : Int)) (hx : x < 2 ^ 31) (hy : y < 2 ^ 31) (kt : y ≤ x → W p l e R s m args below meth c H locs cells slots Q (F0 m tgt ls (rest))) (kf : ¬ y ≤ x → W p l e R s m args below meth c H locs cells slots Q (F0 m (pc + 3) ls (rest))) : W p l e R s m args below meth c H locs cells slots Q (F0 m pc ls (.int (nI y) :: .int (nI x) :: rest)) :=
  lv_icmp_ge hexec hb hdg ht (fun h => kt ((nI_leI hy hx).mp h)) (fun h => kf (fun q => h ((nI_leI hy hx).mpr q)))
theorem n_icmp_ne (hexec : p.tables.exec = Jvm.exec) (hb : c.code = cc) {x y : Nat} {off : Int} {tgt : Nat} (hdg : decode cc pc = .ok (.if_icmp .ne off, 3)) (ht : (pc : Int) + off = (tgt : Int)) (hx : x < 2 ^ 31) (hy : y < 2 ^ 31) (kt : ¬ x = y → W p l e R s m args below meth c H locs cells slots Q (F0 m tgt ls (rest))) (kf : x = y → W p l e R s m args below meth c H locs cells slots Q (F0 m (pc + 3) ls (rest))) : W p l e R s m args below meth c H locs cells slots Q (F0 m pc ls (.int (nI y) :: .int (nI x) :: rest)) :=
  lv_icmp_ne hexec hb hdg ht (fun h => kt (fun q => h (by rw [q]))) (fun h => kf ((nI_eq hx hy).mp h))
theorem n_if_eq (hexec : p.tables.exec = Jvm.exec) (hb : c.code = cc) {x : Nat} {off : Int} {tgt : Nat} (hdg : decode cc pc = .ok (.ifCond .eq off, 3)) (ht : (pc : Int) + off = (tgt : Int)) (hx : x < 2 ^ 31) (kt : x = 0 → W p l e R s m args below meth c H locs cells slots Q (F0 m tgt ls (rest))) (kf : ¬ x = 0 → W p l e R s m args below meth c H locs cells slots Q (F0 m (pc + 3) ls (rest))) : W p l e R s m args below meth c H locs cells slots Q (F0 m pc ls (.int (nI x) :: rest)) :=
  lv_if_eq hexec hb hdg ht (fun h => kt ((nI_eq hx (by decide)).mp (by rw [nI_0]; exact h))) (fun h => kf (fun q => h (by rw [q]; exact nI_0)))
theorem n_if_ne (hexec : p.tables.exec = Jvm.exec) (hb : c.code = cc) {x : Nat} {off : Int} {tgt : Nat} (hdg : decode cc pc = .ok (.ifCond .ne off, 3)) (ht : (pc : Int) + off = (tgt : Int)) (hx : x < 2 ^ 31) (kt : ¬ x = 0 → W p l e R s m args below meth c H locs cells slots Q (F0 m tgt ls (rest))) (kf : x = 0 → W p l e R s m args below meth c H locs cells slots Q (F0 m (pc + 3) ls (rest))) : W p l e R s m args below meth c H locs cells slots Q (F0 m pc ls (.int (nI x) :: rest)) :=
  lv_if_ne hexec hb hdg ht (fun h => kt (fun q => h (by rw [q]; exact nI_0))) (fun h => kf ((nI_eq hx (by decide)).mp (by rw [nI_0]; exact h)))
theorem n_if_le (hexec : p.tables.exec = Jvm.exec) (hb : c.code = cc) {x : Nat} {off : Int} {tgt : Nat} (hdg : decode cc pc = .ok (.ifCond .le off, 3)) (ht : (pc : Int) + off = (tgt : Int)) (hx : x < 2 ^ 31) (kt : x = 0 → W p l e R s m args below meth c H locs cells slots Q (F0 m tgt ls (rest))) (kf : 0 < x → W p l e R s m args below meth c H locs cells slots Q (F0 m (pc + 3) ls (rest))) : W p l e R s m args below meth c H locs cells slots Q (F0 m pc ls (.int (nI x) :: rest)) :=
  lv_if_le hexec hb hdg ht (fun h => kt (n_le0 hx h)) (fun h => kf (n_nle0 hx h))
theorem n_if_gt (hexec : p.tables.exec = Jvm.exec) (hb : c.code = cc) {x : Nat} {off : Int} {tgt : Nat} (hdg : decode cc pc = .ok (.ifCond .gt off, 3)) (ht : (pc : Int) + off = (tgt : Int)) (hx : x < 2 ^ 31) (kt : 0 < x → W p l e R s m args below meth c H locs cells slots Q (F0 m tgt ls (rest))) (kf : x = 0 → W p l e R s m args below meth c H locs cells slots Q (F0 m (pc + 3) ls (rest))) : W p l e R s m args below meth c H locs cells slots Q (F0 m pc ls (.int (nI x) :: rest)) :=
  lv_if_gt hexec hb hdg ht (fun h => kt (n_gt0 hx h)) (fun h => kf (n_ngt0 hx h))
theorem n_if_ltN (hexec : p.tables.exec = Jvm.exec) (hb : c.code = cc) {x : Nat} {off : Int} {tgt : Nat} (hdg : decode cc pc = .ok (.ifCond .lt off, 3)) (ht : (pc : Int) + off = (tgt : Int)) (hx : x < 2 ^ 31) (kf : W p l e R s m args below meth c H locs cells slots Q (F0 m (pc + 3) ls (rest))) : W p l e R s m args below meth c H locs cells slots Q (F0 m pc ls (.int (nI x) :: rest)) :=
  lv_if_lt hexec hb hdg ht (fun h => absurd h (nI_pos hx)) (fun _ => kf)
theorem n_if_geN (hexec : p.tables.exec = Jvm.exec) (hb : c.code = cc) {x : Nat} {off : Int} {tgt : Nat} (hdg : decode cc pc = .ok (.ifCond .ge off, 3)) (ht : (pc : Int) + off = (tgt : Int)) (hx : x < 2 ^ 31) (kt : W p l e R s m args below meth c H locs cells slots Q (F0 m tgt ls (rest))) : W p l e R s m args below meth c H locs cells slots Q (F0 m pc ls (.int (nI x) :: rest)) :=
  lv_if_ge hexec hb hdg ht (fun _ => kt) (fun h => absurd (nI_pos' hx) h)
theorem k_eqT (hexec : p.tables.exec = Jvm.exec) (hb : c.code = cc) {off : Int} {tgt : Nat} (hdg : decode cc pc = .ok (.ifCond .eq off, 3)) (ht : (pc : Int) + off = (tgt : Int)) (k : W p l e R s m args below meth c H locs cells slots Q (F0 m tgt ls (rest))) : W p l e R s m args below meth c H locs cells slots Q (F0 m pc ls (.int (nI 0) :: rest)) :=
  lv_if_eq hexec hb hdg ht (fun _ => k) (fun h => absurd (by decide +kernel) h)
theorem k_eqF (hexec : p.tables.exec = Jvm.exec) (hb : c.code = cc) {off : Int} {tgt : Nat} (hdg : decode cc pc = .ok (.ifCond .eq off, 3)) (ht : (pc : Int) + off = (tgt : Int)) (k : W p l e R s m args below meth c H locs cells slots Q (F0 m (pc + 3) ls (rest))) : W p l e R s m args below meth c H locs cells slots Q (F0 m pc ls (.int (nI 1) :: rest)) :=
  lv_if_eq hexec hb hdg ht (fun h => absurd h (by decide +kernel)) (fun _ => k)
theorem k_neT (hexec : p.tables.exec = Jvm.exec) (hb : c.code = cc) {off : Int} {tgt : Nat} (hdg : decode cc pc = .ok (.ifCond .ne off, 3)) (ht : (pc : Int) + off = (tgt : Int)) (k : W p l e R s m args below meth c H locs cells slots Q (F0 m tgt ls (rest))) : W p l e R s m args below meth c H locs cells slots Q (F0 m pc ls (.int (nI 1) :: rest)) :=
  lv_if_ne hexec hb hdg ht (fun _ => k) (fun h => absurd h (by decide +kernel))
theorem k_neF (hexec : p.tables.exec = Jvm.exec) (hb : c.code = cc) {off : Int} {tgt : Nat} (hdg : decode cc pc = .ok (.ifCond .ne off, 3)) (ht : (pc : Int) + off = (tgt : Int)) (k : W p l e R s m args below meth c H locs cells slots Q (F0 m (pc + 3) ls (rest))) : W p l e R s m args below meth c H locs cells slots Q (F0 m pc ls (.int (nI 0) :: rest)) :=
  lv_if_ne hexec hb hdg ht (fun h => absurd (by decide +kernel) h) (fun _ => k)
theorem k_ltM (hexec : p.tables.exec = Jvm.exec) (hb : c.code = cc) {off : Int} {tgt : Nat} (hdg : decode cc pc = .ok (.ifCond .lt off, 3)) (ht : (pc : Int) + off = (tgt : Int)) (k : W p l e R s m args below meth c H locs cells slots Q (F0 m tgt ls (rest))) : W p l e R s m args below meth c H locs cells slots Q (F0 m pc ls (.int (-1) :: rest)) :=
  lv_if_lt hexec hb hdg ht (fun _ => k) (fun h => absurd (by decide +kernel) h)
theorem k_geM (hexec : p.tables.exec = Jvm.exec) (hb : c.code = cc) {off : Int} {tgt : Nat} (hdg : decode cc pc = .ok (.ifCond .ge off, 3)) (ht : (pc : Int) + off = (tgt : Int)) (k : W p l e R s m args below meth c H locs cells slots Q (F0 m (pc + 3) ls (rest))) : W p l e R s m args below meth c H locs cells slots Q (F0 m pc ls (.int (-1) :: rest)) :=
  lv_if_ge hexec hb hdg ht (fun h => absurd h (by decide +kernel)) (fun _ => k)
end RWE
end
section
/-! the component's reading methods (written by gen/leaf.py) -/
section LEAFA
def bo (c : Prop) (r : Int32) : Prop := (c ∧ r = nI 1) ∨ (¬ c ∧ r = nI 0)
theorem isL {x : Int32} (h : x = 0 ∨ x = 1) : ∃ b, b < 2 ∧ x = nI b := by
  rcases h with e | e
  · exact ⟨0, by decide, by rw [e]; exact nI_0.symm⟩
  · exact ⟨1, by decide, by rw [e]; decide⟩
theorem isL' {b : Nat} (h : b < 2) : nI b = 0 ∨ nI b = 1 := by
  rcases (show b = 0 ∨ b = 1 by omega) with e | e <;> subst e
  · exact Or.inl nI_0
  · exact Or.inr (by decide)
/-- entry y of list x is there -/
def hasP (P : Nat → Nat) (x y : Int32) : Prop := ∃ b n, b < 2 ∧ n < 12 ∧ x = nI b ∧ y = nI n ∧ (P b).testBit n = true
theorem hasP_nI {P : Nat → Nat} {b n : Nat} (hb : b < 2) (hn : n < 12) : hasP P (nI b) (nI n) ↔ (P b).testBit n = true := by
  constructor
  · rintro ⟨b', n', h1, h2, h3, h4, h5⟩
    rw [nI_eq (by omega) (by omega)] at h3 h4
    rw [h3, h4]; exact h5
  · intro h
    exact ⟨b, n, hb, hn, rfl, rfl, h⟩
theorem tb_1 {p n : Nat} : p.testBit n = true ↔ ¬ p / 2 ^ n % 2 = 0 := by
  rw [Nat.testBit_eq_decide_div_mod_eq]
  simp only [decide_eq_true_eq]
  omega
theorem ixN {N : Nat} {y : Int32} (hN : N < 2 ^ 31) (h0 : ¬ y < 0) (h1 : ¬ nI N ≤ y) : ∃ n, n < N ∧ y = nI n := by
  rcases pk_ix y hN with q | q | q
  · exact absurd q h0
  · exact absurd q h1
  · exact q
theorem nar0 : narrow .boolean (.int (nI 0)) = .int (nI 0) := by decide +kernel
theorem nar1 : narrow .boolean (.int (nI 1)) = .int (nI 1) := by decide +kernel
theorem g_callS {p : Program} {l : Launch} {e : Env} {R : Room} {s : State} {m : MethodId} {args : Array Value} {below : List Frame} {meth : Method} {c : Code} {H : Heap} {locs : List Loc} {Q : State → Prop} {cc code' : ByteArray} {nL nL' idx fr lo pc n : Nat} {own : String} {D : va_G} {tys : List (ClassId × FieldType)} {A : Nat → Prop} {ws : va_W} {ok : Prop} {y : MethodName} {ty : FieldType} {As rest st0 : List Value} {ls : Array Slot} {post : Int32 → Prop} (Y : CallFix p m c cc nL s args lw_all own) (X : gX D tys A s ws ok H locs) (hM : cR l y code' nL' ty fr lo As (gAt D tys TT ws ok) post) (hG : GoodIn lw_all (va_wsS own idx y (ws_ y code' nL' (some ty))))
    (hd : y.cls ≠ "java/lang/invoke/MethodHandle" ∧ y.cls ≠ "java/lang/invoke/VarHandle" ∧ (parseMethodDescriptor y.desc).map (fun d => d.parameters.length) = some n) (hn : As.length = n) (hR : fr + 1 ≤ R.frames ∧ 8 + (nL' + 11) + lo ≤ R.locals)
    (hls : ls.size = nL) (hst : st0 = As.reverse ++ rest) (hW : (rest.map fun v => v.category).sum ≤ 8) (hdg : decode cc pc = .ok (.invokestatic idx, 3))
    (kk : ∀ r : Int32, post r → W p l e R s m args below meth c H locs 0 0 Q (F0 m (pc + 3) ls (.int r :: rest))) : W p l e R s m args below meth c H locs 0 0 Q (F0 m pc ls st0) :=
  vp_callSi (W.runS (As := As) (rest := rest) Y hM (va_cwS n Y.2.2.2.2 hG rfl rfl rfl hd hR) ⟨gAt_blind, X.pre⟩ rfl hn hls hst (lv_room hW) hdg ⟨Nat.zero_le _, Nat.zero_le _⟩) kk
end LEAFA
section LEAF
set_option maxHeartbeats 4000000 in
set_option maxRecDepth 100000 in
theorem bt_isList (l : Launch) (D : va_G) (h : Nat) (a : Nat → Nat) (d : Nat → ClassId) (P K S Wt : Nat → Nat) (bg : Nat) (so si rd hp : Nat → Nat) (hn : Nat) (rk : Nat → Nat) (rn dn cu : Nat) (x : Int32)  : cR l yX0_isList cX0_isList 1 .boolean 0 0 [.int x] (bAt D TT h a d P K S Wt bg so si rd hp hn rk rn dn cu) (bo (x = 0 ∨ x = 1)) := by
  refine g_methR (own := "BestPairs") (by decide) rfl (Nat.le_of_ble_eq_true rfl) ?_
  intro p e R s m args below meth c Q Y hRf hRl hret ls hl X
  have hx := Y.1
  have hb := Y.2.1
  have hl : lv_has ls 1 [(0, .int x)] := hl
  refine lv_iload_n hx hb dX0_isList_0 rfl (lv_at hl 0 rfl) ?_
  refine lv_if_eq (tgt := 9) hx hb dX0_isList_1 (by decide) (fun c1 => ?_) (fun c1 => ?_)
  · skip
    refine lv_iconst (v := (nI 1)) hx hb dX0_isList_9 (by decide +kernel) ?_
    refine lv_goto (tgt := 14) hx hb dX0_isList_10 (by decide) ?_
    have hc : x = 0 ∨ x = 1 := by
      first | exact Or.inl c1 | exact Or.inr (by rw [c6]; decide)
    exact hret _ _ _ (Or.inl ⟨hc, rfl⟩) nar1 dX0_isList_14
  · skip
    refine lv_iload_n hx hb dX0_isList_4 rfl (lv_at hl 0 rfl) ?_
    refine lv_iconst (v := (nI 1)) hx hb dX0_isList_5 (by decide +kernel) ?_
    refine lv_icmp_ne (tgt := 13) hx hb dX0_isList_6 (by decide) (fun c6 => ?_) (fun c6 => ?_)
    · skip
      refine lv_iconst (v := (nI 0)) hx hb dX0_isList_13 (by decide +kernel) ?_
      have hc : ¬ (x = 0 ∨ x = 1) := by
        rintro (q | q)
        · exact c1 q
        · exact c6 (by rw [q]; decide)
      exact hret _ _ _ (Or.inr ⟨hc, rfl⟩) nar0 dX0_isList_14
    · skip
      refine lv_iconst (v := (nI 1)) hx hb dX0_isList_9 (by decide +kernel) ?_
      refine lv_goto (tgt := 14) hx hb dX0_isList_10 (by decide) ?_
      have hc : x = 0 ∨ x = 1 := by
        first | exact Or.inl c1 | exact Or.inr (by rw [c6]; decide)
      exact hret _ _ _ (Or.inl ⟨hc, rfl⟩) nar1 dX0_isList_14

set_option maxHeartbeats 4000000 in
set_option maxRecDepth 100000 in
theorem bc_isList {p : Program} {l : Launch} {e : Env} {R : Room} {s : State} {m : MethodId} {args : Array Value} {below : List Frame} {meth : Method} {c : Code} {H : Heap} {locs : List Loc} {Q : State → Prop} {cc : ByteArray} {nL pc h : Nat} {a : Nat → Nat} {d : Nat → ClassId} {D : va_G} {A : Nat → Prop} {rest : List Value} {ls : Array Slot} {P K S Wt : Nat → Nat} {bg : Nat} {so si rd hp : Nat → Nat} {hn : Nat} {rk : Nat → Nat} {rn dn cu : Nat} {x : Int32} (Y : CallFix p m c cc nL s args lw_all "BestPairs") (X : bX D A s h a d P K S Wt bg so si rd hp hn rk rn dn cu H locs)  (hR : 1 ≤ R.frames ∧ 20 ≤ R.locals) (hls : ls.size = nL) (hW : (rest.map fun v => v.category).sum ≤ 8) (hdg : decode cc pc = .ok (.invokestatic 39, 3)) (kk : ∀ r : Int32, (bo (x = 0 ∨ x = 1)) r → W p l e R s m args below meth c H locs 0 0 Q (F0 m (pc + 3) ls (.int r :: rest))) : W p l e R s m args below meth c H locs 0 0 Q (F0 m pc ls (.int x :: rest)) :=
  g_callS (n := 1) (As := [.int x]) Y X (bt_isList l D h a d P K S Wt bg so si rd hp hn rk rn dn cu x ) (lw_S q83 q84 q23 q85) (by decide +kernel) rfl hR hls rfl hW hdg kk
set_option maxHeartbeats 4000000 in
set_option maxRecDepth 100000 in
theorem bt_has (l : Launch) (D : va_G) (h : Nat) (a : Nat → Nat) (d : Nat → ClassId) (P K S Wt : Nat → Nat) (bg : Nat) (so si rd hp : Nat → Nat) (hn : Nat) (rk : Nat → Nat) (rn dn cu : Nat) (x y : Int32)  : cR l yX0_has cX0_has 3 .boolean 1 20 [.ref h, .int x, .int y] (bAt D TT h a d P K S Wt bg so si rd hp hn rk rn dn cu) (bo (hasP P x y)) := by
  refine g_methR (own := "BestPairs") (by decide) rfl (Nat.le_of_ble_eq_true rfl) ?_
  intro p e R s m args below meth c Q Y hRf hRl hret ls hl X
  have hx := Y.1
  have hb := Y.2.1
  have hl : lv_has ls 3 [(0, .ref h), (1, .int x), (2, .int y)] := hl
  refine lv_iload_n hx hb dX0_has_0 rfl (lv_at hl 1 rfl) ?_
  refine bc_isList Y X  ⟨by omega, by omega⟩ hl.1 (Nat.le_of_ble_eq_true rfl) dX0_has_1 (fun r1 hr1 => ?_)
  rcases hr1 with ⟨cc1, er1⟩ | ⟨cc1, er1⟩
  · subst er1
    obtain ⟨b, hb2, eb⟩ := isL cc1
    subst eb
    refine k_eqF (tgt := 34) hx hb dX0_has_4 (by decide) ?_
    refine lv_iload_n hx hb dX0_has_7 rfl (lv_at hl 2 rfl) ?_
    refine lv_if_lt (tgt := 34) hx hb dX0_has_8 (by decide) (fun c8 => ?_) (fun c8 => ?_)
    · skip
      refine lv_iconst (v := (nI 0)) hx hb dX0_has_34 (by decide +kernel) ?_
      have hc : ¬ hasP P (nI b) y := by
        rintro ⟨b0, n0, h1, h2, h3, h4, h5⟩
        first
          | exact cc1 (by rw [h3]; exact isL' h1)
          | exact absurd c8 (by rw [h4]; exact nI_pos (by omega))
          | exact absurd c14 (by rw [h4]; exact nI_ge h2 (by omega))
      exact hret _ _ _ (Or.inr ⟨hc, rfl⟩) nar0 dX0_has_35
    · skip
      refine lv_iload_n hx hb dX0_has_11 rfl (lv_at hl 2 rfl) ?_
      refine lv_bipush (v := (nI 12)) hx hb dX0_has_12 (by decide +kernel) ?_
      refine lv_icmp_ge (tgt := 34) hx hb dX0_has_14 (by decide) (fun c14 => ?_) (fun c14 => ?_)
      · skip
        refine lv_iconst (v := (nI 0)) hx hb dX0_has_34 (by decide +kernel) ?_
        have hc : ¬ hasP P (nI b) y := by
          rintro ⟨b0, n0, h1, h2, h3, h4, h5⟩
          first
            | exact cc1 (by rw [h3]; exact isL' h1)
            | exact absurd c8 (by rw [h4]; exact nI_pos (by omega))
            | exact absurd c14 (by rw [h4]; exact nI_ge h2 (by omega))
        exact hret _ _ _ (Or.inr ⟨hc, rfl⟩) nar0 dX0_has_35
      · skip
        obtain ⟨n, hn12, en⟩ := ixN (N := 12) (by decide) c8 c14
        subst en
        refine lv_aload_n hx hb dX0_has_17 rfl (lv_at hl 0 rfl) ?_
        refine bg_0 Y X dX0_has_18 ?_
        refine lv_iload_n hx hb dX0_has_21 rfl (lv_at hl 1 rfl) ?_
        refine bl_0 Y X (by omega) dX0_has_22 (fun bd22 => ?_)
        refine lv_iload_n hx hb dX0_has_23 rfl (lv_at hl 2 rfl) ?_
        refine n_ishr (z := (P b) / 2 ^ n) hx hb (by omega) (by omega) (rfl) dX0_has_24 ?_
        refine lv_iconst (v := (nI 1)) hx hb dX0_has_25 (by decide +kernel) ?_
        refine n_iandM (z := ((P b) / 2 ^ n) % 2) hx hb 1 (by have := Nat.div_le_self (P b) (2 ^ n); omega) (by decide +kernel) (rfl) dX0_has_26 ?_
        refine n_if_eq (tgt := 34) hx hb dX0_has_27 (by decide) (by omega) (fun c27 => ?_) (fun c27 => ?_)
        · skip
          refine lv_iconst (v := (nI 0)) hx hb dX0_has_34 (by decide +kernel) ?_
          have hc : ¬ hasP P (nI b) (nI n) := fun q => absurd c27 (tb_1.mp ((hasP_nI hb2 hn12).mp q))
          exact hret _ _ _ (Or.inr ⟨hc, rfl⟩) nar0 dX0_has_35
        · skip
          refine lv_iconst (v := (nI 1)) hx hb dX0_has_30 (by decide +kernel) ?_
          refine lv_goto (tgt := 35) hx hb dX0_has_31 (by decide) ?_
          have hc : hasP P (nI b) (nI n) := (hasP_nI hb2 hn12).mpr (tb_1.mpr c27)
          exact hret _ _ _ (Or.inl ⟨hc, rfl⟩) nar1 dX0_has_35
  · subst er1
    refine k_eqT (tgt := 34) hx hb dX0_has_4 (by decide) ?_
    refine lv_iconst (v := (nI 0)) hx hb dX0_has_34 (by decide +kernel) ?_
    have hc : ¬ hasP P x y := by
      rintro ⟨b0, n0, h1, h2, h3, h4, h5⟩
      first
        | exact cc1 (by rw [h3]; exact isL' h1)
        | exact absurd c8 (by rw [h4]; exact nI_pos (by omega))
        | exact absurd c14 (by rw [h4]; exact nI_ge h2 (by omega))
    exact hret _ _ _ (Or.inr ⟨hc, rfl⟩) nar0 dX0_has_35

set_option maxHeartbeats 4000000 in
set_option maxRecDepth 100000 in
theorem bc_has {p : Program} {l : Launch} {e : Env} {R : Room} {s : State} {m : MethodId} {args : Array Value} {below : List Frame} {meth : Method} {c : Code} {H : Heap} {locs : List Loc} {Q : State → Prop} {cc : ByteArray} {nL pc h : Nat} {a : Nat → Nat} {d : Nat → ClassId} {D : va_G} {A : Nat → Prop} {rest : List Value} {ls : Array Slot} {P K S Wt : Nat → Nat} {bg : Nat} {so si rd hp : Nat → Nat} {hn : Nat} {rk : Nat → Nat} {rn dn cu : Nat} {x y : Int32} (Y : CallFix p m c cc nL s args lw_all "BestPairs") (X : bX D A s h a d P K S Wt bg so si rd hp hn rk rn dn cu H locs)  (hR : 2 ≤ R.frames ∧ 42 ≤ R.locals) (hls : ls.size = nL) (hW : (rest.map fun v => v.category).sum ≤ 8) (hdg : decode cc pc = .ok (.invokevirtual 51, 3)) (kk : ∀ r : Int32, (bo (hasP P x y)) r → W p l e R s m args below meth c H locs 0 0 Q (F0 m (pc + 3) ls (.int r :: rest))) : W p l e R s m args below meth c H locs 0 0 Q (F0 m pc ls (.int y :: .int x :: .ref h :: rest)) :=
  g_callR (C := "BestPairs") (ci := 0) (q0 := 0) (n := 2) (As := [.int x, .int y]) Y X (bt_has l D h a d P K S Wt bg so si rd hp hn rk rn dn cu x y ) (lw_V q86 q88 qs0 q23 q89) (by decide +kernel) rfl hR rfl rfl rfl hls rfl hW hdg kk
set_option maxHeartbeats 4000000 in
set_option maxRecDepth 100000 in
theorem bt_entries (l : Launch) (D : va_G) (h : Nat) (a : Nat → Nat) (d : Nat → ClassId) (P K S Wt : Nat → Nat) (bg : Nat) (so si rd hp : Nat → Nat) (hn : Nat) (rk : Nat → Nat) (rn dn cu : Nat) (x : Int32)  : cR l yX0_entries cX0_entries 2 .int 1 20 [.ref h, .int x] (bAt D TT h a d P K S Wt bg so si rd hp hn rk rn dn cu) (fun r => (∃ b, b < 2 ∧ x = nI b ∧ r = nI (P b)) ∨ (¬ (x = 0 ∨ x = 1) ∧ r = 0)) := by
  refine g_methR (own := "BestPairs") (by decide) rfl (Nat.le_of_ble_eq_true rfl) ?_
  intro p e R s m args below meth c Q Y hRf hRl hret ls hl X
  have hx := Y.1
  have hb := Y.2.1
  have hl : lv_has ls 2 [(0, .ref h), (1, .int x)] := hl
  refine lv_iload_n hx hb dX0_entries_0 rfl (lv_at hl 1 rfl) ?_
  refine bc_isList Y X  ⟨by omega, by omega⟩ hl.1 (Nat.le_of_ble_eq_true rfl) dX0_entries_1 (fun r1 hr1 => ?_)
  rcases hr1 with ⟨cc1, er1⟩ | ⟨cc1, er1⟩
  · subst er1
    obtain ⟨b, hb2, eb⟩ := isL cc1
    subst eb
    refine k_eqF (tgt := 16) hx hb dX0_entries_4 (by decide) ?_
    refine lv_aload_n hx hb dX0_entries_7 rfl (lv_at hl 0 rfl) ?_
    refine bg_0 Y X dX0_entries_8 ?_
    refine lv_iload_n hx hb dX0_entries_11 rfl (lv_at hl 1 rfl) ?_
    refine bl_0 Y X (by omega) dX0_entries_12 (fun bd12 => ?_)
    refine lv_goto (tgt := 17) hx hb dX0_entries_13 (by decide) ?_
    exact hret _ _ _ (Or.inl ⟨b, hb2, rfl, rfl⟩) rfl dX0_entries_17
  · subst er1
    refine k_eqT (tgt := 16) hx hb dX0_entries_4 (by decide) ?_
    refine lv_iconst (v := 0) hx hb dX0_entries_16 (by decide +kernel) ?_
    exact hret _ _ _ (Or.inr ⟨by assumption, rfl⟩) rfl dX0_entries_17

set_option maxHeartbeats 4000000 in
set_option maxRecDepth 100000 in
theorem bt_score (l : Launch) (D : va_G) (h : Nat) (a : Nat → Nat) (d : Nat → ClassId) (P K S Wt : Nat → Nat) (bg : Nat) (so si rd hp : Nat → Nat) (hn : Nat) (rk : Nat → Nat) (rn dn cu : Nat) (x y : Int32)  : cR l yX0_score cX0_score 3 .int 2 42 [.ref h, .int x, .int y] (bAt D TT h a d P K S Wt bg so si rd hp hn rk rn dn cu) (fun r => (∃ b n, b < 2 ∧ n < 12 ∧ x = nI b ∧ y = nI n ∧ (P b).testBit n = true ∧ r = nI (S (12 * b + n))) ∨ (¬ hasP P x y ∧ r = -1)) := by
  refine g_methR (own := "BestPairs") (by decide) rfl (Nat.le_of_ble_eq_true rfl) ?_
  intro p e R s m args below meth c Q Y hRf hRl hret ls hl X
  have hx := Y.1
  have hb := Y.2.1
  have hl : lv_has ls 3 [(0, .ref h), (1, .int x), (2, .int y)] := hl
  refine lv_aload_n hx hb dX0_score_0 rfl (lv_at hl 0 rfl) ?_
  refine lv_iload_n hx hb dX0_score_1 rfl (lv_at hl 1 rfl) ?_
  refine lv_iload_n hx hb dX0_score_2 rfl (lv_at hl 2 rfl) ?_
  refine bc_has Y X  ⟨by omega, by omega⟩ hl.1 (Nat.le_of_ble_eq_true rfl) dX0_score_3 (fun r1 hr1 => ?_)
  rcases hr1 with ⟨cc1, er1⟩ | ⟨cc1, er1⟩
  · subst er1
    obtain ⟨b, n, hb2, hn12, eb, en, hbit⟩ := cc1
    subst eb
    subst en
    refine k_eqF (tgt := 23) hx hb dX0_score_6 (by decide) ?_
    refine lv_aload_n hx hb dX0_score_9 rfl (lv_at hl 0 rfl) ?_
    refine bg_2 Y X dX0_score_10 ?_
    refine lv_iload_n hx hb dX0_score_13 rfl (lv_at hl 1 rfl) ?_
    refine lv_bipush (v := (nI 12)) hx hb dX0_score_14 (by decide +kernel) ?_
    refine n_imul (z := 12 * b) hx hb (Nat.mul_comm _ _) dX0_score_16 ?_
    refine lv_iload_n hx hb dX0_score_17 rfl (lv_at hl 2 rfl) ?_
    refine n_iadd (z := 12 * b + n) hx hb (rfl) dX0_score_18 ?_
    refine bl_2 Y X (by omega) dX0_score_19 (fun bd19 => ?_)
    refine lv_goto (tgt := 24) hx hb dX0_score_20 (by decide) ?_
    exact hret _ _ _ (Or.inl ⟨b, n, hb2, hn12, rfl, rfl, hbit, rfl⟩) rfl dX0_score_24
  · subst er1
    refine k_eqT (tgt := 23) hx hb dX0_score_6 (by decide) ?_
    refine lv_iconst (v := (-1)) hx hb dX0_score_23 (by decide +kernel) ?_
    exact hret _ _ _ (Or.inr ⟨by assumption, rfl⟩) rfl dX0_score_24

set_option maxHeartbeats 4000000 in
set_option maxRecDepth 100000 in
theorem bt_part (l : Launch) (D : va_G) (h : Nat) (a : Nat → Nat) (d : Nat → ClassId) (P K S Wt : Nat → Nat) (bg : Nat) (so si rd hp : Nat → Nat) (hn : Nat) (rk : Nat → Nat) (rn dn cu : Nat) (b i : Nat) (hb2 : b < 2) (hi : i < 12) : cR l yX0_part cX0_part 3 .int 0 0 [.ref h, .int (nI b), .int (nI i)] (bAt D TT h a d P K S Wt bg so si rd hp hn rk rn dn cu) (fun r => r = nI (Wt b * S (12 * b + i))) := by
  refine g_methR (own := "BestPairs") (by decide) rfl (Nat.le_of_ble_eq_true rfl) ?_
  intro p e R s m args below meth c Q Y hRf hRl hret ls hl X
  have hx := Y.1
  have hb := Y.2.1
  have hl : lv_has ls 3 [(0, .ref h), (1, .int (nI b)), (2, .int (nI i))] := hl
  refine lv_aload_n hx hb dX0_part_0 rfl (lv_at hl 0 rfl) ?_
  refine bg_3 Y X dX0_part_1 ?_
  refine lv_iload_n hx hb dX0_part_4 rfl (lv_at hl 1 rfl) ?_
  refine bl_3 Y X (by omega) dX0_part_5 (fun bd5 => ?_)
  refine lv_aload_n hx hb dX0_part_6 rfl (lv_at hl 0 rfl) ?_
  refine bg_2 Y X dX0_part_7 ?_
  refine lv_iload_n hx hb dX0_part_10 rfl (lv_at hl 1 rfl) ?_
  refine lv_bipush (v := (nI 12)) hx hb dX0_part_11 (by decide +kernel) ?_
  refine n_imul (z := 12 * b) hx hb (Nat.mul_comm _ _) dX0_part_13 ?_
  refine lv_iload_n hx hb dX0_part_14 rfl (lv_at hl 2 rfl) ?_
  refine n_iadd (z := 12 * b + i) hx hb (rfl) dX0_part_15 ?_
  refine bl_2 Y X (by omega) dX0_part_16 (fun bd16 => ?_)
  refine n_imul (z := (Wt b) * (S (12 * b + i))) hx hb (rfl) dX0_part_17 ?_
  exact hret _ _ _ rfl rfl dX0_part_18

set_option maxHeartbeats 4000000 in
set_option maxRecDepth 100000 in
theorem bc_part {p : Program} {l : Launch} {e : Env} {R : Room} {s : State} {m : MethodId} {args : Array Value} {below : List Frame} {meth : Method} {c : Code} {H : Heap} {locs : List Loc} {Q : State → Prop} {cc : ByteArray} {nL pc h : Nat} {a : Nat → Nat} {d : Nat → ClassId} {D : va_G} {A : Nat → Prop} {rest : List Value} {ls : Array Slot} {P K S Wt : Nat → Nat} {bg : Nat} {so si rd hp : Nat → Nat} {hn : Nat} {rk : Nat → Nat} {rn dn cu : Nat} {b i : Nat} (Y : CallFix p m c cc nL s args lw_all "BestPairs") (X : bX D A s h a d P K S Wt bg so si rd hp hn rk rn dn cu H locs) (hb2 : b < 2) (hi : i < 12) (hR : 1 ≤ R.frames ∧ 22 ≤ R.locals) (hls : ls.size = nL) (hW : (rest.map fun v => v.category).sum ≤ 8) (hdg : decode cc pc = .ok (.invokevirtual 58, 3)) (kk : ∀ r : Int32, (fun r => r = nI (Wt b * S (12 * b + i))) r → W p l e R s m args below meth c H locs 0 0 Q (F0 m (pc + 3) ls (.int r :: rest))) : W p l e R s m args below meth c H locs 0 0 Q (F0 m pc ls (.int (nI i) :: .int (nI b) :: .ref h :: rest)) :=
  g_callR (C := "BestPairs") (ci := 0) (q0 := 0) (n := 2) (As := [.int (nI b), .int (nI i)]) Y X (bt_part l D h a d P K S Wt bg so si rd hp hn rk rn dn cu b i hb2 hi) (lw_V q142 q144 qs8 q23 q145) (by decide +kernel) rfl hR rfl rfl rfl hls rfl hW hdg kk
set_option maxHeartbeats 4000000 in
set_option maxRecDepth 100000 in
theorem bt_valueOf (l : Launch) (D : va_G) (h : Nat) (a : Nat → Nat) (d : Nat → ClassId) (P K S Wt : Nat → Nat) (bg : Nat) (so si rd hp : Nat → Nat) (hn : Nat) (rk : Nat → Nat) (rn dn cu : Nat) (x : Nat) (hx0 : cOK x) : cR l yX0_valueOf cX0_valueOf 3 .int 1 22 [.ref h, .int (nI x)] (bAt D TT h a d P K S Wt bg so si rd hp hn rk rn dn cu) (fun r => r = nI (valC Wt S x)) := by
  refine g_methR (own := "BestPairs") (by decide) rfl (Nat.le_of_ble_eq_true rfl) ?_
  intro p e R s m args below meth c Q Y hRf hRl hret ls hl X
  have hx := Y.1
  have hb := Y.2.1
  have hl : lv_has ls 3 [(0, .ref h), (1, .int (nI x))] := hl
  have hx1 : x < 192 := hx0.1
  have hx2 : x % 16 < 12 := hx0.2
  refine lv_aload_n hx hb dX0_valueOf_0 rfl (lv_at hl 0 rfl) ?_
  refine lv_iconst (v := (nI 0)) hx hb dX0_valueOf_1 (by decide +kernel) ?_
  refine lv_iload_n hx hb dX0_valueOf_2 rfl (lv_at hl 1 rfl) ?_
  refine lv_iconst (v := (nI 4)) hx hb dX0_valueOf_3 (by decide +kernel) ?_
  refine n_ishr (z := x / 16) hx hb (by omega) (by omega) (rfl) dX0_valueOf_4 ?_
  refine bc_part Y X (by omega) (by omega) ⟨by omega, by omega⟩ hl.1 (Nat.le_of_ble_eq_true rfl) dX0_valueOf_5 (fun r1 hr1 => ?_)
  subst hr1
  refine lv_istore_n (lv' := [(2, .int (nI (Wt 0 * S (12 * 0 + (x / 16))))), (0, .ref h), (1, .int (nI x))]) hx hb dX0_valueOf_8 rfl hl (by decide) rfl (fun ls hl => ?_)
  refine lv_iload_n hx hb dX0_valueOf_9 rfl (lv_at hl 0 rfl) ?_
  refine lv_aload_n hx hb dX0_valueOf_10 rfl (lv_at hl 1 rfl) ?_
  refine lv_iconst (v := (nI 1)) hx hb dX0_valueOf_11 (by decide +kernel) ?_
  refine lv_iload_n hx hb dX0_valueOf_12 rfl (lv_at hl 2 rfl) ?_
  refine lv_bipush (v := (nI 15)) hx hb dX0_valueOf_13 (by decide +kernel) ?_
  refine n_iandM (z := x % 16) hx hb 4 (by omega) (by decide +kernel) (rfl) dX0_valueOf_15 ?_
  refine bc_part Y X (by omega) (by omega) ⟨by omega, by omega⟩ hl.1 (Nat.le_of_ble_eq_true rfl) dX0_valueOf_16 (fun r2 hr2 => ?_)
  subst hr2
  refine n_iadd (z := Wt 0 * S (12 * 0 + (x / 16)) + (Wt 1 * S (12 * 1 + (x % 16)))) hx hb (rfl) dX0_valueOf_19 ?_
  refine hret _ _ _ ?_ rfl dX0_valueOf_20
  unfold valC
  rw [show 12 * 0 + x / 16 = x / 16 by omega]

set_option maxHeartbeats 4000000 in
set_option maxRecDepth 100000 in
theorem bc_valueOf {p : Program} {l : Launch} {e : Env} {R : Room} {s : State} {m : MethodId} {args : Array Value} {below : List Frame} {meth : Method} {c : Code} {H : Heap} {locs : List Loc} {Q : State → Prop} {cc : ByteArray} {nL pc h : Nat} {a : Nat → Nat} {d : Nat → ClassId} {D : va_G} {A : Nat → Prop} {rest : List Value} {ls : Array Slot} {P K S Wt : Nat → Nat} {bg : Nat} {so si rd hp : Nat → Nat} {hn : Nat} {rk : Nat → Nat} {rn dn cu : Nat} {x : Nat} (Y : CallFix p m c cc nL s args lw_all "BestPairs") (X : bX D A s h a d P K S Wt bg so si rd hp hn rk rn dn cu H locs) (hx0 : cOK x) (hR : 2 ≤ R.frames ∧ 44 ≤ R.locals) (hls : ls.size = nL) (hW : (rest.map fun v => v.category).sum ≤ 8) (hdg : decode cc pc = .ok (.invokevirtual 62, 3)) (kk : ∀ r : Int32, (fun r => r = nI (valC Wt S x)) r → W p l e R s m args below meth c H locs 0 0 Q (F0 m (pc + 3) ls (.int r :: rest))) : W p l e R s m args below meth c H locs 0 0 Q (F0 m pc ls (.int (nI x) :: .ref h :: rest)) :=
  g_callR (C := "BestPairs") (ci := 0) (q0 := 0) (n := 1) (As := [.int (nI x)]) Y X (bt_valueOf l D h a d P K S Wt bg so si rd hp hn rk rn dn cu x hx0) (lw_V q146 q148 qs9 q23 q149) (by decide +kernel) rfl hR rfl rfl rfl hls rfl hW hdg kk
set_option maxHeartbeats 4000000 in
set_option maxRecDepth 100000 in
theorem bt_before (l : Launch) (D : va_G) (h : Nat) (a : Nat → Nat) (d : Nat → ClassId) (P K S Wt : Nat → Nat) (bg : Nat) (so si rd hp : Nat → Nat) (hn : Nat) (rk : Nat → Nat) (rn dn cu : Nat) (x y : Nat) (hx0 : cOK x) (hy0 : cOK y) : cR l yX0_before cX0_before 5 .boolean 2 44 [.ref h, .int (nI x), .int (nI y)] (bAt D TT h a d P K S Wt bg so si rd hp hn rk rn dn cu) (bo (kap Wt S x < kap Wt S y)) := by
  refine g_methR (own := "BestPairs") (by decide) rfl (Nat.le_of_ble_eq_true rfl) ?_
  intro p e R s m args below meth c Q Y hRf hRl hret ls hl X
  have hx := Y.1
  have hb := Y.2.1
  have hl : lv_has ls 5 [(0, .ref h), (1, .int (nI x)), (2, .int (nI y))] := hl
  have hvx := valC_le X.1.2.2.2.1 X.1.2.2.1 x
  have hvy := valC_le X.1.2.2.2.1 X.1.2.2.1 y
  have hk := kap_lt X.1.2.2.2.1 X.1.2.2.1 (lt256 hx0) (lt256 hy0)
  have hx3 := lt256 hx0
  have hy3 := lt256 hy0
  refine lv_aload_n hx hb dX0_before_0 rfl (lv_at hl 0 rfl) ?_
  refine lv_iload_n hx hb dX0_before_1 rfl (lv_at hl 1 rfl) ?_
  refine bc_valueOf Y X hx0 ⟨by omega, by omega⟩ hl.1 (Nat.le_of_ble_eq_true rfl) dX0_before_2 (fun r1 hr1 => ?_)
  subst hr1
  refine lv_istore_n (lv' := [(3, .int (nI (valC Wt S x))), (0, .ref h), (1, .int (nI x)), (2, .int (nI y))]) hx hb dX0_before_5 rfl hl (by decide) rfl (fun ls hl => ?_)
  refine lv_aload_n hx hb dX0_before_6 rfl (lv_at hl 1 rfl) ?_
  refine lv_iload_n hx hb dX0_before_7 rfl (lv_at hl 3 rfl) ?_
  refine bc_valueOf Y X hy0 ⟨by omega, by omega⟩ hl.1 (Nat.le_of_ble_eq_true rfl) dX0_before_8 (fun r2 hr2 => ?_)
  subst hr2
  refine lv_istore (lv' := [(4, .int (nI (valC Wt S y))), (3, .int (nI (valC Wt S x))), (0, .ref h), (1, .int (nI x)), (2, .int (nI y))]) hx hb dX0_before_11 hl (by decide) rfl (fun ls hl => ?_)
  refine lv_iload_n hx hb dX0_before_13 rfl (lv_at hl 1 rfl) ?_
  refine lv_iload hx hb dX0_before_14 (lv_at hl 0 rfl) ?_
  refine n_icmp_gt (tgt := 30) hx hb dX0_before_16 (by decide) (by omega) (by omega) (fun c16 => ?_) (fun c16 => ?_)
  · skip
    refine lv_iconst (v := (nI 1)) hx hb dX0_before_30 (by decide +kernel) ?_
    refine lv_goto (tgt := 35) hx hb dX0_before_31 (by decide) ?_
    exact hret _ _ _ (Or.inl ⟨hk.mpr (by omega), rfl⟩) nar1 dX0_before_35
  · skip
    refine lv_iload_n hx hb dX0_before_19 rfl (lv_at hl 1 rfl) ?_
    refine lv_iload hx hb dX0_before_20 (lv_at hl 0 rfl) ?_
    refine n_icmp_ne (tgt := 34) hx hb dX0_before_22 (by decide) (by omega) (by omega) (fun c22 => ?_) (fun c22 => ?_)
    · skip
      refine lv_iconst (v := (nI 0)) hx hb dX0_before_34 (by decide +kernel) ?_
      exact hret _ _ _ (Or.inr ⟨fun q => absurd (hk.mp q) (by omega), rfl⟩) nar0 dX0_before_35
    · skip
      refine lv_iload_n hx hb dX0_before_25 rfl (lv_at hl 3 rfl) ?_
      refine lv_iload_n hx hb dX0_before_26 rfl (lv_at hl 4 rfl) ?_
      refine n_icmp_ge (tgt := 34) hx hb dX0_before_27 (by decide) (by omega) (by omega) (fun c27 => ?_) (fun c27 => ?_)
      · skip
        refine lv_iconst (v := (nI 0)) hx hb dX0_before_34 (by decide +kernel) ?_
        exact hret _ _ _ (Or.inr ⟨fun q => absurd (hk.mp q) (by omega), rfl⟩) nar0 dX0_before_35
      · skip
        refine lv_iconst (v := (nI 1)) hx hb dX0_before_30 (by decide +kernel) ?_
        refine lv_goto (tgt := 35) hx hb dX0_before_31 (by decide) ?_
        exact hret _ _ _ (Or.inl ⟨hk.mpr (by omega), rfl⟩) nar1 dX0_before_35

set_option maxHeartbeats 4000000 in
set_option maxRecDepth 100000 in
theorem bc_before {p : Program} {l : Launch} {e : Env} {R : Room} {s : State} {m : MethodId} {args : Array Value} {below : List Frame} {meth : Method} {c : Code} {H : Heap} {locs : List Loc} {Q : State → Prop} {cc : ByteArray} {nL pc h : Nat} {a : Nat → Nat} {d : Nat → ClassId} {D : va_G} {A : Nat → Prop} {rest : List Value} {ls : Array Slot} {P K S Wt : Nat → Nat} {bg : Nat} {so si rd hp : Nat → Nat} {hn : Nat} {rk : Nat → Nat} {rn dn cu : Nat} {x y : Nat} (Y : CallFix p m c cc nL s args lw_all "BestPairs") (X : bX D A s h a d P K S Wt bg so si rd hp hn rk rn dn cu H locs) (hx0 : cOK x) (hy0 : cOK y) (hR : 3 ≤ R.frames ∧ 68 ≤ R.locals) (hls : ls.size = nL) (hW : (rest.map fun v => v.category).sum ≤ 8) (hdg : decode cc pc = .ok (.invokevirtual 97, 3)) (kk : ∀ r : Int32, (bo (kap Wt S x < kap Wt S y)) r → W p l e R s m args below meth c H locs 0 0 Q (F0 m (pc + 3) ls (.int r :: rest))) : W p l e R s m args below meth c H locs 0 0 Q (F0 m pc ls (.int (nI y) :: .int (nI x) :: .ref h :: rest)) :=
  g_callR (C := "BestPairs") (ci := 0) (q0 := 0) (n := 2) (As := [.int (nI x), .int (nI y)]) Y X (bt_before l D h a d P K S Wt bg so si rd hp hn rk rn dn cu x y hx0 hy0) (lw_V q158 q160 qs12 q23 q161) (by decide +kernel) rfl hR rfl rfl rfl hls rfl hW hdg kk
set_option maxHeartbeats 4000000 in
set_option maxRecDepth 100000 in
theorem bt_unread (l : Launch) (D : va_G) (h : Nat) (a : Nat → Nat) (d : Nat → ClassId) (P K S Wt : Nat → Nat) (bg : Nat) (so si rd hp : Nat → Nat) (hn : Nat) (rk : Nat → Nat) (rn dn cu : Nat) (b : Nat) (hb2 : b < 2) : cR l yX0_unread cX0_unread 2 .boolean 0 0 [.ref h, .int (nI b)] (bAt D TT h a d P K S Wt bg so si rd hp hn rk rn dn cu) (bo (rd b < si b)) := by
  refine g_methR (own := "BestPairs") (by decide) rfl (Nat.le_of_ble_eq_true rfl) ?_
  intro p e R s m args below meth c Q Y hRf hRl hret ls hl X
  have hx := Y.1
  have hb := Y.2.1
  have hl : lv_has ls 2 [(0, .ref h), (1, .int (nI b))] := hl
  refine lv_aload_n hx hb dX0_unread_0 rfl (lv_at hl 0 rfl) ?_
  refine bg_7 Y X dX0_unread_1 ?_
  refine lv_iload_n hx hb dX0_unread_4 rfl (lv_at hl 1 rfl) ?_
  refine bl_6 Y X (by omega) dX0_unread_5 (fun bd5 => ?_)
  refine lv_aload_n hx hb dX0_unread_6 rfl (lv_at hl 0 rfl) ?_
  refine bg_6 Y X dX0_unread_7 ?_
  refine lv_iload_n hx hb dX0_unread_10 rfl (lv_at hl 1 rfl) ?_
  refine bl_5 Y X (by omega) dX0_unread_11 (fun bd11 => ?_)
  refine n_icmp_ge (tgt := 19) hx hb dX0_unread_12 (by decide) (by omega) (by omega) (fun c12 => ?_) (fun c12 => ?_)
  · skip
    refine lv_iconst (v := (nI 0)) hx hb dX0_unread_19 (by decide +kernel) ?_
    exact hret _ _ _ (Or.inr ⟨by omega, rfl⟩) nar0 dX0_unread_20
  · skip
    refine lv_iconst (v := (nI 1)) hx hb dX0_unread_15 (by decide +kernel) ?_
    refine lv_goto (tgt := 20) hx hb dX0_unread_16 (by decide) ?_
    exact hret _ _ _ (Or.inl ⟨by omega, rfl⟩) nar1 dX0_unread_20

set_option maxHeartbeats 4000000 in
set_option maxRecDepth 100000 in
theorem bc_unread {p : Program} {l : Launch} {e : Env} {R : Room} {s : State} {m : MethodId} {args : Array Value} {below : List Frame} {meth : Method} {c : Code} {H : Heap} {locs : List Loc} {Q : State → Prop} {cc : ByteArray} {nL pc h : Nat} {a : Nat → Nat} {d : Nat → ClassId} {D : va_G} {A : Nat → Prop} {rest : List Value} {ls : Array Slot} {P K S Wt : Nat → Nat} {bg : Nat} {so si rd hp : Nat → Nat} {hn : Nat} {rk : Nat → Nat} {rn dn cu : Nat} {b : Nat} (Y : CallFix p m c cc nL s args lw_all "BestPairs") (X : bX D A s h a d P K S Wt bg so si rd hp hn rk rn dn cu H locs) (hb2 : b < 2) (hR : 1 ≤ R.frames ∧ 21 ≤ R.locals) (hls : ls.size = nL) (hW : (rest.map fun v => v.category).sum ≤ 8) (hdg : decode cc pc = .ok (.invokevirtual 79, 3)) (kk : ∀ r : Int32, (bo (rd b < si b)) r → W p l e R s m args below meth c H locs 0 0 Q (F0 m (pc + 3) ls (.int r :: rest))) : W p l e R s m args below meth c H locs 0 0 Q (F0 m pc ls (.int (nI b) :: .ref h :: rest)) :=
  g_callR (C := "BestPairs") (ci := 0) (q0 := 0) (n := 1) (As := [.int (nI b)]) Y X (bt_unread l D h a d P K S Wt bg so si rd hp hn rk rn dn cu b hb2) (lw_V q138 q140 qs7 q23 q141) (by decide +kernel) rfl hR rfl rfl rfl hls rfl hW hdg kk
set_option maxHeartbeats 4000000 in
set_option maxRecDepth 100000 in
theorem bt_hope (l : Launch) (D : va_G) (h : Nat) (a : Nat → Nat) (d : Nat → ClassId) (P K S Wt : Nat → Nat) (bg : Nat) (so si rd hp : Nat → Nat) (hn : Nat) (rk : Nat → Nat) (rn dn cu : Nat) (b : Nat) (hb2 : b < 2) : cR l yX0_hope cX0_hope 4 .int 1 22 [.ref h, .int (nI b)] (bAt D TT h a d P K S Wt bg so si rd hp hn rk rn dn cu) (fun r => (rd b < si b ∧ si (1 - b) ≠ 0 ∧ r = nI (Wt b * S (12 * b + so (12 * b + rd b)) + Wt (1 - b) * S (12 * (1 - b) + so (12 * (1 - b)))) ∧ Wt b * S (12 * b + so (12 * b + rd b)) + Wt (1 - b) * S (12 * (1 - b) + so (12 * (1 - b))) ≤ 18000) ∨ (¬ (rd b < si b ∧ si (1 - b) ≠ 0) ∧ r = -1)) := by
  refine g_methR (own := "BestPairs") (by decide) rfl (Nat.le_of_ble_eq_true rfl) ?_
  intro p e R s m args below meth c Q Y hRf hRl hret ls hl X
  have hx := Y.1
  have hb := Y.2.1
  have hl : lv_has ls 4 [(0, .ref h), (1, .int (nI b))] := hl
  have hsi := X.1.2.2.2.2.2.1 b
  refine lv_iconst (v := (nI 1)) hx hb dX0_hope_0 (by decide +kernel) ?_
  refine lv_iload_n hx hb dX0_hope_1 rfl (lv_at hl 1 rfl) ?_
  refine n_isub (z := 1 - b) hx hb (by omega) (rfl) dX0_hope_2 ?_
  refine lv_istore_n (lv' := [(2, .int (nI (1 - b))), (0, .ref h), (1, .int (nI b))]) hx hb dX0_hope_3 rfl hl (by decide) rfl (fun ls hl => ?_)
  refine lv_aload_n hx hb dX0_hope_4 rfl (lv_at hl 1 rfl) ?_
  refine lv_iload_n hx hb dX0_hope_5 rfl (lv_at hl 2 rfl) ?_
  refine bc_unread Y X hb2 ⟨by omega, by omega⟩ hl.1 (Nat.le_of_ble_eq_true rfl) dX0_hope_6 (fun r1 hr1 => ?_)
  rcases hr1 with ⟨cc1, er1⟩ | ⟨cc1, er1⟩
  · subst er1
    refine k_eqF (tgt := 21) hx hb dX0_hope_9 (by decide) ?_
    refine lv_aload_n hx hb dX0_hope_12 rfl (lv_at hl 1 rfl) ?_
    refine bg_6 Y X dX0_hope_13 ?_
    refine lv_iload_n hx hb dX0_hope_16 rfl (lv_at hl 0 rfl) ?_
    refine bl_5 Y X (by omega) dX0_hope_17 (fun bd17 => ?_)
    refine n_if_ne (tgt := 23) hx hb dX0_hope_18 (by decide) (by omega) (fun c18 => ?_) (fun c18 => ?_)
    · skip
      refine lv_aload_n hx hb dX0_hope_23 rfl (lv_at hl 1 rfl) ?_
      refine lv_iload_n hx hb dX0_hope_24 rfl (lv_at hl 2 rfl) ?_
      refine lv_aload_n hx hb dX0_hope_25 rfl (lv_at hl 1 rfl) ?_
      refine bg_5 Y X dX0_hope_26 ?_
      refine lv_iload_n hx hb dX0_hope_29 rfl (lv_at hl 2 rfl) ?_
      refine lv_bipush (v := (nI 12)) hx hb dX0_hope_30 (by decide +kernel) ?_
      refine n_imul (z := 12 * b) hx hb (Nat.mul_comm _ _) dX0_hope_32 ?_
      refine lv_aload_n hx hb dX0_hope_33 rfl (lv_at hl 1 rfl) ?_
      refine bg_7 Y X dX0_hope_34 ?_
      refine lv_iload_n hx hb dX0_hope_37 rfl (lv_at hl 2 rfl) ?_
      refine bl_6 Y X (by omega) dX0_hope_38 (fun bd38 => ?_)
      refine n_iadd (z := 12 * b + (rd b)) hx hb (rfl) dX0_hope_39 ?_
      refine bl_4 Y X (by omega) dX0_hope_40 (fun bd40 => ?_)
      refine bc_part Y X (by omega) (by assumption) ⟨by omega, by omega⟩ hl.1 (Nat.le_of_ble_eq_true rfl) dX0_hope_41 (fun r2 hr2 => ?_)
      subst hr2
      refine lv_istore_n (lv' := [(3, .int (nI (Wt b * S (12 * b + (so (12 * b + (rd b))))))), (2, .int (nI (1 - b))), (0, .ref h), (1, .int (nI b))]) hx hb dX0_hope_44 rfl hl (by decide) rfl (fun ls hl => ?_)
      refine lv_iload_n hx hb dX0_hope_45 rfl (lv_at hl 0 rfl) ?_
      refine lv_aload_n hx hb dX0_hope_46 rfl (lv_at hl 2 rfl) ?_
      refine lv_iload_n hx hb dX0_hope_47 rfl (lv_at hl 1 rfl) ?_
      refine lv_aload_n hx hb dX0_hope_48 rfl (lv_at hl 2 rfl) ?_
      refine bg_5 Y X dX0_hope_49 ?_
      refine lv_iload_n hx hb dX0_hope_52 rfl (lv_at hl 1 rfl) ?_
      refine lv_bipush (v := (nI 12)) hx hb dX0_hope_53 (by decide +kernel) ?_
      refine n_imul (z := 12 * (1 - b)) hx hb (Nat.mul_comm _ _) dX0_hope_55 ?_
      refine bl_4 Y X (by omega) dX0_hope_56 (fun bd56 => ?_)
      refine bc_part Y X (by omega) (by assumption) ⟨by omega, by omega⟩ hl.1 (Nat.le_of_ble_eq_true rfl) dX0_hope_57 (fun r3 hr3 => ?_)
      subst hr3
      refine n_iadd (z := Wt b * S (12 * b + (so (12 * b + (rd b)))) + (Wt (1 - b) * S (12 * (1 - b) + (so (12 * (1 - b)))))) hx hb (rfl) dX0_hope_60 ?_
      have hv1 := part_le X.1.2.2.2.1 X.1.2.2.1 b (12 * b + so (12 * b + rd b))
      have hv2 := part_le X.1.2.2.2.1 X.1.2.2.1 (1 - b) (12 * (1 - b) + so (12 * (1 - b)))
      exact hret _ _ _ (Or.inl ⟨by omega, by omega, rfl, by omega⟩) rfl dX0_hope_61
    · skip
      refine lv_iconst (v := (-1)) hx hb dX0_hope_21 (by decide +kernel) ?_
      exact hret _ _ _ (Or.inr ⟨by omega, rfl⟩) rfl dX0_hope_22
  · subst er1
    refine k_eqT (tgt := 21) hx hb dX0_hope_9 (by decide) ?_
    refine lv_iconst (v := (-1)) hx hb dX0_hope_21 (by decide +kernel) ?_
    exact hret _ _ _ (Or.inr ⟨by omega, rfl⟩) rfl dX0_hope_22

set_option maxHeartbeats 4000000 in
set_option maxRecDepth 100000 in
theorem bc_hope {p : Program} {l : Launch} {e : Env} {R : Room} {s : State} {m : MethodId} {args : Array Value} {below : List Frame} {meth : Method} {c : Code} {H : Heap} {locs : List Loc} {Q : State → Prop} {cc : ByteArray} {nL pc h : Nat} {a : Nat → Nat} {d : Nat → ClassId} {D : va_G} {A : Nat → Prop} {rest : List Value} {ls : Array Slot} {P K S Wt : Nat → Nat} {bg : Nat} {so si rd hp : Nat → Nat} {hn : Nat} {rk : Nat → Nat} {rn dn cu : Nat} {b : Nat} (Y : CallFix p m c cc nL s args lw_all "BestPairs") (X : bX D A s h a d P K S Wt bg so si rd hp hn rk rn dn cu H locs) (hb2 : b < 2) (hR : 2 ≤ R.frames ∧ 45 ≤ R.locals) (hls : ls.size = nL) (hW : (rest.map fun v => v.category).sum ≤ 8) (hdg : decode cc pc = .ok (.invokevirtual 88, 3)) (kk : ∀ r : Int32, (fun r => (rd b < si b ∧ si (1 - b) ≠ 0 ∧ r = nI (Wt b * S (12 * b + so (12 * b + rd b)) + Wt (1 - b) * S (12 * (1 - b) + so (12 * (1 - b)))) ∧ Wt b * S (12 * b + so (12 * b + rd b)) + Wt (1 - b) * S (12 * (1 - b) + so (12 * (1 - b))) ≤ 18000) ∨ (¬ (rd b < si b ∧ si (1 - b) ≠ 0) ∧ r = -1)) r → W p l e R s m args below meth c H locs 0 0 Q (F0 m (pc + 3) ls (.int r :: rest))) : W p l e R s m args below meth c H locs 0 0 Q (F0 m pc ls (.int (nI b) :: .ref h :: rest)) :=
  g_callR (C := "BestPairs") (ci := 0) (q0 := 0) (n := 1) (As := [.int (nI b)]) Y X (bt_hope l D h a d P K S Wt bg so si rd hp hn rk rn dn cu b hb2) (lw_V q134 q136 qs6 q23 q137) (by decide +kernel) rfl hR rfl rfl rfl hls rfl hW hdg kk
set_option maxHeartbeats 4000000 in
set_option maxRecDepth 100000 in
theorem bt_lesserChild (l : Launch) (D : va_G) (h : Nat) (a : Nat → Nat) (d : Nat → ClassId) (P K S Wt : Nat → Nat) (bg : Nat) (so si rd hp : Nat → Nat) (hn : Nat) (rk : Nat → Nat) (rn dn cu : Nat) (k : Nat) (hk : k < 144) : cR l yX0_lesserChild cX0_lesserChild 4 .int 3 68 [.ref h, .int (nI k)] (bAt D TT h a d P K S Wt bg so si rd hp hn rk rn dn cu) (fun r => (hn ≤ 2 * k + 1 ∧ r = -1) ∨ ∃ x, 0 < x ∧ x < hn ∧ (x - 1) / 2 = k ∧ (∀ y, 0 < y → y < hn → (y - 1) / 2 = k → kap Wt S (hp x) ≤ kap Wt S (hp y)) ∧ r = nI x) := by
  refine g_methR (own := "BestPairs") (by decide) rfl (Nat.le_of_ble_eq_true rfl) ?_
  intro p e R s m args below meth c Q Y hRf hRl hret ls hl X
  have hx := Y.1
  have hb := Y.2.1
  have hl : lv_has ls 4 [(0, .ref h), (1, .int (nI k))] := hl
  have hhn : hn ≤ 144 := X.1.2.2.2.2.2.2.2.2.2.2.1
  refine lv_iconst (v := (nI 2)) hx hb dX0_lesserChild_0 (by decide +kernel) ?_
  refine lv_iload_n hx hb dX0_lesserChild_1 rfl (lv_at hl 1 rfl) ?_
  refine n_imul (z := 2 * k) hx hb (rfl) dX0_lesserChild_2 ?_
  refine lv_iconst (v := (nI 1)) hx hb dX0_lesserChild_3 (by decide +kernel) ?_
  refine n_iadd (z := 2 * k + 1) hx hb (rfl) dX0_lesserChild_4 ?_
  refine lv_istore_n (lv' := [(2, .int (nI (2 * k + 1))), (0, .ref h), (1, .int (nI k))]) hx hb dX0_lesserChild_5 rfl hl (by decide) rfl (fun ls hl => ?_)
  refine lv_iload_n hx hb dX0_lesserChild_6 rfl (lv_at hl 0 rfl) ?_
  refine lv_iconst (v := (nI 1)) hx hb dX0_lesserChild_7 (by decide +kernel) ?_
  refine n_iadd (z := 2 * k + 1 + 1) hx hb (rfl) dX0_lesserChild_8 ?_
  refine lv_istore_n (lv' := [(3, .int (nI (2 * k + 1 + 1))), (2, .int (nI (2 * k + 1))), (0, .ref h), (1, .int (nI k))]) hx hb dX0_lesserChild_9 rfl hl (by decide) rfl (fun ls hl => ?_)
  refine lv_iload_n hx hb dX0_lesserChild_10 rfl (lv_at hl 1 rfl) ?_
  refine lv_aload_n hx hb dX0_lesserChild_11 rfl (lv_at hl 2 rfl) ?_
  refine bg_9 Y X dX0_lesserChild_12 (fun bd12 => ?_)
  refine n_icmp_lt (tgt := 20) hx hb dX0_lesserChild_15 (by decide) (by omega) (by omega) (fun c15 => ?_) (fun c15 => ?_)
  · skip
    refine lv_iload_n hx hb dX0_lesserChild_20 rfl (lv_at hl 0 rfl) ?_
    refine lv_aload_n hx hb dX0_lesserChild_21 rfl (lv_at hl 2 rfl) ?_
    refine bg_9 Y X dX0_lesserChild_22 (fun bd22 => ?_)
    refine n_icmp_ge (tgt := 51) hx hb dX0_lesserChild_25 (by decide) (by omega) (by omega) (fun c25 => ?_) (fun c25 => ?_)
    · skip
      refine lv_iload_n hx hb dX0_lesserChild_51 rfl (lv_at hl 1 rfl) ?_
      refine hret _ _ _ (Or.inr ⟨_, by omega, by omega, by omega, fun y y1 y2 y3 => ?_, rfl⟩) rfl dX0_lesserChild_52
      rcases (show y = 2 * k + 1 ∨ y = 2 * k + 1 + 1 by omega) with ey | ey <;> subst ey <;> omega
    · skip
      refine lv_aload_n hx hb dX0_lesserChild_28 rfl (lv_at hl 2 rfl) ?_
      refine lv_aload_n hx hb dX0_lesserChild_29 rfl (lv_at hl 2 rfl) ?_
      refine bg_8 Y X dX0_lesserChild_30 ?_
      refine lv_iload_n hx hb dX0_lesserChild_33 rfl (lv_at hl 0 rfl) ?_
      refine bl_7 Y X (by omega) dX0_lesserChild_34 (fun bd34 => ?_)
      refine lv_aload_n hx hb dX0_lesserChild_35 rfl (lv_at hl 2 rfl) ?_
      refine bg_8 Y X dX0_lesserChild_36 ?_
      refine lv_iload_n hx hb dX0_lesserChild_39 rfl (lv_at hl 1 rfl) ?_
      refine bl_7 Y X (by omega) dX0_lesserChild_40 (fun bd40 => ?_)
      refine bc_before Y X bd34 bd40 ⟨by omega, by omega⟩ hl.1 (Nat.le_of_ble_eq_true rfl) dX0_lesserChild_41 (fun r1 hr1 => ?_)
      rcases hr1 with ⟨cc1, er1⟩ | ⟨cc1, er1⟩
      · subst er1
        refine k_eqF (tgt := 51) hx hb dX0_lesserChild_44 (by decide) ?_
        refine lv_iload_n hx hb dX0_lesserChild_47 rfl (lv_at hl 0 rfl) ?_
        refine lv_goto (tgt := 52) hx hb dX0_lesserChild_48 (by decide) ?_
        refine hret _ _ _ (Or.inr ⟨_, by omega, by omega, by omega, fun y y1 y2 y3 => ?_, rfl⟩) rfl dX0_lesserChild_52
        rcases (show y = 2 * k + 1 ∨ y = 2 * k + 1 + 1 by omega) with ey | ey <;> subst ey <;> omega
      · subst er1
        refine k_eqT (tgt := 51) hx hb dX0_lesserChild_44 (by decide) ?_
        refine lv_iload_n hx hb dX0_lesserChild_51 rfl (lv_at hl 1 rfl) ?_
        refine hret _ _ _ (Or.inr ⟨_, by omega, by omega, by omega, fun y y1 y2 y3 => ?_, rfl⟩) rfl dX0_lesserChild_52
        rcases (show y = 2 * k + 1 ∨ y = 2 * k + 1 + 1 by omega) with ey | ey <;> subst ey <;> omega
  · skip
    refine lv_iconst (v := (-1)) hx hb dX0_lesserChild_18 (by decide +kernel) ?_
    exact hret _ _ _ (Or.inl ⟨by omega, rfl⟩) rfl dX0_lesserChild_19

set_option maxHeartbeats 4000000 in
set_option maxRecDepth 100000 in
theorem bc_lesserChild {p : Program} {l : Launch} {e : Env} {R : Room} {s : State} {m : MethodId} {args : Array Value} {below : List Frame} {meth : Method} {c : Code} {H : Heap} {locs : List Loc} {Q : State → Prop} {cc : ByteArray} {nL pc h : Nat} {a : Nat → Nat} {d : Nat → ClassId} {D : va_G} {A : Nat → Prop} {rest : List Value} {ls : Array Slot} {P K S Wt : Nat → Nat} {bg : Nat} {so si rd hp : Nat → Nat} {hn : Nat} {rk : Nat → Nat} {rn dn cu : Nat} {k : Nat} (Y : CallFix p m c cc nL s args lw_all "BestPairs") (X : bX D A s h a d P K S Wt bg so si rd hp hn rk rn dn cu H locs) (hk : k < 144) (hR : 4 ≤ R.frames ∧ 91 ≤ R.locals) (hls : ls.size = nL) (hW : (rest.map fun v => v.category).sum ≤ 8) (hdg : decode cc pc = .ok (.invokevirtual 100, 3)) (kk : ∀ r : Int32, (fun r => (hn ≤ 2 * k + 1 ∧ r = -1) ∨ ∃ x, 0 < x ∧ x < hn ∧ (x - 1) / 2 = k ∧ (∀ y, 0 < y → y < hn → (y - 1) / 2 = k → kap Wt S (hp x) ≤ kap Wt S (hp y)) ∧ r = nI x) r → W p l e R s m args below meth c H locs 0 0 Q (F0 m (pc + 3) ls (.int r :: rest))) : W p l e R s m args below meth c H locs 0 0 Q (F0 m pc ls (.int (nI k) :: .ref h :: rest)) :=
  g_callR (C := "BestPairs") (ci := 0) (q0 := 0) (n := 1) (As := [.int (nI k)]) Y X (bt_lesserChild l D h a d P K S Wt bg so si rd hp hn rk rn dn cu k hk) (lw_V q154 q156 qs11 q23 q157) (by decide +kernel) rfl hR rfl rfl rfl hls rfl hW hdg kk
end LEAF
end
section
/-! the component's counting and changing methods (written by gen/mut.py) -/
section MUT
set_option maxHeartbeats 4000000 in
set_option maxRecDepth 100000 in
theorem bt_withKey (l : Launch) (D : va_G) (h : Nat) (a : Nat → Nat) (d : Nat → ClassId) (P K S Wt : Nat → Nat) (bg : Nat) (so si rd hp : Nat → Nat) (hn : Nat) (rk : Nat → Nat) (rn dn cu : Nat) (b key : Nat) (hb2 : b < 2) (hkey : key < 8) : cR l yX0_withKey cX0_withKey 5 .int 2 42 [.ref h, .int (nI b), .int (nI key)] (bAt D TT h a d P K S Wt bg so si rd hp hn rk rn dn cu) (fun r => r = nI (wk P K b key 12)) := by
  refine g_methR (own := "BestPairs") (by decide) rfl (Nat.le_of_ble_eq_true rfl) ?_
  intro p e R s m args below meth c Q Y hRf hRl hret ls hl X
  have hx := Y.1
  have hb := Y.2.1
  have hl : lv_has ls 5 [(0, .ref h), (1, .int (nI b)), (2, .int (nI key))] := hl
  have hwk : ∀ i, wk P K b key i ≤ i := fun i => cnt_le _ i
  refine lv_iconst (v := (nI 0)) hx hb dX0_withKey_0 (by decide +kernel) ?_
  refine lv_istore_n (lv' := [(3, .int (nI 0)), (0, .ref h), (1, .int (nI b)), (2, .int (nI key))]) hx hb dX0_withKey_1 rfl hl (by decide) rfl (fun ls hl => ?_)
  refine lv_iconst (v := (nI 0)) hx hb dX0_withKey_2 (by decide +kernel) ?_
  refine lv_istore (lv' := [(4, .int (nI 0)), (3, .int (nI 0)), (0, .ref h), (1, .int (nI b)), (2, .int (nI key))]) hx hb dX0_withKey_3 hl (by decide) rfl (fun ls hl => ?_)
  have loop5 : ∀ (fuel5 : Nat) (i : Nat), 12 - i < fuel5 → i ≤ 12 → ∀ ls : Array Slot, lv_has ls 5 [(0, .ref h), (1, .int (nI b)), (2, .int (nI key)), (3, .int (nI (wk P K b key i))), (4, .int (nI i))] → W p l e R s m args below meth c s.heap [] 0 0 Q (F0 m 5 ls []) := by
    intro fuel5
    induction fuel5 with
    | zero =>
      intro i hfu5
      exact absurd hfu5 (Nat.not_lt_zero _)
    | succ fuel5 ih5 =>
      intro i hfu5 hi ls hl
      refine lv_iload hx hb dX0_withKey_5 (lv_at hl 4 rfl) ?_
      refine lv_bipush (v := (nI 12)) hx hb dX0_withKey_7 (by decide +kernel) ?_
      refine n_icmp_ge (tgt := 47) hx hb dX0_withKey_9 (by decide) (by omega) (by omega) (fun c9 => ?_) (fun c9 => ?_)
      · skip
        refine lv_iload_n hx hb dX0_withKey_47 rfl (lv_at hl 3 rfl) ?_
        have ei : i = 12 := by omega
        subst ei
        exact hret _ _ _ rfl rfl dX0_withKey_48
      · skip
        have hw2 := hwk i
        refine lv_aload_n hx hb dX0_withKey_12 rfl (lv_at hl 0 rfl) ?_
        refine lv_iload_n hx hb dX0_withKey_13 rfl (lv_at hl 1 rfl) ?_
        refine lv_iload hx hb dX0_withKey_14 (lv_at hl 4 rfl) ?_
        refine bc_has Y X  ⟨by omega, by omega⟩ hl.1 (Nat.le_of_ble_eq_true rfl) dX0_withKey_16 (fun r1 hr1 => ?_)
        rcases hr1 with ⟨cc1, er1⟩ | ⟨cc1, er1⟩
        · subst er1
          have hbt := cc1
          refine k_eqF (tgt := 41) hx hb dX0_withKey_19 (by decide) ?_
          refine lv_aload_n hx hb dX0_withKey_22 rfl (lv_at hl 0 rfl) ?_
          refine bg_1 Y X dX0_withKey_23 ?_
          refine lv_iload_n hx hb dX0_withKey_26 rfl (lv_at hl 1 rfl) ?_
          refine lv_bipush (v := (nI 12)) hx hb dX0_withKey_27 (by decide +kernel) ?_
          refine n_imul (z := 12 * b) hx hb (Nat.mul_comm _ _) dX0_withKey_29 ?_
          refine lv_iload hx hb dX0_withKey_30 (lv_at hl 4 rfl) ?_
          refine n_iadd (z := 12 * b + i) hx hb (rfl) dX0_withKey_32 ?_
          refine bl_1 Y X (by omega) dX0_withKey_33 (fun bd33 => ?_)
          refine lv_iload_n hx hb dX0_withKey_34 rfl (lv_at hl 2 rfl) ?_
          refine n_icmp_ne (tgt := 41) hx hb dX0_withKey_35 (by decide) (by omega) (by omega) (fun c35 => ?_) (fun c35 => ?_)
          · skip
            refine lv_iinc (v := nI (i + 1)) (lv' := [(4, .int (nI (i + 1))), (0, .ref h), (1, .int (nI b)), (2, .int (nI key)), (3, .int (nI (wk P K b key i)))]) hx hb dX0_withKey_41 hl (k := 4) rfl (by rw [← nI_1]; rfl) (by decide) rfl (fun ls hl => ?_)
            refine lv_goto (tgt := 5) hx hb dX0_withKey_44 (by decide) ?_
            have ew : wk P K b key (i + 1) = wk P K b key i := by
              show wk P K b key i + (if ((P b).testBit i && (K (12 * b + i) == key)) = true then 1 else 0) = _
              rw [if_neg (by rw [Bool.and_eq_true, beq_iff_eq]; rintro ⟨q1, q2⟩; first | exact c35 q2 | exact hbt ((hasP_nI hb2 (by omega)).mpr q1)), Nat.add_zero]
            rw [← ew] at hl
            exact ih5 (i + 1) (by omega) (by omega) ls (lv_sub hl [1, 2, 3, 4, 0] rfl)
          · skip
            refine lv_iinc (v := nI ((wk P K b key i) + 1)) (lv' := [(3, .int (nI ((wk P K b key i) + 1))), (0, .ref h), (1, .int (nI b)), (2, .int (nI key)), (4, .int (nI i))]) hx hb dX0_withKey_38 hl (k := 3) rfl (by rw [← nI_1]; rfl) (by decide) rfl (fun ls hl => ?_)
            refine lv_iinc (v := nI (i + 1)) (lv' := [(4, .int (nI (i + 1))), (3, .int (nI ((wk P K b key i) + 1))), (0, .ref h), (1, .int (nI b)), (2, .int (nI key))]) hx hb dX0_withKey_41 hl (k := 4) rfl (by rw [← nI_1]; rfl) (by decide) rfl (fun ls hl => ?_)
            refine lv_goto (tgt := 5) hx hb dX0_withKey_44 (by decide) ?_
            have ew : wk P K b key (i + 1) = wk P K b key i + 1 := by
              show wk P K b key i + (if ((P b).testBit i && (K (12 * b + i) == key)) = true then 1 else 0) = _
              rw [if_pos (by rw [Bool.and_eq_true, beq_iff_eq]; exact ⟨(hasP_nI hb2 (by omega)).mp hbt, c35⟩)]
            rw [← ew] at hl
            exact ih5 (i + 1) (by omega) (by omega) ls (lv_sub hl [2, 3, 4, 1, 0] rfl)
        · subst er1
          have hbt := cc1
          refine k_eqT (tgt := 41) hx hb dX0_withKey_19 (by decide) ?_
          refine lv_iinc (v := nI (i + 1)) (lv' := [(4, .int (nI (i + 1))), (0, .ref h), (1, .int (nI b)), (2, .int (nI key)), (3, .int (nI (wk P K b key i)))]) hx hb dX0_withKey_41 hl (k := 4) rfl (by rw [← nI_1]; rfl) (by decide) rfl (fun ls hl => ?_)
          refine lv_goto (tgt := 5) hx hb dX0_withKey_44 (by decide) ?_
          have ew : wk P K b key (i + 1) = wk P K b key i := by
            show wk P K b key i + (if ((P b).testBit i && (K (12 * b + i) == key)) = true then 1 else 0) = _
            rw [if_neg (by rw [Bool.and_eq_true, beq_iff_eq]; rintro ⟨q1, q2⟩; first | exact c35 q2 | exact hbt ((hasP_nI hb2 (by omega)).mpr q1)), Nat.add_zero]
          rw [← ew] at hl
          exact ih5 (i + 1) (by omega) (by omega) ls (lv_sub hl [1, 2, 3, 4, 0] rfl)
  exact loop5 (12 + 1) 0 (by omega) (by omega) ls (lv_sub hl [2, 3, 4, 1, 0] rfl)

set_option maxHeartbeats 4000000 in
set_option maxRecDepth 100000 in
theorem bc_withKey {p : Program} {l : Launch} {e : Env} {R : Room} {s : State} {m : MethodId} {args : Array Value} {below : List Frame} {meth : Method} {c : Code} {H : Heap} {locs : List Loc} {Q : State → Prop} {cc : ByteArray} {nL pc h : Nat} {a : Nat → Nat} {d : Nat → ClassId} {D : va_G} {A : Nat → Prop} {rest : List Value} {ls : Array Slot} {P K S Wt : Nat → Nat} {bg : Nat} {so si rd hp : Nat → Nat} {hn : Nat} {rk : Nat → Nat} {rn dn cu : Nat} {b key : Nat} (Y : CallFix p m c cc nL s args lw_all "BestPairs") (X : bX D A s h a d P K S Wt bg so si rd hp hn rk rn dn cu H locs) (hb2 : b < 2) (hkey : key < 8) (hR : 3 ≤ R.frames ∧ 66 ≤ R.locals) (hls : ls.size = nL) (hW : (rest.map fun v => v.category).sum ≤ 8) (hdg : decode cc pc = .ok (.invokevirtual 110, 3)) (kk : ∀ r : Int32, (fun r => r = nI (wk P K b key 12)) r → W p l e R s m args below meth c H locs 0 0 Q (F0 m (pc + 3) ls (.int r :: rest))) : W p l e R s m args below meth c H locs 0 0 Q (F0 m pc ls (.int (nI key) :: .int (nI b) :: .ref h :: rest)) :=
  g_callR (C := "BestPairs") (ci := 0) (q0 := 0) (n := 2) (As := [.int (nI b), .int (nI key)]) Y X (bt_withKey l D h a d P K S Wt bg so si rd hp hn rk rn dn cu b key hb2 hkey) (lw_V q190 q192 qs15 q23 q193) (by decide +kernel) rfl hR rfl rfl rfl hls rfl hW hdg kk
set_option maxHeartbeats 4000000 in
set_option maxRecDepth 100000 in
theorem bt_pairs (l : Launch) (D : va_G) (h : Nat) (a : Nat → Nat) (d : Nat → ClassId) (P K S Wt : Nat → Nat) (bg : Nat) (so si rd hp : Nat → Nat) (hn : Nat) (rk : Nat → Nat) (rn dn cu : Nat)   : cR l yX0_pairs cX0_pairs 4 .int 3 66 [.ref h] (bAt D TT h a d P K S Wt bg so si rd hp hn rk rn dn cu) (fun r => r = nI (cnt (prP P K) 144)) := by
  refine g_methR (own := "BestPairs") (by decide) rfl (Nat.le_of_ble_eq_true rfl) ?_
  intro p e R s m args below meth c Q Y hRf hRl hret ls hl X
  have hx := Y.1
  have hb := Y.2.1
  have hl : lv_has ls 4 [(0, .ref h)] := hl
  refine lv_iconst (v := (nI 0)) hx hb dX0_pairs_0 (by decide +kernel) ?_
  refine lv_istore_n (lv' := [(1, .int (nI 0)), (0, .ref h)]) hx hb dX0_pairs_1 rfl hl (by decide) rfl (fun ls hl => ?_)
  refine lv_iconst (v := (nI 0)) hx hb dX0_pairs_2 (by decide +kernel) ?_
  refine lv_istore_n (lv' := [(2, .int (nI 0)), (1, .int (nI 0)), (0, .ref h)]) hx hb dX0_pairs_3 rfl hl (by decide) rfl (fun ls hl => ?_)
  have loop4 : ∀ (fuel4 : Nat) (i : Nat), 8 - i < fuel4 → i ≤ 8 → ∀ ls : Array Slot, lv_has ls 4 [(0, .ref h), (1, .int (nI (sm (fun key => wk P K 0 key 12 * wk P K 1 key 12) i))), (2, .int (nI i))] → W p l e R s m args below meth c s.heap [] 0 0 Q (F0 m 4 ls []) := by
    intro fuel4
    induction fuel4 with
    | zero =>
      intro i hfu4
      exact absurd hfu4 (Nat.not_lt_zero _)
    | succ fuel4 ih4 =>
      intro i hfu4 hi ls hl
      refine lv_iload_n hx hb dX0_pairs_4 rfl (lv_at hl 2 rfl) ?_
      refine lv_bipush (v := (nI 8)) hx hb dX0_pairs_5 (by decide +kernel) ?_
      refine n_icmp_ge (tgt := 34) hx hb dX0_pairs_7 (by decide) (by omega) (by omega) (fun c7 => ?_) (fun c7 => ?_)
      · skip
        refine lv_iload_n hx hb dX0_pairs_34 rfl (lv_at hl 1 rfl) ?_
        have ei : i = 8 := by omega
        subst ei
        exact hret _ _ _ (by rw [pairs_eq X.1.2.1]) rfl dX0_pairs_35
      · skip
        refine lv_aload_n hx hb dX0_pairs_10 rfl (lv_at hl 0 rfl) ?_
        refine lv_iconst (v := (nI 0)) hx hb dX0_pairs_11 (by decide +kernel) ?_
        refine lv_iload_n hx hb dX0_pairs_12 rfl (lv_at hl 2 rfl) ?_
        refine bc_withKey Y X (by omega) (by omega) ⟨by omega, by omega⟩ hl.1 (Nat.le_of_ble_eq_true rfl) dX0_pairs_13 (fun r1 hr1 => ?_)
        subst hr1
        refine lv_istore_n (lv' := [(3, .int (nI (wk P K 0 i 12))), (0, .ref h), (1, .int (nI (sm (fun key => wk P K 0 key 12 * wk P K 1 key 12) i))), (2, .int (nI i))]) hx hb dX0_pairs_16 rfl hl (by decide) rfl (fun ls hl => ?_)
        refine lv_iload_n hx hb dX0_pairs_17 rfl (lv_at hl 2 rfl) ?_
        refine lv_iload_n hx hb dX0_pairs_18 rfl (lv_at hl 0 rfl) ?_
        refine lv_aload_n hx hb dX0_pairs_19 rfl (lv_at hl 1 rfl) ?_
        refine lv_iconst (v := (nI 1)) hx hb dX0_pairs_20 (by decide +kernel) ?_
        refine lv_iload_n hx hb dX0_pairs_21 rfl (lv_at hl 3 rfl) ?_
        refine bc_withKey Y X (by omega) (by omega) ⟨by omega, by omega⟩ hl.1 (Nat.le_of_ble_eq_true rfl) dX0_pairs_22 (fun r2 hr2 => ?_)
        subst hr2
        refine n_imul (z := (wk P K 0 i 12) * (wk P K 1 i 12)) hx hb (rfl) dX0_pairs_25 ?_
        refine n_iadd (z := sm (fun key => wk P K 0 key 12 * wk P K 1 key 12) (i + 1)) hx hb (rfl) dX0_pairs_26 ?_
        refine lv_istore_n (lv' := [(1, .int (nI (sm (fun key => wk P K 0 key 12 * wk P K 1 key 12) (i + 1)))), (3, .int (nI (wk P K 0 i 12))), (0, .ref h), (2, .int (nI i))]) hx hb dX0_pairs_27 rfl hl (by decide) rfl (fun ls hl => ?_)
        refine lv_iinc (v := nI (i + 1)) (lv' := [(2, .int (nI (i + 1))), (1, .int (nI (sm (fun key => wk P K 0 key 12 * wk P K 1 key 12) (i + 1)))), (3, .int (nI (wk P K 0 i 12))), (0, .ref h)]) hx hb dX0_pairs_28 hl (k := 3) rfl (by rw [← nI_1]; rfl) (by decide) rfl (fun ls hl => ?_)
        refine lv_goto (tgt := 4) hx hb dX0_pairs_31 (by decide) ?_
        exact ih4 (i + 1) (by omega) (by omega) ls (lv_sub hl [3, 1, 0] rfl)
  exact loop4 (8 + 1) 0 (by omega) (by omega) ls (lv_sub hl [2, 1, 0] rfl)

set_option maxHeartbeats 4000000 in
set_option maxRecDepth 100000 in
theorem bt_passed (l : Launch) (D : va_G) (h : Nat) (a : Nat → Nat) (d : Nat → ClassId) (P K S Wt : Nat → Nat) (bg : Nat) (so si rd hp : Nat → Nat) (hn : Nat) (rk : Nat → Nat) (rn dn cu : Nat)   : cR l yX0_passed cX0_passed 1 .int 0 0 [.ref h] (bAt D TT h a d P K S Wt bg so si rd hp hn rk rn dn cu) (fun r => r = nI cu) := by
  refine g_methR (own := "BestPairs") (by decide) rfl (Nat.le_of_ble_eq_true rfl) ?_
  intro p e R s m args below meth c Q Y hRf hRl hret ls hl X
  have hx := Y.1
  have hb := Y.2.1
  have hl : lv_has ls 1 [(0, .ref h)] := hl
  refine lv_aload_n hx hb dX0_passed_0 rfl (lv_at hl 0 rfl) ?_
  refine bg_13 Y X dX0_passed_1 (fun bd1 => ?_)
  exact hret _ _ _ rfl rfl dX0_passed_4

set_option maxHeartbeats 4000000 in
set_option maxRecDepth 100000 in
theorem bt_rewind (l : Launch) (D : va_G) (h : Nat) (a : Nat → Nat) (d : Nat → ClassId) (P K S Wt : Nat → Nat) (bg : Nat) (so si rd hp : Nat → Nat) (hn : Nat) (rk : Nat → Nat) (rn dn cu : Nat)   : cV (S := Unit) l yX0_rewind cX0_rewind 1 0 0 [.ref h] (bAt D TT h a d P K S Wt bg so si rd hp hn rk rn dn cu) (bA h a) (fun (_ : Unit) => True) (fun u => bAt D (bA h a) h a d P K S Wt bg so si rd hp hn rk rn dn 0) := by
  refine g_methV (own := "BestPairs") (by decide) rfl (Nat.le_of_ble_eq_true rfl) bA_in ?_
  intro p e R s m args below meth c Q Y hRf hRl hret ls hl X
  have hx := Y.1
  have hb := Y.2.1
  have hl : lv_has ls 1 [(0, .ref h)] := hl
  refine lv_aload_n hx hb dX0_rewind_0 rfl (lv_at hl 0 rfl) ?_
  refine lv_iconst (v := (nI 0)) hx hb dX0_rewind_1 (by decide +kernel) ?_
  refine bp_13 Y X (by omega) dX0_rewind_2 (fun H locs X => ?_)
  exact hret () _ _ _ _ X trivial dX0_rewind_5

set_option maxHeartbeats 4000000 in
set_option maxRecDepth 100000 in
theorem bt_changed (l : Launch) (D : va_G) (h : Nat) (a : Nat → Nat) (d : Nat → ClassId) (P K S Wt : Nat → Nat) (bg : Nat) (so si rd hp : Nat → Nat) (hn : Nat) (rk : Nat → Nat) (rn dn cu : Nat)   : cV (S := Unit) l yX0_changed cX0_changed 1 0 0 [.ref h] (bAt D TT h a d P K S Wt bg so si rd hp hn rk rn dn cu) (bA h a) (fun (_ : Unit) => True) (fun u => bAt D (bA h a) h a d P K S Wt 0 so si rd hp hn rk rn dn 0) := by
  refine g_methV (own := "BestPairs") (by decide) rfl (Nat.le_of_ble_eq_true rfl) bA_in ?_
  intro p e R s m args below meth c Q Y hRf hRl hret ls hl X
  have hx := Y.1
  have hb := Y.2.1
  have hl : lv_has ls 1 [(0, .ref h)] := hl
  refine lv_aload_n hx hb dX0_changed_0 rfl (lv_at hl 0 rfl) ?_
  refine lv_iconst (v := (nI 0)) hx hb dX0_changed_1 (by decide +kernel) ?_
  refine bp_4 Y X (by omega) dX0_changed_2 (fun H locs X => ?_)
  refine lv_aload_n hx hb dX0_changed_5 rfl (lv_at hl 0 rfl) ?_
  refine lv_iconst (v := (nI 0)) hx hb dX0_changed_6 (by decide +kernel) ?_
  refine bp_13 Y X (by omega) dX0_changed_7 (fun H locs X => ?_)
  exact hret () _ _ _ _ X trivial dX0_changed_10

set_option maxHeartbeats 4000000 in
set_option maxRecDepth 100000 in
theorem bc_changed {p : Program} {l : Launch} {e : Env} {R : Room} {s : State} {m : MethodId} {args : Array Value} {below : List Frame} {meth : Method} {c : Code} {H : Heap} {locs : List Loc} {Q : State → Prop} {cc : ByteArray} {nL pc h : Nat} {a : Nat → Nat} {d : Nat → ClassId} {D : va_G} {rest : List Value} {ls : Array Slot} {P K S Wt : Nat → Nat} {bg : Nat} {so si rd hp : Nat → Nat} {hn : Nat} {rk : Nat → Nat} {rn dn cu : Nat}  (Y : CallFix p m c cc nL s args lw_all "BestPairs") (X : bX D (bA h a) s h a d P K S Wt bg so si rd hp hn rk rn dn cu H locs)  (hR : 1 ≤ R.frames ∧ 20 ≤ R.locals) (hls : ls.size = nL) (hW : (rest.map fun v => v.category).sum ≤ 8) (hdg : decode cc pc = .ok (.invokevirtual 55, 3)) (kk : ∀ (u : Unit) (H1 : Heap) (locs1 : List Loc), (fun (_ : Unit) => True) u → bX D (bA h a) s h a d P K S Wt 0 so si rd hp hn rk rn dn 0 H1 locs1 → W p l e R s m args below meth c H1 locs1 0 0 Q (F0 m (pc + 3) ls (rest))) : W p l e R s m args below meth c H locs 0 0 Q (F0 m pc ls (.ref h :: rest)) :=
  g_callV (C := "BestPairs") (ci := 0) (q0 := 0) (n := 0) (As := []) Y X (bt_changed l D h a d P K S Wt bg so si rd hp hn rk rn dn cu  ) (lw_V q90 q92 qs1 q23 q93) (by decide +kernel) rfl hR rfl rfl rfl hls rfl hW hdg kk
/-- what enter answers and does -/
def enOK (x k sc : Int32) (b kk t : Nat) : Prop := b < 2 ∧ kk < 8 ∧ t ≤ 1000 ∧ x = nI b ∧ k = nI kk ∧ sc = nI t
def EnR (P K S : Nat → Nat) (cu : Nat) (x k sc r : Int32) (P' K' S' : Nat → Nat) (cu' : Nat) : Prop :=
  ((¬ ∃ b kk t, enOK x k sc b kk t) ∧ r = -1 ∧ P' = P ∧ K' = K ∧ S' = S ∧ cu' = cu) ∨
  (∃ b kk t, enOK x k sc b kk t ∧ (∀ j, j < 12 → (P b).testBit j = true) ∧ r = -2 ∧ P' = P ∧ K' = K ∧ S' = S ∧ cu' = cu) ∨
  (∃ b kk t i, enOK x k sc b kk t ∧ i < 12 ∧ (∀ j, j < i → (P b).testBit j = true) ∧ (P b).testBit i = false ∧ r = nI i ∧ P' = updN P b (P b ||| 2 ^ i) ∧ K' = updN K (12 * b + i) kk ∧ S' = updN S (12 * b + i) t ∧ cu' = 0)
theorem nleN {x : Int32} {N : Nat} (hN : N + 1 < 2 ^ 31) (h0 : ¬ x < 0) (h1 : ¬ nI N < x) : ∃ n, n ≤ N ∧ x = nI n := by
  rcases pk_ix x (n := N + 1) hN with q | q | ⟨n, q1, q2⟩
  · exact absurd q h0
  · exact absurd q (fun q => h1 (by rw [Int32.lt_iff_toInt_lt]; rw [Int32.le_iff_toInt_le] at q; rw [nI_toInt (by omega)] at q ⊢; omega))
  · exact ⟨n, by omega, q2⟩
theorem nleN' {x : Int32} {N : Nat} (hN : N + 1 < 2 ^ 31) (h0 : ¬ x < 0) (h1 : x ≤ nI N) : ∃ n, n ≤ N ∧ x = nI n := nleN hN h0 (fun q => by rw [Int32.lt_iff_toInt_lt] at q; rw [Int32.le_iff_toInt_le] at h1; omega)
theorem enX {x k sc : Int32} (h : ¬ (x = 0 ∨ x = 1)) : ¬ ∃ b kk t, enOK x k sc b kk t := by
  rintro ⟨b, kk, t, h1, h2, h3, h4, h5, h6⟩
  exact h (by rw [h4]; exact isL' h1)
theorem enK {x k sc : Int32} (h : k < 0 ∨ nI 7 < k) : ¬ ∃ b kk t, enOK x k sc b kk t := by
  rintro ⟨b, kk, t, h1, h2, h3, h4, h5, h6⟩
  rcases h with h | h
  · exact nI_pos (n := kk) (by omega) (by rw [← h5]; exact h)
  · rw [h5, nI_ltI (by omega) (by omega)] at h
    omega
theorem enS {x k sc : Int32} (h : sc < 0 ∨ ¬ sc ≤ nI 1000) : ¬ ∃ b kk t, enOK x k sc b kk t := by
  rintro ⟨b, kk, t, h1, h2, h3, h4, h5, h6⟩
  rcases h with h | h
  · exact nI_pos (n := t) (by omega) (by rw [← h6]; exact h)
  · rw [h6, nI_leI (by omega) (by omega)] at h
    omega
theorem mask_lt {p i : Nat} (hp : p < 4096) (hi : i < 12) : p ||| 2 ^ i < 4096 := Nat.or_lt_two_pow (n := 12) hp (Nat.pow_lt_pow_right (by decide) hi)
set_option maxHeartbeats 4000000 in
set_option maxRecDepth 100000 in
theorem bt_enter (l : Launch) (D : va_G) (h : Nat) (a : Nat → Nat) (d : Nat → ClassId) (P K S Wt : Nat → Nat) (bg : Nat) (so si rd hp : Nat → Nat) (hn : Nat) (rk : Nat → Nat) (rn dn cu : Nat) (x k sc : Int32)  : cI (S := (Nat → Nat) × (Nat → Nat) × (Nat → Nat) × Nat × Nat) l yX0_enter cX0_enter 5 .int 2 42 [.ref h, .int x, .int k, .int sc] (bAt D TT h a d P K S Wt bg so si rd hp hn rk rn dn cu) (bA h a) (fun (r : Int32) (u : (Nat → Nat) × (Nat → Nat) × (Nat → Nat) × Nat × Nat) => EnR P K S cu x k sc r u.1 u.2.1 u.2.2.1 u.2.2.2.2 ∧ ((u.2.2.2.1 = 0 ∧ u.2.2.2.2 = 0) ∨ (u.1 = P ∧ u.2.1 = K ∧ u.2.2.1 = S ∧ u.2.2.2.1 = bg ∧ u.2.2.2.2 = cu))) (fun u => bAt D (bA h a) h a d (u.1) (u.2.1) (u.2.2.1) Wt (u.2.2.2.1) so si rd hp hn rk rn dn (u.2.2.2.2)) := by
  refine g_methI (own := "BestPairs") (by decide) rfl (Nat.le_of_ble_eq_true rfl) bA_in ?_
  intro p e R s m args below meth c Q Y hRf hRl hret ls hl X
  have hx := Y.1
  have hb := Y.2.1
  have hl : lv_has ls 5 [(0, .ref h), (1, .int x), (2, .int k), (3, .int sc)] := hl
  refine lv_iload_n hx hb dX0_enter_0 rfl (lv_at hl 1 rfl) ?_
  refine bc_isList Y X  ⟨by omega, by omega⟩ hl.1 (Nat.le_of_ble_eq_true rfl) dX0_enter_1 (fun r1 hr1 => ?_)
  rcases hr1 with ⟨cc1, er1⟩ | ⟨cc1, er1⟩
  · subst er1
    obtain ⟨b, hb2, eb⟩ := isL cc1
    subst eb
    refine k_eqF (tgt := 28) hx hb dX0_enter_4 (by decide) ?_
    refine lv_iload_n hx hb dX0_enter_7 rfl (lv_at hl 2 rfl) ?_
    refine lv_if_lt (tgt := 28) hx hb dX0_enter_8 (by decide) (fun c8 => ?_) (fun c8 => ?_)
    · skip
      refine lv_iconst (v := (-1)) hx hb dX0_enter_28 (by decide +kernel) ?_
      refine hret (P, K, S, bg, cu) _ _ _ _ _ X ⟨Or.inl ⟨?_, rfl, rfl, rfl, rfl, rfl⟩, Or.inr ⟨rfl, rfl, rfl, rfl, rfl⟩⟩ rfl dX0_enter_29
      first | exact enX cc1 | exact enK (Or.inl c8) | exact enK (Or.inr c14) | exact enS (Or.inl c18) | exact enS (Or.inr c25)
    · skip
      refine lv_iload_n hx hb dX0_enter_11 rfl (lv_at hl 2 rfl) ?_
      refine lv_bipush (v := (nI 7)) hx hb dX0_enter_12 (by decide +kernel) ?_
      refine lv_icmp_gt (tgt := 28) hx hb dX0_enter_14 (by decide) (fun c14 => ?_) (fun c14 => ?_)
      · skip
        refine lv_iconst (v := (-1)) hx hb dX0_enter_28 (by decide +kernel) ?_
        refine hret (P, K, S, bg, cu) _ _ _ _ _ X ⟨Or.inl ⟨?_, rfl, rfl, rfl, rfl, rfl⟩, Or.inr ⟨rfl, rfl, rfl, rfl, rfl⟩⟩ rfl dX0_enter_29
        first | exact enX cc1 | exact enK (Or.inl c8) | exact enK (Or.inr c14) | exact enS (Or.inl c18) | exact enS (Or.inr c25)
      · skip
        refine lv_iload_n hx hb dX0_enter_17 rfl (lv_at hl 3 rfl) ?_
        refine lv_if_lt (tgt := 28) hx hb dX0_enter_18 (by decide) (fun c18 => ?_) (fun c18 => ?_)
        · skip
          refine lv_iconst (v := (-1)) hx hb dX0_enter_28 (by decide +kernel) ?_
          refine hret (P, K, S, bg, cu) _ _ _ _ _ X ⟨Or.inl ⟨?_, rfl, rfl, rfl, rfl, rfl⟩, Or.inr ⟨rfl, rfl, rfl, rfl, rfl⟩⟩ rfl dX0_enter_29
          first | exact enX cc1 | exact enK (Or.inl c8) | exact enK (Or.inr c14) | exact enS (Or.inl c18) | exact enS (Or.inr c25)
        · skip
          refine lv_iload_n hx hb dX0_enter_21 rfl (lv_at hl 3 rfl) ?_
          refine lv_sipush (v := (nI 1000)) hx hb dX0_enter_22 (by decide +kernel) ?_
          refine lv_icmp_le (tgt := 30) hx hb dX0_enter_25 (by decide) (fun c25 => ?_) (fun c25 => ?_)
          · skip
            obtain ⟨kk, hkk, ek⟩ := nleN (by decide) c8 c14
            obtain ⟨t, ht1, et⟩ := nleN' (by decide) c18 c25
            subst ek
            subst et
            have hen : enOK (nI b) (nI kk) (nI t) b kk t := ⟨hb2, by omega, ht1, rfl, rfl, rfl⟩
            refine lv_iconst (v := (nI 0)) hx hb dX0_enter_30 (by decide +kernel) ?_
            refine lv_istore (lv' := [(4, .int (nI 0)), (0, .ref h), (1, .int (nI b)), (2, .int (nI kk)), (3, .int (nI t))]) hx hb dX0_enter_31 hl (by decide) rfl (fun ls hl => ?_)
            have loop33 : ∀ (fuel33 : Nat) (i : Nat), 12 - i < fuel33 → i ≤ 12 → (∀ j, j < i → (P b).testBit j = true) → ∀ (H : Heap) (locs : List Loc), bX D (bA h a) s h a d P K S Wt bg so si rd hp hn rk rn dn cu H locs → ∀ ls : Array Slot, lv_has ls 5 [(0, .ref h), (1, .int (nI b)), (2, .int (nI kk)), (3, .int (nI t)), (4, .int (nI i))] → W p l e R s m args below meth c H locs 0 0 Q (F0 m 33 ls []) := by
              intro fuel33
              induction fuel33 with
              | zero =>
                intro i hfu33
                exact absurd hfu33 (Nat.not_lt_zero _)
              | succ fuel33 ih33 =>
                intro i hfu33 hi hfull H locs X ls hl
                refine lv_iload hx hb dX0_enter_33 (lv_at hl 4 rfl) ?_
                refine lv_bipush (v := (nI 12)) hx hb dX0_enter_35 (by decide +kernel) ?_
                refine n_icmp_ge (tgt := 104) hx hb dX0_enter_37 (by decide) (by omega) (by omega) (fun c37 => ?_) (fun c37 => ?_)
                · skip
                  refine lv_bipush (v := (-2)) hx hb dX0_enter_104 (by decide +kernel) ?_
                  have ei : i = 12 := by omega
                  subst ei
                  exact hret (P, K, S, bg, cu) _ _ _ _ _ X ⟨Or.inr (Or.inl ⟨b, kk, t, hen, hfull, rfl, rfl, rfl, rfl, rfl⟩), Or.inr ⟨rfl, rfl, rfl, rfl, rfl⟩⟩ rfl dX0_enter_106
                · skip
                  refine lv_aload_n hx hb dX0_enter_40 rfl (lv_at hl 0 rfl) ?_
                  refine lv_iload_n hx hb dX0_enter_41 rfl (lv_at hl 1 rfl) ?_
                  refine lv_iload hx hb dX0_enter_42 (lv_at hl 4 rfl) ?_
                  refine bc_has Y X  ⟨by omega, by omega⟩ hl.1 (Nat.le_of_ble_eq_true rfl) dX0_enter_44 (fun r2 hr2 => ?_)
                  rcases hr2 with ⟨cc2, er2⟩ | ⟨cc2, er2⟩
                  · subst er2
                    have hbt := cc2
                    refine k_neT (tgt := 98) hx hb dX0_enter_47 (by decide) ?_
                    refine lv_iinc (v := nI (i + 1)) (lv' := [(4, .int (nI (i + 1))), (0, .ref h), (1, .int (nI b)), (2, .int (nI kk)), (3, .int (nI t))]) hx hb dX0_enter_98 hl (k := 4) rfl (by rw [← nI_1]; rfl) (by decide) rfl (fun ls hl => ?_)
                    refine lv_goto (tgt := 33) hx hb dX0_enter_101 (by decide) ?_
                    have hfull2 : ∀ j, j < i + 1 → (P b).testBit j = true := lt_s hfull ((hasP_nI hb2 (by omega)).mp hbt)
                    exact ih33 (i + 1) (by omega) (by omega) hfull2 _ _ X ls (lv_sub hl [1, 2, 3, 4, 0] rfl)
                  · subst er2
                    have hbt := cc2
                    refine k_neF (tgt := 98) hx hb dX0_enter_47 (by decide) ?_
                    refine lv_aload_n hx hb dX0_enter_50 rfl (lv_at hl 0 rfl) ?_
                    refine bg_0 Y X dX0_enter_51 ?_
                    refine lv_iload_n hx hb dX0_enter_54 rfl (lv_at hl 1 rfl) ?_
                    refine lv_dup2_11 hx hb dX0_enter_55 rfl rfl ?_
                    refine bl_0 Y X (by omega) dX0_enter_56 (fun bd56 => ?_)
                    refine lv_iconst (v := (nI 1)) hx hb dX0_enter_57 (by decide +kernel) ?_
                    refine lv_iload hx hb dX0_enter_58 (lv_at hl 4 rfl) ?_
                    refine n_ishl hx hb (by omega) dX0_enter_60 ?_
                    refine n_ior hx hb dX0_enter_61 ?_
                    refine bs_0 (j := b) (x := (P b) ||| (2 ^ i)) Y X (by omega) (mask_lt bd56 (by omega)) dX0_enter_62 (fun H locs X => ?_)
                    refine lv_aload_n hx hb dX0_enter_63 rfl (lv_at hl 0 rfl) ?_
                    refine bg_1 Y X dX0_enter_64 ?_
                    refine lv_iload_n hx hb dX0_enter_67 rfl (lv_at hl 1 rfl) ?_
                    refine lv_bipush (v := (nI 12)) hx hb dX0_enter_68 (by decide +kernel) ?_
                    refine n_imul (z := 12 * b) hx hb (Nat.mul_comm _ _) dX0_enter_70 ?_
                    refine lv_iload hx hb dX0_enter_71 (lv_at hl 4 rfl) ?_
                    refine n_iadd (z := 12 * b + i) hx hb (rfl) dX0_enter_73 ?_
                    refine lv_iload_n hx hb dX0_enter_74 rfl (lv_at hl 2 rfl) ?_
                    refine n_i2b hx hb (by omega) dX0_enter_75 ?_
                    refine bs_1 (j := 12 * b + i) (x := kk) Y X (by omega) (by omega) dX0_enter_76 (fun H locs X => ?_)
                    refine lv_aload_n hx hb dX0_enter_77 rfl (lv_at hl 0 rfl) ?_
                    refine bg_2 Y X dX0_enter_78 ?_
                    refine lv_iload_n hx hb dX0_enter_81 rfl (lv_at hl 1 rfl) ?_
                    refine lv_bipush (v := (nI 12)) hx hb dX0_enter_82 (by decide +kernel) ?_
                    refine n_imul (z := 12 * b) hx hb (Nat.mul_comm _ _) dX0_enter_84 ?_
                    refine lv_iload hx hb dX0_enter_85 (lv_at hl 4 rfl) ?_
                    refine n_iadd (z := 12 * b + i) hx hb (rfl) dX0_enter_87 ?_
                    refine lv_iload_n hx hb dX0_enter_88 rfl (lv_at hl 3 rfl) ?_
                    refine n_i2s hx hb (by omega) dX0_enter_89 ?_
                    refine bs_2 (j := 12 * b + i) (x := t) Y X (by omega) (by omega) dX0_enter_90 (fun H locs X => ?_)
                    refine lv_aload_n hx hb dX0_enter_91 rfl (lv_at hl 0 rfl) ?_
                    refine bc_changed Y X ⟨by omega, by omega⟩ hl.1 (Nat.le_of_ble_eq_true rfl) dX0_enter_92 (fun _ H locs _ X => ?_)
                    refine lv_iload hx hb dX0_enter_95 (lv_at hl 4 rfl) ?_
                    have hfree : (P b).testBit i = false := by
                      cases hq : (P b).testBit i with
                      | false => rfl
                      | true => exact absurd ((hasP_nI hb2 (by omega)).mpr hq) hbt
                    exact hret (updN P b (P b ||| 2 ^ i), updN K (12 * b + i) kk, updN S (12 * b + i) t, 0, 0) _ _ _ _ _ X ⟨Or.inr (Or.inr ⟨b, kk, t, i, hen, by omega, hfull, hfree, rfl, rfl, rfl, rfl, rfl⟩), Or.inl ⟨rfl, rfl⟩⟩ rfl dX0_enter_97
            exact loop33 (12 + 1) 0 (by omega) (by omega) lt_0 _ _ X ls (lv_sub hl [1, 2, 3, 4, 0] rfl)
          · skip
            refine lv_iconst (v := (-1)) hx hb dX0_enter_28 (by decide +kernel) ?_
            refine hret (P, K, S, bg, cu) _ _ _ _ _ X ⟨Or.inl ⟨?_, rfl, rfl, rfl, rfl, rfl⟩, Or.inr ⟨rfl, rfl, rfl, rfl, rfl⟩⟩ rfl dX0_enter_29
            first | exact enX cc1 | exact enK (Or.inl c8) | exact enK (Or.inr c14) | exact enS (Or.inl c18) | exact enS (Or.inr c25)
  · subst er1
    refine k_eqT (tgt := 28) hx hb dX0_enter_4 (by decide) ?_
    refine lv_iconst (v := (-1)) hx hb dX0_enter_28 (by decide +kernel) ?_
    refine hret (P, K, S, bg, cu) _ _ _ _ _ X ⟨Or.inl ⟨?_, rfl, rfl, rfl, rfl, rfl⟩, Or.inr ⟨rfl, rfl, rfl, rfl, rfl⟩⟩ rfl dX0_enter_29
    first | exact enX cc1 | exact enK (Or.inl c8) | exact enK (Or.inr c14) | exact enS (Or.inl c18) | exact enS (Or.inr c25)

/-- what remove, rescore and weigh answer and do -/
abbrev offM (p n : Nat) : Nat := p &&& (2 ^ n ^^^ 4294967295)
def RmR (P : Nat → Nat) (cu : Nat) (x y r : Int32) (P' : Nat → Nat) (cu' : Nat) : Prop := (¬ hasP P x y ∧ r = nI 0 ∧ P' = P ∧ cu' = cu) ∨ (∃ b n, b < 2 ∧ n < 12 ∧ x = nI b ∧ y = nI n ∧ (P b).testBit n = true ∧ r = nI 1 ∧ P' = updN P b (offM (P b) n) ∧ cu' = 0)
def RsR (P S : Nat → Nat) (cu : Nat) (x y z r : Int32) (S' : Nat → Nat) (cu' : Nat) : Prop := (¬ (∃ t, t ≤ 1000 ∧ z = nI t ∧ hasP P x y) ∧ r = nI 0 ∧ S' = S ∧ cu' = cu) ∨ (∃ b n t, b < 2 ∧ n < 12 ∧ t ≤ 1000 ∧ x = nI b ∧ y = nI n ∧ z = nI t ∧ (P b).testBit n = true ∧ r = nI 1 ∧ S' = updN S (12 * b + n) t ∧ cu' = 0)
def WgR (Wt : Nat → Nat) (cu : Nat) (x y r : Int32) (W' : Nat → Nat) (cu' : Nat) : Prop := (¬ (∃ b t, b < 2 ∧ t ≤ 9 ∧ x = nI b ∧ y = nI t) ∧ r = nI 0 ∧ W' = Wt ∧ cu' = cu) ∨ (∃ b t, b < 2 ∧ t ≤ 9 ∧ x = nI b ∧ y = nI t ∧ r = nI 1 ∧ W' = updN Wt b t ∧ cu' = 0)
set_option maxHeartbeats 4000000 in
set_option maxRecDepth 100000 in
theorem bt_remove (l : Launch) (D : va_G) (h : Nat) (a : Nat → Nat) (d : Nat → ClassId) (P K S Wt : Nat → Nat) (bg : Nat) (so si rd hp : Nat → Nat) (hn : Nat) (rk : Nat → Nat) (rn dn cu : Nat) (x y : Int32)  : cI (S := (Nat → Nat) × Nat × Nat) l yX0_remove cX0_remove 3 .boolean 2 42 [.ref h, .int x, .int y] (bAt D TT h a d P K S Wt bg so si rd hp hn rk rn dn cu) (bA h a) (fun (r : Int32) (u : (Nat → Nat) × Nat × Nat) => RmR P cu x y r u.1 u.2.2 ∧ ((u.2.1 = 0 ∧ u.2.2 = 0) ∨ (u.1 = P ∧ u.2.1 = bg ∧ u.2.2 = cu))) (fun u => bAt D (bA h a) h a d (u.1) K S Wt (u.2.1) so si rd hp hn rk rn dn (u.2.2)) := by
  refine g_methI (own := "BestPairs") (by decide) rfl (Nat.le_of_ble_eq_true rfl) bA_in ?_
  intro p e R s m args below meth c Q Y hRf hRl hret ls hl X
  have hx := Y.1
  have hb := Y.2.1
  have hl : lv_has ls 3 [(0, .ref h), (1, .int x), (2, .int y)] := hl
  refine lv_aload_n hx hb dX0_remove_0 rfl (lv_at hl 0 rfl) ?_
  refine lv_iload_n hx hb dX0_remove_1 rfl (lv_at hl 1 rfl) ?_
  refine lv_iload_n hx hb dX0_remove_2 rfl (lv_at hl 2 rfl) ?_
  refine bc_has Y X  ⟨by omega, by omega⟩ hl.1 (Nat.le_of_ble_eq_true rfl) dX0_remove_3 (fun r1 hr1 => ?_)
  rcases hr1 with ⟨cc1, er1⟩ | ⟨cc1, er1⟩
  · subst er1
    obtain ⟨b, n, hb2, hn12, eb, en, hbit⟩ := cc1
    subst eb
    subst en
    refine k_neT (tgt := 11) hx hb dX0_remove_6 (by decide) ?_
    refine lv_aload_n hx hb dX0_remove_11 rfl (lv_at hl 0 rfl) ?_
    refine bg_0 Y X dX0_remove_12 ?_
    refine lv_iload_n hx hb dX0_remove_15 rfl (lv_at hl 1 rfl) ?_
    refine lv_dup2_11 hx hb dX0_remove_16 rfl rfl ?_
    refine bl_0 Y X (by omega) dX0_remove_17 (fun bd17 => ?_)
    refine lv_iconst (v := (nI 1)) hx hb dX0_remove_18 (by decide +kernel) ?_
    refine lv_iload_n hx hb dX0_remove_19 rfl (lv_at hl 2 rfl) ?_
    refine n_ishl hx hb (by omega) dX0_remove_20 ?_
    refine lv_iconst (v := (nI 4294967295)) hx hb dX0_remove_21 (by decide +kernel) ?_
    refine n_ixor hx hb dX0_remove_22 ?_
    refine n_iand hx hb dX0_remove_23 ?_
    refine bs_0 (j := b) (x := (P b) &&& ((2 ^ n) ^^^ 4294967295)) Y X (by omega) (Nat.lt_of_le_of_lt Nat.and_le_left bd17) dX0_remove_24 (fun H locs X => ?_)
    refine lv_aload_n hx hb dX0_remove_25 rfl (lv_at hl 0 rfl) ?_
    refine bc_changed Y X ⟨by omega, by omega⟩ hl.1 (Nat.le_of_ble_eq_true rfl) dX0_remove_26 (fun _ H locs _ X => ?_)
    refine lv_iconst (v := (nI 1)) hx hb dX0_remove_29 (by decide +kernel) ?_
    exact hret (updN P b (offM (P b) n), 0, 0) _ _ _ _ _ X ⟨Or.inr ⟨b, n, hb2, hn12, rfl, rfl, hbit, rfl, rfl, rfl⟩, Or.inl ⟨rfl, rfl⟩⟩ nar1 dX0_remove_30
  · subst er1
    refine k_neF (tgt := 11) hx hb dX0_remove_6 (by decide) ?_
    refine lv_iconst (v := (nI 0)) hx hb dX0_remove_9 (by decide +kernel) ?_
    exact hret (P, bg, cu) _ _ _ _ _ X ⟨Or.inl ⟨cc1, rfl, rfl, rfl⟩, Or.inr ⟨rfl, rfl, rfl⟩⟩ nar0 dX0_remove_10

set_option maxHeartbeats 4000000 in
set_option maxRecDepth 100000 in
theorem bt_rescore (l : Launch) (D : va_G) (h : Nat) (a : Nat → Nat) (d : Nat → ClassId) (P K S Wt : Nat → Nat) (bg : Nat) (so si rd hp : Nat → Nat) (hn : Nat) (rk : Nat → Nat) (rn dn cu : Nat) (x y z : Int32)  : cI (S := (Nat → Nat) × Nat × Nat) l yX0_rescore cX0_rescore 4 .boolean 2 42 [.ref h, .int x, .int y, .int z] (bAt D TT h a d P K S Wt bg so si rd hp hn rk rn dn cu) (bA h a) (fun (r : Int32) (u : (Nat → Nat) × Nat × Nat) => RsR P S cu x y z r u.1 u.2.2 ∧ ((u.2.1 = 0 ∧ u.2.2 = 0) ∨ (u.1 = S ∧ u.2.1 = bg ∧ u.2.2 = cu))) (fun u => bAt D (bA h a) h a d P K (u.1) Wt (u.2.1) so si rd hp hn rk rn dn (u.2.2)) := by
  refine g_methI (own := "BestPairs") (by decide) rfl (Nat.le_of_ble_eq_true rfl) bA_in ?_
  intro p e R s m args below meth c Q Y hRf hRl hret ls hl X
  have hx := Y.1
  have hb := Y.2.1
  have hl : lv_has ls 4 [(0, .ref h), (1, .int x), (2, .int y), (3, .int z)] := hl
  refine lv_aload_n hx hb dX0_rescore_0 rfl (lv_at hl 0 rfl) ?_
  refine lv_iload_n hx hb dX0_rescore_1 rfl (lv_at hl 1 rfl) ?_
  refine lv_iload_n hx hb dX0_rescore_2 rfl (lv_at hl 2 rfl) ?_
  refine bc_has Y X  ⟨by omega, by omega⟩ hl.1 (Nat.le_of_ble_eq_true rfl) dX0_rescore_3 (fun r1 hr1 => ?_)
  rcases hr1 with ⟨cc1, er1⟩ | ⟨cc1, er1⟩
  · subst er1
    obtain ⟨b, n, hb2, hn12, eb, en, hbit⟩ := cc1
    subst eb
    subst en
    refine k_eqF (tgt := 20) hx hb dX0_rescore_6 (by decide) ?_
    refine lv_iload_n hx hb dX0_rescore_9 rfl (lv_at hl 3 rfl) ?_
    refine lv_if_lt (tgt := 20) hx hb dX0_rescore_10 (by decide) (fun c10 => ?_) (fun c10 => ?_)
    · skip
      refine lv_iconst (v := (nI 0)) hx hb dX0_rescore_20 (by decide +kernel) ?_
      refine hret (S, bg, cu) _ _ _ _ _ X ⟨Or.inl ⟨?_, rfl, rfl, rfl⟩, Or.inr ⟨rfl, rfl, rfl⟩⟩ nar0 dX0_rescore_21
      rintro ⟨t, h1, h2, h3⟩
      first
        | exact cc1 h3
        | exact nI_pos (n := t) (by omega) (by rw [← h2]; exact c10)
        | exact c17 (by rw [h2]; exact nI_le h1 (by omega))
    · skip
      refine lv_iload_n hx hb dX0_rescore_13 rfl (lv_at hl 3 rfl) ?_
      refine lv_sipush (v := (nI 1000)) hx hb dX0_rescore_14 (by decide +kernel) ?_
      refine lv_icmp_le (tgt := 22) hx hb dX0_rescore_17 (by decide) (fun c17 => ?_) (fun c17 => ?_)
      · skip
        obtain ⟨t, ht1, et⟩ := nleN' (by decide) c10 c17
        subst et
        refine lv_aload_n hx hb dX0_rescore_22 rfl (lv_at hl 0 rfl) ?_
        refine bg_2 Y X dX0_rescore_23 ?_
        refine lv_iload_n hx hb dX0_rescore_26 rfl (lv_at hl 1 rfl) ?_
        refine lv_bipush (v := (nI 12)) hx hb dX0_rescore_27 (by decide +kernel) ?_
        refine n_imul (z := 12 * b) hx hb (Nat.mul_comm _ _) dX0_rescore_29 ?_
        refine lv_iload_n hx hb dX0_rescore_30 rfl (lv_at hl 2 rfl) ?_
        refine n_iadd (z := 12 * b + n) hx hb (rfl) dX0_rescore_31 ?_
        refine lv_iload_n hx hb dX0_rescore_32 rfl (lv_at hl 3 rfl) ?_
        refine n_i2s hx hb (by omega) dX0_rescore_33 ?_
        refine bs_2 (j := 12 * b + n) (x := t) Y X (by omega) (by omega) dX0_rescore_34 (fun H locs X => ?_)
        refine lv_aload_n hx hb dX0_rescore_35 rfl (lv_at hl 0 rfl) ?_
        refine bc_changed Y X ⟨by omega, by omega⟩ hl.1 (Nat.le_of_ble_eq_true rfl) dX0_rescore_36 (fun _ H locs _ X => ?_)
        refine lv_iconst (v := (nI 1)) hx hb dX0_rescore_39 (by decide +kernel) ?_
        exact hret (updN S (12 * b + n) t, 0, 0) _ _ _ _ _ X ⟨Or.inr ⟨b, n, t, hb2, hn12, ht1, rfl, rfl, rfl, hbit, rfl, rfl, rfl⟩, Or.inl ⟨rfl, rfl⟩⟩ nar1 dX0_rescore_40
      · skip
        refine lv_iconst (v := (nI 0)) hx hb dX0_rescore_20 (by decide +kernel) ?_
        refine hret (S, bg, cu) _ _ _ _ _ X ⟨Or.inl ⟨?_, rfl, rfl, rfl⟩, Or.inr ⟨rfl, rfl, rfl⟩⟩ nar0 dX0_rescore_21
        rintro ⟨t, h1, h2, h3⟩
        first
          | exact cc1 h3
          | exact nI_pos (n := t) (by omega) (by rw [← h2]; exact c10)
          | exact c17 (by rw [h2]; exact nI_le h1 (by omega))
  · subst er1
    refine k_eqT (tgt := 20) hx hb dX0_rescore_6 (by decide) ?_
    refine lv_iconst (v := (nI 0)) hx hb dX0_rescore_20 (by decide +kernel) ?_
    refine hret (S, bg, cu) _ _ _ _ _ X ⟨Or.inl ⟨?_, rfl, rfl, rfl⟩, Or.inr ⟨rfl, rfl, rfl⟩⟩ nar0 dX0_rescore_21
    rintro ⟨t, h1, h2, h3⟩
    first
      | exact cc1 h3
      | exact nI_pos (n := t) (by omega) (by rw [← h2]; exact c10)
      | exact c17 (by rw [h2]; exact nI_le h1 (by omega))

set_option maxHeartbeats 4000000 in
set_option maxRecDepth 100000 in
theorem bt_weigh (l : Launch) (D : va_G) (h : Nat) (a : Nat → Nat) (d : Nat → ClassId) (P K S Wt : Nat → Nat) (bg : Nat) (so si rd hp : Nat → Nat) (hn : Nat) (rk : Nat → Nat) (rn dn cu : Nat) (x y : Int32)  : cI (S := (Nat → Nat) × Nat × Nat) l yX0_weigh cX0_weigh 3 .boolean 1 20 [.ref h, .int x, .int y] (bAt D TT h a d P K S Wt bg so si rd hp hn rk rn dn cu) (bA h a) (fun (r : Int32) (u : (Nat → Nat) × Nat × Nat) => WgR Wt cu x y r u.1 u.2.2 ∧ ((u.2.1 = 0 ∧ u.2.2 = 0) ∨ (u.1 = Wt ∧ u.2.1 = bg ∧ u.2.2 = cu))) (fun u => bAt D (bA h a) h a d P K S (u.1) (u.2.1) so si rd hp hn rk rn dn (u.2.2)) := by
  refine g_methI (own := "BestPairs") (by decide) rfl (Nat.le_of_ble_eq_true rfl) bA_in ?_
  intro p e R s m args below meth c Q Y hRf hRl hret ls hl X
  have hx := Y.1
  have hb := Y.2.1
  have hl : lv_has ls 3 [(0, .ref h), (1, .int x), (2, .int y)] := hl
  refine lv_iload_n hx hb dX0_weigh_0 rfl (lv_at hl 1 rfl) ?_
  refine bc_isList Y X  ⟨by omega, by omega⟩ hl.1 (Nat.le_of_ble_eq_true rfl) dX0_weigh_1 (fun r1 hr1 => ?_)
  rcases hr1 with ⟨cc1, er1⟩ | ⟨cc1, er1⟩
  · subst er1
    obtain ⟨b, hb2, eb⟩ := isL cc1
    subst eb
    refine k_eqF (tgt := 17) hx hb dX0_weigh_4 (by decide) ?_
    refine lv_iload_n hx hb dX0_weigh_7 rfl (lv_at hl 2 rfl) ?_
    refine lv_if_lt (tgt := 17) hx hb dX0_weigh_8 (by decide) (fun c8 => ?_) (fun c8 => ?_)
    · skip
      refine lv_iconst (v := (nI 0)) hx hb dX0_weigh_17 (by decide +kernel) ?_
      refine hret (Wt, bg, cu) _ _ _ _ _ X ⟨Or.inl ⟨?_, rfl, rfl, rfl⟩, Or.inr ⟨rfl, rfl, rfl⟩⟩ nar0 dX0_weigh_18
      rintro ⟨b0, t, h0, h1, h2, h3⟩
      first
        | exact cc1 (by rw [h2]; exact isL' h0)
        | exact nI_pos (n := t) (by omega) (by rw [← h3]; exact c8)
        | exact c14 (by rw [h3]; exact nI_le h1 (by omega))
    · skip
      refine lv_iload_n hx hb dX0_weigh_11 rfl (lv_at hl 2 rfl) ?_
      refine lv_bipush (v := (nI 9)) hx hb dX0_weigh_12 (by decide +kernel) ?_
      refine lv_icmp_le (tgt := 19) hx hb dX0_weigh_14 (by decide) (fun c14 => ?_) (fun c14 => ?_)
      · skip
        obtain ⟨t, ht1, et⟩ := nleN' (by decide) c8 c14
        subst et
        refine lv_aload_n hx hb dX0_weigh_19 rfl (lv_at hl 0 rfl) ?_
        refine bg_3 Y X dX0_weigh_20 ?_
        refine lv_iload_n hx hb dX0_weigh_23 rfl (lv_at hl 1 rfl) ?_
        refine lv_iload_n hx hb dX0_weigh_24 rfl (lv_at hl 2 rfl) ?_
        refine n_i2b hx hb (by omega) dX0_weigh_25 ?_
        refine bs_3 (j := b) (x := t) Y X (by omega) (by omega) dX0_weigh_26 (fun H locs X => ?_)
        refine lv_aload_n hx hb dX0_weigh_27 rfl (lv_at hl 0 rfl) ?_
        refine bc_changed Y X ⟨by omega, by omega⟩ hl.1 (Nat.le_of_ble_eq_true rfl) dX0_weigh_28 (fun _ H locs _ X => ?_)
        refine lv_iconst (v := (nI 1)) hx hb dX0_weigh_31 (by decide +kernel) ?_
        exact hret (updN Wt b t, 0, 0) _ _ _ _ _ X ⟨Or.inr ⟨b, t, hb2, ht1, rfl, rfl, rfl, rfl, rfl⟩, Or.inl ⟨rfl, rfl⟩⟩ nar1 dX0_weigh_32
      · skip
        refine lv_iconst (v := (nI 0)) hx hb dX0_weigh_17 (by decide +kernel) ?_
        refine hret (Wt, bg, cu) _ _ _ _ _ X ⟨Or.inl ⟨?_, rfl, rfl, rfl⟩, Or.inr ⟨rfl, rfl, rfl⟩⟩ nar0 dX0_weigh_18
        rintro ⟨b0, t, h0, h1, h2, h3⟩
        first
          | exact cc1 (by rw [h2]; exact isL' h0)
          | exact nI_pos (n := t) (by omega) (by rw [← h3]; exact c8)
          | exact c14 (by rw [h3]; exact nI_le h1 (by omega))
  · subst er1
    refine k_eqT (tgt := 17) hx hb dX0_weigh_4 (by decide) ?_
    refine lv_iconst (v := (nI 0)) hx hb dX0_weigh_17 (by decide +kernel) ?_
    refine hret (Wt, bg, cu) _ _ _ _ _ X ⟨Or.inl ⟨?_, rfl, rfl, rfl⟩, Or.inr ⟨rfl, rfl, rfl⟩⟩ nar0 dX0_weigh_18
    rintro ⟨b0, t, h0, h1, h2, h3⟩
    first
      | exact cc1 (by rw [h2]; exact isL' h0)
      | exact nI_pos (n := t) (by omega) (by rw [← h3]; exact c8)
      | exact c14 (by rw [h3]; exact nI_le h1 (by omega))

end MUT
end
section
/-! the component's heap (written by gen/heap.py) -/
section HPW
set_option maxHeartbeats 4000000 in
set_option maxRecDepth 100000 in
theorem bt_push (l : Launch) (D : va_G) (h : Nat) (a : Nat → Nat) (d : Nat → ClassId) (P K S Wt : Nat → Nat) (bg : Nat) (so si rd hp : Nat → Nat) (hn : Nat) (rk : Nat → Nat) (rn dn cu : Nat) (x : Nat) (hx0 : cOK x) (hlt : hn < 144) (hho : HpO (kap Wt S) hp hn) : cV (S := Nat → Nat) l yX0_push cX0_push 3 3 68 [.ref h, .int (nI x)] (bAt D TT h a d P K S Wt bg so si rd hp hn rk rn dn cu) (bA h a) (fun (hq : Nat → Nat) => HpO (kap Wt S) hq (hn + 1) ∧ Pm (updN hp hn x) hq (hn + 1)) (fun u => bAt D (bA h a) h a d P K S Wt bg so si rd u (hn + 1) rk rn dn cu) := by
  refine g_methV (own := "BestPairs") (by decide) rfl (Nat.le_of_ble_eq_true rfl) bA_in ?_
  intro p e R s m args below meth c Q Y hRf hRl hret ls hl X
  have hx := Y.1
  have hb := Y.2.1
  have hl : lv_has ls 3 [(0, .ref h), (1, .int (nI x))] := hl
  refine lv_aload_n hx hb dX0_push_0 rfl (lv_at hl 0 rfl) ?_
  refine bg_9 Y X dX0_push_1 (fun bd1 => ?_)
  refine lv_istore_n (lv' := [(2, .int (nI hn)), (0, .ref h), (1, .int (nI x))]) hx hb dX0_push_4 rfl hl (by decide) rfl (fun ls hl => ?_)
  refine lv_aload_n hx hb dX0_push_5 rfl (lv_at hl 1 rfl) ?_
  refine lv_dup hx hb dX0_push_6 rfl ?_
  refine bg_9 Y X dX0_push_7 (fun bd7 => ?_)
  refine lv_iconst (v := (nI 1)) hx hb dX0_push_10 (by decide +kernel) ?_
  refine n_iadd (z := hn + 1) hx hb (rfl) dX0_push_11 ?_
  refine bp_9 Y X (by omega) dX0_push_12 (fun H locs X => ?_)
  have loop15 : ∀ (fuel15 : Nat) (k : Nat) (hq : Nat → Nat), k < fuel15 → UpI (kap Wt S) hp hn x hq k → ∀ (H : Heap) (locs : List Loc), bX D (bA h a) s h a d P K S Wt bg so si rd hq (hn + 1) rk rn dn cu H locs → ∀ ls : Array Slot, lv_has ls 3 [(0, .ref h), (1, .int (nI x)), (2, .int (nI k))] → W p l e R s m args below meth c H locs 0 0 Q (F0 m 15 ls []) := by
    intro fuel15
    induction fuel15 with
    | zero =>
      intro k hq hfu15
      exact absurd hfu15 (Nat.not_lt_zero _)
    | succ fuel15 ih15 =>
      intro k hq hfu15 hup H locs X ls hl
      have hk1 := hup.1
      refine lv_iload_n hx hb dX0_push_15 rfl (lv_at hl 2 rfl) ?_
      refine n_if_le (tgt := 62) hx hb dX0_push_16 (by decide) (by omega) (fun c16 => ?_) (fun c16 => ?_)
      · skip
        refine lv_aload_n hx hb dX0_push_62 rfl (lv_at hl 0 rfl) ?_
        refine bg_8 Y X dX0_push_63 ?_
        refine lv_iload_n hx hb dX0_push_66 rfl (lv_at hl 2 rfl) ?_
        refine lv_iload_n hx hb dX0_push_67 rfl (lv_at hl 1 rfl) ?_
        refine n_i2s hx hb (by have := hx0.1; omega) dX0_push_68 ?_
        refine bs_7 (j := k) (x := x) Y X (by omega) hx0 dX0_push_69 (fun H locs X => ?_)
        exact hret (updN hq k x) _ _ _ _ X (hup.fin (fun h0 => by first | omega | exact cc1)) dX0_push_70
      · skip
        refine lv_aload_n hx hb dX0_push_19 rfl (lv_at hl 0 rfl) ?_
        refine lv_iload_n hx hb dX0_push_20 rfl (lv_at hl 1 rfl) ?_
        refine lv_aload_n hx hb dX0_push_21 rfl (lv_at hl 0 rfl) ?_
        refine bg_8 Y X dX0_push_22 ?_
        refine lv_iload_n hx hb dX0_push_25 rfl (lv_at hl 2 rfl) ?_
        refine lv_iconst (v := (nI 1)) hx hb dX0_push_26 (by decide +kernel) ?_
        refine n_isub (z := k - 1) hx hb (by omega) (rfl) dX0_push_27 ?_
        refine lv_iconst (v := (nI 1)) hx hb dX0_push_28 (by decide +kernel) ?_
        refine n_ishr (z := (k - 1) / 2) hx hb (by omega) (by omega) (rfl) dX0_push_29 ?_
        refine bl_7 Y X (by omega) dX0_push_30 (fun bd30 => ?_)
        refine bc_before Y X hx0 bd30 ⟨by omega, by omega⟩ hl.1 (Nat.le_of_ble_eq_true rfl) dX0_push_31 (fun r1 hr1 => ?_)
        rcases hr1 with ⟨cc1, er1⟩ | ⟨cc1, er1⟩
        · subst er1
          refine k_eqF (tgt := 62) hx hb dX0_push_34 (by decide) ?_
          refine lv_aload_n hx hb dX0_push_37 rfl (lv_at hl 0 rfl) ?_
          refine bg_8 Y X dX0_push_38 ?_
          refine lv_iload_n hx hb dX0_push_41 rfl (lv_at hl 2 rfl) ?_
          refine lv_aload_n hx hb dX0_push_42 rfl (lv_at hl 0 rfl) ?_
          refine bg_8 Y X dX0_push_43 ?_
          refine lv_iload_n hx hb dX0_push_46 rfl (lv_at hl 2 rfl) ?_
          refine lv_iconst (v := (nI 1)) hx hb dX0_push_47 (by decide +kernel) ?_
          refine n_isub (z := k - 1) hx hb (by omega) (rfl) dX0_push_48 ?_
          refine lv_iconst (v := (nI 1)) hx hb dX0_push_49 (by decide +kernel) ?_
          refine n_ishr (z := (k - 1) / 2) hx hb (by omega) (by omega) (rfl) dX0_push_50 ?_
          refine bl_7 Y X (by omega) dX0_push_51 (fun bd51 => ?_)
          refine bs_7 (j := k) (x := hq ((k - 1) / 2)) Y X (by omega) bd51 dX0_push_52 (fun H locs X => ?_)
          refine lv_iload_n hx hb dX0_push_53 rfl (lv_at hl 2 rfl) ?_
          refine lv_iconst (v := (nI 1)) hx hb dX0_push_54 (by decide +kernel) ?_
          refine n_isub (z := k - 1) hx hb (by omega) (rfl) dX0_push_55 ?_
          refine lv_iconst (v := (nI 1)) hx hb dX0_push_56 (by decide +kernel) ?_
          refine n_ishr (z := (k - 1) / 2) hx hb (by omega) (by omega) (rfl) dX0_push_57 ?_
          refine lv_istore_n (lv' := [(2, .int (nI ((k - 1) / 2))), (0, .ref h), (1, .int (nI x))]) hx hb dX0_push_58 rfl hl (by decide) rfl (fun ls hl => ?_)
          refine lv_goto (tgt := 15) hx hb dX0_push_59 (by decide) ?_
          have hup2 := hup.step c16 cc1
          exact ih15 ((k - 1) / 2) (updN hq k (hq ((k - 1) / 2))) (by omega) hup2 _ _ X ls (lv_sub hl [1, 2, 0] rfl)
        · subst er1
          refine k_eqT (tgt := 62) hx hb dX0_push_34 (by decide) ?_
          refine lv_aload_n hx hb dX0_push_62 rfl (lv_at hl 0 rfl) ?_
          refine bg_8 Y X dX0_push_63 ?_
          refine lv_iload_n hx hb dX0_push_66 rfl (lv_at hl 2 rfl) ?_
          refine lv_iload_n hx hb dX0_push_67 rfl (lv_at hl 1 rfl) ?_
          refine n_i2s hx hb (by have := hx0.1; omega) dX0_push_68 ?_
          refine bs_7 (j := k) (x := x) Y X (by omega) hx0 dX0_push_69 (fun H locs X => ?_)
          exact hret (updN hq k x) _ _ _ _ X (hup.fin (fun h0 => by first | omega | exact cc1)) dX0_push_70
  exact loop15 (hn + 1) hn hp (by omega) (UpI.init hho) _ _ X ls (lv_sub hl [1, 2, 0] rfl)

set_option maxHeartbeats 4000000 in
set_option maxRecDepth 100000 in
theorem bc_push {p : Program} {l : Launch} {e : Env} {R : Room} {s : State} {m : MethodId} {args : Array Value} {below : List Frame} {meth : Method} {c : Code} {H : Heap} {locs : List Loc} {Q : State → Prop} {cc : ByteArray} {nL pc h : Nat} {a : Nat → Nat} {d : Nat → ClassId} {D : va_G} {rest : List Value} {ls : Array Slot} {P K S Wt : Nat → Nat} {bg : Nat} {so si rd hp : Nat → Nat} {hn : Nat} {rk : Nat → Nat} {rn dn cu : Nat} {x : Nat} (Y : CallFix p m c cc nL s args lw_all "BestPairs") (X : bX D (bA h a) s h a d P K S Wt bg so si rd hp hn rk rn dn cu H locs) (hx0 : cOK x) (hlt : hn < 144) (hho : HpO (kap Wt S) hp hn) (hR : 4 ≤ R.frames ∧ 90 ≤ R.locals) (hls : ls.size = nL) (hW : (rest.map fun v => v.category).sum ≤ 8) (hdg : decode cc pc = .ok (.invokevirtual 82, 3)) (kk : ∀ (u : Nat → Nat) (H1 : Heap) (locs1 : List Loc), (fun (hq : Nat → Nat) => HpO (kap Wt S) hq (hn + 1) ∧ Pm (updN hp hn x) hq (hn + 1)) u → bX D (bA h a) s h a d P K S Wt bg so si rd u (hn + 1) rk rn dn cu H1 locs1 → W p l e R s m args below meth c H1 locs1 0 0 Q (F0 m (pc + 3) ls (rest))) : W p l e R s m args below meth c H locs 0 0 Q (F0 m pc ls (.int (nI x) :: .ref h :: rest)) :=
  g_callV (C := "BestPairs") (ci := 0) (q0 := 0) (n := 1) (As := [.int (nI x)]) Y X (bt_push l D h a d P K S Wt bg so si rd hp hn rk rn dn cu x hx0 hlt hho) (lw_V q166 q168 qs14 q23 q169) (by decide +kernel) rfl hR rfl rfl rfl hls rfl hW hdg kk
set_option maxHeartbeats 4000000 in
set_option maxRecDepth 100000 in
theorem bt_pop (l : Launch) (D : va_G) (h : Nat) (a : Nat → Nat) (d : Nat → ClassId) (P K S Wt : Nat → Nat) (bg : Nat) (so si rd hp : Nat → Nat) (hn : Nat) (rk : Nat → Nat) (rn dn cu : Nat) (n : Nat) (hhn : hn = n + 1) (hho : HpO (kap Wt S) hp (n + 1)) : cV (S := Nat → Nat) l yX0_pop cX0_pop 4 4 91 [.ref h] (bAt D TT h a d P K S Wt bg so si rd hp hn rk rn dn cu) (bA h a) (fun (hq : Nat → Nat) => HpO (kap Wt S) hq n ∧ Pm (updN hp 0 (hp n)) hq n) (fun u => bAt D (bA h a) h a d P K S Wt bg so si rd u n rk rn dn cu) := by
  refine g_methV (own := "BestPairs") (by decide) rfl (Nat.le_of_ble_eq_true rfl) bA_in ?_
  intro p e R s m args below meth c Q Y hRf hRl hret ls hl X
  have hx := Y.1
  have hb := Y.2.1
  have hl : lv_has ls 4 [(0, .ref h)] := hl
  subst hhn
  refine lv_aload_n hx hb dX0_pop_0 rfl (lv_at hl 0 rfl) ?_
  refine lv_dup hx hb dX0_pop_1 rfl ?_
  refine bg_9 Y X dX0_pop_2 (fun bd2 => ?_)
  refine lv_iconst (v := (nI 1)) hx hb dX0_pop_5 (by decide +kernel) ?_
  refine n_isub (z := n) hx hb (by omega) (Nat.add_sub_cancel _ _) dX0_pop_6 ?_
  refine bp_9 Y X (by omega) dX0_pop_7 (fun H locs X => ?_)
  refine lv_aload_n hx hb dX0_pop_10 rfl (lv_at hl 0 rfl) ?_
  refine bg_8 Y X dX0_pop_11 ?_
  refine lv_aload_n hx hb dX0_pop_14 rfl (lv_at hl 0 rfl) ?_
  refine bg_9 Y X dX0_pop_15 (fun bd15 => ?_)
  refine bl_7 Y X (by omega) dX0_pop_18 (fun bd18 => ?_)
  refine lv_istore_n (lv' := [(1, .int (nI (hp n))), (0, .ref h)]) hx hb dX0_pop_19 rfl hl (by decide) rfl (fun ls hl => ?_)
  refine lv_iconst (v := (nI 0)) hx hb dX0_pop_20 (by decide +kernel) ?_
  refine lv_istore_n (lv' := [(2, .int (nI 0)), (1, .int (nI (hp n))), (0, .ref h)]) hx hb dX0_pop_21 rfl hl (by decide) rfl (fun ls hl => ?_)
  refine lv_aload_n hx hb dX0_pop_22 rfl (lv_at hl 2 rfl) ?_
  refine lv_iconst (v := (nI 0)) hx hb dX0_pop_23 (by decide +kernel) ?_
  refine bc_lesserChild (k := 0) Y X (by omega) ⟨by omega, by omega⟩ hl.1 (Nat.le_of_ble_eq_true rfl) dX0_pop_24 (fun r1 hr1 => ?_)
  refine lv_istore_n (lv' := [(3, .int r1), (2, .int (nI 0)), (1, .int (nI (hp n))), (0, .ref h)]) hx hb dX0_pop_27 rfl hl (by decide) rfl (fun ls hl => ?_)
  have loop28 : ∀ (fuel28 : Nat) (k : Nat) (hq : Nat → Nat) (r : Int32), n - k < fuel28 → DnI (kap Wt S) hp n (hp n) hq k → ((n ≤ 2 * k + 1 ∧ r = -1) ∨ ∃ x, 0 < x ∧ x < n ∧ (x - 1) / 2 = k ∧ (∀ y, 0 < y → y < n → (y - 1) / 2 = k → kap Wt S (hq x) ≤ kap Wt S (hq y)) ∧ r = nI x) → ∀ (H : Heap) (locs : List Loc), bX D (bA h a) s h a d P K S Wt bg so si rd hq n rk rn dn cu H locs → ∀ ls : Array Slot, lv_has ls 4 [(0, .ref h), (1, .int (nI (hp n))), (2, .int (nI k)), (3, .int r)] → W p l e R s m args below meth c H locs 0 0 Q (F0 m 28 ls []) := by
    intro fuel28
    induction fuel28 with
    | zero =>
      intro k hq r hfu28
      exact absurd hfu28 (Nat.not_lt_zero _)
    | succ fuel28 ih28 =>
      intro k hq r hfu28 hdn hr H locs X ls hl
      have hkn := hdn.1
      rcases hr with ⟨hr1, er⟩ | ⟨x, x1, x2, x3, x4, er⟩
      · subst er
        refine lv_iload_n hx hb dX0_pop_28 rfl (lv_at hl 3 rfl) ?_
        refine k_ltM (tgt := 69) hx hb dX0_pop_29 (by decide) ?_
        refine lv_aload_n hx hb dX0_pop_69 rfl (lv_at hl 0 rfl) ?_
        refine bg_8 Y X dX0_pop_70 ?_
        refine lv_iload_n hx hb dX0_pop_73 rfl (lv_at hl 2 rfl) ?_
        refine lv_iload_n hx hb dX0_pop_74 rfl (lv_at hl 1 rfl) ?_
        refine n_i2s hx hb (by have := bd18.1; omega) dX0_pop_75 ?_
        refine bs_7 (j := k) (x := hp n) Y X (by omega) bd18 dX0_pop_76 (fun H locs X => ?_)
        refine hret (updN hq k (hp n)) _ _ _ _ X (hdn.fin (fun j j1 j2 j3 => ?_)) dX0_pop_77
        omega
      · subst er
        refine lv_iload_n hx hb dX0_pop_28 rfl (lv_at hl 3 rfl) ?_
        refine n_if_ltN (tgt := 69) hx hb dX0_pop_29 (by decide) (by omega) ?_
        refine lv_aload_n hx hb dX0_pop_32 rfl (lv_at hl 0 rfl) ?_
        refine lv_aload_n hx hb dX0_pop_33 rfl (lv_at hl 0 rfl) ?_
        refine bg_8 Y X dX0_pop_34 ?_
        refine lv_iload_n hx hb dX0_pop_37 rfl (lv_at hl 3 rfl) ?_
        refine bl_7 Y X (by omega) dX0_pop_38 (fun bd38 => ?_)
        refine lv_iload_n hx hb dX0_pop_39 rfl (lv_at hl 1 rfl) ?_
        refine bc_before Y X bd38 bd18 ⟨by omega, by omega⟩ hl.1 (Nat.le_of_ble_eq_true rfl) dX0_pop_40 (fun r2 hr2 => ?_)
        rcases hr2 with ⟨cc2, er2⟩ | ⟨cc2, er2⟩
        · subst er2
          have ccx := cc2
          refine k_eqF (tgt := 69) hx hb dX0_pop_43 (by decide) ?_
          refine lv_aload_n hx hb dX0_pop_46 rfl (lv_at hl 0 rfl) ?_
          refine bg_8 Y X dX0_pop_47 ?_
          refine lv_iload_n hx hb dX0_pop_50 rfl (lv_at hl 2 rfl) ?_
          refine lv_aload_n hx hb dX0_pop_51 rfl (lv_at hl 0 rfl) ?_
          refine bg_8 Y X dX0_pop_52 ?_
          refine lv_iload_n hx hb dX0_pop_55 rfl (lv_at hl 3 rfl) ?_
          refine bl_7 Y X (by omega) dX0_pop_56 (fun bd56 => ?_)
          refine bs_7 (j := k) (x := hq x) Y X (by omega) bd56 dX0_pop_57 (fun H locs X => ?_)
          refine lv_iload_n hx hb dX0_pop_58 rfl (lv_at hl 3 rfl) ?_
          refine lv_istore_n (lv' := [(2, .int (nI x)), (0, .ref h), (1, .int (nI (hp n))), (3, .int (nI x))]) hx hb dX0_pop_59 rfl hl (by decide) rfl (fun ls hl => ?_)
          refine lv_aload_n hx hb dX0_pop_60 rfl (lv_at hl 1 rfl) ?_
          refine lv_iload_n hx hb dX0_pop_61 rfl (lv_at hl 0 rfl) ?_
          refine bc_lesserChild (k := x) Y X (by omega) ⟨by omega, by omega⟩ hl.1 (Nat.le_of_ble_eq_true rfl) dX0_pop_62 (fun r3 hr3 => ?_)
          refine lv_istore_n (lv' := [(3, .int r3), (2, .int (nI x)), (0, .ref h), (1, .int (nI (hp n)))]) hx hb dX0_pop_65 rfl hl (by decide) rfl (fun ls hl => ?_)
          refine lv_goto (tgt := 28) hx hb dX0_pop_66 (by decide) ?_
          have hdn2 := hdn.step x1 x2 x3 x4 ccx
          exact ih28 x (updN hq k (hq x)) r3 (by omega) hdn2 hr3 _ _ X ls (lv_sub hl [2, 3, 1, 0] rfl)
        · subst er2
          have ccx := cc2
          refine k_eqT (tgt := 69) hx hb dX0_pop_43 (by decide) ?_
          refine lv_aload_n hx hb dX0_pop_69 rfl (lv_at hl 0 rfl) ?_
          refine bg_8 Y X dX0_pop_70 ?_
          refine lv_iload_n hx hb dX0_pop_73 rfl (lv_at hl 2 rfl) ?_
          refine lv_iload_n hx hb dX0_pop_74 rfl (lv_at hl 1 rfl) ?_
          refine n_i2s hx hb (by have := bd18.1; omega) dX0_pop_75 ?_
          refine bs_7 (j := k) (x := hp n) Y X (by omega) bd18 dX0_pop_76 (fun H locs X => ?_)
          refine hret (updN hq k (hp n)) _ _ _ _ X (hdn.fin (fun j j1 j2 j3 => ?_)) dX0_pop_77
          have q := x4 j j1 j2 j3
          omega
  exact loop28 (n + 1) 0 hp r1 (by omega) (DnI.init hho) hr1 _ _ X ls (lv_sub hl [3, 2, 1, 0] rfl)

set_option maxHeartbeats 4000000 in
set_option maxRecDepth 100000 in
theorem bc_pop {p : Program} {l : Launch} {e : Env} {R : Room} {s : State} {m : MethodId} {args : Array Value} {below : List Frame} {meth : Method} {c : Code} {H : Heap} {locs : List Loc} {Q : State → Prop} {cc : ByteArray} {nL pc h : Nat} {a : Nat → Nat} {d : Nat → ClassId} {D : va_G} {rest : List Value} {ls : Array Slot} {P K S Wt : Nat → Nat} {bg : Nat} {so si rd hp : Nat → Nat} {hn : Nat} {rk : Nat → Nat} {rn dn cu : Nat} {n : Nat} (Y : CallFix p m c cc nL s args lw_all "BestPairs") (X : bX D (bA h a) s h a d P K S Wt bg so si rd hp hn rk rn dn cu H locs) (hhn : hn = n + 1) (hho : HpO (kap Wt S) hp (n + 1)) (hR : 5 ≤ R.frames ∧ 114 ≤ R.locals) (hls : ls.size = nL) (hW : (rest.map fun v => v.category).sum ≤ 8) (hdg : decode cc pc = .ok (.invokevirtual 91, 3)) (kk : ∀ (u : Nat → Nat) (H1 : Heap) (locs1 : List Loc), (fun (hq : Nat → Nat) => HpO (kap Wt S) hq n ∧ Pm (updN hp 0 (hp n)) hq n) u → bX D (bA h a) s h a d P K S Wt bg so si rd u n rk rn dn cu H1 locs1 → W p l e R s m args below meth c H1 locs1 0 0 Q (F0 m (pc + 3) ls (rest))) : W p l e R s m args below meth c H locs 0 0 Q (F0 m pc ls (.ref h :: rest)) :=
  g_callV (C := "BestPairs") (ci := 0) (q0 := 0) (n := 0) (As := []) Y X (bt_pop l D h a d P K S Wt bg so si rd hp hn rk rn dn cu n hhn hho) (lw_V q150 q152 qs10 q23 q153) (by decide +kernel) rfl hR rfl rfl rfl hls rfl hW hdg kk
end HPW
end
section
/-! the component's sort and begin (written by gen/sortw.py) -/
section SOW
theorem seg_upd (f : Nat → Nat) (b q v : Nat) : (fun j => updN f (12 * b + q) v (12 * b + j)) = updN (fun j => f (12 * b + j)) q v := by
  funext j
  show (if 12 * b + j = 12 * b + q then v else f (12 * b + j)) = (if j = q then v else f (12 * b + j))
  by_cases e : j = q
  · rw [if_pos e, if_pos (by omega)]
  · rw [if_neg e, if_neg (by omega)]
theorem seg_fr {f g : Nat → Nat} {b q v : Nat} (hq : q < 12) (h : ∀ j, (j < 12 * b ∨ 12 * b + 12 ≤ j) → g j = f j) : ∀ j, (j < 12 * b ∨ 12 * b + 12 ≤ j) → updN g (12 * b + q) v j = f j := fun j hj => by
  rw [updN_n (by omega)]
  exact h j hj
set_option maxHeartbeats 4000000 in
set_option maxRecDepth 100000 in
theorem bt_sort (l : Launch) (D : va_G) (h : Nat) (a : Nat → Nat) (d : Nat → ClassId) (P K S Wt : Nat → Nat) (bg : Nat) (so si rd hp : Nat → Nat) (hn : Nat) (rk : Nat → Nat) (rn dn cu : Nat) (b : Nat) (hb2 : b < 2) : cV (S := (Nat → Nat) × Nat) l yX0_sort cX0_sort 5 2 42 [.ref h, .int (nI b)] (bAt D TT h a d P K S Wt bg so si rd hp hn rk rn dn cu) (bA h a) (fun (u : (Nat → Nat) × Nat) => SegI (fun i => (P b).testBit i) (fun i => S (12 * b + i)) (fun k => u.1 (12 * b + k)) u.2 12 ∧ ∀ j, (j < 12 * b ∨ 12 * b + 12 ≤ j) → u.1 j = so j) (fun u => bAt D (bA h a) h a d P K S Wt bg (u.1) (updN si b u.2) (updN rd b 0) hp hn rk rn dn cu) := by
  refine g_methV (own := "BestPairs") (by decide) rfl (Nat.le_of_ble_eq_true rfl) bA_in ?_
  intro p e R s m args below meth c Q Y hRf hRl hret ls hl X
  have hx := Y.1
  have hb := Y.2.1
  have hl : lv_has ls 5 [(0, .ref h), (1, .int (nI b))] := hl
  refine lv_iconst (v := (nI 0)) hx hb dX0_sort_0 (by decide +kernel) ?_
  refine lv_istore_n (lv' := [(2, .int (nI 0)), (0, .ref h), (1, .int (nI b))]) hx hb dX0_sort_1 rfl hl (by decide) rfl (fun ls hl => ?_)
  refine lv_iconst (v := (nI 0)) hx hb dX0_sort_2 (by decide +kernel) ?_
  refine lv_istore_n (lv' := [(3, .int (nI 0)), (2, .int (nI 0)), (0, .ref h), (1, .int (nI b))]) hx hb dX0_sort_3 rfl hl (by decide) rfl (fun ls hl => ?_)
  have loop4 : ∀ (fuel4 : Nat) (i : Nat) (n : Nat) (sq : Nat → Nat), 12 - i < fuel4 → i ≤ 12 → SegI (fun i => (P b).testBit i) (fun i => S (12 * b + i)) (fun k => sq (12 * b + k)) n i → (∀ j, (j < 12 * b ∨ 12 * b + 12 ≤ j) → sq j = so j) → ∀ (H : Heap) (locs : List Loc), bX D (bA h a) s h a d P K S Wt bg sq si rd hp hn rk rn dn cu H locs → ∀ ls : Array Slot, lv_has ls 5 [(0, .ref h), (1, .int (nI b)), (2, .int (nI n)), (3, .int (nI i))] → W p l e R s m args below meth c H locs 0 0 Q (F0 m 4 ls []) := by
    intro fuel4
    induction fuel4 with
    | zero =>
      intro i n sq hfu4
      exact absurd hfu4 (Nat.not_lt_zero _)
    | succ fuel4 ih4 =>
      intro i n sq hfu4 hi hseg hfr H locs X ls hl
      have hni := hseg.2.2.2.2
      refine lv_iload_n hx hb dX0_sort_4 rfl (lv_at hl 3 rfl) ?_
      refine lv_bipush (v := (nI 12)) hx hb dX0_sort_5 (by decide +kernel) ?_
      refine n_icmp_ge (tgt := 120) hx hb dX0_sort_7 (by decide) (by omega) (by omega) (fun c7 => ?_) (fun c7 => ?_)
      · skip
        refine lv_aload_n hx hb dX0_sort_120 rfl (lv_at hl 0 rfl) ?_
        refine bg_6 Y X dX0_sort_121 ?_
        refine lv_iload_n hx hb dX0_sort_124 rfl (lv_at hl 1 rfl) ?_
        refine lv_iload_n hx hb dX0_sort_125 rfl (lv_at hl 2 rfl) ?_
        refine n_i2b hx hb (by omega) dX0_sort_126 ?_
        refine bs_5 (j := b) (x := n) Y X (by omega) (by omega) dX0_sort_127 (fun H locs X => ?_)
        refine lv_aload_n hx hb dX0_sort_128 rfl (lv_at hl 0 rfl) ?_
        refine bg_7 Y X dX0_sort_129 ?_
        refine lv_iload_n hx hb dX0_sort_132 rfl (lv_at hl 1 rfl) ?_
        refine lv_iconst (v := (nI 0)) hx hb dX0_sort_133 (by decide +kernel) ?_
        refine bs_6 (j := b) (x := 0) Y X (by omega) (by omega) dX0_sort_134 (fun H locs X => ?_)
        have ei : i = 12 := by omega
        subst ei
        exact hret (sq, n) _ _ _ _ X ⟨hseg, hfr⟩ dX0_sort_135
      · skip
        refine lv_aload_n hx hb dX0_sort_10 rfl (lv_at hl 0 rfl) ?_
        refine lv_iload_n hx hb dX0_sort_11 rfl (lv_at hl 1 rfl) ?_
        refine lv_iload_n hx hb dX0_sort_12 rfl (lv_at hl 3 rfl) ?_
        refine bc_has Y X  ⟨by omega, by omega⟩ hl.1 (Nat.le_of_ble_eq_true rfl) dX0_sort_13 (fun r1 hr1 => ?_)
        rcases hr1 with ⟨cc1, er1⟩ | ⟨cc1, er1⟩
        · subst er1
          have hbt := cc1
          rw [hasP_nI hb2 (by omega)] at hbt
          refine k_eqF (tgt := 114) hx hb dX0_sort_16 (by decide) ?_
          refine lv_iload_n hx hb dX0_sort_19 rfl (lv_at hl 2 rfl) ?_
          refine lv_istore (lv' := [(4, .int (nI n)), (0, .ref h), (1, .int (nI b)), (2, .int (nI n)), (3, .int (nI i))]) hx hb dX0_sort_20 hl (by decide) rfl (fun ls hl => ?_)
          have loop22 : ∀ (fuel22 : Nat) (k : Nat) (sr : Nat → Nat), k < fuel22 → InsI (fun i => S (12 * b + i)) (fun k => sq (12 * b + k)) n i (fun j => sr (12 * b + j)) k → (∀ j, (j < 12 * b ∨ 12 * b + 12 ≤ j) → sr j = so j) → ∀ (H : Heap) (locs : List Loc), bX D (bA h a) s h a d P K S Wt bg sr si rd hp hn rk rn dn cu H locs → ∀ ls : Array Slot, lv_has ls 5 [(0, .ref h), (1, .int (nI b)), (2, .int (nI n)), (3, .int (nI i)), (4, .int (nI k))] → W p l e R s m args below meth c H locs 0 0 Q (F0 m 22 ls []) := by
            intro fuel22
            induction fuel22 with
            | zero =>
              intro k sr hfu22
              exact absurd hfu22 (Nat.not_lt_zero _)
            | succ fuel22 ih22 =>
              intro k sr hfu22 hin hfr2 H locs X ls hl
              have hkn := hin.1
              refine lv_iload hx hb dX0_sort_22 (lv_at hl 4 rfl) ?_
              refine n_if_le (tgt := 97) hx hb dX0_sort_24 (by decide) (by omega) (fun c24 => ?_) (fun c24 => ?_)
              · skip
                refine lv_aload_n hx hb dX0_sort_97 rfl (lv_at hl 0 rfl) ?_
                refine bg_5 Y X dX0_sort_98 ?_
                refine lv_iload_n hx hb dX0_sort_101 rfl (lv_at hl 1 rfl) ?_
                refine lv_bipush (v := (nI 12)) hx hb dX0_sort_102 (by decide +kernel) ?_
                refine n_imul (z := 12 * b) hx hb (Nat.mul_comm _ _) dX0_sort_104 ?_
                refine lv_iload hx hb dX0_sort_105 (lv_at hl 4 rfl) ?_
                refine n_iadd (z := 12 * b + k) hx hb (rfl) dX0_sort_107 ?_
                refine lv_iload_n hx hb dX0_sort_108 rfl (lv_at hl 3 rfl) ?_
                refine n_i2b hx hb (by omega) dX0_sort_109 ?_
                refine bs_4 (j := 12 * b + k) (x := i) Y X (by omega) (by omega) dX0_sort_110 (fun H locs X => ?_)
                refine lv_iinc (v := nI (n + 1)) (lv' := [(2, .int (nI (n + 1))), (0, .ref h), (1, .int (nI b)), (3, .int (nI i)), (4, .int (nI k))]) hx hb dX0_sort_111 hl (k := 2) rfl (by rw [← nI_1]; rfl) (by decide) rfl (fun ls hl => ?_)
                refine lv_iinc (v := nI (i + 1)) (lv' := [(3, .int (nI (i + 1))), (2, .int (nI (n + 1))), (0, .ref h), (1, .int (nI b)), (4, .int (nI k))]) hx hb dX0_sort_114 hl (k := 3) rfl (by rw [← nI_1]; rfl) (by decide) rfl (fun ls hl => ?_)
                refine lv_goto (tgt := 4) hx hb dX0_sort_117 (by decide) ?_
                have hseg2 : SegI (fun i => (P b).testBit i) (fun i => S (12 * b + i)) (fun j => updN sr (12 * b + (k)) i (12 * b + j)) (n + 1) (i + 1) := by
                  rw [seg_upd]
                  exact InsI.fin hseg hbt hin (fun h0 => absurd h0 (by omega))
                exact ih4 (i + 1) (n + 1) (updN sr (12 * b + k) i) (by omega) (by omega) hseg2 (seg_fr (by omega) hfr2) _ _ X ls (lv_sub hl [2, 3, 1, 0] rfl)
              · skip
                obtain ⟨k1, ek⟩ : ∃ k1, k = k1 + 1 := ⟨k - 1, by omega⟩
                subst ek
                refine lv_aload_n hx hb dX0_sort_27 rfl (lv_at hl 0 rfl) ?_
                refine bg_2 Y X dX0_sort_28 ?_
                refine lv_iload_n hx hb dX0_sort_31 rfl (lv_at hl 1 rfl) ?_
                refine lv_bipush (v := (nI 12)) hx hb dX0_sort_32 (by decide +kernel) ?_
                refine n_imul (z := 12 * b) hx hb (Nat.mul_comm _ _) dX0_sort_34 ?_
                refine lv_aload_n hx hb dX0_sort_35 rfl (lv_at hl 0 rfl) ?_
                refine bg_5 Y X dX0_sort_36 ?_
                refine lv_iload_n hx hb dX0_sort_39 rfl (lv_at hl 1 rfl) ?_
                refine lv_bipush (v := (nI 12)) hx hb dX0_sort_40 (by decide +kernel) ?_
                refine n_imul (z := 12 * b) hx hb (Nat.mul_comm _ _) dX0_sort_42 ?_
                refine lv_iload hx hb dX0_sort_43 (lv_at hl 4 rfl) ?_
                refine n_iadd (z := 12 * b + (k1 + 1)) hx hb (rfl) dX0_sort_45 ?_
                refine lv_iconst (v := (nI 1)) hx hb dX0_sort_46 (by decide +kernel) ?_
                refine n_isub (z := 12 * b + k1) hx hb (by omega) (by omega) dX0_sort_47 ?_
                refine bl_4 Y X (by omega) dX0_sort_48 (fun bd48 => ?_)
                refine n_iadd (z := 12 * b + (sr (12 * b + k1))) hx hb (rfl) dX0_sort_49 ?_
                refine bl_2 Y X (by omega) dX0_sort_50 (fun bd50 => ?_)
                refine lv_aload_n hx hb dX0_sort_51 rfl (lv_at hl 0 rfl) ?_
                refine bg_2 Y X dX0_sort_52 ?_
                refine lv_iload_n hx hb dX0_sort_55 rfl (lv_at hl 1 rfl) ?_
                refine lv_bipush (v := (nI 12)) hx hb dX0_sort_56 (by decide +kernel) ?_
                refine n_imul (z := 12 * b) hx hb (Nat.mul_comm _ _) dX0_sort_58 ?_
                refine lv_iload_n hx hb dX0_sort_59 rfl (lv_at hl 3 rfl) ?_
                refine n_iadd (z := 12 * b + i) hx hb (rfl) dX0_sort_60 ?_
                refine bl_2 Y X (by omega) dX0_sort_61 (fun bd61 => ?_)
                refine n_icmp_ge (tgt := 97) hx hb dX0_sort_62 (by decide) (by omega) (by omega) (fun c62 => ?_) (fun c62 => ?_)
                · skip
                  refine lv_aload_n hx hb dX0_sort_97 rfl (lv_at hl 0 rfl) ?_
                  refine bg_5 Y X dX0_sort_98 ?_
                  refine lv_iload_n hx hb dX0_sort_101 rfl (lv_at hl 1 rfl) ?_
                  refine lv_bipush (v := (nI 12)) hx hb dX0_sort_102 (by decide +kernel) ?_
                  refine n_imul (z := 12 * b) hx hb (Nat.mul_comm _ _) dX0_sort_104 ?_
                  refine lv_iload hx hb dX0_sort_105 (lv_at hl 4 rfl) ?_
                  refine n_iadd (z := 12 * b + (k1 + 1)) hx hb (rfl) dX0_sort_107 ?_
                  refine lv_iload_n hx hb dX0_sort_108 rfl (lv_at hl 3 rfl) ?_
                  refine n_i2b hx hb (by omega) dX0_sort_109 ?_
                  refine bs_4 (j := 12 * b + (k1 + 1)) (x := i) Y X (by omega) (by omega) dX0_sort_110 (fun H locs X => ?_)
                  refine lv_iinc (v := nI (n + 1)) (lv' := [(2, .int (nI (n + 1))), (0, .ref h), (1, .int (nI b)), (3, .int (nI i)), (4, .int (nI (k1 + 1)))]) hx hb dX0_sort_111 hl (k := 2) rfl (by rw [← nI_1]; rfl) (by decide) rfl (fun ls hl => ?_)
                  refine lv_iinc (v := nI (i + 1)) (lv' := [(3, .int (nI (i + 1))), (2, .int (nI (n + 1))), (0, .ref h), (1, .int (nI b)), (4, .int (nI (k1 + 1)))]) hx hb dX0_sort_114 hl (k := 3) rfl (by rw [← nI_1]; rfl) (by decide) rfl (fun ls hl => ?_)
                  refine lv_goto (tgt := 4) hx hb dX0_sort_117 (by decide) ?_
                  have hseg2 : SegI (fun i => (P b).testBit i) (fun i => S (12 * b + i)) (fun j => updN sr (12 * b + (k1 + 1)) i (12 * b + j)) (n + 1) (i + 1) := by
                    rw [seg_upd]
                    exact InsI.fin hseg hbt hin (fun _ => by show ¬ S (12 * b + sr (12 * b + k1)) < S (12 * b + i); omega)
                  exact ih4 (i + 1) (n + 1) (updN sr (12 * b + (k1 + 1)) i) (by omega) (by omega) hseg2 (seg_fr (by omega) hfr2) _ _ X ls (lv_sub hl [2, 3, 1, 0] rfl)
                · skip
                  refine lv_aload_n hx hb dX0_sort_65 rfl (lv_at hl 0 rfl) ?_
                  refine bg_5 Y X dX0_sort_66 ?_
                  refine lv_iload_n hx hb dX0_sort_69 rfl (lv_at hl 1 rfl) ?_
                  refine lv_bipush (v := (nI 12)) hx hb dX0_sort_70 (by decide +kernel) ?_
                  refine n_imul (z := 12 * b) hx hb (Nat.mul_comm _ _) dX0_sort_72 ?_
                  refine lv_iload hx hb dX0_sort_73 (lv_at hl 4 rfl) ?_
                  refine n_iadd (z := 12 * b + (k1 + 1)) hx hb (rfl) dX0_sort_75 ?_
                  refine lv_aload_n hx hb dX0_sort_76 rfl (lv_at hl 0 rfl) ?_
                  refine bg_5 Y X dX0_sort_77 ?_
                  refine lv_iload_n hx hb dX0_sort_80 rfl (lv_at hl 1 rfl) ?_
                  refine lv_bipush (v := (nI 12)) hx hb dX0_sort_81 (by decide +kernel) ?_
                  refine n_imul (z := 12 * b) hx hb (Nat.mul_comm _ _) dX0_sort_83 ?_
                  refine lv_iload hx hb dX0_sort_84 (lv_at hl 4 rfl) ?_
                  refine n_iadd (z := 12 * b + (k1 + 1)) hx hb (rfl) dX0_sort_86 ?_
                  refine lv_iconst (v := (nI 1)) hx hb dX0_sort_87 (by decide +kernel) ?_
                  refine n_isub (z := 12 * b + k1) hx hb (by omega) (by omega) dX0_sort_88 ?_
                  refine bl_4 Y X (by omega) dX0_sort_89 (fun bd89 => ?_)
                  refine bs_4 (j := 12 * b + (k1 + 1)) (x := sr (12 * b + k1)) Y X (by omega) bd89 dX0_sort_90 (fun H locs X => ?_)
                  refine lv_iinc (v := nI k1) (lv' := [(4, .int (nI k1)), (0, .ref h), (1, .int (nI b)), (2, .int (nI n)), (3, .int (nI i))]) hx hb dX0_sort_91 hl (k := 4) rfl (by exact pk_m1 k1) (by decide) rfl (fun ls hl => ?_)
                  refine lv_goto (tgt := 22) hx hb dX0_sort_94 (by decide) ?_
                  have hin2 : InsI (fun i => S (12 * b + i)) (fun k => sq (12 * b + k)) n i (fun j => updN sr (12 * b + (k1 + 1)) (sr (12 * b + k1)) (12 * b + j)) k1 := by
                    rw [seg_upd]
                    exact hin.step (show S (12 * b + sr (12 * b + k1)) < S (12 * b + i) by omega)
                  exact ih22 k1 (updN sr (12 * b + (k1 + 1)) (sr (12 * b + k1))) (by omega) hin2 (seg_fr (by omega) hfr2) _ _ X ls (lv_sub hl [1, 2, 3, 4, 0] rfl)
          exact loop22 (n + 1) n sq (by omega) (InsI.init hseg) hfr _ _ X ls (lv_sub hl [1, 2, 3, 4, 0] rfl)
        · subst er1
          have hbt := cc1
          have hbf : (P b).testBit i = false := by
            cases hq : (P b).testBit i with
            | false => rfl
            | true => exact absurd ((hasP_nI hb2 (by omega)).mpr hq) hbt
          refine k_eqT (tgt := 114) hx hb dX0_sort_16 (by decide) ?_
          refine lv_iinc (v := nI (i + 1)) (lv' := [(3, .int (nI (i + 1))), (0, .ref h), (1, .int (nI b)), (2, .int (nI n))]) hx hb dX0_sort_114 hl (k := 3) rfl (by rw [← nI_1]; rfl) (by decide) rfl (fun ls hl => ?_)
          refine lv_goto (tgt := 4) hx hb dX0_sort_117 (by decide) ?_
          exact ih4 (i + 1) n sq (by omega) (by omega) (hseg.skip hbf) hfr _ _ X ls (lv_sub hl [1, 2, 3, 0] rfl)
  exact loop4 (12 + 1) 0 0 so (by omega) (by omega) SegI.zero (fun _ _ => rfl) _ _ X ls (lv_sub hl [2, 3, 1, 0] rfl)

set_option maxHeartbeats 4000000 in
set_option maxRecDepth 100000 in
theorem bc_sort {p : Program} {l : Launch} {e : Env} {R : Room} {s : State} {m : MethodId} {args : Array Value} {below : List Frame} {meth : Method} {c : Code} {H : Heap} {locs : List Loc} {Q : State → Prop} {cc : ByteArray} {nL pc h : Nat} {a : Nat → Nat} {d : Nat → ClassId} {D : va_G} {rest : List Value} {ls : Array Slot} {P K S Wt : Nat → Nat} {bg : Nat} {so si rd hp : Nat → Nat} {hn : Nat} {rk : Nat → Nat} {rn dn cu : Nat} {b : Nat} (Y : CallFix p m c cc nL s args lw_all "BestPairs") (X : bX D (bA h a) s h a d P K S Wt bg so si rd hp hn rk rn dn cu H locs) (hb2 : b < 2) (hR : 3 ≤ R.frames ∧ 66 ≤ R.locals) (hls : ls.size = nL) (hW : (rest.map fun v => v.category).sum ≤ 8) (hdg : decode cc pc = .ok (.invokevirtual 75, 3)) (kk : ∀ (u : (Nat → Nat) × Nat) (H1 : Heap) (locs1 : List Loc), (fun (u : (Nat → Nat) × Nat) => SegI (fun i => (P b).testBit i) (fun i => S (12 * b + i)) (fun k => u.1 (12 * b + k)) u.2 12 ∧ ∀ j, (j < 12 * b ∨ 12 * b + 12 ≤ j) → u.1 j = so j) u → bX D (bA h a) s h a d P K S Wt bg (u.1) (updN si b u.2) (updN rd b 0) hp hn rk rn dn cu H1 locs1 → W p l e R s m args below meth c H1 locs1 0 0 Q (F0 m (pc + 3) ls (rest))) : W p l e R s m args below meth c H locs 0 0 Q (F0 m pc ls (.int (nI b) :: .ref h :: rest)) :=
  g_callV (C := "BestPairs") (ci := 0) (q0 := 0) (n := 1) (As := [.int (nI b)]) Y X (bt_sort l D h a d P K S Wt bg so si rd hp hn rk rn dn cu b hb2) (lw_V q126 q128 qs4 q23 q129) (by decide +kernel) rfl hR rfl rfl rfl hls rfl hW hdg kk
set_option maxHeartbeats 4000000 in
set_option maxRecDepth 100000 in
theorem bt_begin (l : Launch) (D : va_G) (h : Nat) (a : Nat → Nat) (d : Nat → ClassId) (P K S Wt : Nat → Nat) (bg : Nat) (so si rd hp : Nat → Nat) (hn : Nat) (rk : Nat → Nat) (rn dn cu : Nat)  (hRI : bg = 1 → RI P K S Wt so si rd hp hn rk rn dn) : cV (S := (Nat → Nat) × (Nat → Nat) × (Nat → Nat) × Nat × Nat × Nat) l yX0_begin cX0_begin 1 3 66 [.ref h] (bAt D TT h a d P K S Wt bg so si rd hp hn rk rn dn cu) (bA h a) (fun (u : (Nat → Nat) × (Nat → Nat) × (Nat → Nat) × Nat × Nat × Nat) => RI P K S Wt u.1 u.2.1 u.2.2.1 hp u.2.2.2.1 rk u.2.2.2.2.1 u.2.2.2.2.2 ∧ (bg = 1 → u = (so, si, rd, hn, rn, dn))) (fun u => bAt D (bA h a) h a d P K S Wt 1 (u.1) (u.2.1) (u.2.2.1) hp (u.2.2.2.1) rk (u.2.2.2.2.1) (u.2.2.2.2.2) cu) := by
  refine g_methV (own := "BestPairs") (by decide) rfl (Nat.le_of_ble_eq_true rfl) bA_in ?_
  intro p e R s m args below meth c Q Y hRf hRl hret ls hl X
  have hx := Y.1
  have hb := Y.2.1
  have hl : lv_has ls 1 [(0, .ref h)] := hl
  refine lv_aload_n hx hb dX0_begin_0 rfl (lv_at hl 0 rfl) ?_
  refine bg_4 Y X dX0_begin_1 (fun bd1 => ?_)
  refine n_if_eq (tgt := 8) hx hb dX0_begin_4 (by decide) (by omega) (fun c4 => ?_) (fun c4 => ?_)
  · skip
    refine lv_aload_n hx hb dX0_begin_8 rfl (lv_at hl 0 rfl) ?_
    refine lv_iconst (v := (nI 1)) hx hb dX0_begin_9 (by decide +kernel) ?_
    refine bp_4 Y X (by omega) dX0_begin_10 (fun H locs X => ?_)
    refine lv_aload_n hx hb dX0_begin_13 rfl (lv_at hl 0 rfl) ?_
    refine lv_iconst (v := (nI 0)) hx hb dX0_begin_14 (by decide +kernel) ?_
    refine bp_12 Y X (by omega) dX0_begin_15 (fun H locs X => ?_)
    refine lv_aload_n hx hb dX0_begin_18 rfl (lv_at hl 0 rfl) ?_
    refine lv_iconst (v := (nI 0)) hx hb dX0_begin_19 (by decide +kernel) ?_
    refine bp_9 Y X (by omega) dX0_begin_20 (fun H locs X => ?_)
    refine lv_aload_n hx hb dX0_begin_23 rfl (lv_at hl 0 rfl) ?_
    refine lv_iconst (v := (nI 0)) hx hb dX0_begin_24 (by decide +kernel) ?_
    refine bp_11 Y X (by omega) dX0_begin_25 (fun H locs X => ?_)
    refine lv_aload_n hx hb dX0_begin_28 rfl (lv_at hl 0 rfl) ?_
    refine lv_iconst (v := (nI 0)) hx hb dX0_begin_29 (by decide +kernel) ?_
    refine bc_sort (b := 0) Y X (by decide) ⟨by omega, by omega⟩ hl.1 (Nat.le_of_ble_eq_true rfl) dX0_begin_30 (fun u0 H locs hu0 X => ?_)
    refine lv_aload_n hx hb dX0_begin_33 rfl (lv_at hl 0 rfl) ?_
    refine lv_iconst (v := (nI 1)) hx hb dX0_begin_34 (by decide +kernel) ?_
    refine bc_sort (b := 1) Y X (by decide) ⟨by omega, by omega⟩ hl.1 (Nat.le_of_ble_eq_true rfl) dX0_begin_35 (fun u1 H locs hu1 X => ?_)
    have e0 : (fun i => S (12 * 0 + i)) = S := by funext i; rw [Nat.mul_zero, Nat.zero_add]
    have e1 : (fun k => u0.1 (12 * 0 + k)) = u0.1 := by funext i; rw [Nat.mul_zero, Nat.zero_add]
    have s0 := hu0.1
    rw [e0, e1] at s0
    have s0 : SegI (fun i => (P 0).testBit i) S u1.1 u0.2 12 := s0.congr (fun k hk => hu1.2 k (by have := s0.2.2.2.2; omega))
    have s1 : SegI (fun i => (P 1).testBit i) (fun i => S (12 + i)) (fun k => u1.1 (12 + k)) u1.2 12 := hu1.1
    have i0 : updN (updN si 0 u0.2) 1 u1.2 0 = u0.2 := by rw [updN_n (by decide), updN_s]
    have i1 : updN (updN si 0 u0.2) 1 u1.2 1 = u1.2 := updN_s _ _ _
    rw [← i0] at s0
    rw [← i1] at s1
    have hri : RI P K S Wt u1.1 (updN (updN si 0 u0.2) 1 u1.2) (updN (updN rd 0 0) 1 0) hp 0 rk 0 0 := RI.start s0 s1 (by rw [updN_n (by decide), updN_s]) (updN_s _ _ _)
    exact hret (u1.1, updN (updN si 0 u0.2) 1 u1.2, updN (updN rd 0 0) 1 0, 0, 0, 0) _ _ _ _ X ⟨hri, fun q => absurd q (by omega)⟩ dX0_begin_38
  · skip
    have ebg : bg = 1 := by omega
    subst ebg
    exact hret (so, si, rd, hn, rn, dn) _ _ _ _ X ⟨hRI rfl, fun _ => rfl⟩ dX0_begin_7

set_option maxHeartbeats 4000000 in
set_option maxRecDepth 100000 in
theorem bc_begin {p : Program} {l : Launch} {e : Env} {R : Room} {s : State} {m : MethodId} {args : Array Value} {below : List Frame} {meth : Method} {c : Code} {H : Heap} {locs : List Loc} {Q : State → Prop} {cc : ByteArray} {nL pc h : Nat} {a : Nat → Nat} {d : Nat → ClassId} {D : va_G} {rest : List Value} {ls : Array Slot} {P K S Wt : Nat → Nat} {bg : Nat} {so si rd hp : Nat → Nat} {hn : Nat} {rk : Nat → Nat} {rn dn cu : Nat}  (Y : CallFix p m c cc nL s args lw_all "BestPairs") (X : bX D (bA h a) s h a d P K S Wt bg so si rd hp hn rk rn dn cu H locs) (hRI : bg = 1 → RI P K S Wt so si rd hp hn rk rn dn) (hR : 4 ≤ R.frames ∧ 86 ≤ R.locals) (hls : ls.size = nL) (hW : (rest.map fun v => v.category).sum ≤ 8) (hdg : decode cc pc = .ok (.invokevirtual 85, 3)) (kk : ∀ (u : (Nat → Nat) × (Nat → Nat) × (Nat → Nat) × Nat × Nat × Nat) (H1 : Heap) (locs1 : List Loc), (fun (u : (Nat → Nat) × (Nat → Nat) × (Nat → Nat) × Nat × Nat × Nat) => RI P K S Wt u.1 u.2.1 u.2.2.1 hp u.2.2.2.1 rk u.2.2.2.2.1 u.2.2.2.2.2 ∧ (bg = 1 → u = (so, si, rd, hn, rn, dn))) u → bX D (bA h a) s h a d P K S Wt 1 (u.1) (u.2.1) (u.2.2.1) hp (u.2.2.2.1) rk (u.2.2.2.2.1) (u.2.2.2.2.2) cu H1 locs1 → W p l e R s m args below meth c H1 locs1 0 0 Q (F0 m (pc + 3) ls (rest))) : W p l e R s m args below meth c H locs 0 0 Q (F0 m pc ls (.ref h :: rest)) :=
  g_callV (C := "BestPairs") (ci := 0) (q0 := 0) (n := 0) (As := []) Y X (bt_begin l D h a d P K S Wt bg so si rd hp hn rk rn dn cu  hRI) (lw_V q122 q124 qs3 q23 q125) (by decide +kernel) rfl hR rfl rfl rfl hls rfl hW hdg kk
end SOW
end
section
/-! the component: readOne, produce, reach (written by gen/reach.py) -/
section RCI
variable {p : Program} {l : Launch} {e : Env} {R : Room} {s : State} {m : MethodId} {args : Array Value} {below : List Frame} {meth : Method} {c : Code} {H : Heap} {locs : List Loc} {cells slots : Nat} {Q : State → Prop} {cc : ByteArray} {pc : Nat} {rest : List Value} {ls : Array Slot}
theorem i_icmp_lt (hexec : p.tables.exec = Jvm.exec) (hb : c.code = cc) {x y : Int32} {off : Int} {tgt : Nat} (hdg : decode cc pc = .ok (.if_icmp .lt off, 3)) (ht : (pc : Int) + off = (tgt : Int)) (kt : x.toInt < y.toInt → W p l e R s m args below meth c H locs cells slots Q (F0 m tgt ls (rest))) (kf : ¬ x.toInt < y.toInt → W p l e R s m args below meth c H locs cells slots Q (F0 m (pc + 3) ls (rest))) : W p l e R s m args below meth c H locs cells slots Q (F0 m pc ls (.int y :: .int x :: rest)) :=
  lv_icmp_lt hexec hb hdg ht (fun h => kt (Int32.lt_iff_toInt_lt.mp h)) (fun h => kf (fun q => h (Int32.lt_iff_toInt_lt.mpr q)))
theorem i_icmp_le (hexec : p.tables.exec = Jvm.exec) (hb : c.code = cc) {x y : Int32} {off : Int} {tgt : Nat} (hdg : decode cc pc = .ok (.if_icmp .le off, 3)) (ht : (pc : Int) + off = (tgt : Int)) (kt : x.toInt ≤ y.toInt → W p l e R s m args below meth c H locs cells slots Q (F0 m tgt ls (rest))) (kf : ¬ x.toInt ≤ y.toInt → W p l e R s m args below meth c H locs cells slots Q (F0 m (pc + 3) ls (rest))) : W p l e R s m args below meth c H locs cells slots Q (F0 m pc ls (.int y :: .int x :: rest)) :=
  lv_icmp_le hexec hb hdg ht (fun h => kt (Int32.le_iff_toInt_le.mp h)) (fun h => kf (fun q => h (Int32.le_iff_toInt_le.mpr q)))
theorem i_icmp_gt (hexec : p.tables.exec = Jvm.exec) (hb : c.code = cc) {x y : Int32} {off : Int} {tgt : Nat} (hdg : decode cc pc = .ok (.if_icmp .gt off, 3)) (ht : (pc : Int) + off = (tgt : Int)) (kt : y.toInt < x.toInt → W p l e R s m args below meth c H locs cells slots Q (F0 m tgt ls (rest))) (kf : ¬ y.toInt < x.toInt → W p l e R s m args below meth c H locs cells slots Q (F0 m (pc + 3) ls (rest))) : W p l e R s m args below meth c H locs cells slots Q (F0 m pc ls (.int y :: .int x :: rest)) :=
  lv_icmp_gt hexec hb hdg ht (fun h => kt (Int32.lt_iff_toInt_lt.mp h)) (fun h => kf (fun q => h (Int32.lt_iff_toInt_lt.mpr q)))
theorem i_icmp_ge (hexec : p.tables.exec = Jvm.exec) (hb : c.code = cc) {x y : Int32} {off : Int} {tgt : Nat} (hdg : decode cc pc = .ok (.if_icmp .ge off, 3)) (ht : (pc : Int) + off = (tgt : Int)) (kt : y.toInt ≤ x.toInt → W p l e R s m args below meth c H locs cells slots Q (F0 m tgt ls (rest))) (kf : ¬ y.toInt ≤ x.toInt → W p l e R s m args below meth c H locs cells slots Q (F0 m (pc + 3) ls (rest))) : W p l e R s m args below meth c H locs cells slots Q (F0 m pc ls (.int y :: .int x :: rest)) :=
  lv_icmp_ge hexec hb hdg ht (fun h => kt (Int32.le_iff_toInt_le.mp h)) (fun h => kf (fun q => h (Int32.le_iff_toInt_le.mpr q)))
theorem i_if_lt (hexec : p.tables.exec = Jvm.exec) (hb : c.code = cc) {x : Int32} {off : Int} {tgt : Nat} (hdg : decode cc pc = .ok (.ifCond .lt off, 3)) (ht : (pc : Int) + off = (tgt : Int)) (kt : x.toInt < 0 → W p l e R s m args below meth c H locs cells slots Q (F0 m tgt ls (rest))) (kf : ¬ x.toInt < 0 → W p l e R s m args below meth c H locs cells slots Q (F0 m (pc + 3) ls (rest))) : W p l e R s m args below meth c H locs cells slots Q (F0 m pc ls (.int x :: rest)) :=
  lv_if_lt hexec hb hdg ht (fun h => kt (by have q := Int32.lt_iff_toInt_lt.mp h; rw [Int32.toInt_zero] at q; exact q)) (fun h => kf (fun q => h (Int32.lt_iff_toInt_lt.mpr (by rw [Int32.toInt_zero]; exact q))))
theorem i_if_ge (hexec : p.tables.exec = Jvm.exec) (hb : c.code = cc) {x : Int32} {off : Int} {tgt : Nat} (hdg : decode cc pc = .ok (.ifCond .ge off, 3)) (ht : (pc : Int) + off = (tgt : Int)) (kt : 0 ≤ x.toInt → W p l e R s m args below meth c H locs cells slots Q (F0 m tgt ls (rest))) (kf : ¬ 0 ≤ x.toInt → W p l e R s m args below meth c H locs cells slots Q (F0 m (pc + 3) ls (rest))) : W p l e R s m args below meth c H locs cells slots Q (F0 m pc ls (.int x :: rest)) :=
  lv_if_ge hexec hb hdg ht (fun h => kt (by have q := Int32.le_iff_toInt_le.mp h; rw [Int32.toInt_zero] at q; exact q)) (fun h => kf (fun q => h (Int32.le_iff_toInt_le.mpr (by rw [Int32.toInt_zero]; exact q))))
end RCI
section RCH
set_option maxHeartbeats 4000000 in
set_option maxRecDepth 100000 in
theorem bt_readOne (l : Launch) (D : va_G) (h : Nat) (a : Nat → Nat) (d : Nat → ClassId) (P K S Wt : Nat → Nat) (bg : Nat) (so si rd hp : Nat → Nat) (hn : Nat) (rk : Nat → Nat) (rn dn cu : Nat) (b : Nat) (hb2 : b < 2) (hr : rd b < si b) (hRI : RI P K S Wt so si rd hp hn rk rn dn) : cV (S := (Nat → Nat) × Nat) l yX0_readOne cX0_readOne 7 4 90 [.ref h, .int (nI b)] (bAt D TT h a d P K S Wt bg so si rd hp hn rk rn dn cu) (bA h a) (fun (u : (Nat → Nat) × Nat) => RI P K S Wt so si (updN rd b (rd b + 1)) u.1 u.2 rk rn dn) (fun u => bAt D (bA h a) h a d P K S Wt bg so si (updN rd b (rd b + 1)) (u.1) (u.2) rk rn dn cu) := by
  refine g_methV (own := "BestPairs") (by decide) rfl (Nat.le_of_ble_eq_true rfl) bA_in ?_
  intro p e R s m args below meth c Q Y hRf hRl hret ls hl X
  have hx := Y.1
  have hb := Y.2.1
  have hl : lv_has ls 7 [(0, .ref h), (1, .int (nI b))] := hl
  have hsi := X.1.2.2.2.2.2.1 b
  have hrm := X.1.2.2.2.2.2.2.1 (1 - b)
  have hs := hRI.rds
  have eu : updN rd b (rd b + 1) (1 - b) = rd (1 - b) := updN_n (by omega)
  refine lv_aload_n hx hb dX0_readOne_0 rfl (lv_at hl 0 rfl) ?_
  refine bg_5 Y X dX0_readOne_1 ?_
  refine lv_iload_n hx hb dX0_readOne_4 rfl (lv_at hl 1 rfl) ?_
  refine lv_bipush (v := (nI 12)) hx hb dX0_readOne_5 (by decide +kernel) ?_
  refine n_imul (z := 12 * b) hx hb (Nat.mul_comm _ _) dX0_readOne_7 ?_
  refine lv_aload_n hx hb dX0_readOne_8 rfl (lv_at hl 0 rfl) ?_
  refine bg_7 Y X dX0_readOne_9 ?_
  refine lv_iload_n hx hb dX0_readOne_12 rfl (lv_at hl 1 rfl) ?_
  refine bl_6 Y X (by omega) dX0_readOne_13 (fun bd13 => ?_)
  refine n_iadd (z := 12 * b + (rd b)) hx hb (rfl) dX0_readOne_14 ?_
  refine bl_4 Y X (by omega) dX0_readOne_15 (fun bd15 => ?_)
  refine lv_istore_n (lv' := [(2, .int (nI (so (12 * b + (rd b))))), (0, .ref h), (1, .int (nI b))]) hx hb dX0_readOne_16 rfl hl (by decide) rfl (fun ls hl => ?_)
  refine lv_aload_n hx hb dX0_readOne_17 rfl (lv_at hl 1 rfl) ?_
  refine bg_7 Y X dX0_readOne_18 ?_
  refine lv_iload_n hx hb dX0_readOne_21 rfl (lv_at hl 2 rfl) ?_
  refine lv_dup2_11 hx hb dX0_readOne_22 rfl rfl ?_
  refine bl_6 Y X (by omega) dX0_readOne_23 (fun bd23 => ?_)
  refine lv_iconst (v := (nI 1)) hx hb dX0_readOne_24 (by decide +kernel) ?_
  refine n_iadd (z := rd b + 1) hx hb (rfl) dX0_readOne_25 ?_
  refine n_i2b hx hb (by omega) dX0_readOne_26 ?_
  refine bs_6 (j := b) (x := rd b + 1) Y X (by omega) (by omega) dX0_readOne_27 (fun H locs X => ?_)
  refine lv_iconst (v := (nI 1)) hx hb dX0_readOne_28 (by decide +kernel) ?_
  refine lv_iload_n hx hb dX0_readOne_29 rfl (lv_at hl 2 rfl) ?_
  refine n_isub (z := 1 - b) hx hb (by omega) (rfl) dX0_readOne_30 ?_
  refine lv_istore_n (lv' := [(3, .int (nI (1 - b))), (2, .int (nI (so (12 * b + (rd b))))), (0, .ref h), (1, .int (nI b))]) hx hb dX0_readOne_31 rfl hl (by decide) rfl (fun ls hl => ?_)
  refine lv_iconst (v := (nI 0)) hx hb dX0_readOne_32 (by decide +kernel) ?_
  refine lv_istore (lv' := [(4, .int (nI 0)), (3, .int (nI (1 - b))), (2, .int (nI (so (12 * b + (rd b))))), (0, .ref h), (1, .int (nI b))]) hx hb dX0_readOne_33 hl (by decide) rfl (fun ls hl => ?_)
  have loop35 : ∀ (fuel35 : Nat) (k : Nat) (hq : Nat → Nat) (hm : Nat), rd (1 - b) - k < fuel35 → k ≤ rd (1 - b) → RdI P K S Wt so si rd hq hm rk rn b k → ∀ (H : Heap) (locs : List Loc), bX D (bA h a) s h a d P K S Wt bg so si (updN rd b (rd b + 1)) hq hm rk rn dn cu H locs → ∀ ls : Array Slot, lv_has ls 7 [(0, .ref h), (1, .int (nI b)), (2, .int (nI (so (12 * b + rd b)))), (3, .int (nI (1 - b))), (4, .int (nI k))] → W p l e R s m args below meth c H locs 0 0 Q (F0 m 35 ls []) := by
    intro fuel35
    induction fuel35 with
    | zero =>
      intro k hq hm hfu35
      exact absurd hfu35 (Nat.not_lt_zero _)
    | succ fuel35 ih35 =>
      intro k hq hm hfu35 hk hrd H locs X ls hl
      refine lv_iload hx hb dX0_readOne_35 (lv_at hl 4 rfl) ?_
      refine lv_aload_n hx hb dX0_readOne_37 rfl (lv_at hl 0 rfl) ?_
      refine bg_7 Y X dX0_readOne_38 ?_
      refine lv_iload_n hx hb dX0_readOne_41 rfl (lv_at hl 3 rfl) ?_
      refine bl_6 Y X (by omega) dX0_readOne_42 (fun bd42 => ?_)
      refine n_icmp_ge (tgt := 121) hx hb dX0_readOne_43 (by decide) (by omega) (by omega) (fun c43 => ?_) (fun c43 => ?_)
      · skip
        rw [eu] at c43
        have ek : k = rd (1 - b) := by omega
        subst ek
        exact hret (hq, hm) _ _ _ _ X (RdI.fin hRI hb2 hr hrd) dX0_readOne_121
      · skip
        rw [eu] at c43
        refine lv_aload_n hx hb dX0_readOne_46 rfl (lv_at hl 0 rfl) ?_
        refine bg_5 Y X dX0_readOne_47 ?_
        refine lv_iload_n hx hb dX0_readOne_50 rfl (lv_at hl 3 rfl) ?_
        refine lv_bipush (v := (nI 12)) hx hb dX0_readOne_51 (by decide +kernel) ?_
        refine n_imul (z := 12 * (1 - b)) hx hb (Nat.mul_comm _ _) dX0_readOne_53 ?_
        refine lv_iload hx hb dX0_readOne_54 (lv_at hl 4 rfl) ?_
        refine n_iadd (z := 12 * (1 - b) + k) hx hb (rfl) dX0_readOne_56 ?_
        refine bl_4 Y X (by omega) dX0_readOne_57 (fun bd57 => ?_)
        refine lv_istore (lv' := [(5, .int (nI (so (12 * (1 - b) + k)))), (0, .ref h), (1, .int (nI b)), (2, .int (nI (so (12 * b + rd b)))), (3, .int (nI (1 - b))), (4, .int (nI k))]) hx hb dX0_readOne_58 hl (by decide) rfl (fun ls hl => ?_)
        refine lv_aload_n hx hb dX0_readOne_60 rfl (lv_at hl 1 rfl) ?_
        refine bg_1 Y X dX0_readOne_61 ?_
        refine lv_iload_n hx hb dX0_readOne_64 rfl (lv_at hl 4 rfl) ?_
        refine lv_bipush (v := (nI 12)) hx hb dX0_readOne_65 (by decide +kernel) ?_
        refine n_imul (z := 12 * (1 - b)) hx hb (Nat.mul_comm _ _) dX0_readOne_67 ?_
        refine lv_iload hx hb dX0_readOne_68 (lv_at hl 0 rfl) ?_
        refine n_iadd (z := 12 * (1 - b) + (so (12 * (1 - b) + k))) hx hb (rfl) dX0_readOne_70 ?_
        refine bl_1 Y X (by omega) dX0_readOne_71 (fun bd71 => ?_)
        refine lv_aload_n hx hb dX0_readOne_72 rfl (lv_at hl 1 rfl) ?_
        refine bg_1 Y X dX0_readOne_73 ?_
        refine lv_iload_n hx hb dX0_readOne_76 rfl (lv_at hl 2 rfl) ?_
        refine lv_bipush (v := (nI 12)) hx hb dX0_readOne_77 (by decide +kernel) ?_
        refine n_imul (z := 12 * b) hx hb (Nat.mul_comm _ _) dX0_readOne_79 ?_
        refine lv_iload_n hx hb dX0_readOne_80 rfl (lv_at hl 3 rfl) ?_
        refine n_iadd (z := 12 * b + (so (12 * b + rd b))) hx hb (rfl) dX0_readOne_81 ?_
        refine bl_1 Y X (by omega) dX0_readOne_82 (fun bd82 => ?_)
        refine n_icmp_ne (tgt := 115) hx hb dX0_readOne_83 (by decide) (by omega) (by omega) (fun c83 => ?_) (fun c83 => ?_)
        · skip
          refine lv_iinc (v := nI (k + 1)) (lv' := [(4, .int (nI (k + 1))), (5, .int (nI (so (12 * (1 - b) + k)))), (0, .ref h), (1, .int (nI b)), (2, .int (nI (so (12 * b + rd b)))), (3, .int (nI (1 - b)))]) hx hb dX0_readOne_115 hl (k := 5) rfl (by rw [← nI_1]; rfl) (by decide) rfl (fun ls hl => ?_)
          refine lv_goto (tgt := 35) hx hb dX0_readOne_118 (by decide) ?_
          have ek := hk
          exact ih35 (k + 1) hq hm (by omega) (by omega) (hrd.skip c83) _ _ X ls (lv_sub hl [2, 3, 4, 5, 0] rfl)
        · skip
          refine lv_iload_n hx hb dX0_readOne_86 rfl (lv_at hl 2 rfl) ?_
          refine n_if_ne (tgt := 100) hx hb dX0_readOne_87 (by decide) (by omega) (fun c87 => ?_) (fun c87 => ?_)
          · skip
            refine lv_iload hx hb dX0_readOne_100 (lv_at hl 0 rfl) ?_
            refine lv_bipush (v := (nI 16)) hx hb dX0_readOne_102 (by decide +kernel) ?_
            refine n_imul (z := 16 * (so (12 * (1 - b) + k))) hx hb (Nat.mul_comm _ _) dX0_readOne_104 ?_
            refine lv_iload_n hx hb dX0_readOne_105 rfl (lv_at hl 3 rfl) ?_
            refine n_iadd (z := cb b (so (12 * b + rd b)) (so (12 * (1 - b) + k))) hx hb (by rw [show b = 1 by omega, cb1]) dX0_readOne_106 ?_
            refine lv_istore (lv' := [(6, .int (nI (cb b (so (12 * b + rd b)) (so (12 * (1 - b) + k))))), (5, .int (nI (so (12 * (1 - b) + k)))), (0, .ref h), (1, .int (nI b)), (2, .int (nI (so (12 * b + rd b)))), (3, .int (nI (1 - b))), (4, .int (nI k))]) hx hb dX0_readOne_107 hl (by decide) rfl (fun ls hl => ?_)
            refine lv_aload_n hx hb dX0_readOne_109 rfl (lv_at hl 2 rfl) ?_
            refine lv_iload hx hb dX0_readOne_110 (lv_at hl 0 rfl) ?_
            have hkk : k < rd (1 - b) := by omega
            have hnew := rdM_new (K := K) hs hb2 hr hkk
            have hroom := hrd.room hs hb2 hr hkk
            refine bc_push (x := cb b (so (12 * b + rd b)) (so (12 * (1 - b) + k))) Y X hnew.1 (by omega) hrd.1 ⟨by omega, by omega⟩ hl.1 (Nat.le_of_ble_eq_true rfl) dX0_readOne_112 (fun u1 H locs hu1 X => ?_)
            have hrd2 := hrd.push hs hb2 hr hkk c83 hu1.1 hu1.2
            refine lv_iinc (v := nI (k + 1)) (lv' := [(4, .int (nI (k + 1))), (6, .int (nI (cb b (so (12 * b + rd b)) (so (12 * (1 - b) + k))))), (5, .int (nI (so (12 * (1 - b) + k)))), (0, .ref h), (1, .int (nI b)), (2, .int (nI (so (12 * b + rd b)))), (3, .int (nI (1 - b)))]) hx hb dX0_readOne_115 hl (k := 6) rfl (by rw [← nI_1]; rfl) (by decide) rfl (fun ls hl => ?_)
            refine lv_goto (tgt := 35) hx hb dX0_readOne_118 (by decide) ?_
            have ek := hk
            exact ih35 (k + 1) u1 (hm + 1) (by omega) (by omega) hrd2 _ _ X ls (lv_sub hl [3, 4, 5, 6, 0] rfl)
          · skip
            refine lv_iload_n hx hb dX0_readOne_90 rfl (lv_at hl 3 rfl) ?_
            refine lv_bipush (v := (nI 16)) hx hb dX0_readOne_91 (by decide +kernel) ?_
            refine n_imul (z := 16 * (so (12 * b + rd b))) hx hb (Nat.mul_comm _ _) dX0_readOne_93 ?_
            refine lv_iload hx hb dX0_readOne_94 (lv_at hl 0 rfl) ?_
            refine n_iadd (z := cb b (so (12 * b + rd b)) (so (12 * (1 - b) + k))) hx hb (by rw [c87, cb0]) dX0_readOne_96 ?_
            refine lv_goto (tgt := 107) hx hb dX0_readOne_97 (by decide) ?_
            refine lv_istore (lv' := [(6, .int (nI (cb b (so (12 * b + rd b)) (so (12 * (1 - b) + k))))), (5, .int (nI (so (12 * (1 - b) + k)))), (0, .ref h), (1, .int (nI b)), (2, .int (nI (so (12 * b + rd b)))), (3, .int (nI (1 - b))), (4, .int (nI k))]) hx hb dX0_readOne_107 hl (by decide) rfl (fun ls hl => ?_)
            refine lv_aload_n hx hb dX0_readOne_109 rfl (lv_at hl 2 rfl) ?_
            refine lv_iload hx hb dX0_readOne_110 (lv_at hl 0 rfl) ?_
            have hkk : k < rd (1 - b) := by omega
            have hnew := rdM_new (K := K) hs hb2 hr hkk
            have hroom := hrd.room hs hb2 hr hkk
            refine bc_push (x := cb b (so (12 * b + rd b)) (so (12 * (1 - b) + k))) Y X hnew.1 (by omega) hrd.1 ⟨by omega, by omega⟩ hl.1 (Nat.le_of_ble_eq_true rfl) dX0_readOne_112 (fun u2 H locs hu2 X => ?_)
            have hrd2 := hrd.push hs hb2 hr hkk c83 hu2.1 hu2.2
            refine lv_iinc (v := nI (k + 1)) (lv' := [(4, .int (nI (k + 1))), (6, .int (nI (cb b (so (12 * b + rd b)) (so (12 * (1 - b) + k))))), (5, .int (nI (so (12 * (1 - b) + k)))), (0, .ref h), (1, .int (nI b)), (2, .int (nI (so (12 * b + rd b)))), (3, .int (nI (1 - b)))]) hx hb dX0_readOne_115 hl (k := 6) rfl (by rw [← nI_1]; rfl) (by decide) rfl (fun ls hl => ?_)
            refine lv_goto (tgt := 35) hx hb dX0_readOne_118 (by decide) ?_
            have ek := hk
            exact ih35 (k + 1) u2 (hm + 1) (by omega) (by omega) hrd2 _ _ X ls (lv_sub hl [3, 4, 5, 6, 0] rfl)
  exact loop35 (rd (1 - b) + 1) 0 hp hn (by omega) (by omega) (RdI.init hRI) _ _ X ls (lv_sub hl [3, 4, 2, 1, 0] rfl)

set_option maxHeartbeats 4000000 in
set_option maxRecDepth 100000 in
theorem bc_readOne {p : Program} {l : Launch} {e : Env} {R : Room} {s : State} {m : MethodId} {args : Array Value} {below : List Frame} {meth : Method} {c : Code} {H : Heap} {locs : List Loc} {Q : State → Prop} {cc : ByteArray} {nL pc h : Nat} {a : Nat → Nat} {d : Nat → ClassId} {D : va_G} {rest : List Value} {ls : Array Slot} {P K S Wt : Nat → Nat} {bg : Nat} {so si rd hp : Nat → Nat} {hn : Nat} {rk : Nat → Nat} {rn dn cu : Nat} {b : Nat} (Y : CallFix p m c cc nL s args lw_all "BestPairs") (X : bX D (bA h a) s h a d P K S Wt bg so si rd hp hn rk rn dn cu H locs) (hb2 : b < 2) (hr : rd b < si b) (hRI : RI P K S Wt so si rd hp hn rk rn dn) (hR : 5 ≤ R.frames ∧ 116 ≤ R.locals) (hls : ls.size = nL) (hW : (rest.map fun v => v.category).sum ≤ 8) (hdg : decode cc pc = .ok (.invokevirtual 94, 3)) (kk : ∀ (u : (Nat → Nat) × Nat) (H1 : Heap) (locs1 : List Loc), (fun (u : (Nat → Nat) × Nat) => RI P K S Wt so si (updN rd b (rd b + 1)) u.1 u.2 rk rn dn) u → bX D (bA h a) s h a d P K S Wt bg so si (updN rd b (rd b + 1)) (u.1) (u.2) rk rn dn cu H1 locs1 → W p l e R s m args below meth c H1 locs1 0 0 Q (F0 m (pc + 3) ls (rest))) : W p l e R s m args below meth c H locs 0 0 Q (F0 m pc ls (.int (nI b) :: .ref h :: rest)) :=
  g_callV (C := "BestPairs") (ci := 0) (q0 := 0) (n := 1) (As := [.int (nI b)]) Y X (bt_readOne l D h a d P K S Wt bg so si rd hp hn rk rn dn cu b hb2 hr hRI) (lw_V q162 q164 qs13 q23 q165) (by decide +kernel) rfl hR rfl rfl rfl hls rfl hW hdg kk
set_option maxHeartbeats 4000000 in
set_option maxRecDepth 100000 in
theorem bt_produce (l : Launch) (D : va_G) (h : Nat) (a : Nat → Nat) (d : Nat → ClassId) (P K S Wt : Nat → Nat) (bg : Nat) (so si rd hp : Nat → Nat) (hn : Nat) (rk : Nat → Nat) (rn dn cu : Nat)  (hbg : bg = 1) (hRI : RI P K S Wt so si rd hp hn rk rn dn) : cI (S := (Nat → Nat) × (Nat → Nat) × Nat × (Nat → Nat) × Nat × Nat) l yX0_produce cX0_produce 5 .boolean 5 116 [.ref h] (bAt D TT h a d P K S Wt bg so si rd hp hn rk rn dn cu) (bA h a) (fun (r : Int32) (u : (Nat → Nat) × (Nat → Nat) × Nat × (Nat → Nat) × Nat × Nat) => RI P K S Wt so si u.1 u.2.1 u.2.2.1 u.2.2.2.1 u.2.2.2.2.1 u.2.2.2.2.2 ∧ ((r = nI 1 ∧ u.2.2.2.2.1 = rn + 1) ∨ (r = nI 0 ∧ u.2.2.2.2.1 = rn ∧ u.2.2.2.2.2 = 1))) (fun u => bAt D (bA h a) h a d P K S Wt bg so si (u.1) (u.2.1) (u.2.2.1) (u.2.2.2.1) (u.2.2.2.2.1) (u.2.2.2.2.2) cu) := by
  refine g_methI (own := "BestPairs") (by decide) rfl (Nat.le_of_ble_eq_true rfl) bA_in ?_
  intro p e R s m args below meth c Q Y hRf hRl hret ls hl X
  have hx := Y.1
  have hb := Y.2.1
  have hl : lv_has ls 5 [(0, .ref h)] := hl
  subst hbg
  refine lv_aload_n hx hb dX0_produce_0 rfl (lv_at hl 0 rfl) ?_
  refine bc_begin Y X (fun _ => hRI) ⟨by omega, by omega⟩ hl.1 (Nat.le_of_ble_eq_true rfl) dX0_produce_1 (fun u0 H locs hu0 X => ?_)
  have eu0 := hu0.2 rfl
  subst eu0
  have hs0 : si 0 ≤ 12 := X.1.2.2.2.2.2.1 0
  have hs1 : si 1 ≤ 12 := X.1.2.2.2.2.2.1 1
  refine lv_iconst (v := (nI 0)) hx hb dX0_produce_4 (by decide +kernel) ?_
  refine lv_istore_n (lv' := [(1, .int (nI 0)), (0, .ref h)]) hx hb dX0_produce_5 rfl hl (by decide) rfl (fun ls hl => ?_)
  have loop6 : ∀ (fuel6 : Nat) (t : Nat) (rq : Nat → Nat) (hq : Nat → Nat) (hm : Nat) (dm : Nat), 25 - t < fuel6 → t ≤ 25 → RI P K S Wt so si rq hq hm rk rn dm → (dm = 1 ∨ t + (si 0 - rq 0) + (si 1 - rq 1) ≤ 24) → ∀ (H : Heap) (locs : List Loc), bX D (bA h a) s h a d P K S Wt 1 so si rq hq hm rk rn dm cu H locs → ∀ ls : Array Slot, lv_has ls 5 [(0, .ref h), (1, .int (nI t))] → W p l e R s m args below meth c H locs 0 0 Q (F0 m 6 ls []) := by
    intro fuel6
    induction fuel6 with
    | zero =>
      intro t rq hq hm dm hfu6
      exact absurd hfu6 (Nat.not_lt_zero _)
    | succ fuel6 ih6 =>
      intro t rq hq hm dm hfu6 ht hri hms H locs X ls hl
      have hcard := hri.card
      refine lv_iload_n hx hb dX0_produce_6 rfl (lv_at hl 1 rfl) ?_
      refine lv_bipush (v := (nI 25)) hx hb dX0_produce_7 (by decide +kernel) ?_
      refine n_icmp_ge (tgt := 129) hx hb dX0_produce_9 (by decide) (by omega) (by omega) (fun c9 => ?_) (fun c9 => ?_)
      · skip
        refine lv_iconst (v := (nI 0)) hx hb dX0_produce_129 (by decide +kernel) ?_
        have edm : dm = 1 := by omega
        exact hret (rq, hq, hm, rk, rn, dm) _ _ _ _ _ X ⟨hri, Or.inr ⟨rfl, rfl, edm⟩⟩ nar0 dX0_produce_130
      · skip
        refine lv_aload_n hx hb dX0_produce_12 rfl (lv_at hl 0 rfl) ?_
        refine bg_12 Y X dX0_produce_13 (fun bd13 => ?_)
        refine n_if_ne (tgt := 129) hx hb dX0_produce_16 (by decide) (by omega) (fun c16 => ?_) (fun c16 => ?_)
        · skip
          refine lv_iconst (v := (nI 0)) hx hb dX0_produce_129 (by decide +kernel) ?_
          have edm : dm = 1 := by omega
          exact hret (rq, hq, hm, rk, rn, dm) _ _ _ _ _ X ⟨hri, Or.inr ⟨rfl, rfl, edm⟩⟩ nar0 dX0_produce_130
        · skip
          refine lv_aload_n hx hb dX0_produce_19 rfl (lv_at hl 0 rfl) ?_
          refine lv_iconst (v := (nI 0)) hx hb dX0_produce_20 (by decide +kernel) ?_
          refine bc_hope (b := 0) Y X (by decide) ⟨by omega, by omega⟩ hl.1 (Nat.le_of_ble_eq_true rfl) dX0_produce_21 (fun r1 hr1 => ?_)
          have hz0 : (rq 0 < si 0 ∧ si 1 ≠ 0 ∧ r1.toInt = ((Wt 0 * S (so (rq 0)) + Wt 1 * S (12 + so 12) : Nat) : Int)) ∨ (¬ (rq 0 < si 0 ∧ si 1 ≠ 0) ∧ r1.toInt = -1) := by
            rcases hr1 with ⟨q1, q2, q3, q4⟩ | ⟨q1, q2⟩
            · refine Or.inl ⟨q1, q2, ?_⟩
              have ev : Wt 0 * S (12 * 0 + so (12 * 0 + rq 0)) + Wt (1 - 0) * S (12 * (1 - 0) + so (12 * (1 - 0))) = Wt 0 * S (so (rq 0)) + Wt 1 * S (12 + so 12) := by
                rw [Nat.mul_zero, Nat.zero_add, Nat.zero_add]
              rw [q3, nI_toInt (by omega), ev]
            · exact Or.inr ⟨q1, by rw [q2]; decide +kernel⟩
          refine lv_istore_n (lv' := [(2, .int r1), (0, .ref h), (1, .int (nI t))]) hx hb dX0_produce_24 rfl hl (by decide) rfl (fun ls hl => ?_)
          refine lv_aload_n hx hb dX0_produce_25 rfl (lv_at hl 1 rfl) ?_
          refine lv_iconst (v := (nI 1)) hx hb dX0_produce_26 (by decide +kernel) ?_
          refine bc_hope (b := 1) Y X (by decide) ⟨by omega, by omega⟩ hl.1 (Nat.le_of_ble_eq_true rfl) dX0_produce_27 (fun r2 hr2 => ?_)
          have hz1 : (rq 1 < si 1 ∧ si 0 ≠ 0 ∧ r2.toInt = ((Wt 1 * S (12 + so (12 + rq 1)) + Wt 0 * S (so 0) : Nat) : Int)) ∨ (¬ (rq 1 < si 1 ∧ si 0 ≠ 0) ∧ r2.toInt = -1) := by
            rcases hr2 with ⟨q1, q2, q3, q4⟩ | ⟨q1, q2⟩
            · refine Or.inl ⟨q1, q2, ?_⟩
              have ev : Wt 1 * S (12 * 1 + so (12 * 1 + rq 1)) + Wt (1 - 1) * S (12 * (1 - 1) + so (12 * (1 - 1))) = Wt 1 * S (12 + so (12 + rq 1)) + Wt 0 * S (so 0) := by
                rw [Nat.sub_self, Nat.mul_zero, Nat.zero_add]
              rw [q3, nI_toInt (by omega), ev]
            · exact Or.inr ⟨q1, by rw [q2]; decide +kernel⟩
          refine lv_istore_n (lv' := [(3, .int r2), (2, .int r1), (0, .ref h), (1, .int (nI t))]) hx hb dX0_produce_30 rfl hl (by decide) rfl (fun ls hl => ?_)
          refine lv_iload_n hx hb dX0_produce_31 rfl (lv_at hl 1 rfl) ?_
          refine lv_iload_n hx hb dX0_produce_32 rfl (lv_at hl 0 rfl) ?_
          refine i_icmp_le (tgt := 40) hx hb dX0_produce_33 (by decide) (fun c33 => ?_) (fun c33 => ?_)
          · skip
            refine lv_iload_n hx hb dX0_produce_40 rfl (lv_at hl 0 rfl) ?_
            refine lv_istore (lv' := [(4, .int r2), (3, .int r2), (2, .int r1), (0, .ref h), (1, .int (nI t))]) hx hb dX0_produce_41 hl (by decide) rfl (fun ls hl => ?_)
            refine lv_aload_n hx hb dX0_produce_43 rfl (lv_at hl 3 rfl) ?_
            refine bg_9 Y X dX0_produce_44 (fun bd44 => ?_)
            refine n_if_le (tgt := 96) hx hb dX0_produce_47 (by decide) (by omega) (fun c47 => ?_) (fun c47 => ?_)
            · skip
              refine lv_iload hx hb dX0_produce_96 (lv_at hl 0 rfl) ?_
              refine i_if_ge (tgt := 109) hx hb dX0_produce_98 (by decide) (fun c98 => ?_) (fun c98 => ?_)
              · skip
                refine lv_aload_n hx hb dX0_produce_109 rfl (lv_at hl 3 rfl) ?_
                refine lv_iload_n hx hb dX0_produce_110 rfl (lv_at hl 2 rfl) ?_
                refine lv_iload_n hx hb dX0_produce_111 rfl (lv_at hl 1 rfl) ?_
                refine i_icmp_lt (tgt := 119) hx hb dX0_produce_112 (by decide) (fun c112 => ?_) (fun c112 => ?_)
                · skip
                  refine lv_iconst (v := (nI 1)) hx hb dX0_produce_119 (by decide +kernel) ?_
                  refine bc_readOne (b := 1) Y X (by decide) (by omega) hri ⟨by omega, by omega⟩ hl.1 (Nat.le_of_ble_eq_true rfl) dX0_produce_120 (fun u3 H locs hu3 X => ?_)
                  refine lv_iinc (v := nI (t + 1)) (lv' := [(1, .int (nI (t + 1))), (4, .int r2), (3, .int r2), (2, .int r1), (0, .ref h)]) hx hb dX0_produce_123 hl (k := 4) rfl (by rw [← nI_1]; rfl) (by decide) rfl (fun ls hl => ?_)
                  refine lv_goto (tgt := 6) hx hb dX0_produce_126 (by decide) ?_
                  have e0 : updN rq 1 (rq 1 + 1) 1 = rq 1 + 1 := updN_s _ _ _
                  have e1 : updN rq 1 (rq 1 + 1) 0 = rq 0 := updN_n (by decide)
                  have hms2 : dm = 1 ∨ t + 1 + (si 0 - updN rq 1 (rq 1 + 1) 0) + (si 1 - updN rq 1 (rq 1 + 1) 1) ≤ 24 := by rw [e0, e1]; omega
                  exact ih6 (t + 1) (updN rq 1 (rq 1 + 1)) (u3.1) (u3.2) dm (by omega) (by omega) hu3 hms2 _ _ X ls (lv_sub hl [4, 0] rfl)
                · skip
                  refine lv_iconst (v := (nI 0)) hx hb dX0_produce_115 (by decide +kernel) ?_
                  refine lv_goto (tgt := 120) hx hb dX0_produce_116 (by decide) ?_
                  refine bc_readOne (b := 0) Y X (by decide) (by omega) hri ⟨by omega, by omega⟩ hl.1 (Nat.le_of_ble_eq_true rfl) dX0_produce_120 (fun u4 H locs hu4 X => ?_)
                  refine lv_iinc (v := nI (t + 1)) (lv' := [(1, .int (nI (t + 1))), (4, .int r2), (3, .int r2), (2, .int r1), (0, .ref h)]) hx hb dX0_produce_123 hl (k := 4) rfl (by rw [← nI_1]; rfl) (by decide) rfl (fun ls hl => ?_)
                  refine lv_goto (tgt := 6) hx hb dX0_produce_126 (by decide) ?_
                  have e0 : updN rq 0 (rq 0 + 1) 0 = rq 0 + 1 := updN_s _ _ _
                  have e1 : updN rq 0 (rq 0 + 1) 1 = rq 1 := updN_n (by decide)
                  have hms2 : dm = 1 ∨ t + 1 + (si 0 - updN rq 0 (rq 0 + 1) 0) + (si 1 - updN rq 0 (rq 0 + 1) 1) ≤ 24 := by rw [e0, e1]; omega
                  exact ih6 (t + 1) (updN rq 0 (rq 0 + 1)) (u4.1) (u4.2) dm (by omega) (by omega) hu4 hms2 _ _ X ls (lv_sub hl [4, 0] rfl)
              · skip
                have ehm : hm = 0 := by omega
                subst ehm
                have hfin := hri.finish (by omega) (by omega)
                refine lv_aload_n hx hb dX0_produce_101 rfl (lv_at hl 3 rfl) ?_
                refine lv_iconst (v := (nI 1)) hx hb dX0_produce_102 (by decide +kernel) ?_
                refine bp_12 Y X (by omega) dX0_produce_103 (fun H locs X => ?_)
                refine lv_goto (tgt := 123) hx hb dX0_produce_106 (by decide) ?_
                refine lv_iinc (v := nI (t + 1)) (lv' := [(1, .int (nI (t + 1))), (4, .int r2), (3, .int r2), (2, .int r1), (0, .ref h)]) hx hb dX0_produce_123 hl (k := 4) rfl (by rw [← nI_1]; rfl) (by decide) rfl (fun ls hl => ?_)
                refine lv_goto (tgt := 6) hx hb dX0_produce_126 (by decide) ?_
                exact ih6 (t + 1) rq hq 0 1 (by omega) (by omega) hfin (Or.inl rfl) _ _ X ls (lv_sub hl [4, 0] rfl)
            · skip
              refine lv_aload_n hx hb dX0_produce_50 rfl (lv_at hl 3 rfl) ?_
              refine lv_aload_n hx hb dX0_produce_51 rfl (lv_at hl 3 rfl) ?_
              refine bg_8 Y X dX0_produce_52 ?_
              refine lv_iconst (v := (nI 0)) hx hb dX0_produce_55 (by decide +kernel) ?_
              refine bl_7 Y X (by omega) dX0_produce_56 (fun bd56 => ?_)
              refine bc_valueOf Y X bd56 ⟨by omega, by omega⟩ hl.1 (Nat.le_of_ble_eq_true rfl) dX0_produce_57 (fun r5 hr5 => ?_)
              subst hr5
              have hv := valC_le X.1.2.2.2.1 X.1.2.2.1 (hq 0)
              have hvi : (nI (valC Wt S (hq 0))).toInt = (valC Wt S (hq 0) : Int) := nI_toInt (by omega)
              refine lv_iload hx hb dX0_produce_60 (lv_at hl 0 rfl) ?_
              refine i_icmp_le (tgt := 96) hx hb dX0_produce_62 (by decide) (fun c62 => ?_) (fun c62 => ?_)
              · skip
                refine lv_iload hx hb dX0_produce_96 (lv_at hl 0 rfl) ?_
                refine i_if_ge (tgt := 109) hx hb dX0_produce_98 (by decide) (fun c98 => ?_) (fun c98 => ?_)
                · skip
                  refine lv_aload_n hx hb dX0_produce_109 rfl (lv_at hl 3 rfl) ?_
                  refine lv_iload_n hx hb dX0_produce_110 rfl (lv_at hl 2 rfl) ?_
                  refine lv_iload_n hx hb dX0_produce_111 rfl (lv_at hl 1 rfl) ?_
                  refine i_icmp_lt (tgt := 119) hx hb dX0_produce_112 (by decide) (fun c112 => ?_) (fun c112 => ?_)
                  · skip
                    refine lv_iconst (v := (nI 1)) hx hb dX0_produce_119 (by decide +kernel) ?_
                    refine bc_readOne (b := 1) Y X (by decide) (by omega) hri ⟨by omega, by omega⟩ hl.1 (Nat.le_of_ble_eq_true rfl) dX0_produce_120 (fun u6 H locs hu6 X => ?_)
                    refine lv_iinc (v := nI (t + 1)) (lv' := [(1, .int (nI (t + 1))), (4, .int r2), (3, .int r2), (2, .int r1), (0, .ref h)]) hx hb dX0_produce_123 hl (k := 4) rfl (by rw [← nI_1]; rfl) (by decide) rfl (fun ls hl => ?_)
                    refine lv_goto (tgt := 6) hx hb dX0_produce_126 (by decide) ?_
                    have e0 : updN rq 1 (rq 1 + 1) 1 = rq 1 + 1 := updN_s _ _ _
                    have e1 : updN rq 1 (rq 1 + 1) 0 = rq 0 := updN_n (by decide)
                    have hms2 : dm = 1 ∨ t + 1 + (si 0 - updN rq 1 (rq 1 + 1) 0) + (si 1 - updN rq 1 (rq 1 + 1) 1) ≤ 24 := by rw [e0, e1]; omega
                    exact ih6 (t + 1) (updN rq 1 (rq 1 + 1)) (u6.1) (u6.2) dm (by omega) (by omega) hu6 hms2 _ _ X ls (lv_sub hl [4, 0] rfl)
                  · skip
                    refine lv_iconst (v := (nI 0)) hx hb dX0_produce_115 (by decide +kernel) ?_
                    refine lv_goto (tgt := 120) hx hb dX0_produce_116 (by decide) ?_
                    refine bc_readOne (b := 0) Y X (by decide) (by omega) hri ⟨by omega, by omega⟩ hl.1 (Nat.le_of_ble_eq_true rfl) dX0_produce_120 (fun u7 H locs hu7 X => ?_)
                    refine lv_iinc (v := nI (t + 1)) (lv' := [(1, .int (nI (t + 1))), (4, .int r2), (3, .int r2), (2, .int r1), (0, .ref h)]) hx hb dX0_produce_123 hl (k := 4) rfl (by rw [← nI_1]; rfl) (by decide) rfl (fun ls hl => ?_)
                    refine lv_goto (tgt := 6) hx hb dX0_produce_126 (by decide) ?_
                    have e0 : updN rq 0 (rq 0 + 1) 0 = rq 0 + 1 := updN_s _ _ _
                    have e1 : updN rq 0 (rq 0 + 1) 1 = rq 1 := updN_n (by decide)
                    have hms2 : dm = 1 ∨ t + 1 + (si 0 - updN rq 0 (rq 0 + 1) 0) + (si 1 - updN rq 0 (rq 0 + 1) 1) ≤ 24 := by rw [e0, e1]; omega
                    exact ih6 (t + 1) (updN rq 0 (rq 0 + 1)) (u7.1) (u7.2) dm (by omega) (by omega) hu7 hms2 _ _ X ls (lv_sub hl [4, 0] rfl)
                · skip
                  have ehm : hm = 0 := by omega
                  subst ehm
                  have hfin := hri.finish (by omega) (by omega)
                  refine lv_aload_n hx hb dX0_produce_101 rfl (lv_at hl 3 rfl) ?_
                  refine lv_iconst (v := (nI 1)) hx hb dX0_produce_102 (by decide +kernel) ?_
                  refine bp_12 Y X (by omega) dX0_produce_103 (fun H locs X => ?_)
                  refine lv_goto (tgt := 123) hx hb dX0_produce_106 (by decide) ?_
                  refine lv_iinc (v := nI (t + 1)) (lv' := [(1, .int (nI (t + 1))), (4, .int r2), (3, .int r2), (2, .int r1), (0, .ref h)]) hx hb dX0_produce_123 hl (k := 4) rfl (by rw [← nI_1]; rfl) (by decide) rfl (fun ls hl => ?_)
                  refine lv_goto (tgt := 6) hx hb dX0_produce_126 (by decide) ?_
                  exact ih6 (t + 1) rq hq 0 1 (by omega) (by omega) hfin (Or.inl rfl) _ _ X ls (lv_sub hl [4, 0] rfl)
              · skip
                refine lv_aload_n hx hb dX0_produce_65 rfl (lv_at hl 3 rfl) ?_
                refine bg_10 Y X dX0_produce_66 ?_
                refine lv_aload_n hx hb dX0_produce_69 rfl (lv_at hl 3 rfl) ?_
                refine bg_11 Y X dX0_produce_70 (fun bd70 => ?_)
                refine lv_aload_n hx hb dX0_produce_73 rfl (lv_at hl 3 rfl) ?_
                refine bg_8 Y X dX0_produce_74 ?_
                refine lv_iconst (v := (nI 0)) hx hb dX0_produce_77 (by decide +kernel) ?_
                refine bl_7 Y X (by omega) dX0_produce_78 (fun bd78 => ?_)
                refine bs_8 (j := rn) (x := hq 0) Y X (by omega) bd78 dX0_produce_79 (fun H locs X => ?_)
                refine lv_aload_n hx hb dX0_produce_80 rfl (lv_at hl 3 rfl) ?_
                refine lv_dup hx hb dX0_produce_81 rfl ?_
                refine bg_11 Y X dX0_produce_82 (fun bd82 => ?_)
                refine lv_iconst (v := (nI 1)) hx hb dX0_produce_85 (by decide +kernel) ?_
                refine n_iadd (z := rn + 1) hx hb (rfl) dX0_produce_86 ?_
                refine bp_11 Y X (by omega) dX0_produce_87 (fun H locs X => ?_)
                refine lv_aload_n hx hb dX0_produce_90 rfl (lv_at hl 3 rfl) ?_
                obtain ⟨n, en⟩ : ∃ n, hm = n + 1 := ⟨hm - 1, by omega⟩
                subst en
                have edm : dm = 0 := by omega
                refine bc_pop (n := n) Y X rfl hri.2.2.2.2.1 ⟨by omega, by omega⟩ hl.1 (Nat.le_of_ble_eq_true rfl) dX0_produce_91 (fun u9 H locs hu9 X => ?_)
                have hgive := RI.give X.1.2.2.2.1 X.1.2.2.1 hri edm (fun q1 q2 => by omega) (fun q1 q2 => by omega) hu9.1 hu9.2
                refine lv_iconst (v := (nI 1)) hx hb dX0_produce_94 (by decide +kernel) ?_
                exact hret (rq, u9, n, updN rk rn (hq 0), rn + 1, dm) _ _ _ _ _ X ⟨hgive, Or.inl ⟨rfl, rfl⟩⟩ nar1 dX0_produce_95
          · skip
            refine lv_iload_n hx hb dX0_produce_36 rfl (lv_at hl 1 rfl) ?_
            refine lv_goto (tgt := 41) hx hb dX0_produce_37 (by decide) ?_
            refine lv_istore (lv' := [(4, .int r1), (3, .int r2), (2, .int r1), (0, .ref h), (1, .int (nI t))]) hx hb dX0_produce_41 hl (by decide) rfl (fun ls hl => ?_)
            refine lv_aload_n hx hb dX0_produce_43 rfl (lv_at hl 3 rfl) ?_
            refine bg_9 Y X dX0_produce_44 (fun bd44 => ?_)
            refine n_if_le (tgt := 96) hx hb dX0_produce_47 (by decide) (by omega) (fun c47 => ?_) (fun c47 => ?_)
            · skip
              refine lv_iload hx hb dX0_produce_96 (lv_at hl 0 rfl) ?_
              refine i_if_ge (tgt := 109) hx hb dX0_produce_98 (by decide) (fun c98 => ?_) (fun c98 => ?_)
              · skip
                refine lv_aload_n hx hb dX0_produce_109 rfl (lv_at hl 3 rfl) ?_
                refine lv_iload_n hx hb dX0_produce_110 rfl (lv_at hl 2 rfl) ?_
                refine lv_iload_n hx hb dX0_produce_111 rfl (lv_at hl 1 rfl) ?_
                refine i_icmp_lt (tgt := 119) hx hb dX0_produce_112 (by decide) (fun c112 => ?_) (fun c112 => ?_)
                · skip
                  refine lv_iconst (v := (nI 1)) hx hb dX0_produce_119 (by decide +kernel) ?_
                  refine bc_readOne (b := 1) Y X (by decide) (by omega) hri ⟨by omega, by omega⟩ hl.1 (Nat.le_of_ble_eq_true rfl) dX0_produce_120 (fun u8 H locs hu8 X => ?_)
                  refine lv_iinc (v := nI (t + 1)) (lv' := [(1, .int (nI (t + 1))), (4, .int r1), (3, .int r2), (2, .int r1), (0, .ref h)]) hx hb dX0_produce_123 hl (k := 4) rfl (by rw [← nI_1]; rfl) (by decide) rfl (fun ls hl => ?_)
                  refine lv_goto (tgt := 6) hx hb dX0_produce_126 (by decide) ?_
                  have e0 : updN rq 1 (rq 1 + 1) 1 = rq 1 + 1 := updN_s _ _ _
                  have e1 : updN rq 1 (rq 1 + 1) 0 = rq 0 := updN_n (by decide)
                  have hms2 : dm = 1 ∨ t + 1 + (si 0 - updN rq 1 (rq 1 + 1) 0) + (si 1 - updN rq 1 (rq 1 + 1) 1) ≤ 24 := by rw [e0, e1]; omega
                  exact ih6 (t + 1) (updN rq 1 (rq 1 + 1)) (u8.1) (u8.2) dm (by omega) (by omega) hu8 hms2 _ _ X ls (lv_sub hl [4, 0] rfl)
                · skip
                  refine lv_iconst (v := (nI 0)) hx hb dX0_produce_115 (by decide +kernel) ?_
                  refine lv_goto (tgt := 120) hx hb dX0_produce_116 (by decide) ?_
                  refine bc_readOne (b := 0) Y X (by decide) (by omega) hri ⟨by omega, by omega⟩ hl.1 (Nat.le_of_ble_eq_true rfl) dX0_produce_120 (fun u9 H locs hu9 X => ?_)
                  refine lv_iinc (v := nI (t + 1)) (lv' := [(1, .int (nI (t + 1))), (4, .int r1), (3, .int r2), (2, .int r1), (0, .ref h)]) hx hb dX0_produce_123 hl (k := 4) rfl (by rw [← nI_1]; rfl) (by decide) rfl (fun ls hl => ?_)
                  refine lv_goto (tgt := 6) hx hb dX0_produce_126 (by decide) ?_
                  have e0 : updN rq 0 (rq 0 + 1) 0 = rq 0 + 1 := updN_s _ _ _
                  have e1 : updN rq 0 (rq 0 + 1) 1 = rq 1 := updN_n (by decide)
                  have hms2 : dm = 1 ∨ t + 1 + (si 0 - updN rq 0 (rq 0 + 1) 0) + (si 1 - updN rq 0 (rq 0 + 1) 1) ≤ 24 := by rw [e0, e1]; omega
                  exact ih6 (t + 1) (updN rq 0 (rq 0 + 1)) (u9.1) (u9.2) dm (by omega) (by omega) hu9 hms2 _ _ X ls (lv_sub hl [4, 0] rfl)
              · skip
                have ehm : hm = 0 := by omega
                subst ehm
                have hfin := hri.finish (by omega) (by omega)
                refine lv_aload_n hx hb dX0_produce_101 rfl (lv_at hl 3 rfl) ?_
                refine lv_iconst (v := (nI 1)) hx hb dX0_produce_102 (by decide +kernel) ?_
                refine bp_12 Y X (by omega) dX0_produce_103 (fun H locs X => ?_)
                refine lv_goto (tgt := 123) hx hb dX0_produce_106 (by decide) ?_
                refine lv_iinc (v := nI (t + 1)) (lv' := [(1, .int (nI (t + 1))), (4, .int r1), (3, .int r2), (2, .int r1), (0, .ref h)]) hx hb dX0_produce_123 hl (k := 4) rfl (by rw [← nI_1]; rfl) (by decide) rfl (fun ls hl => ?_)
                refine lv_goto (tgt := 6) hx hb dX0_produce_126 (by decide) ?_
                exact ih6 (t + 1) rq hq 0 1 (by omega) (by omega) hfin (Or.inl rfl) _ _ X ls (lv_sub hl [4, 0] rfl)
            · skip
              refine lv_aload_n hx hb dX0_produce_50 rfl (lv_at hl 3 rfl) ?_
              refine lv_aload_n hx hb dX0_produce_51 rfl (lv_at hl 3 rfl) ?_
              refine bg_8 Y X dX0_produce_52 ?_
              refine lv_iconst (v := (nI 0)) hx hb dX0_produce_55 (by decide +kernel) ?_
              refine bl_7 Y X (by omega) dX0_produce_56 (fun bd56 => ?_)
              refine bc_valueOf Y X bd56 ⟨by omega, by omega⟩ hl.1 (Nat.le_of_ble_eq_true rfl) dX0_produce_57 (fun r10 hr10 => ?_)
              subst hr10
              have hv := valC_le X.1.2.2.2.1 X.1.2.2.1 (hq 0)
              have hvi : (nI (valC Wt S (hq 0))).toInt = (valC Wt S (hq 0) : Int) := nI_toInt (by omega)
              refine lv_iload hx hb dX0_produce_60 (lv_at hl 0 rfl) ?_
              refine i_icmp_le (tgt := 96) hx hb dX0_produce_62 (by decide) (fun c62 => ?_) (fun c62 => ?_)
              · skip
                refine lv_iload hx hb dX0_produce_96 (lv_at hl 0 rfl) ?_
                refine i_if_ge (tgt := 109) hx hb dX0_produce_98 (by decide) (fun c98 => ?_) (fun c98 => ?_)
                · skip
                  refine lv_aload_n hx hb dX0_produce_109 rfl (lv_at hl 3 rfl) ?_
                  refine lv_iload_n hx hb dX0_produce_110 rfl (lv_at hl 2 rfl) ?_
                  refine lv_iload_n hx hb dX0_produce_111 rfl (lv_at hl 1 rfl) ?_
                  refine i_icmp_lt (tgt := 119) hx hb dX0_produce_112 (by decide) (fun c112 => ?_) (fun c112 => ?_)
                  · skip
                    refine lv_iconst (v := (nI 1)) hx hb dX0_produce_119 (by decide +kernel) ?_
                    refine bc_readOne (b := 1) Y X (by decide) (by omega) hri ⟨by omega, by omega⟩ hl.1 (Nat.le_of_ble_eq_true rfl) dX0_produce_120 (fun u11 H locs hu11 X => ?_)
                    refine lv_iinc (v := nI (t + 1)) (lv' := [(1, .int (nI (t + 1))), (4, .int r1), (3, .int r2), (2, .int r1), (0, .ref h)]) hx hb dX0_produce_123 hl (k := 4) rfl (by rw [← nI_1]; rfl) (by decide) rfl (fun ls hl => ?_)
                    refine lv_goto (tgt := 6) hx hb dX0_produce_126 (by decide) ?_
                    have e0 : updN rq 1 (rq 1 + 1) 1 = rq 1 + 1 := updN_s _ _ _
                    have e1 : updN rq 1 (rq 1 + 1) 0 = rq 0 := updN_n (by decide)
                    have hms2 : dm = 1 ∨ t + 1 + (si 0 - updN rq 1 (rq 1 + 1) 0) + (si 1 - updN rq 1 (rq 1 + 1) 1) ≤ 24 := by rw [e0, e1]; omega
                    exact ih6 (t + 1) (updN rq 1 (rq 1 + 1)) (u11.1) (u11.2) dm (by omega) (by omega) hu11 hms2 _ _ X ls (lv_sub hl [4, 0] rfl)
                  · skip
                    refine lv_iconst (v := (nI 0)) hx hb dX0_produce_115 (by decide +kernel) ?_
                    refine lv_goto (tgt := 120) hx hb dX0_produce_116 (by decide) ?_
                    refine bc_readOne (b := 0) Y X (by decide) (by omega) hri ⟨by omega, by omega⟩ hl.1 (Nat.le_of_ble_eq_true rfl) dX0_produce_120 (fun u12 H locs hu12 X => ?_)
                    refine lv_iinc (v := nI (t + 1)) (lv' := [(1, .int (nI (t + 1))), (4, .int r1), (3, .int r2), (2, .int r1), (0, .ref h)]) hx hb dX0_produce_123 hl (k := 4) rfl (by rw [← nI_1]; rfl) (by decide) rfl (fun ls hl => ?_)
                    refine lv_goto (tgt := 6) hx hb dX0_produce_126 (by decide) ?_
                    have e0 : updN rq 0 (rq 0 + 1) 0 = rq 0 + 1 := updN_s _ _ _
                    have e1 : updN rq 0 (rq 0 + 1) 1 = rq 1 := updN_n (by decide)
                    have hms2 : dm = 1 ∨ t + 1 + (si 0 - updN rq 0 (rq 0 + 1) 0) + (si 1 - updN rq 0 (rq 0 + 1) 1) ≤ 24 := by rw [e0, e1]; omega
                    exact ih6 (t + 1) (updN rq 0 (rq 0 + 1)) (u12.1) (u12.2) dm (by omega) (by omega) hu12 hms2 _ _ X ls (lv_sub hl [4, 0] rfl)
                · skip
                  have ehm : hm = 0 := by omega
                  subst ehm
                  have hfin := hri.finish (by omega) (by omega)
                  refine lv_aload_n hx hb dX0_produce_101 rfl (lv_at hl 3 rfl) ?_
                  refine lv_iconst (v := (nI 1)) hx hb dX0_produce_102 (by decide +kernel) ?_
                  refine bp_12 Y X (by omega) dX0_produce_103 (fun H locs X => ?_)
                  refine lv_goto (tgt := 123) hx hb dX0_produce_106 (by decide) ?_
                  refine lv_iinc (v := nI (t + 1)) (lv' := [(1, .int (nI (t + 1))), (4, .int r1), (3, .int r2), (2, .int r1), (0, .ref h)]) hx hb dX0_produce_123 hl (k := 4) rfl (by rw [← nI_1]; rfl) (by decide) rfl (fun ls hl => ?_)
                  refine lv_goto (tgt := 6) hx hb dX0_produce_126 (by decide) ?_
                  exact ih6 (t + 1) rq hq 0 1 (by omega) (by omega) hfin (Or.inl rfl) _ _ X ls (lv_sub hl [4, 0] rfl)
              · skip
                refine lv_aload_n hx hb dX0_produce_65 rfl (lv_at hl 3 rfl) ?_
                refine bg_10 Y X dX0_produce_66 ?_
                refine lv_aload_n hx hb dX0_produce_69 rfl (lv_at hl 3 rfl) ?_
                refine bg_11 Y X dX0_produce_70 (fun bd70 => ?_)
                refine lv_aload_n hx hb dX0_produce_73 rfl (lv_at hl 3 rfl) ?_
                refine bg_8 Y X dX0_produce_74 ?_
                refine lv_iconst (v := (nI 0)) hx hb dX0_produce_77 (by decide +kernel) ?_
                refine bl_7 Y X (by omega) dX0_produce_78 (fun bd78 => ?_)
                refine bs_8 (j := rn) (x := hq 0) Y X (by omega) bd78 dX0_produce_79 (fun H locs X => ?_)
                refine lv_aload_n hx hb dX0_produce_80 rfl (lv_at hl 3 rfl) ?_
                refine lv_dup hx hb dX0_produce_81 rfl ?_
                refine bg_11 Y X dX0_produce_82 (fun bd82 => ?_)
                refine lv_iconst (v := (nI 1)) hx hb dX0_produce_85 (by decide +kernel) ?_
                refine n_iadd (z := rn + 1) hx hb (rfl) dX0_produce_86 ?_
                refine bp_11 Y X (by omega) dX0_produce_87 (fun H locs X => ?_)
                refine lv_aload_n hx hb dX0_produce_90 rfl (lv_at hl 3 rfl) ?_
                obtain ⟨n, en⟩ : ∃ n, hm = n + 1 := ⟨hm - 1, by omega⟩
                subst en
                have edm : dm = 0 := by omega
                refine bc_pop (n := n) Y X rfl hri.2.2.2.2.1 ⟨by omega, by omega⟩ hl.1 (Nat.le_of_ble_eq_true rfl) dX0_produce_91 (fun u9 H locs hu9 X => ?_)
                have hgive := RI.give X.1.2.2.2.1 X.1.2.2.1 hri edm (fun q1 q2 => by omega) (fun q1 q2 => by omega) hu9.1 hu9.2
                refine lv_iconst (v := (nI 1)) hx hb dX0_produce_94 (by decide +kernel) ?_
                exact hret (rq, u9, n, updN rk rn (hq 0), rn + 1, dm) _ _ _ _ _ X ⟨hgive, Or.inl ⟨rfl, rfl⟩⟩ nar1 dX0_produce_95
  exact loop6 (25 + 1) 0 rd hp hn dn (by omega) (by omega) hRI (Or.inr (by omega)) _ _ X ls (lv_sub hl [1, 0] rfl)

set_option maxHeartbeats 4000000 in
set_option maxRecDepth 100000 in
theorem bc_produce {p : Program} {l : Launch} {e : Env} {R : Room} {s : State} {m : MethodId} {args : Array Value} {below : List Frame} {meth : Method} {c : Code} {H : Heap} {locs : List Loc} {Q : State → Prop} {cc : ByteArray} {nL pc h : Nat} {a : Nat → Nat} {d : Nat → ClassId} {D : va_G} {rest : List Value} {ls : Array Slot} {P K S Wt : Nat → Nat} {bg : Nat} {so si rd hp : Nat → Nat} {hn : Nat} {rk : Nat → Nat} {rn dn cu : Nat}  (Y : CallFix p m c cc nL s args lw_all "BestPairs") (X : bX D (bA h a) s h a d P K S Wt bg so si rd hp hn rk rn dn cu H locs) (hbg : bg = 1) (hRI : RI P K S Wt so si rd hp hn rk rn dn) (hR : 6 ≤ R.frames ∧ 140 ≤ R.locals) (hls : ls.size = nL) (hW : (rest.map fun v => v.category).sum ≤ 8) (hdg : decode cc pc = .ok (.invokevirtual 103, 3)) (kk : ∀ (r : Int32) (u : (Nat → Nat) × (Nat → Nat) × Nat × (Nat → Nat) × Nat × Nat) (H1 : Heap) (locs1 : List Loc), (fun (r : Int32) (u : (Nat → Nat) × (Nat → Nat) × Nat × (Nat → Nat) × Nat × Nat) => RI P K S Wt so si u.1 u.2.1 u.2.2.1 u.2.2.2.1 u.2.2.2.2.1 u.2.2.2.2.2 ∧ ((r = nI 1 ∧ u.2.2.2.2.1 = rn + 1) ∨ (r = nI 0 ∧ u.2.2.2.2.1 = rn ∧ u.2.2.2.2.2 = 1))) r u → bX D (bA h a) s h a d P K S Wt bg so si (u.1) (u.2.1) (u.2.2.1) (u.2.2.2.1) (u.2.2.2.2.1) (u.2.2.2.2.2) cu H1 locs1 → W p l e R s m args below meth c H1 locs1 0 0 Q (F0 m (pc + 3) ls (.int r :: rest))) : W p l e R s m args below meth c H locs 0 0 Q (F0 m pc ls (.ref h :: rest)) :=
  g_callI (C := "BestPairs") (ci := 0) (q0 := 0) (n := 0) (As := []) Y X (bt_produce l D h a d P K S Wt bg so si rd hp hn rk rn dn cu  hbg hRI) (lw_V q130 q132 qs5 q23 q133) (by decide +kernel) rfl hR rfl rfl rfl hls rfl hW hdg kk
set_option maxHeartbeats 4000000 in
set_option maxRecDepth 100000 in
theorem bt_reach (l : Launch) (D : va_G) (h : Nat) (a : Nat → Nat) (d : Nat → ClassId) (P K S Wt : Nat → Nat) (bg : Nat) (so si rd hp : Nat → Nat) (hn : Nat) (rk : Nat → Nat) (rn dn cu : Nat) (k : Nat) (hk : k ≤ 144) (hRI : bg = 1 → RI P K S Wt so si rd hp hn rk rn dn) : cI (S := (Nat → Nat) × (Nat → Nat) × (Nat → Nat) × (Nat → Nat) × Nat × (Nat → Nat) × Nat × Nat) l yX0_reach cX0_reach 4 .boolean 6 140 [.ref h, .int (nI k)] (bAt D TT h a d P K S Wt bg so si rd hp hn rk rn dn cu) (bA h a) (fun (r : Int32) (u : (Nat → Nat) × (Nat → Nat) × (Nat → Nat) × (Nat → Nat) × Nat × (Nat → Nat) × Nat × Nat) => RI P K S Wt u.1 u.2.1 u.2.2.1 u.2.2.2.1 u.2.2.2.2.1 u.2.2.2.2.2.1 u.2.2.2.2.2.2.1 u.2.2.2.2.2.2.2 ∧ (bg = 1 → rn ≤ u.2.2.2.2.2.2.1) ∧ ((r = nI 1 ∧ k < u.2.2.2.2.2.2.1) ∨ (r = nI 0 ∧ u.2.2.2.2.2.2.1 ≤ k ∧ u.2.2.2.2.2.2.2 = 1))) (fun u => bAt D (bA h a) h a d P K S Wt 1 (u.1) (u.2.1) (u.2.2.1) (u.2.2.2.1) (u.2.2.2.2.1) (u.2.2.2.2.2.1) (u.2.2.2.2.2.2.1) (u.2.2.2.2.2.2.2) cu) := by
  refine g_methI (own := "BestPairs") (by decide) rfl (Nat.le_of_ble_eq_true rfl) bA_in ?_
  intro p e R s m args below meth c Q Y hRf hRl hret ls hl X
  have hx := Y.1
  have hb := Y.2.1
  have hl : lv_has ls 4 [(0, .ref h), (1, .int (nI k))] := hl
  refine lv_aload_n hx hb dX0_reach_0 rfl (lv_at hl 0 rfl) ?_
  refine bc_begin Y X hRI ⟨by omega, by omega⟩ hl.1 (Nat.le_of_ble_eq_true rfl) dX0_reach_1 (fun u0 H locs hu0 X => ?_)
  obtain ⟨so1, si1, rd1, hn1, rn1, dn1⟩ := u0
  have hri0 : RI P K S Wt so1 si1 rd1 hp hn1 rk rn1 dn1 := hu0.1
  have hge : bg = 1 → rn ≤ rn1 := fun q => by
    have z := hu0.2 q
    have z2 : rn1 = rn := congrArg (fun v => v.2.2.2.2.1) z
    omega
  have X : bX D (bA h a) s h a d P K S Wt 1 so1 si1 rd1 hp hn1 rk rn1 dn1 cu H locs := X
  refine lv_iconst (v := (nI 1)) hx hb dX0_reach_4 (by decide +kernel) ?_
  refine lv_istore_n (lv' := [(2, .int (nI 1)), (0, .ref h), (1, .int (nI k))]) hx hb dX0_reach_5 rfl hl (by decide) rfl (fun ls hl => ?_)
  refine lv_iconst (v := (nI 0)) hx hb dX0_reach_6 (by decide +kernel) ?_
  refine lv_istore_n (lv' := [(3, .int (nI 0)), (2, .int (nI 1)), (0, .ref h), (1, .int (nI k))]) hx hb dX0_reach_7 rfl hl (by decide) rfl (fun ls hl => ?_)
  have loop8 : ∀ (fuel8 : Nat) (t : Nat) (mo : Nat) (rq : Nat → Nat) (hq : Nat → Nat) (hm : Nat) (rkq : Nat → Nat) (rm : Nat) (dm : Nat), 145 - t < fuel8 → t ≤ 145 → RI P K S Wt so1 si1 rq hq hm rkq rm dm → mo ≤ 1 → (mo = 1 → t ≤ rm) → (mo = 0 → dm = 1) → rn1 ≤ rm → ∀ (H : Heap) (locs : List Loc), bX D (bA h a) s h a d P K S Wt 1 so1 si1 rq hq hm rkq rm dm cu H locs → ∀ ls : Array Slot, lv_has ls 4 [(0, .ref h), (1, .int (nI k)), (2, .int (nI mo)), (3, .int (nI t))] → W p l e R s m args below meth c H locs 0 0 Q (F0 m 8 ls []) := by
    intro fuel8
    induction fuel8 with
    | zero =>
      intro t mo rq hq hm rkq rm dm hfu8
      exact absurd hfu8 (Nat.not_lt_zero _)
    | succ fuel8 ih8 =>
      intro t mo rq hq hm rkq rm dm hfu8 ht hri hmo hmt hmd hrr H locs X ls hl
      have hrl := hri.rn_le
      refine lv_iload_n hx hb dX0_reach_8 rfl (lv_at hl 3 rfl) ?_
      refine lv_sipush (v := (nI 144)) hx hb dX0_reach_9 (by decide +kernel) ?_
      refine n_icmp_gt (tgt := 38) hx hb dX0_reach_12 (by decide) (by omega) (by omega) (fun c12 => ?_) (fun c12 => ?_)
      · skip
        refine lv_aload_n hx hb dX0_reach_38 rfl (lv_at hl 0 rfl) ?_
        refine bg_11 Y X dX0_reach_39 (fun bd39 => ?_)
        refine lv_iload_n hx hb dX0_reach_42 rfl (lv_at hl 1 rfl) ?_
        refine n_icmp_le (tgt := 50) hx hb dX0_reach_43 (by decide) (by omega) (by omega) (fun c43 => ?_) (fun c43 => ?_)
        · skip
          refine lv_iconst (v := (nI 0)) hx hb dX0_reach_50 (by decide +kernel) ?_
          exact hret (so1, si1, rq, hq, hm, rkq, rm, dm) _ _ _ _ _ X ⟨hri, fun q => by have z := hge q; show rn ≤ rm; omega, Or.inr ⟨rfl, by show rm ≤ k; omega, by show dm = 1; omega⟩⟩ nar0 dX0_reach_51
        · skip
          refine lv_iconst (v := (nI 1)) hx hb dX0_reach_46 (by decide +kernel) ?_
          refine lv_goto (tgt := 51) hx hb dX0_reach_47 (by decide) ?_
          exact hret (so1, si1, rq, hq, hm, rkq, rm, dm) _ _ _ _ _ X ⟨hri, fun q => by have z := hge q; show rn ≤ rm; omega, Or.inl ⟨rfl, by show k < rm; omega⟩⟩ nar1 dX0_reach_51
      · skip
        refine lv_aload_n hx hb dX0_reach_15 rfl (lv_at hl 0 rfl) ?_
        refine bg_11 Y X dX0_reach_16 (fun bd16 => ?_)
        refine lv_iload_n hx hb dX0_reach_19 rfl (lv_at hl 1 rfl) ?_
        refine n_icmp_gt (tgt := 38) hx hb dX0_reach_20 (by decide) (by omega) (by omega) (fun c20 => ?_) (fun c20 => ?_)
        · skip
          refine lv_aload_n hx hb dX0_reach_38 rfl (lv_at hl 0 rfl) ?_
          refine bg_11 Y X dX0_reach_39 (fun bd39 => ?_)
          refine lv_iload_n hx hb dX0_reach_42 rfl (lv_at hl 1 rfl) ?_
          refine n_icmp_le (tgt := 50) hx hb dX0_reach_43 (by decide) (by omega) (by omega) (fun c43 => ?_) (fun c43 => ?_)
          · skip
            refine lv_iconst (v := (nI 0)) hx hb dX0_reach_50 (by decide +kernel) ?_
            exact hret (so1, si1, rq, hq, hm, rkq, rm, dm) _ _ _ _ _ X ⟨hri, fun q => by have z := hge q; show rn ≤ rm; omega, Or.inr ⟨rfl, by show rm ≤ k; omega, by show dm = 1; omega⟩⟩ nar0 dX0_reach_51
          · skip
            refine lv_iconst (v := (nI 1)) hx hb dX0_reach_46 (by decide +kernel) ?_
            refine lv_goto (tgt := 51) hx hb dX0_reach_47 (by decide) ?_
            exact hret (so1, si1, rq, hq, hm, rkq, rm, dm) _ _ _ _ _ X ⟨hri, fun q => by have z := hge q; show rn ≤ rm; omega, Or.inl ⟨rfl, by show k < rm; omega⟩⟩ nar1 dX0_reach_51
        · skip
          refine lv_iload_n hx hb dX0_reach_23 rfl (lv_at hl 2 rfl) ?_
          refine n_if_eq (tgt := 38) hx hb dX0_reach_24 (by decide) (by omega) (fun c24 => ?_) (fun c24 => ?_)
          · skip
            refine lv_aload_n hx hb dX0_reach_38 rfl (lv_at hl 0 rfl) ?_
            refine bg_11 Y X dX0_reach_39 (fun bd39 => ?_)
            refine lv_iload_n hx hb dX0_reach_42 rfl (lv_at hl 1 rfl) ?_
            refine n_icmp_le (tgt := 50) hx hb dX0_reach_43 (by decide) (by omega) (by omega) (fun c43 => ?_) (fun c43 => ?_)
            · skip
              refine lv_iconst (v := (nI 0)) hx hb dX0_reach_50 (by decide +kernel) ?_
              exact hret (so1, si1, rq, hq, hm, rkq, rm, dm) _ _ _ _ _ X ⟨hri, fun q => by have z := hge q; show rn ≤ rm; omega, Or.inr ⟨rfl, by show rm ≤ k; omega, by show dm = 1; omega⟩⟩ nar0 dX0_reach_51
            · skip
              refine lv_iconst (v := (nI 1)) hx hb dX0_reach_46 (by decide +kernel) ?_
              refine lv_goto (tgt := 51) hx hb dX0_reach_47 (by decide) ?_
              exact hret (so1, si1, rq, hq, hm, rkq, rm, dm) _ _ _ _ _ X ⟨hri, fun q => by have z := hge q; show rn ≤ rm; omega, Or.inl ⟨rfl, by show k < rm; omega⟩⟩ nar1 dX0_reach_51
          · skip
            refine lv_aload_n hx hb dX0_reach_27 rfl (lv_at hl 0 rfl) ?_
            refine bc_produce Y X rfl hri ⟨by omega, by omega⟩ hl.1 (Nat.le_of_ble_eq_true rfl) dX0_reach_28 (fun r2 u2 H locs hu2 X => ?_)
            obtain ⟨rd2, hp2, hn2, rk2, rn2, dn2⟩ := u2
            have hc2 : (r2 = nI 1 ∧ rn2 = rm + 1) ∨ (r2 = nI 0 ∧ rn2 = rm ∧ dn2 = 1) := hu2.2
            have hri2 : RI P K S Wt so1 si1 rd2 hp2 hn2 rk2 rn2 dn2 := hu2.1
            have X : bX D (bA h a) s h a d P K S Wt 1 so1 si1 rd2 hp2 hn2 rk2 rn2 dn2 cu H locs := X
            rcases hc2 with ⟨er, hc3⟩ | ⟨er, hc3⟩
            · subst er
              refine lv_istore_n (lv' := [(2, .int (nI 1)), (0, .ref h), (1, .int (nI k)), (3, .int (nI t))]) hx hb dX0_reach_31 rfl hl (by decide) rfl (fun ls hl => ?_)
              refine lv_iinc (v := nI (t + 1)) (lv' := [(3, .int (nI (t + 1))), (2, .int (nI 1)), (0, .ref h), (1, .int (nI k))]) hx hb dX0_reach_32 hl (k := 3) rfl (by rw [← nI_1]; rfl) (by decide) rfl (fun ls hl => ?_)
              refine lv_goto (tgt := 8) hx hb dX0_reach_35 (by decide) ?_
              exact ih8 (t + 1) 1 rd2 hp2 hn2 rk2 rn2 dn2 (by omega) (by omega) hri2 (by omega) (by omega) (by omega) (by omega) _ _ X ls (lv_sub hl [2, 3, 1, 0] rfl)
            · subst er
              refine lv_istore_n (lv' := [(2, .int (nI 0)), (0, .ref h), (1, .int (nI k)), (3, .int (nI t))]) hx hb dX0_reach_31 rfl hl (by decide) rfl (fun ls hl => ?_)
              refine lv_iinc (v := nI (t + 1)) (lv' := [(3, .int (nI (t + 1))), (2, .int (nI 0)), (0, .ref h), (1, .int (nI k))]) hx hb dX0_reach_32 hl (k := 3) rfl (by rw [← nI_1]; rfl) (by decide) rfl (fun ls hl => ?_)
              refine lv_goto (tgt := 8) hx hb dX0_reach_35 (by decide) ?_
              exact ih8 (t + 1) 0 rd2 hp2 hn2 rk2 rn2 dn2 (by omega) (by omega) hri2 (by omega) (by omega) (by omega) (by omega) _ _ X ls (lv_sub hl [2, 3, 1, 0] rfl)
  exact loop8 (145 + 1) 0 1 rd1 hp hn1 rk rn1 dn1 (by omega) (by omega) hri0 (by omega) (by omega) (by omega) (by omega) _ _ X ls (lv_sub hl [2, 3, 1, 0] rfl)

set_option maxHeartbeats 4000000 in
set_option maxRecDepth 100000 in
theorem bc_reach {p : Program} {l : Launch} {e : Env} {R : Room} {s : State} {m : MethodId} {args : Array Value} {below : List Frame} {meth : Method} {c : Code} {H : Heap} {locs : List Loc} {Q : State → Prop} {cc : ByteArray} {nL pc h : Nat} {a : Nat → Nat} {d : Nat → ClassId} {D : va_G} {rest : List Value} {ls : Array Slot} {P K S Wt : Nat → Nat} {bg : Nat} {so si rd hp : Nat → Nat} {hn : Nat} {rk : Nat → Nat} {rn dn cu : Nat} {k : Nat} (Y : CallFix p m c cc nL s args lw_all "BestPairs") (X : bX D (bA h a) s h a d P K S Wt bg so si rd hp hn rk rn dn cu H locs) (hk : k ≤ 144) (hRI : bg = 1 → RI P K S Wt so si rd hp hn rk rn dn) (hR : 7 ≤ R.frames ∧ 163 ≤ R.locals) (hls : ls.size = nL) (hW : (rest.map fun v => v.category).sum ≤ 8) (hdg : decode cc pc = .ok (.invokevirtual 107, 3)) (kk : ∀ (r : Int32) (u : (Nat → Nat) × (Nat → Nat) × (Nat → Nat) × (Nat → Nat) × Nat × (Nat → Nat) × Nat × Nat) (H1 : Heap) (locs1 : List Loc), (fun (r : Int32) (u : (Nat → Nat) × (Nat → Nat) × (Nat → Nat) × (Nat → Nat) × Nat × (Nat → Nat) × Nat × Nat) => RI P K S Wt u.1 u.2.1 u.2.2.1 u.2.2.2.1 u.2.2.2.2.1 u.2.2.2.2.2.1 u.2.2.2.2.2.2.1 u.2.2.2.2.2.2.2 ∧ (bg = 1 → rn ≤ u.2.2.2.2.2.2.1) ∧ ((r = nI 1 ∧ k < u.2.2.2.2.2.2.1) ∨ (r = nI 0 ∧ u.2.2.2.2.2.2.1 ≤ k ∧ u.2.2.2.2.2.2.2 = 1))) r u → bX D (bA h a) s h a d P K S Wt 1 (u.1) (u.2.1) (u.2.2.1) (u.2.2.2.1) (u.2.2.2.2.1) (u.2.2.2.2.2.1) (u.2.2.2.2.2.2.1) (u.2.2.2.2.2.2.2) cu H1 locs1 → W p l e R s m args below meth c H1 locs1 0 0 Q (F0 m (pc + 3) ls (.int r :: rest))) : W p l e R s m args below meth c H locs 0 0 Q (F0 m pc ls (.int (nI k) :: .ref h :: rest)) :=
  g_callI (C := "BestPairs") (ci := 0) (q0 := 0) (n := 1) (As := [.int (nI k)]) Y X (bt_reach l D h a d P K S Wt bg so si rd hp hn rk rn dn cu k hk hRI) (lw_V q118 q120 qs2 q23 q121) (by decide +kernel) rfl hR rfl rfl rfl hls rfl hW hdg kk
end RCH
end
section
/-! the component: the ranking's public methods (written by gen/pub.py) -/
section PUB
/-- an answer by place, the place an int -/
def ansX (P K S W : Nat → Nat) (F : Nat → Int32) (x r : Int32) : Prop := (∃ p, p < 144 ∧ prP P K p = true ∧ nI (bcP P K S W p) = x ∧ r = F p) ∨ ((∀ p, p < 144 → prP P K p = true → nI (bcP P K S W p) ≠ x) ∧ r = -1)
theorem ansX.of {P K S W : Nat → Nat} {F : Nat → Int32} {k : Nat} {r : Int32} (hk : k ≤ 144) (h : ansG P K S W F k r) : ansX P K S W F (nI k) r := by
  rcases h with ⟨p, a1, a2, a3, a4⟩ | ⟨a1, a2⟩
  · exact Or.inl ⟨p, a1, a2, by rw [a3], a4⟩
  · refine Or.inr ⟨fun p b1 b2 e => a1 p b1 b2 ?_, a2⟩
    have z := bcP_le P K S W p
    exact (nI_eq (by omega) (by omega)).mp e
theorem ansX.uniq {P K S W : Nat → Nat} {F : Nat → Int32} {x r r' : Int32} (h : ansX P K S W F x r) (h' : ansX P K S W F x r') : r = r' := by
  rcases h with ⟨p, a1, a2, a3, a4⟩ | ⟨a1, a2⟩
  · rcases h' with ⟨q, b1, b2, b3, b4⟩ | ⟨b1, b2⟩
    · have z1 := bcP_le P K S W p
      have z2 := bcP_le P K S W q
      have e := bcP_inj a1 b1 a2 b2 ((nI_eq (by omega) (by omega)).mp (a3.trans b3.symm))
      rw [a4, b4, e]
    · exact absurd a3 (b1 p a1 a2)
  · rcases h' with ⟨q, b1, b2, b3, b4⟩ | ⟨b1, b2⟩
    · exact absurd b3 (a1 q b1 b2)
    · rw [a2, b2]
/-- what next answers, and where the cursor is then -/
def NxR (P K S W : Nat → Nat) (cu : Nat) (r : Int32) (cu' : Nat) : Prop := (∃ p, p < 144 ∧ prP P K p = true ∧ nI (bcP P K S W p) = nI cu ∧ r = nI (cd p) ∧ cu' = cu + 1) ∨ ((∀ p, p < 144 → prP P K p = true → nI (bcP P K S W p) ≠ nI cu) ∧ r = -1 ∧ cu' = cu)
/-- the component's invariant -/
def BI (P K S Wt : Nat → Nat) (bg : Nat) (so si rd hp : Nat → Nat) (hn : Nat) (rk : Nat → Nat) (rn dn cu : Nat) : Prop := (bg = 1 → RI P K S Wt so si rd hp hn rk rn dn) ∧ (0 < cu → bg = 1 ∧ cu ≤ rn)
abbrev BQ : Type := Nat × (Nat → Nat) × (Nat → Nat) × (Nat → Nat) × (Nat → Nat) × Nat × (Nat → Nat) × Nat × Nat × Nat
set_option maxHeartbeats 4000000 in
set_option maxRecDepth 100000 in
theorem bt_next (l : Launch) (D : va_G) (h : Nat) (a : Nat → Nat) (d : Nat → ClassId) (P K S Wt : Nat → Nat) (bg : Nat) (so si rd hp : Nat → Nat) (hn : Nat) (rk : Nat → Nat) (rn dn cu : Nat)  (hBI : BI P K S Wt bg so si rd hp hn rk rn dn cu) : cI (S := BQ) l yX0_next cX0_next 2 .int 7 163 [.ref h] (bAt D TT h a d P K S Wt bg so si rd hp hn rk rn dn cu) (bA h a) (fun (r : Int32) (u : BQ) => BI P K S Wt u.1 u.2.1 u.2.2.1 u.2.2.2.1 u.2.2.2.2.1 u.2.2.2.2.2.1 u.2.2.2.2.2.2.1 u.2.2.2.2.2.2.2.1 u.2.2.2.2.2.2.2.2.1 u.2.2.2.2.2.2.2.2.2 ∧ NxR P K S Wt cu r u.2.2.2.2.2.2.2.2.2) (fun u => bAt D (bA h a) h a d P K S Wt (u.1) (u.2.1) (u.2.2.1) (u.2.2.2.1) (u.2.2.2.2.1) (u.2.2.2.2.2.1) (u.2.2.2.2.2.2.1) (u.2.2.2.2.2.2.2.1) (u.2.2.2.2.2.2.2.2.1) (u.2.2.2.2.2.2.2.2.2)) := by
  refine g_methI (own := "BestPairs") (by decide) rfl (Nat.le_of_ble_eq_true rfl) bA_in ?_
  intro p e R s m args below meth c Q Y hRf hRl hret ls hl X
  have hx := Y.1
  have hb := Y.2.1
  have hl : lv_has ls 2 [(0, .ref h)] := hl
  refine lv_aload_n hx hb dX0_next_0 rfl (lv_at hl 0 rfl) ?_
  refine lv_aload_n hx hb dX0_next_1 rfl (lv_at hl 0 rfl) ?_
  refine bg_13 Y X dX0_next_2 (fun bd2 => ?_)
  refine bc_reach (k := cu) Y X (by omega) hBI.1 ⟨by omega, by omega⟩ hl.1 (Nat.le_of_ble_eq_true rfl) dX0_next_5 (fun r1 u1 H locs hu1 X => ?_)
  obtain ⟨so1, si1, rd1, hp1, hn1, rk1, rn1, dn1⟩ := u1
  have hri1 : RI P K S Wt so1 si1 rd1 hp1 hn1 rk1 rn1 dn1 := hu1.1
  have hge1 : bg = 1 → rn ≤ rn1 := hu1.2.1
  have hc1 : (r1 = nI 1 ∧ cu < rn1) ∨ (r1 = nI 0 ∧ rn1 ≤ cu ∧ dn1 = 1) := hu1.2.2
  have X : bX D (bA h a) s h a d P K S Wt 1 so1 si1 rd1 hp1 hn1 rk1 rn1 dn1 cu H locs := X
  have hrl1 := hri1.rn_le
  rcases hc1 with ⟨er, hc2⟩ | ⟨er, hc2⟩
  · subst er
    refine lv_istore_n (lv' := [(1, .int (nI 1)), (0, .ref h)]) hx hb dX0_next_8 rfl hl (by decide) rfl (fun ls hl => ?_)
    refine lv_iload_n hx hb dX0_next_9 rfl (lv_at hl 0 rfl) ?_
    refine k_neT (tgt := 15) hx hb dX0_next_10 (by decide) ?_
    refine lv_aload_n hx hb dX0_next_15 rfl (lv_at hl 1 rfl) ?_
    refine lv_dup hx hb dX0_next_16 rfl ?_
    refine bg_13 Y X dX0_next_17 (fun bd17 => ?_)
    refine lv_iconst (v := (nI 1)) hx hb dX0_next_20 (by decide +kernel) ?_
    refine n_iadd (z := cu + 1) hx hb (rfl) dX0_next_21 ?_
    refine bp_13 Y X (by omega) dX0_next_22 (fun H locs X => ?_)
    refine lv_aload_n hx hb dX0_next_25 rfl (lv_at hl 1 rfl) ?_
    refine bg_10 Y X dX0_next_26 ?_
    refine lv_aload_n hx hb dX0_next_29 rfl (lv_at hl 1 rfl) ?_
    refine bg_13 Y X dX0_next_30 (fun bd30 => ?_)
    refine lv_iconst (v := (nI 1)) hx hb dX0_next_33 (by decide +kernel) ?_
    refine n_isub (z := cu) hx hb (by omega) (Nat.add_sub_cancel _ _) dX0_next_34 ?_
    refine bl_8 Y X (by omega) dX0_next_35 (fun bd35 => ?_)
    have hp0 := hri1.pr hc2
    refine hret (1, so1, si1, rd1, hp1, hn1, rk1, rn1, dn1, (cu + 1)) _ _ _ _ _ X ⟨⟨fun _ => hri1, fun _ => ⟨rfl, ?_⟩⟩, Or.inl ⟨pn (rk1 cu), pn_lt hp0.1, hp0.2, by rw [hri1.place X.1.2.2.2.1 X.1.2.2.1 hc2], by rw [cd_pn hp0.1], rfl⟩⟩ rfl dX0_next_36
    show cu + 1 ≤ rn1
    omega
  · subst er
    refine lv_istore_n (lv' := [(1, .int (nI 0)), (0, .ref h)]) hx hb dX0_next_8 rfl hl (by decide) rfl (fun ls hl => ?_)
    refine lv_iload_n hx hb dX0_next_9 rfl (lv_at hl 0 rfl) ?_
    refine k_neF (tgt := 15) hx hb dX0_next_10 (by decide) ?_
    refine lv_iconst (v := (-1)) hx hb dX0_next_13 (by decide +kernel) ?_
    have hans := ansX.of (by omega) (hri1.ansOut X.1.2.2.2.1 X.1.2.2.1 hc2.1 hc2.2 (fun p => nI (cd p)))
    refine hret (1, so1, si1, rd1, hp1, hn1, rk1, rn1, dn1, cu) _ _ _ _ _ X ⟨⟨fun _ => hri1, fun q => ⟨rfl, ?_⟩⟩, ?_⟩ rfl dX0_next_14
    · have z := hge1 (hBI.2 q).1
      have z2 := (hBI.2 q).2
      show cu ≤ rn1
      omega
    · rcases hans with ⟨p, a1, a2, a3, a4⟩ | ⟨a1, a2⟩
      · refine Or.inr ⟨fun p b1 b2 e => ?_, rfl, rfl⟩
        have z := hri1.all X.1.2.2.2.1 X.1.2.2.1 hc2.2 b1 b2
        rw [nI_eq (by omega) (by omega)] at e
        omega
      · exact Or.inr ⟨a1, rfl, rfl⟩

set_option maxHeartbeats 4000000 in
set_option maxRecDepth 100000 in
theorem bt_lastValue (l : Launch) (D : va_G) (h : Nat) (a : Nat → Nat) (d : Nat → ClassId) (P K S Wt : Nat → Nat) (bg : Nat) (so si rd hp : Nat → Nat) (hn : Nat) (rk : Nat → Nat) (rn dn cu : Nat)  (hBI : BI P K S Wt bg so si rd hp hn rk rn dn cu) : cR l yX0_lastValue cX0_lastValue 1 .int 2 44 [.ref h] (bAt D TT h a d P K S Wt bg so si rd hp hn rk rn dn cu) (ansX P K S Wt (fun p => nI (valP Wt S p)) (nI cu - 1)) := by
  refine g_methR (own := "BestPairs") (by decide) rfl (Nat.le_of_ble_eq_true rfl) ?_
  intro p e R s m args below meth c Q Y hRf hRl hret ls hl X
  have hx := Y.1
  have hb := Y.2.1
  have hl : lv_has ls 1 [(0, .ref h)] := hl
  refine lv_aload_n hx hb dX0_lastValue_0 rfl (lv_at hl 0 rfl) ?_
  refine bg_13 Y X dX0_lastValue_1 (fun bd1 => ?_)
  refine n_if_ne (tgt := 9) hx hb dX0_lastValue_4 (by decide) (by omega) (fun c4 => ?_) (fun c4 => ?_)
  · skip
    have hb1 := hBI.2 (by omega)
    have hri := hBI.1 hb1.1
    obtain ⟨c1, ec⟩ : ∃ c1, cu = c1 + 1 := ⟨cu - 1, by omega⟩
    subst ec
    refine lv_aload_n hx hb dX0_lastValue_9 rfl (lv_at hl 0 rfl) ?_
    refine lv_aload_n hx hb dX0_lastValue_10 rfl (lv_at hl 0 rfl) ?_
    refine bg_10 Y X dX0_lastValue_11 ?_
    refine lv_aload_n hx hb dX0_lastValue_14 rfl (lv_at hl 0 rfl) ?_
    refine bg_13 Y X dX0_lastValue_15 (fun bd15 => ?_)
    refine lv_iconst (v := (nI 1)) hx hb dX0_lastValue_18 (by decide +kernel) ?_
    refine n_isub (z := c1) hx hb (by omega) (Nat.add_sub_cancel _ _) dX0_lastValue_19 ?_
    refine bl_8 Y X (by omega) dX0_lastValue_20 (fun bd20 => ?_)
    refine bc_valueOf Y X bd20 ⟨by omega, by omega⟩ hl.1 (Nat.le_of_ble_eq_true rfl) dX0_lastValue_21 (fun r1 hr1 => ?_)
    subst hr1
    refine hret _ _ _ ?_ rfl dX0_lastValue_24
    rw [nI_pred, ← val_pn bd20]
    exact ansX.of (by omega) (hri.ansIn X.1.2.2.2.1 X.1.2.2.1 (by omega) (fun p => nI (valP Wt S p)))
  · skip
    refine lv_iconst (v := (-1)) hx hb dX0_lastValue_7 (by decide +kernel) ?_
    have c4 : cu = 0 := by assumption
    subst c4
    refine hret _ _ _ (Or.inr ⟨fun p b1 b2 e => ?_, rfl⟩) rfl dX0_lastValue_8
    have z := bcP_le P K S Wt p
    have z2 := nI_toInt (n := bcP P K S Wt p) (by omega)
    rw [e] at z2
    have z3 : (nI 0 - 1 : Int32).toInt = -1 := by decide +kernel
    omega

set_option maxHeartbeats 4000000 in
set_option maxRecDepth 100000 in
theorem bt_pairAt (l : Launch) (D : va_G) (h : Nat) (a : Nat → Nat) (d : Nat → ClassId) (P K S Wt : Nat → Nat) (bg : Nat) (so si rd hp : Nat → Nat) (hn : Nat) (rk : Nat → Nat) (rn dn cu : Nat) (x : Int32) (hBI : BI P K S Wt bg so si rd hp hn rk rn dn cu) : cI (S := BQ) l yX0_pairAt cX0_pairAt 2 .int 7 163 [.ref h, .int x] (bAt D TT h a d P K S Wt bg so si rd hp hn rk rn dn cu) (bA h a) (fun (r : Int32) (u : BQ) => BI P K S Wt u.1 u.2.1 u.2.2.1 u.2.2.2.1 u.2.2.2.2.1 u.2.2.2.2.2.1 u.2.2.2.2.2.2.1 u.2.2.2.2.2.2.2.1 u.2.2.2.2.2.2.2.2.1 u.2.2.2.2.2.2.2.2.2 ∧ u.2.2.2.2.2.2.2.2.2 = cu ∧ ansX P K S Wt (fun p => nI (cd p)) x r) (fun u => bAt D (bA h a) h a d P K S Wt (u.1) (u.2.1) (u.2.2.1) (u.2.2.2.1) (u.2.2.2.2.1) (u.2.2.2.2.2.1) (u.2.2.2.2.2.2.1) (u.2.2.2.2.2.2.2.1) (u.2.2.2.2.2.2.2.2.1) (u.2.2.2.2.2.2.2.2.2)) := by
  refine g_methI (own := "BestPairs") (by decide) rfl (Nat.le_of_ble_eq_true rfl) bA_in ?_
  intro p e R s m args below meth c Q Y hRf hRl hret ls hl X
  have hx := Y.1
  have hb := Y.2.1
  have hl : lv_has ls 2 [(0, .ref h), (1, .int x)] := hl
  refine lv_iload_n hx hb dX0_pairAt_0 rfl (lv_at hl 1 rfl) ?_
  refine lv_if_lt (tgt := 19) hx hb dX0_pairAt_1 (by decide) (fun c1 => ?_) (fun c1 => ?_)
  · skip
    refine lv_iconst (v := (-1)) hx hb dX0_pairAt_19 (by decide +kernel) ?_
    refine hret (bg, so, si, rd, hp, hn, rk, rn, dn, cu) _ _ _ _ _ X ⟨hBI, rfl, Or.inr ⟨fun p b1 b2 e => ?_, rfl⟩⟩ rfl dX0_pairAt_20
    have z := bcP_143 (K := K) (S := S) (W := Wt) b1 b2
    first
      | exact absurd c1 (by rw [← e]; exact nI_pos (by omega))
      | exact absurd c8 (by rw [← e]; exact nI_ge z (by decide))
  · skip
    refine lv_iload_n hx hb dX0_pairAt_4 rfl (lv_at hl 1 rfl) ?_
    refine lv_sipush (v := (nI 144)) hx hb dX0_pairAt_5 (by decide +kernel) ?_
    refine lv_icmp_ge (tgt := 19) hx hb dX0_pairAt_8 (by decide) (fun c8 => ?_) (fun c8 => ?_)
    · skip
      refine lv_iconst (v := (-1)) hx hb dX0_pairAt_19 (by decide +kernel) ?_
      refine hret (bg, so, si, rd, hp, hn, rk, rn, dn, cu) _ _ _ _ _ X ⟨hBI, rfl, Or.inr ⟨fun p b1 b2 e => ?_, rfl⟩⟩ rfl dX0_pairAt_20
      have z := bcP_143 (K := K) (S := S) (W := Wt) b1 b2
      first
        | exact absurd c1 (by rw [← e]; exact nI_pos (by omega))
        | exact absurd c8 (by rw [← e]; exact nI_ge z (by decide))
    · skip
      obtain ⟨k, hk, ek⟩ := ixN (N := 144) (by decide) c1 c8
      subst ek
      refine lv_aload_n hx hb dX0_pairAt_11 rfl (lv_at hl 0 rfl) ?_
      refine lv_iload_n hx hb dX0_pairAt_12 rfl (lv_at hl 1 rfl) ?_
      refine bc_reach (k := k) Y X (by omega) hBI.1 ⟨by omega, by omega⟩ hl.1 (Nat.le_of_ble_eq_true rfl) dX0_pairAt_13 (fun r1 u1 H locs hu1 X => ?_)
      obtain ⟨so1, si1, rd1, hp1, hn1, rk1, rn1, dn1⟩ := u1
      have hri1 : RI P K S Wt so1 si1 rd1 hp1 hn1 rk1 rn1 dn1 := hu1.1
      have hge1 : bg = 1 → rn ≤ rn1 := hu1.2.1
      have hc1 : (r1 = nI 1 ∧ k < rn1) ∨ (r1 = nI 0 ∧ rn1 ≤ k ∧ dn1 = 1) := hu1.2.2
      have X : bX D (bA h a) s h a d P K S Wt 1 so1 si1 rd1 hp1 hn1 rk1 rn1 dn1 cu H locs := X
      have hrl1 := hri1.rn_le
      rcases hc1 with ⟨er, hc2⟩ | ⟨er, hc2⟩
      · subst er
        refine k_neT (tgt := 21) hx hb dX0_pairAt_16 (by decide) ?_
        refine lv_aload_n hx hb dX0_pairAt_21 rfl (lv_at hl 0 rfl) ?_
        refine bg_10 Y X dX0_pairAt_22 ?_
        refine lv_iload_n hx hb dX0_pairAt_25 rfl (lv_at hl 1 rfl) ?_
        refine bl_8 Y X (by omega) dX0_pairAt_26 (fun bd26 => ?_)
        have hbi1 : BI P K S Wt 1 so1 si1 rd1 hp1 hn1 rk1 rn1 dn1 cu := ⟨fun _ => hri1, fun q => ⟨rfl, by have z := hge1 (hBI.2 q).1; have z2 := (hBI.2 q).2; omega⟩⟩
        have hp0 := hri1.pr hc2
        have hans := ansX.of (by omega) (hri1.ansIn X.1.2.2.2.1 X.1.2.2.1 hc2 (fun p => nI (cd p)))
        rw [cd_pn hp0.1] at hans
        exact hret (1, so1, si1, rd1, hp1, hn1, rk1, rn1, dn1, cu) _ _ _ _ _ X ⟨hbi1, rfl, hans⟩ rfl dX0_pairAt_27
      · subst er
        refine k_neF (tgt := 21) hx hb dX0_pairAt_16 (by decide) ?_
        refine lv_iconst (v := (-1)) hx hb dX0_pairAt_19 (by decide +kernel) ?_
        have hbi1 : BI P K S Wt 1 so1 si1 rd1 hp1 hn1 rk1 rn1 dn1 cu := ⟨fun _ => hri1, fun q => ⟨rfl, by have z := hge1 (hBI.2 q).1; have z2 := (hBI.2 q).2; omega⟩⟩
        exact hret (1, so1, si1, rd1, hp1, hn1, rk1, rn1, dn1, cu) _ _ _ _ _ X ⟨hbi1, rfl, ansX.of (by omega) (hri1.ansOut X.1.2.2.2.1 X.1.2.2.1 hc2.1 hc2.2 _)⟩ rfl dX0_pairAt_20

set_option maxHeartbeats 4000000 in
set_option maxRecDepth 100000 in
theorem bt_atLeast (l : Launch) (D : va_G) (h : Nat) (a : Nat → Nat) (d : Nat → ClassId) (P K S Wt : Nat → Nat) (bg : Nat) (so si rd hp : Nat → Nat) (hn : Nat) (rk : Nat → Nat) (rn dn cu : Nat) (x : Int32) (hBI : BI P K S Wt bg so si rd hp hn rk rn dn cu) : cI (S := BQ) l yX0_atLeast cX0_atLeast 3 .int 7 163 [.ref h, .int x] (bAt D TT h a d P K S Wt bg so si rd hp hn rk rn dn cu) (bA h a) (fun (r : Int32) (u : BQ) => BI P K S Wt u.1 u.2.1 u.2.2.1 u.2.2.2.1 u.2.2.2.2.1 u.2.2.2.2.2.1 u.2.2.2.2.2.2.1 u.2.2.2.2.2.2.2.1 u.2.2.2.2.2.2.2.2.1 u.2.2.2.2.2.2.2.2.2 ∧ u.2.2.2.2.2.2.2.2.2 = cu ∧ r = nI (cnt (fun p => prP P K p && decide (x.toInt ≤ (valP Wt S p : Int))) 144)) (fun u => bAt D (bA h a) h a d P K S Wt (u.1) (u.2.1) (u.2.2.1) (u.2.2.2.1) (u.2.2.2.2.1) (u.2.2.2.2.2.1) (u.2.2.2.2.2.2.1) (u.2.2.2.2.2.2.2.1) (u.2.2.2.2.2.2.2.2.1) (u.2.2.2.2.2.2.2.2.2)) := by
  refine g_methI (own := "BestPairs") (by decide) rfl (Nat.le_of_ble_eq_true rfl) bA_in ?_
  intro p e R s m args below meth c Q Y hRf hRl hret ls hl X
  have hx := Y.1
  have hb := Y.2.1
  have hl : lv_has ls 3 [(0, .ref h), (1, .int x)] := hl
  refine lv_iconst (v := (nI 0)) hx hb dX0_atLeast_0 (by decide +kernel) ?_
  refine lv_istore_n (lv' := [(2, .int (nI 0)), (0, .ref h), (1, .int x)]) hx hb dX0_atLeast_1 rfl hl (by decide) rfl (fun ls hl => ?_)
  have loop2 : ∀ (fuel2 : Nat) (k : Nat) (bq : Nat) (soq : Nat → Nat) (siq : Nat → Nat) (rdq : Nat → Nat) (hpq : Nat → Nat) (hm : Nat) (rkq : Nat → Nat) (rm : Nat) (dm : Nat), 144 - k < fuel2 → k ≤ 144 → BI P K S Wt bq soq siq rdq hpq hm rkq rm dm cu → (0 < k → bq = 1 ∧ k ≤ rm) → (∀ i, i < k → x.toInt ≤ (valP Wt S (pn (rkq i)) : Int)) → ∀ (H : Heap) (locs : List Loc), bX D (bA h a) s h a d P K S Wt bq soq siq rdq hpq hm rkq rm dm cu H locs → ∀ ls : Array Slot, lv_has ls 3 [(0, .ref h), (1, .int x), (2, .int (nI k))] → W p l e R s m args below meth c H locs 0 0 Q (F0 m 2 ls []) := by
    intro fuel2
    induction fuel2 with
    | zero =>
      intro k bq soq siq rdq hpq hm rkq rm dm hfu2
      exact absurd hfu2 (Nat.not_lt_zero _)
    | succ fuel2 ih2 =>
      intro k bq soq siq rdq hpq hm rkq rm dm hfu2 hk hbi hst hlo H locs X ls hl
      refine lv_iload_n hx hb dX0_atLeast_2 rfl (lv_at hl 2 rfl) ?_
      refine lv_sipush (v := (nI 144)) hx hb dX0_atLeast_3 (by decide +kernel) ?_
      refine n_icmp_ge (tgt := 39) hx hb dX0_atLeast_6 (by decide) (by omega) (by omega) (fun c6 => ?_) (fun c6 => ?_)
      · skip
        refine lv_sipush (v := (nI 144)) hx hb dX0_atLeast_39 (by decide +kernel) ?_
        have ek : k = 144 := by omega
        subst ek
        have z := hst (by omega)
        have hr0 := hbi.1 z.1
        have hcnt := hr0.atLeast X.1.2.2.2.1 X.1.2.2.1 (k := 144) (z := x.toInt) z.2 (fun i hi => by rw [← val_pn (hr0.pr (show i < rm by omega)).1]; exact hlo i hi) (Or.inr (Or.inr rfl))
        exact hret (bq, soq, siq, rdq, hpq, hm, rkq, rm, dm, cu) _ _ _ _ _ X ⟨hbi, rfl, by rw [hcnt]⟩ rfl dX0_atLeast_42
      · skip
        refine lv_aload_n hx hb dX0_atLeast_9 rfl (lv_at hl 0 rfl) ?_
        refine lv_iload_n hx hb dX0_atLeast_10 rfl (lv_at hl 2 rfl) ?_
        refine bc_reach (k := k) Y X (by omega) hbi.1 ⟨by omega, by omega⟩ hl.1 (Nat.le_of_ble_eq_true rfl) dX0_atLeast_11 (fun r1 u1 H locs hu1 X => ?_)
        obtain ⟨so1, si1, rd1, hp1, hn1, rk1, rn1, dn1⟩ := u1
        have hri1 : RI P K S Wt so1 si1 rd1 hp1 hn1 rk1 rn1 dn1 := hu1.1
        have hge1 : bq = 1 → rm ≤ rn1 := hu1.2.1
        have hc1 : (r1 = nI 1 ∧ k < rn1) ∨ (r1 = nI 0 ∧ rn1 ≤ k ∧ dn1 = 1) := hu1.2.2
        have X : bX D (bA h a) s h a d P K S Wt 1 so1 si1 rd1 hp1 hn1 rk1 rn1 dn1 cu H locs := X
        have hrl1 := hri1.rn_le
        have hbi1 : BI P K S Wt 1 so1 si1 rd1 hp1 hn1 rk1 rn1 dn1 cu := ⟨fun _ => hri1, fun q => ⟨rfl, by have z := hge1 (hbi.2 q).1; have z2 := (hbi.2 q).2; omega⟩⟩
        have hkr : k ≤ rn1 := by
          rcases Nat.eq_zero_or_pos k with q | q
          · omega
          · have z := hst q
            have z2 := hge1 z.1
            omega
        have hsame : ∀ i, i < k → pn (rkq i) = pn (rk1 i) := fun i hi => by
          have z := hst (by omega)
          have hr0 := hbi.1 z.1
          have e1 := hr0.place X.1.2.2.2.1 X.1.2.2.1 (show i < rm by omega)
          have e2 := hri1.place X.1.2.2.2.1 X.1.2.2.1 (show i < rn1 by omega)
          have p1 := hr0.pr (show i < rm by omega)
          have p2 := hri1.pr (show i < rn1 by omega)
          exact bcP_inj (pn_lt p1.1) (pn_lt p2.1) p1.2 p2.2 (e1.trans e2.symm)
        rcases hc1 with ⟨er, hc2⟩ | ⟨er, hc2⟩
        · subst er
          have hlo1 : ∀ i, i < k → x.toInt ≤ (valP Wt S (pn (rk1 i)) : Int) := fun i hi => by rw [← hsame i hi]; exact hlo i hi
          refine k_eqF (tgt := 31) hx hb dX0_atLeast_14 (by decide) ?_
          refine lv_aload_n hx hb dX0_atLeast_17 rfl (lv_at hl 0 rfl) ?_
          refine lv_aload_n hx hb dX0_atLeast_18 rfl (lv_at hl 0 rfl) ?_
          refine bg_10 Y X dX0_atLeast_19 ?_
          refine lv_iload_n hx hb dX0_atLeast_22 rfl (lv_at hl 2 rfl) ?_
          refine bl_8 Y X (by omega) dX0_atLeast_23 (fun bd23 => ?_)
          refine bc_valueOf Y X bd23 ⟨by omega, by omega⟩ hl.1 (Nat.le_of_ble_eq_true rfl) dX0_atLeast_24 (fun r1 hr1 => ?_)
          subst hr1
          have hv := valC_le X.1.2.2.2.1 X.1.2.2.1 (rk1 k)
          have hvi : (nI (valC Wt S (rk1 k))).toInt = (valC Wt S (rk1 k) : Int) := nI_toInt (by omega)
          refine lv_iload_n hx hb dX0_atLeast_27 rfl (lv_at hl 1 rfl) ?_
          refine i_icmp_ge (tgt := 33) hx hb dX0_atLeast_28 (by decide) (fun c28 => ?_) (fun c28 => ?_)
          · skip
            refine lv_iinc (v := nI (k + 1)) (lv' := [(2, .int (nI (k + 1))), (0, .ref h), (1, .int x)]) hx hb dX0_atLeast_33 hl (k := 2) rfl (by rw [← nI_1]; rfl) (by decide) rfl (fun ls hl => ?_)
            refine lv_goto (tgt := 2) hx hb dX0_atLeast_36 (by decide) ?_
            have hlo2 : ∀ i, i < k + 1 → x.toInt ≤ (valP Wt S (pn (rk1 i)) : Int) := lt_s hlo1 (by rw [val_pn bd23]; omega)
            exact ih2 (k + 1) 1 so1 si1 rd1 hp1 hn1 rk1 rn1 dn1 (by omega) (by omega) hbi1 (fun _ => ⟨rfl, by omega⟩) hlo2 _ _ X ls (lv_sub hl [1, 2, 0] rfl)
          · skip
            refine lv_iload_n hx hb dX0_atLeast_31 rfl (lv_at hl 2 rfl) ?_
            have hcnt := hri1.atLeast X.1.2.2.2.1 X.1.2.2.1 (k := k) (z := x.toInt) hkr (fun i hi => by rw [← val_pn (hri1.pr (show i < rn1 by omega)).1]; exact hlo1 i hi) (by first | exact Or.inr (Or.inl hc2) | exact Or.inl ⟨hc2, by omega⟩)
            exact hret (1, so1, si1, rd1, hp1, hn1, rk1, rn1, dn1, cu) _ _ _ _ _ X ⟨hbi1, rfl, by rw [hcnt]⟩ rfl dX0_atLeast_32
        · subst er
          have hlo1 : ∀ i, i < k → x.toInt ≤ (valP Wt S (pn (rk1 i)) : Int) := fun i hi => by rw [← hsame i hi]; exact hlo i hi
          refine k_eqT (tgt := 31) hx hb dX0_atLeast_14 (by decide) ?_
          refine lv_iload_n hx hb dX0_atLeast_31 rfl (lv_at hl 2 rfl) ?_
          have hcnt := hri1.atLeast X.1.2.2.2.1 X.1.2.2.1 (k := k) (z := x.toInt) hkr (fun i hi => by rw [← val_pn (hri1.pr (show i < rn1 by omega)).1]; exact hlo1 i hi) (by first | exact Or.inr (Or.inl hc2) | exact Or.inl ⟨hc2, by omega⟩)
          exact hret (1, so1, si1, rd1, hp1, hn1, rk1, rn1, dn1, cu) _ _ _ _ _ X ⟨hbi1, rfl, by rw [hcnt]⟩ rfl dX0_atLeast_32
  exact loop2 (144 + 1) 0 bg so si rd hp hn rk rn dn (by omega) (by omega) hBI (fun q => absurd q (by omega)) (fun i q => absurd q (by omega)) _ _ X ls (lv_sub hl [1, 2, 0] rfl)

set_option maxHeartbeats 4000000 in
set_option maxRecDepth 100000 in
theorem bt_bestPlace (l : Launch) (D : va_G) (h : Nat) (a : Nat → Nat) (d : Nat → ClassId) (P K S Wt : Nat → Nat) (bg : Nat) (so si rd hp : Nat → Nat) (hn : Nat) (rk : Nat → Nat) (rn dn cu : Nat) (x y : Int32) (hBI : BI P K S Wt bg so si rd hp hn rk rn dn cu) : cI (S := BQ) l yX0_bestPlace cX0_bestPlace 5 .int 7 163 [.ref h, .int x, .int y] (bAt D TT h a d P K S Wt bg so si rd hp hn rk rn dn cu) (bA h a) (fun (r : Int32) (u : BQ) => BI P K S Wt u.1 u.2.1 u.2.2.1 u.2.2.2.1 u.2.2.2.2.1 u.2.2.2.2.2.1 u.2.2.2.2.2.2.1 u.2.2.2.2.2.2.2.1 u.2.2.2.2.2.2.2.2.1 u.2.2.2.2.2.2.2.2.2 ∧ u.2.2.2.2.2.2.2.2.2 = cu ∧ ((¬ hasP P x y ∧ r = -1) ∨ (∃ b n, b < 2 ∧ n < 12 ∧ x = nI b ∧ y = nI n ∧ (P b).testBit n = true ∧ ansB P K S Wt (fun p => decide ((if b = 0 then p / 12 else p % 12) = n)) r))) (fun u => bAt D (bA h a) h a d P K S Wt (u.1) (u.2.1) (u.2.2.1) (u.2.2.2.1) (u.2.2.2.2.1) (u.2.2.2.2.2.1) (u.2.2.2.2.2.2.1) (u.2.2.2.2.2.2.2.1) (u.2.2.2.2.2.2.2.2.1) (u.2.2.2.2.2.2.2.2.2)) := by
  refine g_methI (own := "BestPairs") (by decide) rfl (Nat.le_of_ble_eq_true rfl) bA_in ?_
  intro p e R s m args below meth c Q Y hRf hRl hret ls hl X
  have hx := Y.1
  have hb := Y.2.1
  have hl : lv_has ls 5 [(0, .ref h), (1, .int x), (2, .int y)] := hl
  refine lv_aload_n hx hb dX0_bestPlace_0 rfl (lv_at hl 0 rfl) ?_
  refine lv_iload_n hx hb dX0_bestPlace_1 rfl (lv_at hl 1 rfl) ?_
  refine lv_iload_n hx hb dX0_bestPlace_2 rfl (lv_at hl 2 rfl) ?_
  refine bc_has Y X  ⟨by omega, by omega⟩ hl.1 (Nat.le_of_ble_eq_true rfl) dX0_bestPlace_3 (fun r1 hr1 => ?_)
  rcases hr1 with ⟨cc1, er1⟩ | ⟨cc1, er1⟩
  · subst er1
    obtain ⟨b, n, hb2, hn12, eb, en, hbit⟩ := cc1
    subst eb
    subst en
    refine k_neT (tgt := 11) hx hb dX0_bestPlace_6 (by decide) ?_
    refine lv_iconst (v := (nI 0)) hx hb dX0_bestPlace_11 (by decide +kernel) ?_
    refine lv_istore_n (lv' := [(3, .int (nI 0)), (0, .ref h), (1, .int (nI b)), (2, .int (nI n))]) hx hb dX0_bestPlace_12 rfl hl (by decide) rfl (fun ls hl => ?_)
    have loop13 : ∀ (fuel13 : Nat) (k : Nat) (bq : Nat) (soq : Nat → Nat) (siq : Nat → Nat) (rdq : Nat → Nat) (hpq : Nat → Nat) (hm : Nat) (rkq : Nat → Nat) (rm : Nat) (dm : Nat), 144 - k < fuel13 → k ≤ 144 → BI P K S Wt bq soq siq rdq hpq hm rkq rm dm cu → (0 < k → bq = 1 ∧ k ≤ rm) → (∀ i, i < k → (fun p => decide ((if b = 0 then p / 12 else p % 12) = n)) (pn (rkq i)) = false) → ∀ (H : Heap) (locs : List Loc), bX D (bA h a) s h a d P K S Wt bq soq siq rdq hpq hm rkq rm dm cu H locs → ∀ ls : Array Slot, lv_has ls 5 [(0, .ref h), (1, .int (nI b)), (2, .int (nI n)), (3, .int (nI k))] → W p l e R s m args below meth c H locs 0 0 Q (F0 m 13 ls []) := by
      intro fuel13
      induction fuel13 with
      | zero =>
        intro k bq soq siq rdq hpq hm rkq rm dm hfu13
        exact absurd hfu13 (Nat.not_lt_zero _)
      | succ fuel13 ih13 =>
        intro k bq soq siq rdq hpq hm rkq rm dm hfu13 hk hbi hst hlo H locs X ls hl
        refine lv_iload_n hx hb dX0_bestPlace_13 rfl (lv_at hl 3 rfl) ?_
        refine lv_sipush (v := (nI 144)) hx hb dX0_bestPlace_14 (by decide +kernel) ?_
        refine n_icmp_ge (tgt := 70) hx hb dX0_bestPlace_17 (by decide) (by omega) (by omega) (fun c17 => ?_) (fun c17 => ?_)
        · skip
          refine lv_iconst (v := (-1)) hx hb dX0_bestPlace_70 (by decide +kernel) ?_
          have ek : k = 144 := by omega
          subst ek
          have z := hst (by omega)
          have hr0 := hbi.1 z.1
          exact hret (bq, soq, siq, rdq, hpq, hm, rkq, rm, dm, cu) _ _ _ _ _ X ⟨hbi, rfl, Or.inr ⟨b, n, hb2, hn12, rfl, rfl, hbit, hr0.bestOut X.1.2.2.2.1 X.1.2.2.1 hlo (Or.inr ⟨rfl, z.2⟩)⟩⟩ rfl dX0_bestPlace_71
        · skip
          refine lv_aload_n hx hb dX0_bestPlace_20 rfl (lv_at hl 0 rfl) ?_
          refine lv_iload_n hx hb dX0_bestPlace_21 rfl (lv_at hl 3 rfl) ?_
          refine bc_reach (k := k) Y X (by omega) hbi.1 ⟨by omega, by omega⟩ hl.1 (Nat.le_of_ble_eq_true rfl) dX0_bestPlace_22 (fun r1 u1 H locs hu1 X => ?_)
          obtain ⟨so1, si1, rd1, hp1, hn1, rk1, rn1, dn1⟩ := u1
          have hri1 : RI P K S Wt so1 si1 rd1 hp1 hn1 rk1 rn1 dn1 := hu1.1
          have hge1 : bq = 1 → rm ≤ rn1 := hu1.2.1
          have hc1 : (r1 = nI 1 ∧ k < rn1) ∨ (r1 = nI 0 ∧ rn1 ≤ k ∧ dn1 = 1) := hu1.2.2
          have X : bX D (bA h a) s h a d P K S Wt 1 so1 si1 rd1 hp1 hn1 rk1 rn1 dn1 cu H locs := X
          have hrl1 := hri1.rn_le
          have hbi1 : BI P K S Wt 1 so1 si1 rd1 hp1 hn1 rk1 rn1 dn1 cu := ⟨fun _ => hri1, fun q => ⟨rfl, by have z := hge1 (hbi.2 q).1; have z2 := (hbi.2 q).2; omega⟩⟩
          have hkr : k ≤ rn1 := by
            rcases Nat.eq_zero_or_pos k with q | q
            · omega
            · have z := hst q
              have z2 := hge1 z.1
              omega
          have hsame : ∀ i, i < k → pn (rkq i) = pn (rk1 i) := fun i hi => by
            have z := hst (by omega)
            have hr0 := hbi.1 z.1
            have e1 := hr0.place X.1.2.2.2.1 X.1.2.2.1 (show i < rm by omega)
            have e2 := hri1.place X.1.2.2.2.1 X.1.2.2.1 (show i < rn1 by omega)
            have p1 := hr0.pr (show i < rm by omega)
            have p2 := hri1.pr (show i < rn1 by omega)
            exact bcP_inj (pn_lt p1.1) (pn_lt p2.1) p1.2 p2.2 (e1.trans e2.symm)
          rcases hc1 with ⟨er, hc2⟩ | ⟨er, hc2⟩
          · subst er
            have hlo1 : ∀ i, i < k → (fun p => decide ((if b = 0 then p / 12 else p % 12) = n)) (pn (rk1 i)) = false := fun i hi => by rw [← hsame i hi]; exact hlo i hi
            refine k_neT (tgt := 30) hx hb dX0_bestPlace_25 (by decide) ?_
            have hrk := X.1.2.2.2.2.2.2.2.2.1 k
            have hrk1 := hrk.1
            have hrk2 := hrk.2
            refine lv_iload_n hx hb dX0_bestPlace_30 rfl (lv_at hl 1 rfl) ?_
            refine n_if_ne (tgt := 45) hx hb dX0_bestPlace_31 (by decide) (by omega) (fun c31 => ?_) (fun c31 => ?_)
            · skip
              refine lv_aload_n hx hb dX0_bestPlace_45 rfl (lv_at hl 0 rfl) ?_
              refine bg_10 Y X dX0_bestPlace_46 ?_
              refine lv_iload_n hx hb dX0_bestPlace_49 rfl (lv_at hl 3 rfl) ?_
              refine bl_8 Y X (by omega) dX0_bestPlace_50 (fun bd50 => ?_)
              refine lv_bipush (v := (nI 15)) hx hb dX0_bestPlace_51 (by decide +kernel) ?_
              refine n_iandM (z := (rk1 k) % 16) hx hb 4 (by omega) (by decide +kernel) (rfl) dX0_bestPlace_53 ?_
              refine lv_istore (lv' := [(4, .int (nI ((rk1 k) % 16))), (0, .ref h), (1, .int (nI b)), (2, .int (nI n)), (3, .int (nI k))]) hx hb dX0_bestPlace_54 hl (by decide) rfl (fun ls hl => ?_)
              refine lv_iload hx hb dX0_bestPlace_56 (lv_at hl 0 rfl) ?_
              refine lv_iload_n hx hb dX0_bestPlace_58 rfl (lv_at hl 3 rfl) ?_
              refine n_icmp_ne (tgt := 64) hx hb dX0_bestPlace_59 (by decide) (by omega) (by omega) (fun c59 => ?_) (fun c59 => ?_)
              · skip
                refine lv_iinc (v := nI (k + 1)) (lv' := [(3, .int (nI (k + 1))), (4, .int (nI ((rk1 k) % 16))), (0, .ref h), (1, .int (nI b)), (2, .int (nI n))]) hx hb dX0_bestPlace_64 hl (k := 4) rfl (by rw [← nI_1]; rfl) (by decide) rfl (fun ls hl => ?_)
                refine lv_goto (tgt := 13) hx hb dX0_bestPlace_67 (by decide) ?_
                have hlo2 : ∀ i, i < k + 1 → (fun p => decide ((if b = 0 then p / 12 else p % 12) = n)) (pn (rk1 i)) = false := lt_s hlo1 (by
                  have pk := (hri1.pr hc2).1
                  apply decide_eq_false
                  rw [pn_div pk, pn_mod pk]
                  first | (rw [if_pos c31]; exact c59) | (rw [if_neg c31]; exact c59))
                exact ih13 (k + 1) 1 so1 si1 rd1 hp1 hn1 rk1 rn1 dn1 (by omega) (by omega) hbi1 (fun _ => ⟨rfl, by omega⟩) hlo2 _ _ X ls (lv_sub hl [2, 3, 4, 0] rfl)
              · skip
                refine lv_iload_n hx hb dX0_bestPlace_62 rfl (lv_at hl 4 rfl) ?_
                have hT : (fun p => decide ((if b = 0 then p / 12 else p % 12) = n)) (pn (rk1 k)) = true := by
                  have pk := (hri1.pr hc2).1
                  apply decide_eq_true
                  rw [pn_div pk, pn_mod pk]
                  first | (rw [if_pos c31]; exact c59) | (rw [if_neg c31]; exact c59)
                exact hret (1, so1, si1, rd1, hp1, hn1, rk1, rn1, dn1, cu) _ _ _ _ _ X ⟨hbi1, rfl, Or.inr ⟨b, n, hb2, hn12, rfl, rfl, hbit, hri1.bestIn X.1.2.2.2.1 X.1.2.2.1 hc2 hT hlo1⟩⟩ rfl dX0_bestPlace_63
            · skip
              refine lv_aload_n hx hb dX0_bestPlace_34 rfl (lv_at hl 0 rfl) ?_
              refine bg_10 Y X dX0_bestPlace_35 ?_
              refine lv_iload_n hx hb dX0_bestPlace_38 rfl (lv_at hl 3 rfl) ?_
              refine bl_8 Y X (by omega) dX0_bestPlace_39 (fun bd39 => ?_)
              refine lv_iconst (v := (nI 4)) hx hb dX0_bestPlace_40 (by decide +kernel) ?_
              refine n_ishr (z := (rk1 k) / 16) hx hb (by omega) (by omega) (rfl) dX0_bestPlace_41 ?_
              refine lv_goto (tgt := 54) hx hb dX0_bestPlace_42 (by decide) ?_
              refine lv_istore (lv' := [(4, .int (nI ((rk1 k) / 16))), (0, .ref h), (1, .int (nI b)), (2, .int (nI n)), (3, .int (nI k))]) hx hb dX0_bestPlace_54 hl (by decide) rfl (fun ls hl => ?_)
              refine lv_iload hx hb dX0_bestPlace_56 (lv_at hl 0 rfl) ?_
              refine lv_iload_n hx hb dX0_bestPlace_58 rfl (lv_at hl 3 rfl) ?_
              refine n_icmp_ne (tgt := 64) hx hb dX0_bestPlace_59 (by decide) (by omega) (by omega) (fun c59 => ?_) (fun c59 => ?_)
              · skip
                refine lv_iinc (v := nI (k + 1)) (lv' := [(3, .int (nI (k + 1))), (4, .int (nI ((rk1 k) / 16))), (0, .ref h), (1, .int (nI b)), (2, .int (nI n))]) hx hb dX0_bestPlace_64 hl (k := 4) rfl (by rw [← nI_1]; rfl) (by decide) rfl (fun ls hl => ?_)
                refine lv_goto (tgt := 13) hx hb dX0_bestPlace_67 (by decide) ?_
                have hlo2 : ∀ i, i < k + 1 → (fun p => decide ((if b = 0 then p / 12 else p % 12) = n)) (pn (rk1 i)) = false := lt_s hlo1 (by
                  have pk := (hri1.pr hc2).1
                  apply decide_eq_false
                  rw [pn_div pk, pn_mod pk]
                  first | (rw [if_pos c31]; exact c59) | (rw [if_neg c31]; exact c59))
                exact ih13 (k + 1) 1 so1 si1 rd1 hp1 hn1 rk1 rn1 dn1 (by omega) (by omega) hbi1 (fun _ => ⟨rfl, by omega⟩) hlo2 _ _ X ls (lv_sub hl [2, 3, 4, 0] rfl)
              · skip
                refine lv_iload_n hx hb dX0_bestPlace_62 rfl (lv_at hl 4 rfl) ?_
                have hT : (fun p => decide ((if b = 0 then p / 12 else p % 12) = n)) (pn (rk1 k)) = true := by
                  have pk := (hri1.pr hc2).1
                  apply decide_eq_true
                  rw [pn_div pk, pn_mod pk]
                  first | (rw [if_pos c31]; exact c59) | (rw [if_neg c31]; exact c59)
                exact hret (1, so1, si1, rd1, hp1, hn1, rk1, rn1, dn1, cu) _ _ _ _ _ X ⟨hbi1, rfl, Or.inr ⟨b, n, hb2, hn12, rfl, rfl, hbit, hri1.bestIn X.1.2.2.2.1 X.1.2.2.1 hc2 hT hlo1⟩⟩ rfl dX0_bestPlace_63
          · subst er
            have hlo1 : ∀ i, i < k → (fun p => decide ((if b = 0 then p / 12 else p % 12) = n)) (pn (rk1 i)) = false := fun i hi => by rw [← hsame i hi]; exact hlo i hi
            refine k_neF (tgt := 30) hx hb dX0_bestPlace_25 (by decide) ?_
            refine lv_iconst (v := (-1)) hx hb dX0_bestPlace_28 (by decide +kernel) ?_
            exact hret (1, so1, si1, rd1, hp1, hn1, rk1, rn1, dn1, cu) _ _ _ _ _ X ⟨hbi1, rfl, Or.inr ⟨b, n, hb2, hn12, rfl, rfl, hbit, hri1.bestOut X.1.2.2.2.1 X.1.2.2.1 hlo1 (Or.inl hc2)⟩⟩ rfl dX0_bestPlace_29
    exact loop13 (144 + 1) 0 bg so si rd hp hn rk rn dn (by omega) (by omega) hBI (fun q => absurd q (by omega)) (fun i q => absurd q (by omega)) _ _ X ls (lv_sub hl [1, 2, 3, 0] rfl)
  · subst er1
    refine k_neF (tgt := 11) hx hb dX0_bestPlace_6 (by decide) ?_
    refine lv_iconst (v := (-1)) hx hb dX0_bestPlace_9 (by decide +kernel) ?_
    exact hret (bg, so, si, rd, hp, hn, rk, rn, dn, cu) _ _ _ _ _ X ⟨hBI, rfl, Or.inl ⟨cc1, rfl⟩⟩ rfl dX0_bestPlace_10

end PUB
end
section
/-! the reference's methods (written by gen/model.py) -/
section MOD
/-- the array 'there' out of the masks -/
def thF (P : Nat → Nat) : Nat → Nat := fun j => if (P (j / 12)).testBit (j % 12) = true then 1 else 0
theorem thF_at {P : Nat → Nat} {b n : Nat} (hn : n < 12) : thF P (12 * b + n) = if (P b).testBit n = true then 1 else 0 := by
  unfold thF
  rw [show (12 * b + n) / 12 = b by omega, show (12 * b + n) % 12 = n by omega]
theorem thF_0 {P : Nat → Nat} {n : Nat} (hn : n < 12) : thF P n = if (P 0).testBit n = true then 1 else 0 := by
  have h := thF_at (P := P) (b := 0) hn
  rw [Nat.mul_zero, Nat.zero_add] at h
  exact h
theorem thF_1 {P : Nat → Nat} {n : Nat} (hn : n < 12) : thF P (12 + n) = if (P 1).testBit n = true then 1 else 0 := thF_at (P := P) (b := 1) hn
theorem ifb {c : Bool} : ((if c = true then 1 else 0) = 0) ↔ c = false := by cases c <;> simp
theorem ifb' {c : Bool} : ¬ ((if c = true then 1 else 0) = 0) ↔ c = true := by cases c <;> simp
theorem thF_le (P : Nat → Nat) (j : Nat) : thF P j ≤ 1 := by
  unfold thF
  split <;> omega
theorem thF_on {P : Nat → Nat} {b i : Nat} (hi : i < 12) : updN (thF P) (12 * b + i) 1 = thF (updN P b (P b ||| 2 ^ i)) := by
  funext j
  unfold thF
  show (if j = 12 * b + i then 1 else (if (P (j / 12)).testBit (j % 12) = true then 1 else 0)) = (if (if j / 12 = b then P b ||| 2 ^ i else P (j / 12)).testBit (j % 12) = true then 1 else 0)
  by_cases e : j = 12 * b + i
  · rw [if_pos e, if_pos (show j / 12 = b by omega), show j % 12 = i by omega, if_pos (by rw [Nat.testBit_or, Nat.testBit_two_pow_self]; simp)]
  · rw [if_neg e]
    by_cases e2 : j / 12 = b
    · rw [if_pos e2, Nat.testBit_or, Nat.testBit_two_pow_of_ne (by omega), Bool.or_false, e2]
    · rw [if_neg e2]
theorem offM_tb {p n j : Nat} (hj : j < 32) (hn : n < 32) : (offM p n).testBit j = (p.testBit j && !(decide (j = n))) := by
  unfold offM
  rw [Nat.testBit_and, Nat.testBit_xor, show 4294967295 = 2 ^ 32 - 1 from rfl, Nat.testBit_two_pow_sub_one, decide_eq_true hj]
  by_cases e : j = n
  · subst e
    rw [Nat.testBit_two_pow_self]; simp
  · rw [Nat.testBit_two_pow_of_ne (Ne.symm e)]; simp [e]
theorem thF_off {P : Nat → Nat} {b i : Nat} (hi : i < 12) : updN (thF P) (12 * b + i) 0 = thF (updN P b (offM (P b) i)) := by
  funext j
  unfold thF
  show (if j = 12 * b + i then 0 else (if (P (j / 12)).testBit (j % 12) = true then 1 else 0)) = (if (if j / 12 = b then offM (P b) i else P (j / 12)).testBit (j % 12) = true then 1 else 0)
  by_cases e : j = 12 * b + i
  · rw [if_pos e, if_pos (show j / 12 = b by omega), show j % 12 = i by omega, if_neg (by rw [offM_tb (by omega) (by omega)]; simp)]
  · rw [if_neg e]
    by_cases e2 : j / 12 = b
    · rw [if_pos e2, offM_tb (by omega) (by omega), e2, decide_eq_false (show ¬ j % 12 = i by omega)]
      simp
    · rw [if_neg e2]
theorem mod_on {p i : Nat} (h : p.testBit i = true) : p % 2 ^ i ||| 2 ^ i = p % 2 ^ (i + 1) := by
  apply Nat.eq_of_testBit_eq
  intro j
  rw [Nat.testBit_or, Nat.testBit_mod_two_pow, Nat.testBit_mod_two_pow]
  rcases Nat.lt_trichotomy j i with q | q | q
  · rw [Nat.testBit_two_pow_of_ne (by omega), decide_eq_true q, decide_eq_true (show j < i + 1 by omega)]; simp
  · subst q
    rw [Nat.testBit_two_pow_self, h, decide_eq_true (show j < j + 1 by omega)]; simp
  · rw [Nat.testBit_two_pow_of_ne (by omega), decide_eq_false (show ¬ j < i by omega), decide_eq_false (show ¬ j < i + 1 by omega)]; simp
theorem mod_off {p i : Nat} (h : p.testBit i = false) : p % 2 ^ i ||| 0 = p % 2 ^ (i + 1) := by
  apply Nat.eq_of_testBit_eq
  intro j
  rw [Nat.or_zero, Nat.testBit_mod_two_pow, Nat.testBit_mod_two_pow]
  rcases Nat.lt_trichotomy j i with q | q | q
  · rw [decide_eq_true q, decide_eq_true (show j < i + 1 by omega)]
  · subst q
    rw [h]; simp
  · rw [decide_eq_false (show ¬ j < i by omega), decide_eq_false (show ¬ j < i + 1 by omega)]
theorem tb_f {c : Bool} (h : ¬ c = true) : c = false := by cases c <;> simp_all
/-- the least place among the first m numbers of a kind -/
def ansBp (P K S W : Nat → Nat) (T : Nat → Bool) (m : Nat) (r : Int32) : Prop := (∃ p, p < m ∧ prP P K p = true ∧ T p = true ∧ (∀ q, q < m → prP P K q = true → T q = true → bcP P K S W p ≤ bcP P K S W q) ∧ r = nI (bcP P K S W p)) ∨ ((∀ q, q < m → prP P K q = true → T q = false) ∧ r = -1)
theorem ansBp.skip {P K S W : Nat → Nat} {T : Nat → Bool} {m : Nat} {r : Int32} (h : ansBp P K S W T m r) (hm : prP P K m = true → T m = false) : ansBp P K S W T (m + 1) r := by
  have key : ∀ q, q < m + 1 → prP P K q = true → T q = true → q < m := fun q h1 h2 h3 => by
    rcases Nat.lt_or_ge q m with z | z
    · exact z
    · have e : q = m := by omega
      subst e
      rw [hm h2] at h3
      cases h3
  rcases h with ⟨p, a1, a2, a3, a4, a5⟩ | ⟨a1, a2⟩
  · exact Or.inl ⟨p, by omega, a2, a3, fun q h1 h2 h3 => a4 q (key q h1 h2 h3) h2 h3, a5⟩
  · refine Or.inr ⟨fun q h1 h2 => ?_, a2⟩
    cases hT : T q with
    | false => rfl
    | true => rw [a1 q (key q h1 h2 hT) h2] at hT; cases hT
theorem ansBp.first {P K S W : Nat → Nat} {T : Nat → Bool} {m : Nat} (h : ∀ q, q < m → prP P K q = true → T q = false) (hm : prP P K m = true) (hT : T m = true) : ansBp P K S W T (m + 1) (nI (bcP P K S W m)) := by
  refine Or.inl ⟨m, by omega, hm, hT, fun q h1 h2 h3 => ?_, rfl⟩
  rcases Nat.lt_or_ge q m with z | z
  · rw [h q z h2] at h3; cases h3
  · have e : q = m := by omega
    subst e
    exact Nat.le_refl _
theorem ansBp.less {P K S W : Nat → Nat} {T : Nat → Bool} {m p : Nat} (h : ∀ q, q < m → prP P K q = true → T q = true → bcP P K S W p ≤ bcP P K S W q) (hm : prP P K m = true) (hT : T m = true) (hl : bcP P K S W m < bcP P K S W p) : ansBp P K S W T (m + 1) (nI (bcP P K S W m)) := by
  refine Or.inl ⟨m, by omega, hm, hT, fun q h1 h2 h3 => ?_, rfl⟩
  rcases Nat.lt_or_ge q m with z | z
  · have z2 := h q z h2 h3
    omega
  · have e : q = m := by omega
    subst e
    exact Nat.le_refl _
theorem ansBp.more {P K S W : Nat → Nat} {T : Nat → Bool} {m p : Nat} (hp : p < m) (h2 : prP P K p = true) (h3 : T p = true) (h : ∀ q, q < m → prP P K q = true → T q = true → bcP P K S W p ≤ bcP P K S W q) (hl : ¬ bcP P K S W m < bcP P K S W p) : ansBp P K S W T (m + 1) (nI (bcP P K S W p)) := by
  refine Or.inl ⟨p, by omega, h2, h3, fun q q1 q2 q3 => ?_, rfl⟩
  rcases Nat.lt_or_ge q m with z | z
  · exact h q z q2 q3
  · have e : q = m := by omega
    subst e
    omega
set_option maxHeartbeats 4000000 in
set_option maxRecDepth 100000 in
theorem mt_entry (l : Launch) (D : va_G) (h : Nat) (a : Nat → Nat) (d : Nat → ClassId) (th K S Wt : Nat → Nat) (cu : Nat) (P : Nat → Nat) (x y : Int32) (hth : th = thF P) : cR l yX1_entry cX1_entry 3 .boolean 0 0 [.ref h, .int x, .int y] (mAt D TT h a d th K S Wt cu) (bo (hasP P x y)) := by
  refine g_methR (own := "BestPairsModel") (by decide) rfl (Nat.le_of_ble_eq_true rfl) ?_
  intro p e R s m args below meth c Q Y hRf hRl hret ls hl X
  have hx := Y.1
  have hb := Y.2.1
  have hl : lv_has ls 3 [(0, .ref h), (1, .int x), (2, .int y)] := hl
  refine lv_iload_n hx hb dX1_entry_0 rfl (lv_at hl 1 rfl) ?_
  refine lv_if_eq (tgt := 9) hx hb dX1_entry_1 (by decide) (fun c1 => ?_) (fun c1 => ?_)
  · skip
    obtain ⟨b, hb2, eb⟩ := isL (x := x) (by first | exact Or.inl c1 | exact Or.inr (by rw [c6]; decide))
    subst eb
    refine lv_iload_n hx hb dX1_entry_9 rfl (lv_at hl 2 rfl) ?_
    refine lv_if_lt (tgt := 37) hx hb dX1_entry_10 (by decide) (fun c10 => ?_) (fun c10 => ?_)
    · skip
      refine lv_iconst (v := (nI 0)) hx hb dX1_entry_37 (by decide +kernel) ?_
      have hc : ¬ hasP P (nI b) y := by
        rintro ⟨b0, n0, h1, h2, h3, h4, h5⟩
        first
          | exact absurd c10 (by rw [h4]; exact nI_pos (by omega))
          | exact absurd c16 (by rw [h4]; exact nI_ge h2 (by omega))
          | exact (isL' h1).elim (fun q => c1 (h3.trans q)) (fun q => c6 (h3.trans (q.trans (by decide))))
      exact hret _ _ _ (Or.inr ⟨hc, rfl⟩) nar0 dX1_entry_38
    · skip
      refine lv_iload_n hx hb dX1_entry_13 rfl (lv_at hl 2 rfl) ?_
      refine lv_bipush (v := (nI 12)) hx hb dX1_entry_14 (by decide +kernel) ?_
      refine lv_icmp_ge (tgt := 37) hx hb dX1_entry_16 (by decide) (fun c16 => ?_) (fun c16 => ?_)
      · skip
        refine lv_iconst (v := (nI 0)) hx hb dX1_entry_37 (by decide +kernel) ?_
        have hc : ¬ hasP P (nI b) y := by
          rintro ⟨b0, n0, h1, h2, h3, h4, h5⟩
          first
            | exact absurd c10 (by rw [h4]; exact nI_pos (by omega))
            | exact absurd c16 (by rw [h4]; exact nI_ge h2 (by omega))
            | exact (isL' h1).elim (fun q => c1 (h3.trans q)) (fun q => c6 (h3.trans (q.trans (by decide))))
        exact hret _ _ _ (Or.inr ⟨hc, rfl⟩) nar0 dX1_entry_38
      · skip
        obtain ⟨n, hn12, en⟩ := ixN (N := 12) (by decide) c10 c16
        subst en
        refine lv_aload_n hx hb dX1_entry_19 rfl (lv_at hl 0 rfl) ?_
        refine mg_0 Y X dX1_entry_20 ?_
        refine lv_bipush (v := (nI 12)) hx hb dX1_entry_23 (by decide +kernel) ?_
        refine lv_iload_n hx hb dX1_entry_25 rfl (lv_at hl 1 rfl) ?_
        refine n_imul (z := 12 * b) hx hb (rfl) dX1_entry_26 ?_
        refine lv_iload_n hx hb dX1_entry_27 rfl (lv_at hl 2 rfl) ?_
        refine n_iadd (z := 12 * b + n) hx hb (rfl) dX1_entry_28 ?_
        refine ml_0 Y X (by omega) dX1_entry_29 (fun bd29 => ?_)
        refine n_if_eq (tgt := 37) hx hb dX1_entry_30 (by decide) (by omega) (fun c30 => ?_) (fun c30 => ?_)
        · skip
          refine lv_iconst (v := (nI 0)) hx hb dX1_entry_37 (by decide +kernel) ?_
          rw [hth, thF_at hn12] at c30
          exact hret _ _ _ (Or.inr ⟨fun q => by rw [(hasP_nI hb2 hn12).mp q] at c30; simp at c30, rfl⟩) nar0 dX1_entry_38
        · skip
          refine lv_iconst (v := (nI 1)) hx hb dX1_entry_33 (by decide +kernel) ?_
          refine lv_goto (tgt := 38) hx hb dX1_entry_34 (by decide) ?_
          rw [hth, thF_at hn12] at c30
          exact hret _ _ _ (Or.inl ⟨(hasP_nI hb2 hn12).mpr (ifb'.mp c30), rfl⟩) nar1 dX1_entry_38
  · skip
    refine lv_iload_n hx hb dX1_entry_4 rfl (lv_at hl 1 rfl) ?_
    refine lv_iconst (v := (nI 1)) hx hb dX1_entry_5 (by decide +kernel) ?_
    refine lv_icmp_ne (tgt := 37) hx hb dX1_entry_6 (by decide) (fun c6 => ?_) (fun c6 => ?_)
    · skip
      refine lv_iconst (v := (nI 0)) hx hb dX1_entry_37 (by decide +kernel) ?_
      have hc : ¬ hasP P x y := by
        rintro ⟨b0, n0, h1, h2, h3, h4, h5⟩
        first
          | exact absurd c10 (by rw [h4]; exact nI_pos (by omega))
          | exact absurd c16 (by rw [h4]; exact nI_ge h2 (by omega))
          | exact (isL' h1).elim (fun q => c1 (h3.trans q)) (fun q => c6 (h3.trans (q.trans (by decide))))
      exact hret _ _ _ (Or.inr ⟨hc, rfl⟩) nar0 dX1_entry_38
    · skip
      obtain ⟨b, hb2, eb⟩ := isL (x := x) (by first | exact Or.inl c1 | exact Or.inr (by rw [c6]; decide))
      subst eb
      refine lv_iload_n hx hb dX1_entry_9 rfl (lv_at hl 2 rfl) ?_
      refine lv_if_lt (tgt := 37) hx hb dX1_entry_10 (by decide) (fun c10 => ?_) (fun c10 => ?_)
      · skip
        refine lv_iconst (v := (nI 0)) hx hb dX1_entry_37 (by decide +kernel) ?_
        have hc : ¬ hasP P (nI b) y := by
          rintro ⟨b0, n0, h1, h2, h3, h4, h5⟩
          first
            | exact absurd c10 (by rw [h4]; exact nI_pos (by omega))
            | exact absurd c16 (by rw [h4]; exact nI_ge h2 (by omega))
            | exact (isL' h1).elim (fun q => c1 (h3.trans q)) (fun q => c6 (h3.trans (q.trans (by decide))))
        exact hret _ _ _ (Or.inr ⟨hc, rfl⟩) nar0 dX1_entry_38
      · skip
        refine lv_iload_n hx hb dX1_entry_13 rfl (lv_at hl 2 rfl) ?_
        refine lv_bipush (v := (nI 12)) hx hb dX1_entry_14 (by decide +kernel) ?_
        refine lv_icmp_ge (tgt := 37) hx hb dX1_entry_16 (by decide) (fun c16 => ?_) (fun c16 => ?_)
        · skip
          refine lv_iconst (v := (nI 0)) hx hb dX1_entry_37 (by decide +kernel) ?_
          have hc : ¬ hasP P (nI b) y := by
            rintro ⟨b0, n0, h1, h2, h3, h4, h5⟩
            first
              | exact absurd c10 (by rw [h4]; exact nI_pos (by omega))
              | exact absurd c16 (by rw [h4]; exact nI_ge h2 (by omega))
              | exact (isL' h1).elim (fun q => c1 (h3.trans q)) (fun q => c6 (h3.trans (q.trans (by decide))))
          exact hret _ _ _ (Or.inr ⟨hc, rfl⟩) nar0 dX1_entry_38
        · skip
          obtain ⟨n, hn12, en⟩ := ixN (N := 12) (by decide) c10 c16
          subst en
          refine lv_aload_n hx hb dX1_entry_19 rfl (lv_at hl 0 rfl) ?_
          refine mg_0 Y X dX1_entry_20 ?_
          refine lv_bipush (v := (nI 12)) hx hb dX1_entry_23 (by decide +kernel) ?_
          refine lv_iload_n hx hb dX1_entry_25 rfl (lv_at hl 1 rfl) ?_
          refine n_imul (z := 12 * b) hx hb (rfl) dX1_entry_26 ?_
          refine lv_iload_n hx hb dX1_entry_27 rfl (lv_at hl 2 rfl) ?_
          refine n_iadd (z := 12 * b + n) hx hb (rfl) dX1_entry_28 ?_
          refine ml_0 Y X (by omega) dX1_entry_29 (fun bd29 => ?_)
          refine n_if_eq (tgt := 37) hx hb dX1_entry_30 (by decide) (by omega) (fun c30 => ?_) (fun c30 => ?_)
          · skip
            refine lv_iconst (v := (nI 0)) hx hb dX1_entry_37 (by decide +kernel) ?_
            rw [hth, thF_at hn12] at c30
            exact hret _ _ _ (Or.inr ⟨fun q => by rw [(hasP_nI hb2 hn12).mp q] at c30; simp at c30, rfl⟩) nar0 dX1_entry_38
          · skip
            refine lv_iconst (v := (nI 1)) hx hb dX1_entry_33 (by decide +kernel) ?_
            refine lv_goto (tgt := 38) hx hb dX1_entry_34 (by decide) ?_
            rw [hth, thF_at hn12] at c30
            exact hret _ _ _ (Or.inl ⟨(hasP_nI hb2 hn12).mpr (ifb'.mp c30), rfl⟩) nar1 dX1_entry_38

set_option maxHeartbeats 4000000 in
set_option maxRecDepth 100000 in
theorem mc_entry {p : Program} {l : Launch} {e : Env} {R : Room} {s : State} {m : MethodId} {args : Array Value} {below : List Frame} {meth : Method} {c : Code} {H : Heap} {locs : List Loc} {Q : State → Prop} {cc : ByteArray} {nL pc h : Nat} {a : Nat → Nat} {d : Nat → ClassId} {D : va_G} {A : Nat → Prop} {rest : List Value} {ls : Array Slot} {th K S Wt : Nat → Nat} {cu : Nat} {P : Nat → Nat} {x y : Int32} (Y : CallFix p m c cc nL s args lw_all "BestPairsModel") (X : mX D A s h a d th K S Wt cu H locs) (hth : th = thF P) (hR : 1 ≤ R.frames ∧ 22 ≤ R.locals) (hls : ls.size = nL) (hW : (rest.map fun v => v.category).sum ≤ 8) (hdg : decode cc pc = .ok (.invokevirtual 27, 3)) (kk : ∀ r : Int32, (bo (hasP P x y)) r → W p l e R s m args below meth c H locs 0 0 Q (F0 m (pc + 3) ls (.int r :: rest))) : W p l e R s m args below meth c H locs 0 0 Q (F0 m pc ls (.int y :: .int x :: .ref h :: rest)) :=
  g_callR (C := "BestPairsModel") (ci := 1) (q0 := 0) (n := 2) (As := [.int x, .int y]) Y X (mt_entry l D h a d th K S Wt cu P x y hth) (lw_V q233 q235 qs16 q24 q236) (by decide +kernel) rfl hR rfl rfl rfl hls rfl hW hdg kk
set_option maxHeartbeats 4000000 in
set_option maxRecDepth 100000 in
theorem mt_score (l : Launch) (D : va_G) (h : Nat) (a : Nat → Nat) (d : Nat → ClassId) (th K S Wt : Nat → Nat) (cu : Nat) (P : Nat → Nat) (x y : Int32) (hth : th = thF P) : cR l yX1_score cX1_score 3 .int 1 22 [.ref h, .int x, .int y] (mAt D TT h a d th K S Wt cu) (fun r => (∃ b n, b < 2 ∧ n < 12 ∧ x = nI b ∧ y = nI n ∧ (P b).testBit n = true ∧ r = nI (S (12 * b + n))) ∨ (¬ hasP P x y ∧ r = -1)) := by
  refine g_methR (own := "BestPairsModel") (by decide) rfl (Nat.le_of_ble_eq_true rfl) ?_
  intro p e R s m args below meth c Q Y hRf hRl hret ls hl X
  have hx := Y.1
  have hb := Y.2.1
  have hl : lv_has ls 3 [(0, .ref h), (1, .int x), (2, .int y)] := hl
  refine lv_aload_n hx hb dX1_score_0 rfl (lv_at hl 0 rfl) ?_
  refine lv_iload_n hx hb dX1_score_1 rfl (lv_at hl 1 rfl) ?_
  refine lv_iload_n hx hb dX1_score_2 rfl (lv_at hl 2 rfl) ?_
  refine mc_entry Y X hth ⟨by omega, by omega⟩ hl.1 (Nat.le_of_ble_eq_true rfl) dX1_score_3 (fun r1 hr1 => ?_)
  rcases hr1 with ⟨cc1, er1⟩ | ⟨cc1, er1⟩
  · subst er1
    obtain ⟨b, n, hb2, hn12, eb, en, hbit⟩ := cc1
    subst eb
    subst en
    refine k_eqF (tgt := 23) hx hb dX1_score_6 (by decide) ?_
    refine lv_aload_n hx hb dX1_score_9 rfl (lv_at hl 0 rfl) ?_
    refine mg_2 Y X dX1_score_10 ?_
    refine lv_bipush (v := (nI 12)) hx hb dX1_score_13 (by decide +kernel) ?_
    refine lv_iload_n hx hb dX1_score_15 rfl (lv_at hl 1 rfl) ?_
    refine n_imul (z := 12 * b) hx hb (rfl) dX1_score_16 ?_
    refine lv_iload_n hx hb dX1_score_17 rfl (lv_at hl 2 rfl) ?_
    refine n_iadd (z := 12 * b + n) hx hb (rfl) dX1_score_18 ?_
    refine ml_2 Y X (by omega) dX1_score_19 (fun bd19 => ?_)
    refine lv_goto (tgt := 24) hx hb dX1_score_20 (by decide) ?_
    exact hret _ _ _ (Or.inl ⟨b, n, hb2, hn12, rfl, rfl, hbit, rfl⟩) rfl dX1_score_24
  · subst er1
    refine k_eqT (tgt := 23) hx hb dX1_score_6 (by decide) ?_
    refine lv_iconst (v := (-1)) hx hb dX1_score_23 (by decide +kernel) ?_
    exact hret _ _ _ (Or.inr ⟨by assumption, rfl⟩) rfl dX1_score_24

set_option maxHeartbeats 4000000 in
set_option maxRecDepth 100000 in
theorem mt_entries (l : Launch) (D : va_G) (h : Nat) (a : Nat → Nat) (d : Nat → ClassId) (th K S Wt : Nat → Nat) (cu : Nat) (P : Nat → Nat) (x : Int32) (hth : th = thF P) (hP : ∀ j, P j < 4096) : cR l yX1_entries cX1_entries 4 .int 1 22 [.ref h, .int x] (mAt D TT h a d th K S Wt cu) (fun r => (∃ b, b < 2 ∧ x = nI b ∧ r = nI (P b)) ∨ (¬ (x = 0 ∨ x = 1) ∧ r = 0)) := by
  refine g_methR (own := "BestPairsModel") (by decide) rfl (Nat.le_of_ble_eq_true rfl) ?_
  intro p e R s m args below meth c Q Y hRf hRl hret ls hl X
  have hx := Y.1
  have hb := Y.2.1
  have hl : lv_has ls 4 [(0, .ref h), (1, .int x)] := hl
  rcases Classical.em (x = 0 ∨ x = 1) with hv | hv
  · skip
    obtain ⟨b, hb2, eb⟩ := isL hv
    subst eb
    refine lv_iconst (v := (nI 0)) hx hb dX1_entries_0 (by decide +kernel) ?_
    refine lv_istore_n (lv' := [(2, .int (nI 0)), (0, .ref h), (1, .int (nI b))]) hx hb dX1_entries_1 rfl hl (by decide) rfl (fun ls hl => ?_)
    refine lv_iconst (v := (nI 0)) hx hb dX1_entries_2 (by decide +kernel) ?_
    refine lv_istore_n (lv' := [(3, .int (nI 0)), (2, .int (nI 0)), (0, .ref h), (1, .int (nI b))]) hx hb dX1_entries_3 rfl hl (by decide) rfl (fun ls hl => ?_)
    have hl : lv_has ls 4 [(3, .int (nI 0)), (2, .int (nI (P b % 2 ^ 0))), (0, .ref h), (1, .int (nI b))] := by rw [Nat.pow_zero, Nat.mod_one]; exact hl
    have loop4 : ∀ (fuel4 : Nat) (i : Nat), 12 - i < fuel4 → i ≤ 12 → ∀ ls : Array Slot, lv_has ls 4 [(0, .ref h), (1, .int (nI b)), (2, .int (nI (P b % 2 ^ i))), (3, .int (nI i))] → W p l e R s m args below meth c s.heap [] 0 0 Q (F0 m 4 ls []) := by
      intro fuel4
      induction fuel4 with
      | zero =>
        intro i hfu4
        exact absurd hfu4 (Nat.not_lt_zero _)
      | succ fuel4 ih4 =>
        intro i hfu4 hi ls hl
        refine lv_iload_n hx hb dX1_entries_4 rfl (lv_at hl 3 rfl) ?_
        refine lv_bipush (v := (nI 12)) hx hb dX1_entries_5 (by decide +kernel) ?_
        refine n_icmp_ge (tgt := 35) hx hb dX1_entries_7 (by decide) (by omega) (by omega) (fun c7 => ?_) (fun c7 => ?_)
        · skip
          refine lv_iload_n hx hb dX1_entries_35 rfl (lv_at hl 2 rfl) ?_
          have ei : i = 12 := by omega
          subst ei
          have hpb := hP b
          exact hret _ _ _ (Or.inl ⟨b, hb2, rfl, by rw [Nat.mod_eq_of_lt (show P b < 2 ^ 12 by omega)]⟩) rfl dX1_entries_36
        · skip
          refine lv_iload_n hx hb dX1_entries_10 rfl (lv_at hl 2 rfl) ?_
          refine lv_aload_n hx hb dX1_entries_11 rfl (lv_at hl 0 rfl) ?_
          refine lv_iload_n hx hb dX1_entries_12 rfl (lv_at hl 1 rfl) ?_
          refine lv_iload_n hx hb dX1_entries_13 rfl (lv_at hl 3 rfl) ?_
          refine mc_entry Y X hth ⟨by omega, by omega⟩ hl.1 (Nat.le_of_ble_eq_true rfl) dX1_entries_14 (fun r1 hr1 => ?_)
          rcases hr1 with ⟨cc1, er1⟩ | ⟨cc1, er1⟩
          · subst er1
            have hbt := cc1
            refine k_eqF (tgt := 26) hx hb dX1_entries_17 (by decide) ?_
            refine lv_iconst (v := (nI 1)) hx hb dX1_entries_20 (by decide +kernel) ?_
            refine lv_iload_n hx hb dX1_entries_21 rfl (lv_at hl 3 rfl) ?_
            refine n_ishl hx hb (by omega) dX1_entries_22 ?_
            refine lv_goto (tgt := 27) hx hb dX1_entries_23 (by decide) ?_
            refine n_ior hx hb dX1_entries_27 ?_
            refine lv_istore_n (lv' := [(2, .int (nI ((P b % 2 ^ i) ||| (2 ^ i)))), (0, .ref h), (1, .int (nI b)), (3, .int (nI i))]) hx hb dX1_entries_28 rfl hl (by decide) rfl (fun ls hl => ?_)
            refine lv_iinc (v := nI (i + 1)) (lv' := [(3, .int (nI (i + 1))), (2, .int (nI ((P b % 2 ^ i) ||| (2 ^ i)))), (0, .ref h), (1, .int (nI b))]) hx hb dX1_entries_29 hl (k := 3) rfl (by rw [← nI_1]; rfl) (by decide) rfl (fun ls hl => ?_)
            refine lv_goto (tgt := 4) hx hb dX1_entries_32 (by decide) ?_
            rw [mod_on ((hasP_nI hb2 (by omega)).mp hbt)] at hl
            exact ih4 (i + 1) (by omega) (by omega) ls (lv_sub hl [2, 3, 1, 0] rfl)
          · subst er1
            have hbt := cc1
            refine k_eqT (tgt := 26) hx hb dX1_entries_17 (by decide) ?_
            refine lv_iconst (v := (nI 0)) hx hb dX1_entries_26 (by decide +kernel) ?_
            refine n_ior hx hb dX1_entries_27 ?_
            refine lv_istore_n (lv' := [(2, .int (nI ((P b % 2 ^ i) ||| 0))), (0, .ref h), (1, .int (nI b)), (3, .int (nI i))]) hx hb dX1_entries_28 rfl hl (by decide) rfl (fun ls hl => ?_)
            refine lv_iinc (v := nI (i + 1)) (lv' := [(3, .int (nI (i + 1))), (2, .int (nI ((P b % 2 ^ i) ||| 0))), (0, .ref h), (1, .int (nI b))]) hx hb dX1_entries_29 hl (k := 3) rfl (by rw [← nI_1]; rfl) (by decide) rfl (fun ls hl => ?_)
            refine lv_goto (tgt := 4) hx hb dX1_entries_32 (by decide) ?_
            rw [mod_off (tb_f (fun q => hbt ((hasP_nI hb2 (by omega)).mpr q)))] at hl
            exact ih4 (i + 1) (by omega) (by omega) ls (lv_sub hl [2, 3, 1, 0] rfl)
    exact loop4 (12 + 1) 0 (by omega) (by omega) ls (lv_sub hl [2, 3, 1, 0] rfl)
  · skip
    refine lv_iconst (v := (nI 0)) hx hb dX1_entries_0 (by decide +kernel) ?_
    refine lv_istore_n (lv' := [(2, .int (nI 0)), (0, .ref h), (1, .int x)]) hx hb dX1_entries_1 rfl hl (by decide) rfl (fun ls hl => ?_)
    refine lv_iconst (v := (nI 0)) hx hb dX1_entries_2 (by decide +kernel) ?_
    refine lv_istore_n (lv' := [(3, .int (nI 0)), (2, .int (nI 0)), (0, .ref h), (1, .int x)]) hx hb dX1_entries_3 rfl hl (by decide) rfl (fun ls hl => ?_)
    have loop4 : ∀ (fuel4 : Nat) (i : Nat), 12 - i < fuel4 → i ≤ 12 → ∀ ls : Array Slot, lv_has ls 4 [(0, .ref h), (1, .int x), (2, .int (nI 0)), (3, .int (nI i))] → W p l e R s m args below meth c s.heap [] 0 0 Q (F0 m 4 ls []) := by
      intro fuel4
      induction fuel4 with
      | zero =>
        intro i hfu4
        exact absurd hfu4 (Nat.not_lt_zero _)
      | succ fuel4 ih4 =>
        intro i hfu4 hi ls hl
        refine lv_iload_n hx hb dX1_entries_4 rfl (lv_at hl 3 rfl) ?_
        refine lv_bipush (v := (nI 12)) hx hb dX1_entries_5 (by decide +kernel) ?_
        refine n_icmp_ge (tgt := 35) hx hb dX1_entries_7 (by decide) (by omega) (by omega) (fun c7 => ?_) (fun c7 => ?_)
        · skip
          refine lv_iload_n hx hb dX1_entries_35 rfl (lv_at hl 2 rfl) ?_
          exact hret _ _ _ (Or.inr ⟨hv, nI_0⟩) rfl dX1_entries_36
        · skip
          refine lv_iload_n hx hb dX1_entries_10 rfl (lv_at hl 2 rfl) ?_
          refine lv_aload_n hx hb dX1_entries_11 rfl (lv_at hl 0 rfl) ?_
          refine lv_iload_n hx hb dX1_entries_12 rfl (lv_at hl 1 rfl) ?_
          refine lv_iload_n hx hb dX1_entries_13 rfl (lv_at hl 3 rfl) ?_
          refine mc_entry Y X hth ⟨by omega, by omega⟩ hl.1 (Nat.le_of_ble_eq_true rfl) dX1_entries_14 (fun r2 hr2 => ?_)
          rcases hr2 with ⟨cc2, er2⟩ | ⟨cc2, er2⟩
          · subst er2
            have hbt := cc2
            refine k_eqF (tgt := 26) hx hb dX1_entries_17 (by decide) ?_
            refine lv_iconst (v := (nI 1)) hx hb dX1_entries_20 (by decide +kernel) ?_
            refine lv_iload_n hx hb dX1_entries_21 rfl (lv_at hl 3 rfl) ?_
            refine n_ishl hx hb (by omega) dX1_entries_22 ?_
            refine lv_goto (tgt := 27) hx hb dX1_entries_23 (by decide) ?_
            refine n_ior hx hb dX1_entries_27 ?_
            refine lv_istore_n (lv' := [(2, .int (nI (0 ||| (2 ^ i)))), (0, .ref h), (1, .int x), (3, .int (nI i))]) hx hb dX1_entries_28 rfl hl (by decide) rfl (fun ls hl => ?_)
            refine lv_iinc (v := nI (i + 1)) (lv' := [(3, .int (nI (i + 1))), (2, .int (nI (0 ||| (2 ^ i)))), (0, .ref h), (1, .int x)]) hx hb dX1_entries_29 hl (k := 3) rfl (by rw [← nI_1]; rfl) (by decide) rfl (fun ls hl => ?_)
            refine lv_goto (tgt := 4) hx hb dX1_entries_32 (by decide) ?_
            exfalso
            obtain ⟨b, n, h1, h2, h3, h4, h5⟩ := hbt
            exact hv (by rw [h3]; exact isL' h1)
          · subst er2
            have hbt := cc2
            refine k_eqT (tgt := 26) hx hb dX1_entries_17 (by decide) ?_
            refine lv_iconst (v := (nI 0)) hx hb dX1_entries_26 (by decide +kernel) ?_
            refine n_ior hx hb dX1_entries_27 ?_
            refine lv_istore_n (lv' := [(2, .int (nI (0 ||| 0))), (0, .ref h), (1, .int x), (3, .int (nI i))]) hx hb dX1_entries_28 rfl hl (by decide) rfl (fun ls hl => ?_)
            refine lv_iinc (v := nI (i + 1)) (lv' := [(3, .int (nI (i + 1))), (2, .int (nI (0 ||| 0))), (0, .ref h), (1, .int x)]) hx hb dX1_entries_29 hl (k := 3) rfl (by rw [← nI_1]; rfl) (by decide) rfl (fun ls hl => ?_)
            refine lv_goto (tgt := 4) hx hb dX1_entries_32 (by decide) ?_
            rw [Nat.or_zero] at hl
            exact ih4 (i + 1) (by omega) (by omega) ls (lv_sub hl [2, 3, 1, 0] rfl)
    exact loop4 (12 + 1) 0 (by omega) (by omega) ls (lv_sub hl [2, 3, 1, 0] rfl)

set_option maxHeartbeats 4000000 in
set_option maxRecDepth 100000 in
theorem mt_pair (l : Launch) (D : va_G) (h : Nat) (a : Nat → Nat) (d : Nat → ClassId) (th K S Wt : Nat → Nat) (cu : Nat) (P : Nat → Nat) (q : Nat) (hth : th = thF P) (hq : q < 144) : cR l yX1_pair cX1_pair 4 .boolean 0 0 [.ref h, .int (nI q)] (mAt D TT h a d th K S Wt cu) (bo (prP P K q = true)) := by
  refine g_methR (own := "BestPairsModel") (by decide) rfl (Nat.le_of_ble_eq_true rfl) ?_
  intro p e R s m args below meth c Q Y hRf hRl hret ls hl X
  have hx := Y.1
  have hb := Y.2.1
  have hl : lv_has ls 4 [(0, .ref h), (1, .int (nI q))] := hl
  have e0 : th (q / 12) = if (P 0).testBit (q / 12) = true then 1 else 0 := by rw [hth]; exact thF_0 (by omega)
  have e1 : th (12 + q % 12) = if (P 1).testBit (q % 12) = true then 1 else 0 := by rw [hth]; exact thF_1 (by omega)
  refine lv_iload_n hx hb dX1_pair_0 rfl (lv_at hl 1 rfl) ?_
  refine lv_bipush (v := (nI 12)) hx hb dX1_pair_1 (by decide +kernel) ?_
  refine n_idiv hx hb (by omega) (by decide) (by decide) dX1_pair_3 ?_
  refine lv_istore_n (lv' := [(2, .int (nI (q / 12))), (0, .ref h), (1, .int (nI q))]) hx hb dX1_pair_4 rfl hl (by decide) rfl (fun ls hl => ?_)
  refine lv_bipush (v := (nI 12)) hx hb dX1_pair_5 (by decide +kernel) ?_
  refine lv_iload_n hx hb dX1_pair_7 rfl (lv_at hl 2 rfl) ?_
  refine lv_bipush (v := (nI 12)) hx hb dX1_pair_8 (by decide +kernel) ?_
  refine n_irem hx hb (by omega) (by decide) (by decide) dX1_pair_10 ?_
  refine n_iadd (z := 12 + (q % 12)) hx hb (rfl) dX1_pair_11 ?_
  refine lv_istore_n (lv' := [(3, .int (nI (12 + (q % 12)))), (2, .int (nI (q / 12))), (0, .ref h), (1, .int (nI q))]) hx hb dX1_pair_12 rfl hl (by decide) rfl (fun ls hl => ?_)
  refine lv_aload_n hx hb dX1_pair_13 rfl (lv_at hl 2 rfl) ?_
  refine mg_0 Y X dX1_pair_14 ?_
  refine lv_iload_n hx hb dX1_pair_17 rfl (lv_at hl 1 rfl) ?_
  refine ml_0 Y X (by omega) dX1_pair_18 (fun bd18 => ?_)
  refine n_if_eq (tgt := 50) hx hb dX1_pair_19 (by decide) (by omega) (fun c19 => ?_) (fun c19 => ?_)
  · skip
    refine lv_iconst (v := (nI 0)) hx hb dX1_pair_50 (by decide +kernel) ?_
    have hpr : prP P K q = ((P 0).testBit (q / 12) && (P 1).testBit (q % 12) && (K (q / 12) == K (12 + q % 12))) := rfl
    refine hret _ _ _ (Or.inr ⟨fun z => ?_, rfl⟩) nar0 dX1_pair_51
    rw [hpr, Bool.and_eq_true, Bool.and_eq_true, beq_iff_eq] at z
    first
      | exact c43 z.2
      | exact absurd c28 (by rw [e1, z.1.2]; decide)
      | exact absurd c19 (by rw [e0, z.1.1]; decide)
  · skip
    refine lv_aload_n hx hb dX1_pair_22 rfl (lv_at hl 2 rfl) ?_
    refine mg_0 Y X dX1_pair_23 ?_
    refine lv_iload_n hx hb dX1_pair_26 rfl (lv_at hl 0 rfl) ?_
    refine ml_0 Y X (by omega) dX1_pair_27 (fun bd27 => ?_)
    refine n_if_eq (tgt := 50) hx hb dX1_pair_28 (by decide) (by omega) (fun c28 => ?_) (fun c28 => ?_)
    · skip
      refine lv_iconst (v := (nI 0)) hx hb dX1_pair_50 (by decide +kernel) ?_
      have hpr : prP P K q = ((P 0).testBit (q / 12) && (P 1).testBit (q % 12) && (K (q / 12) == K (12 + q % 12))) := rfl
      refine hret _ _ _ (Or.inr ⟨fun z => ?_, rfl⟩) nar0 dX1_pair_51
      rw [hpr, Bool.and_eq_true, Bool.and_eq_true, beq_iff_eq] at z
      first
        | exact c43 z.2
        | exact absurd c28 (by rw [e1, z.1.2]; decide)
        | exact absurd c19 (by rw [e0, z.1.1]; decide)
    · skip
      refine lv_aload_n hx hb dX1_pair_31 rfl (lv_at hl 2 rfl) ?_
      refine mg_1 Y X dX1_pair_32 ?_
      refine lv_iload_n hx hb dX1_pair_35 rfl (lv_at hl 1 rfl) ?_
      refine ml_1 Y X (by omega) dX1_pair_36 (fun bd36 => ?_)
      refine lv_aload_n hx hb dX1_pair_37 rfl (lv_at hl 2 rfl) ?_
      refine mg_1 Y X dX1_pair_38 ?_
      refine lv_iload_n hx hb dX1_pair_41 rfl (lv_at hl 0 rfl) ?_
      refine ml_1 Y X (by omega) dX1_pair_42 (fun bd42 => ?_)
      refine n_icmp_ne (tgt := 50) hx hb dX1_pair_43 (by decide) (by omega) (by omega) (fun c43 => ?_) (fun c43 => ?_)
      · skip
        refine lv_iconst (v := (nI 0)) hx hb dX1_pair_50 (by decide +kernel) ?_
        have hpr : prP P K q = ((P 0).testBit (q / 12) && (P 1).testBit (q % 12) && (K (q / 12) == K (12 + q % 12))) := rfl
        refine hret _ _ _ (Or.inr ⟨fun z => ?_, rfl⟩) nar0 dX1_pair_51
        rw [hpr, Bool.and_eq_true, Bool.and_eq_true, beq_iff_eq] at z
        first
          | exact c43 z.2
          | exact absurd c28 (by rw [e1, z.1.2]; decide)
          | exact absurd c19 (by rw [e0, z.1.1]; decide)
      · skip
        refine lv_iconst (v := (nI 1)) hx hb dX1_pair_46 (by decide +kernel) ?_
        refine lv_goto (tgt := 51) hx hb dX1_pair_47 (by decide) ?_
        have hpr : prP P K q = ((P 0).testBit (q / 12) && (P 1).testBit (q % 12) && (K (q / 12) == K (12 + q % 12))) := rfl
        rw [e0, ifb'] at c19
        rw [e1, ifb'] at c28
        exact hret _ _ _ (Or.inl ⟨by rw [hpr, c19, c28, c43]; simp, rfl⟩) nar1 dX1_pair_51

set_option maxHeartbeats 4000000 in
set_option maxRecDepth 100000 in
theorem mc_pair {p : Program} {l : Launch} {e : Env} {R : Room} {s : State} {m : MethodId} {args : Array Value} {below : List Frame} {meth : Method} {c : Code} {H : Heap} {locs : List Loc} {Q : State → Prop} {cc : ByteArray} {nL pc h : Nat} {a : Nat → Nat} {d : Nat → ClassId} {D : va_G} {A : Nat → Prop} {rest : List Value} {ls : Array Slot} {th K S Wt : Nat → Nat} {cu : Nat} {P : Nat → Nat} {q : Nat} (Y : CallFix p m c cc nL s args lw_all "BestPairsModel") (X : mX D A s h a d th K S Wt cu H locs) (hth : th = thF P) (hq : q < 144) (hR : 1 ≤ R.frames ∧ 23 ≤ R.locals) (hls : ls.size = nL) (hW : (rest.map fun v => v.category).sum ≤ 8) (hdg : decode cc pc = .ok (.invokevirtual 35, 3)) (kk : ∀ r : Int32, (bo (prP P K q = true)) r → W p l e R s m args below meth c H locs 0 0 Q (F0 m (pc + 3) ls (.int r :: rest))) : W p l e R s m args below meth c H locs 0 0 Q (F0 m pc ls (.int (nI q) :: .ref h :: rest)) :=
  g_callR (C := "BestPairsModel") (ci := 1) (q0 := 0) (n := 1) (As := [.int (nI q)]) Y X (mt_pair l D h a d th K S Wt cu P q hth hq) (lw_V q261 q263 qs18 q24 q264) (by decide +kernel) rfl hR rfl rfl rfl hls rfl hW hdg kk
set_option maxHeartbeats 4000000 in
set_option maxRecDepth 100000 in
theorem mt_value (l : Launch) (D : va_G) (h : Nat) (a : Nat → Nat) (d : Nat → ClassId) (th K S Wt : Nat → Nat) (cu : Nat) (q : Nat) (hq : q < 144) : cR l yX1_value cX1_value 2 .int 0 0 [.ref h, .int (nI q)] (mAt D TT h a d th K S Wt cu) (fun r => r = nI (valP Wt S q)) := by
  refine g_methR (own := "BestPairsModel") (by decide) rfl (Nat.le_of_ble_eq_true rfl) ?_
  intro p e R s m args below meth c Q Y hRf hRl hret ls hl X
  have hx := Y.1
  have hb := Y.2.1
  have hl : lv_has ls 2 [(0, .ref h), (1, .int (nI q))] := hl
  refine lv_aload_n hx hb dX1_value_0 rfl (lv_at hl 0 rfl) ?_
  refine mg_3 Y X dX1_value_1 ?_
  refine lv_iconst (v := (nI 0)) hx hb dX1_value_4 (by decide +kernel) ?_
  refine ml_3 Y X (by omega) dX1_value_5 (fun bd5 => ?_)
  refine lv_aload_n hx hb dX1_value_6 rfl (lv_at hl 0 rfl) ?_
  refine mg_2 Y X dX1_value_7 ?_
  refine lv_iload_n hx hb dX1_value_10 rfl (lv_at hl 1 rfl) ?_
  refine lv_bipush (v := (nI 12)) hx hb dX1_value_11 (by decide +kernel) ?_
  refine n_idiv hx hb (by omega) (by decide) (by decide) dX1_value_13 ?_
  refine ml_2 Y X (by omega) dX1_value_14 (fun bd14 => ?_)
  refine n_imul (z := (Wt 0) * (S (q / 12))) hx hb (rfl) dX1_value_15 ?_
  refine lv_aload_n hx hb dX1_value_16 rfl (lv_at hl 0 rfl) ?_
  refine mg_3 Y X dX1_value_17 ?_
  refine lv_iconst (v := (nI 1)) hx hb dX1_value_20 (by decide +kernel) ?_
  refine ml_3 Y X (by omega) dX1_value_21 (fun bd21 => ?_)
  refine lv_aload_n hx hb dX1_value_22 rfl (lv_at hl 0 rfl) ?_
  refine mg_2 Y X dX1_value_23 ?_
  refine lv_bipush (v := (nI 12)) hx hb dX1_value_26 (by decide +kernel) ?_
  refine lv_iload_n hx hb dX1_value_28 rfl (lv_at hl 1 rfl) ?_
  refine lv_bipush (v := (nI 12)) hx hb dX1_value_29 (by decide +kernel) ?_
  refine n_irem hx hb (by omega) (by decide) (by decide) dX1_value_31 ?_
  refine n_iadd (z := 12 + (q % 12)) hx hb (rfl) dX1_value_32 ?_
  refine ml_2 Y X (by omega) dX1_value_33 (fun bd33 => ?_)
  refine n_imul (z := (Wt 1) * (S (12 + (q % 12)))) hx hb (rfl) dX1_value_34 ?_
  refine n_iadd (z := (Wt 0) * (S (q / 12)) + ((Wt 1) * (S (12 + (q % 12))))) hx hb (rfl) dX1_value_35 ?_
  exact hret _ _ _ rfl rfl dX1_value_36

set_option maxHeartbeats 4000000 in
set_option maxRecDepth 100000 in
theorem mc_value {p : Program} {l : Launch} {e : Env} {R : Room} {s : State} {m : MethodId} {args : Array Value} {below : List Frame} {meth : Method} {c : Code} {H : Heap} {locs : List Loc} {Q : State → Prop} {cc : ByteArray} {nL pc h : Nat} {a : Nat → Nat} {d : Nat → ClassId} {D : va_G} {A : Nat → Prop} {rest : List Value} {ls : Array Slot} {th K S Wt : Nat → Nat} {cu : Nat} {q : Nat} (Y : CallFix p m c cc nL s args lw_all "BestPairsModel") (X : mX D A s h a d th K S Wt cu H locs) (hq : q < 144) (hR : 1 ≤ R.frames ∧ 21 ≤ R.locals) (hls : ls.size = nL) (hW : (rest.map fun v => v.category).sum ≤ 8) (hdg : decode cc pc = .ok (.invokevirtual 31, 3)) (kk : ∀ r : Int32, (fun r => r = nI (valP Wt S q)) r → W p l e R s m args below meth c H locs 0 0 Q (F0 m (pc + 3) ls (.int r :: rest))) : W p l e R s m args below meth c H locs 0 0 Q (F0 m pc ls (.int (nI q) :: .ref h :: rest)) :=
  g_callR (C := "BestPairsModel") (ci := 1) (q0 := 0) (n := 1) (As := [.int (nI q)]) Y X (mt_value l D h a d th K S Wt cu q hq) (lw_V q269 q271 qs20 q24 q272) (by decide +kernel) rfl hR rfl rfl rfl hls rfl hW hdg kk
set_option maxHeartbeats 4000000 in
set_option maxRecDepth 100000 in
theorem mt_before (l : Launch) (D : va_G) (h : Nat) (a : Nat → Nat) (d : Nat → ClassId) (th K S Wt : Nat → Nat) (cu : Nat) (P : Nat → Nat) (q : Nat) (hth : th = thF P) (hq : q < 144) : cR l yX1_before cX1_before 6 .int 1 23 [.ref h, .int (nI q)] (mAt D TT h a d th K S Wt cu) (fun r => r = nI (bcP P K S Wt q)) := by
  refine g_methR (own := "BestPairsModel") (by decide) rfl (Nat.le_of_ble_eq_true rfl) ?_
  intro p e R s m args below meth c Q Y hRf hRl hret ls hl X
  have hx := Y.1
  have hb := Y.2.1
  have hl : lv_has ls 6 [(0, .ref h), (1, .int (nI q))] := hl
  have hvl := fun j => valP_le X.1.2.2.2.1 X.1.2.2.1 j
  have hvq := hvl q
  refine lv_aload_n hx hb dX1_before_0 rfl (lv_at hl 0 rfl) ?_
  refine lv_iload_n hx hb dX1_before_1 rfl (lv_at hl 1 rfl) ?_
  refine mc_value Y X (by omega) ⟨by omega, by omega⟩ hl.1 (Nat.le_of_ble_eq_true rfl) dX1_before_2 (fun r1 hr1 => ?_)
  subst hr1
  refine lv_istore_n (lv' := [(2, .int (nI (valP Wt S q))), (0, .ref h), (1, .int (nI q))]) hx hb dX1_before_5 rfl hl (by decide) rfl (fun ls hl => ?_)
  refine lv_iconst (v := (nI 0)) hx hb dX1_before_6 (by decide +kernel) ?_
  refine lv_istore_n (lv' := [(3, .int (nI 0)), (2, .int (nI (valP Wt S q))), (0, .ref h), (1, .int (nI q))]) hx hb dX1_before_7 rfl hl (by decide) rfl (fun ls hl => ?_)
  refine lv_iconst (v := (nI 0)) hx hb dX1_before_8 (by decide +kernel) ?_
  refine lv_istore (lv' := [(4, .int (nI 0)), (3, .int (nI 0)), (2, .int (nI (valP Wt S q))), (0, .ref h), (1, .int (nI q))]) hx hb dX1_before_9 hl (by decide) rfl (fun ls hl => ?_)
  have loop11 : ∀ (fuel11 : Nat) (o : Nat), 144 - o < fuel11 → o ≤ 144 → ∀ ls : Array Slot, lv_has ls 6 [(0, .ref h), (1, .int (nI q)), (2, .int (nI (valP Wt S q))), (3, .int (nI (cnt (fun o => prP P K o && decide (kapP Wt S o < kapP Wt S q)) o))), (4, .int (nI o))] → W p l e R s m args below meth c s.heap [] 0 0 Q (F0 m 11 ls []) := by
    intro fuel11
    induction fuel11 with
    | zero =>
      intro o hfu11
      exact absurd hfu11 (Nat.not_lt_zero _)
    | succ fuel11 ih11 =>
      intro o hfu11 ho ls hl
      have hcl := cnt_le (fun o => prP P K o && decide (kapP Wt S o < kapP Wt S q)) o
      have hvo := hvl o
      refine lv_iload hx hb dX1_before_11 (lv_at hl 4 rfl) ?_
      refine lv_sipush (v := (nI 144)) hx hb dX1_before_13 (by decide +kernel) ?_
      refine n_icmp_ge (tgt := 68) hx hb dX1_before_16 (by decide) (by omega) (by omega) (fun c16 => ?_) (fun c16 => ?_)
      · skip
        refine lv_iload_n hx hb dX1_before_68 rfl (lv_at hl 3 rfl) ?_
        have eo : o = 144 := by omega
        subst eo
        exact hret _ _ _ rfl rfl dX1_before_69
      · skip
        refine lv_aload_n hx hb dX1_before_19 rfl (lv_at hl 0 rfl) ?_
        refine lv_iload hx hb dX1_before_20 (lv_at hl 4 rfl) ?_
        refine mc_pair Y X hth (by omega) ⟨by omega, by omega⟩ hl.1 (Nat.le_of_ble_eq_true rfl) dX1_before_22 (fun r2 hr2 => ?_)
        rcases hr2 with ⟨cc2, er2⟩ | ⟨cc2, er2⟩
        · subst er2
          have hpr := cc2
          refine k_eqF (tgt := 62) hx hb dX1_before_25 (by decide) ?_
          refine lv_aload_n hx hb dX1_before_28 rfl (lv_at hl 0 rfl) ?_
          refine lv_iload hx hb dX1_before_29 (lv_at hl 4 rfl) ?_
          refine mc_value Y X (by omega) ⟨by omega, by omega⟩ hl.1 (Nat.le_of_ble_eq_true rfl) dX1_before_31 (fun r3 hr3 => ?_)
          subst hr3
          refine lv_istore (lv' := [(5, .int (nI (valP Wt S o))), (0, .ref h), (1, .int (nI q)), (2, .int (nI (valP Wt S q))), (3, .int (nI (cnt (fun o => prP P K o && decide (kapP Wt S o < kapP Wt S q)) o))), (4, .int (nI o))]) hx hb dX1_before_34 hl (by decide) rfl (fun ls hl => ?_)
          refine lv_iload hx hb dX1_before_36 (lv_at hl 0 rfl) ?_
          refine lv_iload_n hx hb dX1_before_38 rfl (lv_at hl 3 rfl) ?_
          refine n_icmp_gt (tgt := 54) hx hb dX1_before_39 (by decide) (by omega) (by omega) (fun c39 => ?_) (fun c39 => ?_)
          · skip
            refine lv_iload_n hx hb dX1_before_54 rfl (lv_at hl 4 rfl) ?_
            refine lv_iconst (v := (nI 1)) hx hb dX1_before_55 (by decide +kernel) ?_
            refine n_iadd (z := cnt (fun o => prP P K o && decide (kapP Wt S o < kapP Wt S q)) o + 1) hx hb (rfl) dX1_before_56 ?_
            refine lv_goto (tgt := 61) hx hb dX1_before_57 (by decide) ?_
            refine lv_istore_n (lv' := [(3, .int (nI (cnt (fun o => prP P K o && decide (kapP Wt S o < kapP Wt S q)) o + 1))), (5, .int (nI (valP Wt S o))), (0, .ref h), (1, .int (nI q)), (2, .int (nI (valP Wt S q))), (4, .int (nI o))]) hx hb dX1_before_61 rfl hl (by decide) rfl (fun ls hl => ?_)
            refine lv_iinc (v := nI (o + 1)) (lv' := [(4, .int (nI (o + 1))), (3, .int (nI (cnt (fun o => prP P K o && decide (kapP Wt S o < kapP Wt S q)) o + 1))), (5, .int (nI (valP Wt S o))), (0, .ref h), (1, .int (nI q)), (2, .int (nI (valP Wt S q)))]) hx hb dX1_before_62 hl (k := 5) rfl (by rw [← nI_1]; rfl) (by decide) rfl (fun ls hl => ?_)
            refine lv_goto (tgt := 11) hx hb dX1_before_65 (by decide) ?_
            have hk := kapP_lt X.1.2.2.2.1 X.1.2.2.1 (a := o) (b := q) (by omega) (by omega)
            have ew : cnt (fun o => prP P K o && decide (kapP Wt S o < kapP Wt S q)) (o + 1) = cnt (fun o => prP P K o && decide (kapP Wt S o < kapP Wt S q)) o + 1 := by
              show cnt (fun o => prP P K o && decide (kapP Wt S o < kapP Wt S q)) o + (if (prP P K o && decide (kapP Wt S o < kapP Wt S q)) = true then 1 else 0) = _
              rw [if_pos (by rw [Bool.and_eq_true, decide_eq_true_eq]; exact ⟨hpr, hk.mpr (by omega)⟩)]
            rw [← ew] at hl
            exact ih11 (o + 1) (by omega) (by omega) ls (lv_sub hl [3, 4, 5, 1, 0] rfl)
          · skip
            refine lv_iload hx hb dX1_before_42 (lv_at hl 0 rfl) ?_
            refine lv_iload_n hx hb dX1_before_44 rfl (lv_at hl 3 rfl) ?_
            refine n_icmp_ne (tgt := 60) hx hb dX1_before_45 (by decide) (by omega) (by omega) (fun c45 => ?_) (fun c45 => ?_)
            · skip
              refine lv_iload_n hx hb dX1_before_60 rfl (lv_at hl 4 rfl) ?_
              refine lv_istore_n (lv' := [(3, .int (nI (cnt (fun o => prP P K o && decide (kapP Wt S o < kapP Wt S q)) o))), (5, .int (nI (valP Wt S o))), (0, .ref h), (1, .int (nI q)), (2, .int (nI (valP Wt S q))), (4, .int (nI o))]) hx hb dX1_before_61 rfl hl (by decide) rfl (fun ls hl => ?_)
              refine lv_iinc (v := nI (o + 1)) (lv' := [(4, .int (nI (o + 1))), (3, .int (nI (cnt (fun o => prP P K o && decide (kapP Wt S o < kapP Wt S q)) o))), (5, .int (nI (valP Wt S o))), (0, .ref h), (1, .int (nI q)), (2, .int (nI (valP Wt S q)))]) hx hb dX1_before_62 hl (k := 5) rfl (by rw [← nI_1]; rfl) (by decide) rfl (fun ls hl => ?_)
              refine lv_goto (tgt := 11) hx hb dX1_before_65 (by decide) ?_
              have hk := kapP_lt X.1.2.2.2.1 X.1.2.2.1 (a := o) (b := q) (by omega) (by omega)
              have ew : cnt (fun o => prP P K o && decide (kapP Wt S o < kapP Wt S q)) (o + 1) = cnt (fun o => prP P K o && decide (kapP Wt S o < kapP Wt S q)) o := by
                show cnt (fun o => prP P K o && decide (kapP Wt S o < kapP Wt S q)) o + (if (prP P K o && decide (kapP Wt S o < kapP Wt S q)) = true then 1 else 0) = _
                rw [if_neg (by rw [Bool.and_eq_true, decide_eq_true_eq]; rintro ⟨z1, z2⟩; first | exact hpr z1 | (have z3 := hk.mp z2; omega))]; rfl
              rw [← ew] at hl
              exact ih11 (o + 1) (by omega) (by omega) ls (lv_sub hl [3, 4, 5, 1, 0] rfl)
            · skip
              refine lv_iload hx hb dX1_before_48 (lv_at hl 5 rfl) ?_
              refine lv_iload_n hx hb dX1_before_50 rfl (lv_at hl 2 rfl) ?_
              refine n_icmp_ge (tgt := 60) hx hb dX1_before_51 (by decide) (by omega) (by omega) (fun c51 => ?_) (fun c51 => ?_)
              · skip
                refine lv_iload_n hx hb dX1_before_60 rfl (lv_at hl 4 rfl) ?_
                refine lv_istore_n (lv' := [(3, .int (nI (cnt (fun o => prP P K o && decide (kapP Wt S o < kapP Wt S q)) o))), (5, .int (nI (valP Wt S o))), (0, .ref h), (1, .int (nI q)), (2, .int (nI (valP Wt S q))), (4, .int (nI o))]) hx hb dX1_before_61 rfl hl (by decide) rfl (fun ls hl => ?_)
                refine lv_iinc (v := nI (o + 1)) (lv' := [(4, .int (nI (o + 1))), (3, .int (nI (cnt (fun o => prP P K o && decide (kapP Wt S o < kapP Wt S q)) o))), (5, .int (nI (valP Wt S o))), (0, .ref h), (1, .int (nI q)), (2, .int (nI (valP Wt S q)))]) hx hb dX1_before_62 hl (k := 5) rfl (by rw [← nI_1]; rfl) (by decide) rfl (fun ls hl => ?_)
                refine lv_goto (tgt := 11) hx hb dX1_before_65 (by decide) ?_
                have hk := kapP_lt X.1.2.2.2.1 X.1.2.2.1 (a := o) (b := q) (by omega) (by omega)
                have ew : cnt (fun o => prP P K o && decide (kapP Wt S o < kapP Wt S q)) (o + 1) = cnt (fun o => prP P K o && decide (kapP Wt S o < kapP Wt S q)) o := by
                  show cnt (fun o => prP P K o && decide (kapP Wt S o < kapP Wt S q)) o + (if (prP P K o && decide (kapP Wt S o < kapP Wt S q)) = true then 1 else 0) = _
                  rw [if_neg (by rw [Bool.and_eq_true, decide_eq_true_eq]; rintro ⟨z1, z2⟩; first | exact hpr z1 | (have z3 := hk.mp z2; omega))]; rfl
                rw [← ew] at hl
                exact ih11 (o + 1) (by omega) (by omega) ls (lv_sub hl [3, 4, 5, 1, 0] rfl)
              · skip
                refine lv_iload_n hx hb dX1_before_54 rfl (lv_at hl 4 rfl) ?_
                refine lv_iconst (v := (nI 1)) hx hb dX1_before_55 (by decide +kernel) ?_
                refine n_iadd (z := cnt (fun o => prP P K o && decide (kapP Wt S o < kapP Wt S q)) o + 1) hx hb (rfl) dX1_before_56 ?_
                refine lv_goto (tgt := 61) hx hb dX1_before_57 (by decide) ?_
                refine lv_istore_n (lv' := [(3, .int (nI (cnt (fun o => prP P K o && decide (kapP Wt S o < kapP Wt S q)) o + 1))), (5, .int (nI (valP Wt S o))), (0, .ref h), (1, .int (nI q)), (2, .int (nI (valP Wt S q))), (4, .int (nI o))]) hx hb dX1_before_61 rfl hl (by decide) rfl (fun ls hl => ?_)
                refine lv_iinc (v := nI (o + 1)) (lv' := [(4, .int (nI (o + 1))), (3, .int (nI (cnt (fun o => prP P K o && decide (kapP Wt S o < kapP Wt S q)) o + 1))), (5, .int (nI (valP Wt S o))), (0, .ref h), (1, .int (nI q)), (2, .int (nI (valP Wt S q)))]) hx hb dX1_before_62 hl (k := 5) rfl (by rw [← nI_1]; rfl) (by decide) rfl (fun ls hl => ?_)
                refine lv_goto (tgt := 11) hx hb dX1_before_65 (by decide) ?_
                have hk := kapP_lt X.1.2.2.2.1 X.1.2.2.1 (a := o) (b := q) (by omega) (by omega)
                have ew : cnt (fun o => prP P K o && decide (kapP Wt S o < kapP Wt S q)) (o + 1) = cnt (fun o => prP P K o && decide (kapP Wt S o < kapP Wt S q)) o + 1 := by
                  show cnt (fun o => prP P K o && decide (kapP Wt S o < kapP Wt S q)) o + (if (prP P K o && decide (kapP Wt S o < kapP Wt S q)) = true then 1 else 0) = _
                  rw [if_pos (by rw [Bool.and_eq_true, decide_eq_true_eq]; exact ⟨hpr, hk.mpr (by omega)⟩)]
                rw [← ew] at hl
                exact ih11 (o + 1) (by omega) (by omega) ls (lv_sub hl [3, 4, 5, 1, 0] rfl)
        · subst er2
          have hpr := cc2
          refine k_eqT (tgt := 62) hx hb dX1_before_25 (by decide) ?_
          refine lv_iinc (v := nI (o + 1)) (lv' := [(4, .int (nI (o + 1))), (0, .ref h), (1, .int (nI q)), (2, .int (nI (valP Wt S q))), (3, .int (nI (cnt (fun o => prP P K o && decide (kapP Wt S o < kapP Wt S q)) o)))]) hx hb dX1_before_62 hl (k := 4) rfl (by rw [← nI_1]; rfl) (by decide) rfl (fun ls hl => ?_)
          refine lv_goto (tgt := 11) hx hb dX1_before_65 (by decide) ?_
          have hk := kapP_lt X.1.2.2.2.1 X.1.2.2.1 (a := o) (b := q) (by omega) (by omega)
          have ew : cnt (fun o => prP P K o && decide (kapP Wt S o < kapP Wt S q)) (o + 1) = cnt (fun o => prP P K o && decide (kapP Wt S o < kapP Wt S q)) o := by
            show cnt (fun o => prP P K o && decide (kapP Wt S o < kapP Wt S q)) o + (if (prP P K o && decide (kapP Wt S o < kapP Wt S q)) = true then 1 else 0) = _
            rw [if_neg (by rw [Bool.and_eq_true, decide_eq_true_eq]; rintro ⟨z1, z2⟩; first | exact hpr z1 | (have z3 := hk.mp z2; omega))]; rfl
          rw [← ew] at hl
          exact ih11 (o + 1) (by omega) (by omega) ls (lv_sub hl [1, 2, 3, 4, 0] rfl)
  exact loop11 (144 + 1) 0 (by omega) (by omega) ls (lv_sub hl [3, 4, 2, 1, 0] rfl)

set_option maxHeartbeats 4000000 in
set_option maxRecDepth 100000 in
theorem mc_before {p : Program} {l : Launch} {e : Env} {R : Room} {s : State} {m : MethodId} {args : Array Value} {below : List Frame} {meth : Method} {c : Code} {H : Heap} {locs : List Loc} {Q : State → Prop} {cc : ByteArray} {nL pc h : Nat} {a : Nat → Nat} {d : Nat → ClassId} {D : va_G} {A : Nat → Prop} {rest : List Value} {ls : Array Slot} {th K S Wt : Nat → Nat} {cu : Nat} {P : Nat → Nat} {q : Nat} (Y : CallFix p m c cc nL s args lw_all "BestPairsModel") (X : mX D A s h a d th K S Wt cu H locs) (hth : th = thF P) (hq : q < 144) (hR : 2 ≤ R.frames ∧ 48 ≤ R.locals) (hls : ls.size = nL) (hW : (rest.map fun v => v.category).sum ≤ 8) (hdg : decode cc pc = .ok (.invokevirtual 39, 3)) (kk : ∀ r : Int32, (fun r => r = nI (bcP P K S Wt q)) r → W p l e R s m args below meth c H locs 0 0 Q (F0 m (pc + 3) ls (.int r :: rest))) : W p l e R s m args below meth c H locs 0 0 Q (F0 m pc ls (.int (nI q) :: .ref h :: rest)) :=
  g_callR (C := "BestPairsModel") (ci := 1) (q0 := 0) (n := 1) (As := [.int (nI q)]) Y X (mt_before l D h a d th K S Wt cu P q hth hq) (lw_V q265 q267 qs19 q24 q268) (by decide +kernel) rfl hR rfl rfl rfl hls rfl hW hdg kk
set_option maxHeartbeats 4000000 in
set_option maxRecDepth 100000 in
theorem mt_ranked (l : Launch) (D : va_G) (h : Nat) (a : Nat → Nat) (d : Nat → ClassId) (th K S Wt : Nat → Nat) (cu : Nat) (P : Nat → Nat) (x : Int32) (hth : th = thF P) : cR l yX1_ranked cX1_ranked 3 .int 2 48 [.ref h, .int x] (mAt D TT h a d th K S Wt cu) (ansX P K S Wt (fun q => nI q) x) := by
  refine g_methR (own := "BestPairsModel") (by decide) rfl (Nat.le_of_ble_eq_true rfl) ?_
  intro p e R s m args below meth c Q Y hRf hRl hret ls hl X
  have hx := Y.1
  have hb := Y.2.1
  have hl : lv_has ls 3 [(0, .ref h), (1, .int x)] := hl
  refine lv_iconst (v := (nI 0)) hx hb dX1_ranked_0 (by decide +kernel) ?_
  refine lv_istore_n (lv' := [(2, .int (nI 0)), (0, .ref h), (1, .int x)]) hx hb dX1_ranked_1 rfl hl (by decide) rfl (fun ls hl => ?_)
  have loop2 : ∀ (fuel2 : Nat) (q : Nat), 144 - q < fuel2 → q ≤ 144 → (∀ o, o < q → prP P K o = true → nI (bcP P K S Wt o) ≠ x) → ∀ ls : Array Slot, lv_has ls 3 [(0, .ref h), (1, .int x), (2, .int (nI q))] → W p l e R s m args below meth c s.heap [] 0 0 Q (F0 m 2 ls []) := by
    intro fuel2
    induction fuel2 with
    | zero =>
      intro q hfu2
      exact absurd hfu2 (Nat.not_lt_zero _)
    | succ fuel2 ih2 =>
      intro q hfu2 hq hno ls hl
      refine lv_iload_n hx hb dX1_ranked_2 rfl (lv_at hl 2 rfl) ?_
      refine lv_sipush (v := (nI 144)) hx hb dX1_ranked_3 (by decide +kernel) ?_
      refine n_icmp_ge (tgt := 34) hx hb dX1_ranked_6 (by decide) (by omega) (by omega) (fun c6 => ?_) (fun c6 => ?_)
      · skip
        refine lv_iconst (v := (-1)) hx hb dX1_ranked_34 (by decide +kernel) ?_
        have eq1 : q = 144 := by omega
        subst eq1
        exact hret _ _ _ (Or.inr ⟨hno, rfl⟩) rfl dX1_ranked_35
      · skip
        refine lv_aload_n hx hb dX1_ranked_9 rfl (lv_at hl 0 rfl) ?_
        refine lv_iload_n hx hb dX1_ranked_10 rfl (lv_at hl 2 rfl) ?_
        refine mc_pair Y X hth (by omega) ⟨by omega, by omega⟩ hl.1 (Nat.le_of_ble_eq_true rfl) dX1_ranked_11 (fun r1 hr1 => ?_)
        rcases hr1 with ⟨cc1, er1⟩ | ⟨cc1, er1⟩
        · subst er1
          have hpr := cc1
          refine k_eqF (tgt := 28) hx hb dX1_ranked_14 (by decide) ?_
          refine lv_aload_n hx hb dX1_ranked_17 rfl (lv_at hl 0 rfl) ?_
          refine lv_iload_n hx hb dX1_ranked_18 rfl (lv_at hl 2 rfl) ?_
          refine mc_before Y X hth (by omega) ⟨by omega, by omega⟩ hl.1 (Nat.le_of_ble_eq_true rfl) dX1_ranked_19 (fun r2 hr2 => ?_)
          subst hr2
          refine lv_iload_n hx hb dX1_ranked_22 rfl (lv_at hl 1 rfl) ?_
          refine lv_icmp_ne (tgt := 28) hx hb dX1_ranked_23 (by decide) (fun c23 => ?_) (fun c23 => ?_)
          · skip
            refine lv_iinc (v := nI (q + 1)) (lv' := [(2, .int (nI (q + 1))), (0, .ref h), (1, .int x)]) hx hb dX1_ranked_28 hl (k := 2) rfl (by rw [← nI_1]; rfl) (by decide) rfl (fun ls hl => ?_)
            refine lv_goto (tgt := 2) hx hb dX1_ranked_31 (by decide) ?_
            have hno2 : ∀ o, o < q + 1 → prP P K o = true → nI (bcP P K S Wt o) ≠ x := lt_s hno (by first | exact fun z => absurd z hpr | exact fun _ => c23)
            exact ih2 (q + 1) (by omega) (by omega) hno2 ls (lv_sub hl [1, 2, 0] rfl)
          · skip
            refine lv_iload_n hx hb dX1_ranked_26 rfl (lv_at hl 2 rfl) ?_
            exact hret _ _ _ (Or.inl ⟨q, by omega, hpr, c23, rfl⟩) rfl dX1_ranked_27
        · subst er1
          have hpr := cc1
          refine k_eqT (tgt := 28) hx hb dX1_ranked_14 (by decide) ?_
          refine lv_iinc (v := nI (q + 1)) (lv' := [(2, .int (nI (q + 1))), (0, .ref h), (1, .int x)]) hx hb dX1_ranked_28 hl (k := 2) rfl (by rw [← nI_1]; rfl) (by decide) rfl (fun ls hl => ?_)
          refine lv_goto (tgt := 2) hx hb dX1_ranked_31 (by decide) ?_
          have hno2 : ∀ o, o < q + 1 → prP P K o = true → nI (bcP P K S Wt o) ≠ x := lt_s hno (by first | exact fun z => absurd z hpr | exact fun _ => c23)
          exact ih2 (q + 1) (by omega) (by omega) hno2 ls (lv_sub hl [1, 2, 0] rfl)
  exact loop2 (144 + 1) 0 (by omega) (by omega) lt_0 ls (lv_sub hl [1, 2, 0] rfl)

set_option maxHeartbeats 4000000 in
set_option maxRecDepth 100000 in
theorem mc_ranked {p : Program} {l : Launch} {e : Env} {R : Room} {s : State} {m : MethodId} {args : Array Value} {below : List Frame} {meth : Method} {c : Code} {H : Heap} {locs : List Loc} {Q : State → Prop} {cc : ByteArray} {nL pc h : Nat} {a : Nat → Nat} {d : Nat → ClassId} {D : va_G} {A : Nat → Prop} {rest : List Value} {ls : Array Slot} {th K S Wt : Nat → Nat} {cu : Nat} {P : Nat → Nat} {x : Int32} (Y : CallFix p m c cc nL s args lw_all "BestPairsModel") (X : mX D A s h a d th K S Wt cu H locs) (hth : th = thF P) (hR : 3 ≤ R.frames ∧ 70 ≤ R.locals) (hls : ls.size = nL) (hW : (rest.map fun v => v.category).sum ≤ 8) (hdg : decode cc pc = .ok (.invokevirtual 42, 3)) (kk : ∀ r : Int32, (ansX P K S Wt (fun q => nI q) x) r → W p l e R s m args below meth c H locs 0 0 Q (F0 m (pc + 3) ls (.int r :: rest))) : W p l e R s m args below meth c H locs 0 0 Q (F0 m pc ls (.int x :: .ref h :: rest)) :=
  g_callR (C := "BestPairsModel") (ci := 1) (q0 := 0) (n := 1) (As := [.int x]) Y X (mt_ranked l D h a d th K S Wt cu P x hth) (lw_V q257 q259 qs17 q24 q260) (by decide +kernel) rfl hR rfl rfl rfl hls rfl hW hdg kk
set_option maxHeartbeats 4000000 in
set_option maxRecDepth 100000 in
theorem mt_shown (l : Launch) (D : va_G) (h : Nat) (a : Nat → Nat) (d : Nat → ClassId) (th K S Wt : Nat → Nat) (cu : Nat) (x : Int32) (hxv : x = -1 ∨ ∃ q, q < 144 ∧ x = nI q) : cR l yX1_shown cX1_shown 2 .int 0 0 [.ref h, .int x] (mAt D TT h a d th K S Wt cu) (fun r => (x = -1 ∧ r = -1) ∨ (∃ q, q < 144 ∧ x = nI q ∧ r = nI (cd q))) := by
  refine g_methR (own := "BestPairsModel") (by decide) rfl (Nat.le_of_ble_eq_true rfl) ?_
  intro p e R s m args below meth c Q Y hRf hRl hret ls hl X
  have hx := Y.1
  have hb := Y.2.1
  have hl : lv_has ls 2 [(0, .ref h), (1, .int x)] := hl
  rcases hxv with ex | ⟨q, hq, ex⟩
  · subst ex
    refine lv_iload_n hx hb dX1_shown_0 rfl (lv_at hl 1 rfl) ?_
    refine k_geM (tgt := 8) hx hb dX1_shown_1 (by decide) ?_
    refine lv_iconst (v := (-1)) hx hb dX1_shown_4 (by decide +kernel) ?_
    refine lv_goto (tgt := 20) hx hb dX1_shown_5 (by decide) ?_
    exact hret _ _ _ (Or.inl ⟨rfl, rfl⟩) rfl dX1_shown_20
  · subst ex
    refine lv_iload_n hx hb dX1_shown_0 rfl (lv_at hl 1 rfl) ?_
    refine n_if_geN (tgt := 8) hx hb dX1_shown_1 (by decide) (by omega) ?_
    refine lv_bipush (v := (nI 16)) hx hb dX1_shown_8 (by decide +kernel) ?_
    refine lv_iload_n hx hb dX1_shown_10 rfl (lv_at hl 1 rfl) ?_
    refine lv_bipush (v := (nI 12)) hx hb dX1_shown_11 (by decide +kernel) ?_
    refine n_idiv hx hb (by omega) (by decide) (by decide) dX1_shown_13 ?_
    refine n_imul (z := 16 * (q / 12)) hx hb (rfl) dX1_shown_14 ?_
    refine lv_iload_n hx hb dX1_shown_15 rfl (lv_at hl 1 rfl) ?_
    refine lv_bipush (v := (nI 12)) hx hb dX1_shown_16 (by decide +kernel) ?_
    refine n_irem hx hb (by omega) (by decide) (by decide) dX1_shown_18 ?_
    refine n_iadd (z := 16 * (q / 12) + (q % 12)) hx hb (rfl) dX1_shown_19 ?_
    exact hret _ _ _ (Or.inr ⟨q, hq, rfl, rfl⟩) rfl dX1_shown_20

set_option maxHeartbeats 4000000 in
set_option maxRecDepth 100000 in
theorem mc_shown {p : Program} {l : Launch} {e : Env} {R : Room} {s : State} {m : MethodId} {args : Array Value} {below : List Frame} {meth : Method} {c : Code} {H : Heap} {locs : List Loc} {Q : State → Prop} {cc : ByteArray} {nL pc h : Nat} {a : Nat → Nat} {d : Nat → ClassId} {D : va_G} {A : Nat → Prop} {rest : List Value} {ls : Array Slot} {th K S Wt : Nat → Nat} {cu : Nat} {x : Int32} (Y : CallFix p m c cc nL s args lw_all "BestPairsModel") (X : mX D A s h a d th K S Wt cu H locs) (hxv : x = -1 ∨ ∃ q, q < 144 ∧ x = nI q) (hR : 1 ≤ R.frames ∧ 21 ≤ R.locals) (hls : ls.size = nL) (hW : (rest.map fun v => v.category).sum ≤ 8) (hdg : decode cc pc = .ok (.invokevirtual 45, 3)) (kk : ∀ r : Int32, (fun r => (x = -1 ∧ r = -1) ∨ (∃ q, q < 144 ∧ x = nI q ∧ r = nI (cd q))) r → W p l e R s m args below meth c H locs 0 0 Q (F0 m (pc + 3) ls (.int r :: rest))) : W p l e R s m args below meth c H locs 0 0 Q (F0 m pc ls (.int x :: .ref h :: rest)) :=
  g_callR (C := "BestPairsModel") (ci := 1) (q0 := 0) (n := 1) (As := [.int x]) Y X (mt_shown l D h a d th K S Wt cu x hxv) (lw_V q273 q275 qs21 q24 q276) (by decide +kernel) rfl hR rfl rfl rfl hls rfl hW hdg kk
set_option maxHeartbeats 4000000 in
set_option maxRecDepth 100000 in
theorem mt_next (l : Launch) (D : va_G) (h : Nat) (a : Nat → Nat) (d : Nat → ClassId) (th K S Wt : Nat → Nat) (cu : Nat) (P : Nat → Nat) (hth : th = thF P) : cI (S := Nat) l yX1_next cX1_next 2 .int 3 70 [.ref h] (mAt D TT h a d th K S Wt cu) (mA h a) (fun (r : Int32) (u : Nat) => NxR P K S Wt cu r u) (fun u => mAt D (mA h a) h a d th K S Wt u) := by
  refine g_methI (own := "BestPairsModel") (by decide) rfl (Nat.le_of_ble_eq_true rfl) mA_in ?_
  intro p e R s m args below meth c Q Y hRf hRl hret ls hl X
  have hx := Y.1
  have hb := Y.2.1
  have hl : lv_has ls 2 [(0, .ref h)] := hl
  have hcu : cu ≤ 144 := X.1.2.2.2.2
  refine lv_aload_n hx hb dX1_next_0 rfl (lv_at hl 0 rfl) ?_
  refine lv_aload_n hx hb dX1_next_1 rfl (lv_at hl 0 rfl) ?_
  refine mg_4 Y X dX1_next_2 (fun bd2 => ?_)
  refine mc_ranked (x := (nI cu)) Y X hth ⟨by omega, by omega⟩ hl.1 (Nat.le_of_ble_eq_true rfl) dX1_next_5 (fun r1 hr1 => ?_)
  rcases hr1 with ⟨q, q1, q2, q3, er⟩ | ⟨q1, er⟩
  · subst er
    refine lv_istore_n (lv' := [(1, .int (nI q)), (0, .ref h)]) hx hb dX1_next_8 rfl hl (by decide) rfl (fun ls hl => ?_)
    refine lv_aload_n hx hb dX1_next_9 rfl (lv_at hl 1 rfl) ?_
    refine lv_iload_n hx hb dX1_next_10 rfl (lv_at hl 0 rfl) ?_
    refine n_if_geN (tgt := 21) hx hb dX1_next_11 (by decide) (by omega) ?_
    have hb3 := bcP_143 (K := K) (S := S) (W := Wt) q1 q2
    rw [nI_eq (by omega) (by omega)] at q3
    refine lv_aload_n hx hb dX1_next_21 rfl (lv_at hl 1 rfl) ?_
    refine mg_4 Y X dX1_next_22 (fun bd22 => ?_)
    refine lv_iconst (v := (nI 1)) hx hb dX1_next_25 (by decide +kernel) ?_
    refine n_iadd (z := cu + 1) hx hb (rfl) dX1_next_26 ?_
    refine mp_4 Y X (by omega) dX1_next_27 (fun H locs X => ?_)
    refine lv_aload_n hx hb dX1_next_30 rfl (lv_at hl 1 rfl) ?_
    refine lv_iload_n hx hb dX1_next_31 rfl (lv_at hl 0 rfl) ?_
    refine mc_shown (x := nI q) Y X (Or.inr ⟨q, q1, rfl⟩) ⟨by omega, by omega⟩ hl.1 (Nat.le_of_ble_eq_true rfl) dX1_next_32 (fun r2 hr2 => ?_)
    have er2 : r2 = nI (cd q) := by
      rcases hr2 with ⟨z, -⟩ | ⟨o, o1, o2, o3⟩
      · have z2 := nI_toInt (n := q) (by omega)
        rw [z] at z2
        have z3 : (-1 : Int32).toInt = -1 := by decide +kernel
        omega
      · rw [nI_eq (by omega) (by omega)] at o2
        rw [o3, o2]
    subst er2
    exact hret (cu + 1) _ _ _ _ _ X (Or.inl ⟨q, q1, q2, by rw [q3], rfl, rfl⟩) rfl dX1_next_35
  · subst er
    refine lv_istore_n (lv' := [(1, .int (-1)), (0, .ref h)]) hx hb dX1_next_8 rfl hl (by decide) rfl (fun ls hl => ?_)
    refine lv_aload_n hx hb dX1_next_9 rfl (lv_at hl 1 rfl) ?_
    refine lv_iload_n hx hb dX1_next_10 rfl (lv_at hl 0 rfl) ?_
    refine k_geM (tgt := 21) hx hb dX1_next_11 (by decide) ?_
    refine lv_aload_n hx hb dX1_next_14 rfl (lv_at hl 1 rfl) ?_
    refine mg_4 Y X dX1_next_15 (fun bd15 => ?_)
    refine lv_goto (tgt := 27) hx hb dX1_next_18 (by decide) ?_
    refine mp_4 Y X (by omega) dX1_next_27 (fun H locs X => ?_)
    refine lv_aload_n hx hb dX1_next_30 rfl (lv_at hl 1 rfl) ?_
    refine lv_iload_n hx hb dX1_next_31 rfl (lv_at hl 0 rfl) ?_
    refine mc_shown (x := -1) Y X (Or.inl rfl) ⟨by omega, by omega⟩ hl.1 (Nat.le_of_ble_eq_true rfl) dX1_next_32 (fun r3 hr3 => ?_)
    have er3 : r3 = -1 := by
      rcases hr3 with ⟨-, z⟩ | ⟨o, o1, o2, -⟩
      · exact z
      · have z2 := nI_toInt (n := o) (by omega)
        rw [← o2] at z2
        have z3 : (-1 : Int32).toInt = -1 := by decide +kernel
        omega
    subst er3
    exact hret cu _ _ _ _ _ X (Or.inr ⟨q1, rfl, rfl⟩) rfl dX1_next_35

set_option maxHeartbeats 4000000 in
set_option maxRecDepth 100000 in
theorem mt_passed (l : Launch) (D : va_G) (h : Nat) (a : Nat → Nat) (d : Nat → ClassId) (th K S Wt : Nat → Nat) (cu : Nat)   : cR l yX1_passed cX1_passed 1 .int 0 0 [.ref h] (mAt D TT h a d th K S Wt cu) (fun r => r = nI cu) := by
  refine g_methR (own := "BestPairsModel") (by decide) rfl (Nat.le_of_ble_eq_true rfl) ?_
  intro p e R s m args below meth c Q Y hRf hRl hret ls hl X
  have hx := Y.1
  have hb := Y.2.1
  have hl : lv_has ls 1 [(0, .ref h)] := hl
  refine lv_aload_n hx hb dX1_passed_0 rfl (lv_at hl 0 rfl) ?_
  refine mg_4 Y X dX1_passed_1 (fun bd1 => ?_)
  exact hret _ _ _ rfl rfl dX1_passed_4

set_option maxHeartbeats 4000000 in
set_option maxRecDepth 100000 in
theorem mt_rewind (l : Launch) (D : va_G) (h : Nat) (a : Nat → Nat) (d : Nat → ClassId) (th K S Wt : Nat → Nat) (cu : Nat)   : cV (S := Unit) l yX1_rewind cX1_rewind 1 0 0 [.ref h] (mAt D TT h a d th K S Wt cu) (mA h a) (fun (_ : Unit) => True) (fun u => mAt D (mA h a) h a d th K S Wt 0) := by
  refine g_methV (own := "BestPairsModel") (by decide) rfl (Nat.le_of_ble_eq_true rfl) mA_in ?_
  intro p e R s m args below meth c Q Y hRf hRl hret ls hl X
  have hx := Y.1
  have hb := Y.2.1
  have hl : lv_has ls 1 [(0, .ref h)] := hl
  refine lv_aload_n hx hb dX1_rewind_0 rfl (lv_at hl 0 rfl) ?_
  refine lv_iconst (v := (nI 0)) hx hb dX1_rewind_1 (by decide +kernel) ?_
  refine mp_4 Y X (by omega) dX1_rewind_2 (fun H locs X => ?_)
  exact hret () _ _ _ _ X trivial dX1_rewind_5

set_option maxHeartbeats 4000000 in
set_option maxRecDepth 100000 in
theorem mt_lastValue (l : Launch) (D : va_G) (h : Nat) (a : Nat → Nat) (d : Nat → ClassId) (th K S Wt : Nat → Nat) (cu : Nat) (P : Nat → Nat) (hth : th = thF P) : cR l yX1_lastValue cX1_lastValue 2 .int 3 70 [.ref h] (mAt D TT h a d th K S Wt cu) (ansX P K S Wt (fun p => nI (valP Wt S p)) (nI cu - 1)) := by
  refine g_methR (own := "BestPairsModel") (by decide) rfl (Nat.le_of_ble_eq_true rfl) ?_
  intro p e R s m args below meth c Q Y hRf hRl hret ls hl X
  have hx := Y.1
  have hb := Y.2.1
  have hl : lv_has ls 2 [(0, .ref h)] := hl
  refine lv_aload_n hx hb dX1_lastValue_0 rfl (lv_at hl 0 rfl) ?_
  refine lv_aload_n hx hb dX1_lastValue_1 rfl (lv_at hl 0 rfl) ?_
  refine mg_4 Y X dX1_lastValue_2 (fun bd2 => ?_)
  refine lv_iconst (v := 1) hx hb dX1_lastValue_5 (by decide +kernel) ?_
  refine lv_isub hx hb dX1_lastValue_6 ?_
  refine mc_ranked (x := ((nI cu) - 1)) Y X hth ⟨by omega, by omega⟩ hl.1 (Nat.le_of_ble_eq_true rfl) dX1_lastValue_7 (fun r1 hr1 => ?_)
  rcases hr1 with ⟨q, q1, q2, q3, er⟩ | ⟨q1, er⟩
  · subst er
    refine lv_istore_n (lv' := [(1, .int (nI q)), (0, .ref h)]) hx hb dX1_lastValue_10 rfl hl (by decide) rfl (fun ls hl => ?_)
    refine lv_iload_n hx hb dX1_lastValue_11 rfl (lv_at hl 0 rfl) ?_
    refine n_if_geN (tgt := 19) hx hb dX1_lastValue_12 (by decide) (by omega) ?_
    refine lv_aload_n hx hb dX1_lastValue_19 rfl (lv_at hl 1 rfl) ?_
    refine lv_iload_n hx hb dX1_lastValue_20 rfl (lv_at hl 0 rfl) ?_
    refine mc_value Y X (by omega) ⟨by omega, by omega⟩ hl.1 (Nat.le_of_ble_eq_true rfl) dX1_lastValue_21 (fun r2 hr2 => ?_)
    subst hr2
    exact hret _ _ _ (Or.inl ⟨q, q1, q2, q3, rfl⟩) rfl dX1_lastValue_24
  · subst er
    refine lv_istore_n (lv' := [(1, .int (-1)), (0, .ref h)]) hx hb dX1_lastValue_10 rfl hl (by decide) rfl (fun ls hl => ?_)
    refine lv_iload_n hx hb dX1_lastValue_11 rfl (lv_at hl 0 rfl) ?_
    refine k_geM (tgt := 19) hx hb dX1_lastValue_12 (by decide) ?_
    refine lv_iconst (v := (-1)) hx hb dX1_lastValue_15 (by decide +kernel) ?_
    refine lv_goto (tgt := 24) hx hb dX1_lastValue_16 (by decide) ?_
    exact hret _ _ _ (Or.inr ⟨q1, rfl⟩) rfl dX1_lastValue_24

set_option maxHeartbeats 4000000 in
set_option maxRecDepth 100000 in
theorem mt_pairAt (l : Launch) (D : va_G) (h : Nat) (a : Nat → Nat) (d : Nat → ClassId) (th K S Wt : Nat → Nat) (cu : Nat) (P : Nat → Nat) (x : Int32) (hth : th = thF P) : cR l yX1_pairAt cX1_pairAt 3 .int 3 70 [.ref h, .int x] (mAt D TT h a d th K S Wt cu) (ansX P K S Wt (fun p => nI (cd p)) x) := by
  refine g_methR (own := "BestPairsModel") (by decide) rfl (Nat.le_of_ble_eq_true rfl) ?_
  intro p e R s m args below meth c Q Y hRf hRl hret ls hl X
  have hx := Y.1
  have hb := Y.2.1
  have hl : lv_has ls 3 [(0, .ref h), (1, .int x)] := hl
  refine lv_aload_n hx hb dX1_pairAt_0 rfl (lv_at hl 0 rfl) ?_
  refine lv_iload_n hx hb dX1_pairAt_1 rfl (lv_at hl 1 rfl) ?_
  refine mc_ranked (x := x) Y X hth ⟨by omega, by omega⟩ hl.1 (Nat.le_of_ble_eq_true rfl) dX1_pairAt_2 (fun r1 hr1 => ?_)
  rcases hr1 with ⟨q, q1, q2, q3, er⟩ | ⟨q1, er⟩
  · subst er
    refine lv_istore_n (lv' := [(2, .int (nI q)), (0, .ref h), (1, .int x)]) hx hb dX1_pairAt_5 rfl hl (by decide) rfl (fun ls hl => ?_)
    refine lv_aload_n hx hb dX1_pairAt_6 rfl (lv_at hl 1 rfl) ?_
    refine lv_iload_n hx hb dX1_pairAt_7 rfl (lv_at hl 0 rfl) ?_
    refine mc_shown (x := nI q) Y X (Or.inr ⟨q, q1, rfl⟩) ⟨by omega, by omega⟩ hl.1 (Nat.le_of_ble_eq_true rfl) dX1_pairAt_8 (fun r2 hr2 => ?_)
    have er2 : r2 = nI (cd q) := by
      rcases hr2 with ⟨z, -⟩ | ⟨o, o1, o2, o3⟩
      · have z2 := nI_toInt (n := q) (by omega)
        rw [z] at z2
        have z3 : (-1 : Int32).toInt = -1 := by decide +kernel
        omega
      · rw [nI_eq (by omega) (by omega)] at o2
        rw [o3, o2]
    subst er2
    exact hret _ _ _ (Or.inl ⟨q, q1, q2, q3, rfl⟩) rfl dX1_pairAt_11
  · subst er
    refine lv_istore_n (lv' := [(2, .int (-1)), (0, .ref h), (1, .int x)]) hx hb dX1_pairAt_5 rfl hl (by decide) rfl (fun ls hl => ?_)
    refine lv_aload_n hx hb dX1_pairAt_6 rfl (lv_at hl 1 rfl) ?_
    refine lv_iload_n hx hb dX1_pairAt_7 rfl (lv_at hl 0 rfl) ?_
    refine mc_shown (x := -1) Y X (Or.inl rfl) ⟨by omega, by omega⟩ hl.1 (Nat.le_of_ble_eq_true rfl) dX1_pairAt_8 (fun r3 hr3 => ?_)
    have er3 : r3 = -1 := by
      rcases hr3 with ⟨-, z⟩ | ⟨o, o1, o2, -⟩
      · exact z
      · have z2 := nI_toInt (n := o) (by omega)
        rw [← o2] at z2
        have z3 : (-1 : Int32).toInt = -1 := by decide +kernel
        omega
    subst er3
    exact hret _ _ _ (Or.inr ⟨q1, rfl⟩) rfl dX1_pairAt_11

set_option maxHeartbeats 4000000 in
set_option maxRecDepth 100000 in
theorem mt_pairs (l : Launch) (D : va_G) (h : Nat) (a : Nat → Nat) (d : Nat → ClassId) (th K S Wt : Nat → Nat) (cu : Nat) (P : Nat → Nat) (hth : th = thF P) : cR l yX1_pairs cX1_pairs 3 .int 1 23 [.ref h] (mAt D TT h a d th K S Wt cu) (fun r => r = nI (cnt (prP P K) 144)) := by
  refine g_methR (own := "BestPairsModel") (by decide) rfl (Nat.le_of_ble_eq_true rfl) ?_
  intro p e R s m args below meth c Q Y hRf hRl hret ls hl X
  have hx := Y.1
  have hb := Y.2.1
  have hl : lv_has ls 3 [(0, .ref h)] := hl
  refine lv_iconst (v := (nI 0)) hx hb dX1_pairs_0 (by decide +kernel) ?_
  refine lv_istore_n (lv' := [(1, .int (nI 0)), (0, .ref h)]) hx hb dX1_pairs_1 rfl hl (by decide) rfl (fun ls hl => ?_)
  refine lv_iconst (v := (nI 0)) hx hb dX1_pairs_2 (by decide +kernel) ?_
  refine lv_istore_n (lv' := [(2, .int (nI 0)), (1, .int (nI 0)), (0, .ref h)]) hx hb dX1_pairs_3 rfl hl (by decide) rfl (fun ls hl => ?_)
  have loop4 : ∀ (fuel4 : Nat) (o : Nat), 144 - o < fuel4 → o ≤ 144 → ∀ ls : Array Slot, lv_has ls 3 [(0, .ref h), (1, .int (nI (cnt (prP P K) o))), (2, .int (nI o))] → W p l e R s m args below meth c s.heap [] 0 0 Q (F0 m 4 ls []) := by
    intro fuel4
    induction fuel4 with
    | zero =>
      intro o hfu4
      exact absurd hfu4 (Nat.not_lt_zero _)
    | succ fuel4 ih4 =>
      intro o hfu4 ho ls hl
      refine lv_iload_n hx hb dX1_pairs_4 rfl (lv_at hl 2 rfl) ?_
      refine lv_sipush (v := (nI 144)) hx hb dX1_pairs_5 (by decide +kernel) ?_
      refine n_icmp_ge (tgt := 33) hx hb dX1_pairs_8 (by decide) (by omega) (by omega) (fun c8 => ?_) (fun c8 => ?_)
      · skip
        refine lv_iload_n hx hb dX1_pairs_33 rfl (lv_at hl 1 rfl) ?_
        have eo : o = 144 := by omega
        subst eo
        exact hret _ _ _ rfl rfl dX1_pairs_34
      · skip
        refine lv_aload_n hx hb dX1_pairs_11 rfl (lv_at hl 0 rfl) ?_
        refine lv_iload_n hx hb dX1_pairs_12 rfl (lv_at hl 2 rfl) ?_
        refine mc_pair Y X hth (by omega) ⟨by omega, by omega⟩ hl.1 (Nat.le_of_ble_eq_true rfl) dX1_pairs_13 (fun r1 hr1 => ?_)
        rcases hr1 with ⟨cc1, er1⟩ | ⟨cc1, er1⟩
        · subst er1
          have hpr := cc1
          refine k_eqF (tgt := 25) hx hb dX1_pairs_16 (by decide) ?_
          refine lv_iload_n hx hb dX1_pairs_19 rfl (lv_at hl 1 rfl) ?_
          refine lv_iconst (v := (nI 1)) hx hb dX1_pairs_20 (by decide +kernel) ?_
          refine n_iadd (z := cnt (prP P K) o + 1) hx hb (rfl) dX1_pairs_21 ?_
          refine lv_goto (tgt := 26) hx hb dX1_pairs_22 (by decide) ?_
          refine lv_istore_n (lv' := [(1, .int (nI (cnt (prP P K) o + 1))), (0, .ref h), (2, .int (nI o))]) hx hb dX1_pairs_26 rfl hl (by decide) rfl (fun ls hl => ?_)
          refine lv_iinc (v := nI (o + 1)) (lv' := [(2, .int (nI (o + 1))), (1, .int (nI (cnt (prP P K) o + 1))), (0, .ref h)]) hx hb dX1_pairs_27 hl (k := 2) rfl (by rw [← nI_1]; rfl) (by decide) rfl (fun ls hl => ?_)
          refine lv_goto (tgt := 4) hx hb dX1_pairs_30 (by decide) ?_
          have ew : cnt (prP P K) (o + 1) = cnt (prP P K) o + 1 := by
            show cnt (prP P K) o + (if prP P K o = true then 1 else 0) = _
            rw [if_pos hpr]
          rw [← ew] at hl
          exact ih4 (o + 1) (by omega) (by omega) ls (lv_sub hl [2, 1, 0] rfl)
        · subst er1
          have hpr := cc1
          refine k_eqT (tgt := 25) hx hb dX1_pairs_16 (by decide) ?_
          refine lv_iload_n hx hb dX1_pairs_25 rfl (lv_at hl 1 rfl) ?_
          refine lv_istore_n (lv' := [(1, .int (nI (cnt (prP P K) o))), (0, .ref h), (2, .int (nI o))]) hx hb dX1_pairs_26 rfl hl (by decide) rfl (fun ls hl => ?_)
          refine lv_iinc (v := nI (o + 1)) (lv' := [(2, .int (nI (o + 1))), (1, .int (nI (cnt (prP P K) o))), (0, .ref h)]) hx hb dX1_pairs_27 hl (k := 2) rfl (by rw [← nI_1]; rfl) (by decide) rfl (fun ls hl => ?_)
          refine lv_goto (tgt := 4) hx hb dX1_pairs_30 (by decide) ?_
          have ew : cnt (prP P K) (o + 1) = cnt (prP P K) o := by
            show cnt (prP P K) o + (if prP P K o = true then 1 else 0) = _
            rw [if_neg hpr]; rfl
          rw [← ew] at hl
          exact ih4 (o + 1) (by omega) (by omega) ls (lv_sub hl [2, 1, 0] rfl)
  exact loop4 (144 + 1) 0 (by omega) (by omega) ls (lv_sub hl [2, 1, 0] rfl)

set_option maxHeartbeats 4000000 in
set_option maxRecDepth 100000 in
theorem mt_atLeast (l : Launch) (D : va_G) (h : Nat) (a : Nat → Nat) (d : Nat → ClassId) (th K S Wt : Nat → Nat) (cu : Nat) (P : Nat → Nat) (x : Int32) (hth : th = thF P) : cR l yX1_atLeast cX1_atLeast 4 .int 1 23 [.ref h, .int x] (mAt D TT h a d th K S Wt cu) (fun r => r = nI (cnt (fun p => prP P K p && decide (x.toInt ≤ (valP Wt S p : Int))) 144)) := by
  refine g_methR (own := "BestPairsModel") (by decide) rfl (Nat.le_of_ble_eq_true rfl) ?_
  intro p e R s m args below meth c Q Y hRf hRl hret ls hl X
  have hx := Y.1
  have hb := Y.2.1
  have hl : lv_has ls 4 [(0, .ref h), (1, .int x)] := hl
  refine lv_iconst (v := (nI 0)) hx hb dX1_atLeast_0 (by decide +kernel) ?_
  refine lv_istore_n (lv' := [(2, .int (nI 0)), (0, .ref h), (1, .int x)]) hx hb dX1_atLeast_1 rfl hl (by decide) rfl (fun ls hl => ?_)
  refine lv_iconst (v := (nI 0)) hx hb dX1_atLeast_2 (by decide +kernel) ?_
  refine lv_istore_n (lv' := [(3, .int (nI 0)), (2, .int (nI 0)), (0, .ref h), (1, .int x)]) hx hb dX1_atLeast_3 rfl hl (by decide) rfl (fun ls hl => ?_)
  have loop4 : ∀ (fuel4 : Nat) (o : Nat), 144 - o < fuel4 → o ≤ 144 → ∀ ls : Array Slot, lv_has ls 4 [(0, .ref h), (1, .int x), (2, .int (nI (cnt (fun p => prP P K p && decide (x.toInt ≤ (valP Wt S p : Int))) o))), (3, .int (nI o))] → W p l e R s m args below meth c s.heap [] 0 0 Q (F0 m 4 ls []) := by
    intro fuel4
    induction fuel4 with
    | zero =>
      intro o hfu4
      exact absurd hfu4 (Nat.not_lt_zero _)
    | succ fuel4 ih4 =>
      intro o hfu4 ho ls hl
      refine lv_iload_n hx hb dX1_atLeast_4 rfl (lv_at hl 3 rfl) ?_
      refine lv_sipush (v := (nI 144)) hx hb dX1_atLeast_5 (by decide +kernel) ?_
      refine n_icmp_ge (tgt := 42) hx hb dX1_atLeast_8 (by decide) (by omega) (by omega) (fun c8 => ?_) (fun c8 => ?_)
      · skip
        refine lv_iload_n hx hb dX1_atLeast_42 rfl (lv_at hl 2 rfl) ?_
        have eo : o = 144 := by omega
        subst eo
        exact hret _ _ _ rfl rfl dX1_atLeast_43
      · skip
        refine lv_aload_n hx hb dX1_atLeast_11 rfl (lv_at hl 0 rfl) ?_
        refine lv_iload_n hx hb dX1_atLeast_12 rfl (lv_at hl 3 rfl) ?_
        refine mc_pair Y X hth (by omega) ⟨by omega, by omega⟩ hl.1 (Nat.le_of_ble_eq_true rfl) dX1_atLeast_13 (fun r1 hr1 => ?_)
        rcases hr1 with ⟨cc1, er1⟩ | ⟨cc1, er1⟩
        · subst er1
          have hpr := cc1
          refine k_eqF (tgt := 34) hx hb dX1_atLeast_16 (by decide) ?_
          refine lv_aload_n hx hb dX1_atLeast_19 rfl (lv_at hl 0 rfl) ?_
          refine lv_iload_n hx hb dX1_atLeast_20 rfl (lv_at hl 3 rfl) ?_
          refine mc_value Y X (by omega) ⟨by omega, by omega⟩ hl.1 (Nat.le_of_ble_eq_true rfl) dX1_atLeast_21 (fun r2 hr2 => ?_)
          subst hr2
          have hv := valP_le X.1.2.2.2.1 X.1.2.2.1 o
          have hvi : (nI (valP Wt S o)).toInt = (valP Wt S o : Int) := nI_toInt (by omega)
          refine lv_iload_n hx hb dX1_atLeast_24 rfl (lv_at hl 1 rfl) ?_
          refine i_icmp_lt (tgt := 34) hx hb dX1_atLeast_25 (by decide) (fun c25 => ?_) (fun c25 => ?_)
          · skip
            refine lv_iload_n hx hb dX1_atLeast_34 rfl (lv_at hl 2 rfl) ?_
            refine lv_istore_n (lv' := [(2, .int (nI (cnt (fun p => prP P K p && decide (x.toInt ≤ (valP Wt S p : Int))) o))), (0, .ref h), (1, .int x), (3, .int (nI o))]) hx hb dX1_atLeast_35 rfl hl (by decide) rfl (fun ls hl => ?_)
            refine lv_iinc (v := nI (o + 1)) (lv' := [(3, .int (nI (o + 1))), (2, .int (nI (cnt (fun p => prP P K p && decide (x.toInt ≤ (valP Wt S p : Int))) o))), (0, .ref h), (1, .int x)]) hx hb dX1_atLeast_36 hl (k := 3) rfl (by rw [← nI_1]; rfl) (by decide) rfl (fun ls hl => ?_)
            refine lv_goto (tgt := 4) hx hb dX1_atLeast_39 (by decide) ?_
            have ew : cnt (fun p => prP P K p && decide (x.toInt ≤ (valP Wt S p : Int))) (o + 1) = cnt (fun p => prP P K p && decide (x.toInt ≤ (valP Wt S p : Int))) o := by
              show cnt (fun p => prP P K p && decide (x.toInt ≤ (valP Wt S p : Int))) o + (if (prP P K o && decide (x.toInt ≤ (valP Wt S o : Int))) = true then 1 else 0) = _
              rw [if_neg (by rw [Bool.and_eq_true, decide_eq_true_eq]; rintro ⟨z1, z2⟩; first | exact hpr z1 | omega)]; rfl
            rw [← ew] at hl
            exact ih4 (o + 1) (by omega) (by omega) ls (lv_sub hl [2, 3, 1, 0] rfl)
          · skip
            refine lv_iload_n hx hb dX1_atLeast_28 rfl (lv_at hl 2 rfl) ?_
            refine lv_iconst (v := (nI 1)) hx hb dX1_atLeast_29 (by decide +kernel) ?_
            refine n_iadd (z := cnt (fun p => prP P K p && decide (x.toInt ≤ (valP Wt S p : Int))) o + 1) hx hb (rfl) dX1_atLeast_30 ?_
            refine lv_goto (tgt := 35) hx hb dX1_atLeast_31 (by decide) ?_
            refine lv_istore_n (lv' := [(2, .int (nI (cnt (fun p => prP P K p && decide (x.toInt ≤ (valP Wt S p : Int))) o + 1))), (0, .ref h), (1, .int x), (3, .int (nI o))]) hx hb dX1_atLeast_35 rfl hl (by decide) rfl (fun ls hl => ?_)
            refine lv_iinc (v := nI (o + 1)) (lv' := [(3, .int (nI (o + 1))), (2, .int (nI (cnt (fun p => prP P K p && decide (x.toInt ≤ (valP Wt S p : Int))) o + 1))), (0, .ref h), (1, .int x)]) hx hb dX1_atLeast_36 hl (k := 3) rfl (by rw [← nI_1]; rfl) (by decide) rfl (fun ls hl => ?_)
            refine lv_goto (tgt := 4) hx hb dX1_atLeast_39 (by decide) ?_
            have ew : cnt (fun p => prP P K p && decide (x.toInt ≤ (valP Wt S p : Int))) (o + 1) = cnt (fun p => prP P K p && decide (x.toInt ≤ (valP Wt S p : Int))) o + 1 := by
              show cnt (fun p => prP P K p && decide (x.toInt ≤ (valP Wt S p : Int))) o + (if (prP P K o && decide (x.toInt ≤ (valP Wt S o : Int))) = true then 1 else 0) = _
              rw [if_pos (by rw [Bool.and_eq_true, decide_eq_true_eq]; exact ⟨hpr, by omega⟩)]
            rw [← ew] at hl
            exact ih4 (o + 1) (by omega) (by omega) ls (lv_sub hl [2, 3, 1, 0] rfl)
        · subst er1
          have hpr := cc1
          refine k_eqT (tgt := 34) hx hb dX1_atLeast_16 (by decide) ?_
          refine lv_iload_n hx hb dX1_atLeast_34 rfl (lv_at hl 2 rfl) ?_
          refine lv_istore_n (lv' := [(2, .int (nI (cnt (fun p => prP P K p && decide (x.toInt ≤ (valP Wt S p : Int))) o))), (0, .ref h), (1, .int x), (3, .int (nI o))]) hx hb dX1_atLeast_35 rfl hl (by decide) rfl (fun ls hl => ?_)
          refine lv_iinc (v := nI (o + 1)) (lv' := [(3, .int (nI (o + 1))), (2, .int (nI (cnt (fun p => prP P K p && decide (x.toInt ≤ (valP Wt S p : Int))) o))), (0, .ref h), (1, .int x)]) hx hb dX1_atLeast_36 hl (k := 3) rfl (by rw [← nI_1]; rfl) (by decide) rfl (fun ls hl => ?_)
          refine lv_goto (tgt := 4) hx hb dX1_atLeast_39 (by decide) ?_
          have ew : cnt (fun p => prP P K p && decide (x.toInt ≤ (valP Wt S p : Int))) (o + 1) = cnt (fun p => prP P K p && decide (x.toInt ≤ (valP Wt S p : Int))) o := by
            show cnt (fun p => prP P K p && decide (x.toInt ≤ (valP Wt S p : Int))) o + (if (prP P K o && decide (x.toInt ≤ (valP Wt S o : Int))) = true then 1 else 0) = _
            rw [if_neg (by rw [Bool.and_eq_true, decide_eq_true_eq]; rintro ⟨z1, z2⟩; first | exact hpr z1 | omega)]; rfl
          rw [← ew] at hl
          exact ih4 (o + 1) (by omega) (by omega) ls (lv_sub hl [2, 3, 1, 0] rfl)
  exact loop4 (144 + 1) 0 (by omega) (by omega) ls (lv_sub hl [2, 3, 1, 0] rfl)

set_option maxHeartbeats 4000000 in
set_option maxRecDepth 100000 in
theorem mt_bestPlace (l : Launch) (D : va_G) (h : Nat) (a : Nat → Nat) (d : Nat → ClassId) (th K S Wt : Nat → Nat) (cu : Nat) (P : Nat → Nat) (x y : Int32) (hth : th = thF P) : cR l yX1_bestPlace cX1_bestPlace 6 .int 2 48 [.ref h, .int x, .int y] (mAt D TT h a d th K S Wt cu) (fun r => (¬ hasP P x y ∧ r = -1) ∨ (∃ b n, b < 2 ∧ n < 12 ∧ x = nI b ∧ y = nI n ∧ (P b).testBit n = true ∧ ansB P K S Wt (fun p => decide ((if b = 0 then p / 12 else p % 12) = n)) r)) := by
  refine g_methR (own := "BestPairsModel") (by decide) rfl (Nat.le_of_ble_eq_true rfl) ?_
  intro p e R s m args below meth c Q Y hRf hRl hret ls hl X
  have hx := Y.1
  have hb := Y.2.1
  have hl : lv_has ls 6 [(0, .ref h), (1, .int x), (2, .int y)] := hl
  rcases Classical.em (hasP P x y) with hv | hv
  · skip
    obtain ⟨b, n, hb2, hn12, eb, en, hbit⟩ := hv
    subst eb
    subst en
    refine lv_iconst (v := (-1)) hx hb dX1_bestPlace_0 (by decide +kernel) ?_
    refine lv_istore_n (lv' := [(3, .int (-1)), (0, .ref h), (1, .int (nI b)), (2, .int (nI n))]) hx hb dX1_bestPlace_1 rfl hl (by decide) rfl (fun ls hl => ?_)
    refine lv_iconst (v := (nI 0)) hx hb dX1_bestPlace_2 (by decide +kernel) ?_
    refine lv_istore (lv' := [(4, .int (nI 0)), (3, .int (-1)), (0, .ref h), (1, .int (nI b)), (2, .int (nI n))]) hx hb dX1_bestPlace_3 hl (by decide) rfl (fun ls hl => ?_)
    have loop5 : ∀ (fuel5 : Nat) (q : Nat) (r : Int32), 144 - q < fuel5 → q ≤ 144 → ansBp P K S Wt (fun p => decide ((if b = 0 then p / 12 else p % 12) = n)) q r → ∀ ls : Array Slot, lv_has ls 6 [(0, .ref h), (1, .int (nI b)), (2, .int (nI n)), (3, .int r), (4, .int (nI q))] → W p l e R s m args below meth c s.heap [] 0 0 Q (F0 m 5 ls []) := by
      intro fuel5
      induction fuel5 with
      | zero =>
        intro q r hfu5
        exact absurd hfu5 (Nat.not_lt_zero _)
      | succ fuel5 ih5 =>
        intro q r hfu5 hq hab ls hl
        have hab0 := hab
        rcases hab0 with ⟨q0, a0, a2, a3, a4, er⟩ | ⟨a1, er⟩
        · subst er
          have hq0 := bcP_le P K S Wt q0
          refine lv_iload hx hb dX1_bestPlace_5 (lv_at hl 4 rfl) ?_
          refine lv_sipush (v := (nI 144)) hx hb dX1_bestPlace_7 (by decide +kernel) ?_
          refine n_icmp_ge (tgt := 83) hx hb dX1_bestPlace_10 (by decide) (by omega) (by omega) (fun c10 => ?_) (fun c10 => ?_)
          · skip
            refine lv_iload_n hx hb dX1_bestPlace_83 rfl (lv_at hl 3 rfl) ?_
            have eq1 : q = 144 := by omega
            subst eq1
            exact hret _ _ _ (Or.inr ⟨b, n, hb2, hn12, rfl, rfl, hbit, hab⟩) rfl dX1_bestPlace_84
          · skip
            refine lv_aload_n hx hb dX1_bestPlace_13 rfl (lv_at hl 0 rfl) ?_
            refine lv_iload_n hx hb dX1_bestPlace_14 rfl (lv_at hl 1 rfl) ?_
            refine lv_iload_n hx hb dX1_bestPlace_15 rfl (lv_at hl 2 rfl) ?_
            refine mc_entry Y X hth ⟨by omega, by omega⟩ hl.1 (Nat.le_of_ble_eq_true rfl) dX1_bestPlace_16 (fun r1 hr1 => ?_)
            rcases hr1 with ⟨cc1, er1⟩ | ⟨cc1, er1⟩
            · subst er1
              refine k_eqF (tgt := 83) hx hb dX1_bestPlace_19 (by decide) ?_
              refine lv_aload_n hx hb dX1_bestPlace_22 rfl (lv_at hl 0 rfl) ?_
              refine lv_iload hx hb dX1_bestPlace_23 (lv_at hl 4 rfl) ?_
              refine mc_pair Y X hth (by omega) ⟨by omega, by omega⟩ hl.1 (Nat.le_of_ble_eq_true rfl) dX1_bestPlace_25 (fun r2 hr2 => ?_)
              rcases hr2 with ⟨cc2, er2⟩ | ⟨cc2, er2⟩
              · subst er2
                have hpr := cc2
                refine k_eqF (tgt := 77) hx hb dX1_bestPlace_28 (by decide) ?_
                refine lv_iload_n hx hb dX1_bestPlace_31 rfl (lv_at hl 1 rfl) ?_
                refine n_if_ne (tgt := 43) hx hb dX1_bestPlace_32 (by decide) (by omega) (fun c32 => ?_) (fun c32 => ?_)
                · skip
                  refine lv_iload hx hb dX1_bestPlace_43 (lv_at hl 4 rfl) ?_
                  refine lv_bipush (v := (nI 12)) hx hb dX1_bestPlace_45 (by decide +kernel) ?_
                  refine n_irem hx hb (by omega) (by decide) (by decide) dX1_bestPlace_47 ?_
                  refine lv_iload_n hx hb dX1_bestPlace_48 rfl (lv_at hl 2 rfl) ?_
                  refine n_icmp_ne (tgt := 77) hx hb dX1_bestPlace_49 (by decide) (by omega) (by omega) (fun c49 => ?_) (fun c49 => ?_)
                  · skip
                    refine lv_iinc (v := nI (q + 1)) (lv' := [(4, .int (nI (q + 1))), (0, .ref h), (1, .int (nI b)), (2, .int (nI n)), (3, .int (nI (bcP P K S Wt q0)))]) hx hb dX1_bestPlace_77 hl (k := 4) rfl (by rw [← nI_1]; rfl) (by decide) rfl (fun ls hl => ?_)
                    refine lv_goto (tgt := 5) hx hb dX1_bestPlace_80 (by decide) ?_
                    have hnew : ansBp P K S Wt (fun p => decide ((if b = 0 then p / 12 else p % 12) = n)) (q + 1) (nI (bcP P K S Wt q0)) := hab.skip (fun z => by
                      first
                        | exact absurd z hpr
                        | (apply decide_eq_false; first | (rw [if_pos c32]; exact c49) | (rw [if_neg c32]; exact c49)))
                    exact ih5 (q + 1) (nI (bcP P K S Wt q0)) (by omega) (by omega) hnew ls (lv_sub hl [1, 2, 3, 4, 0] rfl)
                  · skip
                    refine lv_aload_n hx hb dX1_bestPlace_52 rfl (lv_at hl 0 rfl) ?_
                    refine lv_iload hx hb dX1_bestPlace_53 (lv_at hl 4 rfl) ?_
                    refine mc_before Y X hth (by omega) ⟨by omega, by omega⟩ hl.1 (Nat.le_of_ble_eq_true rfl) dX1_bestPlace_55 (fun r3 hr3 => ?_)
                    subst hr3
                    refine lv_istore (lv' := [(5, .int (nI (bcP P K S Wt q))), (0, .ref h), (1, .int (nI b)), (2, .int (nI n)), (3, .int (nI (bcP P K S Wt q0))), (4, .int (nI q))]) hx hb dX1_bestPlace_58 hl (by decide) rfl (fun ls hl => ?_)
                    have hbq := bcP_le P K S Wt q
                    refine lv_iload_n hx hb dX1_bestPlace_60 rfl (lv_at hl 4 rfl) ?_
                    refine n_if_ltN (tgt := 70) hx hb dX1_bestPlace_61 (by decide) (by omega) ?_
                    refine lv_iload hx hb dX1_bestPlace_64 (lv_at hl 0 rfl) ?_
                    refine lv_iload_n hx hb dX1_bestPlace_66 rfl (lv_at hl 4 rfl) ?_
                    refine n_icmp_ge (tgt := 75) hx hb dX1_bestPlace_67 (by decide) (by omega) (by omega) (fun c67 => ?_) (fun c67 => ?_)
                    · skip
                      refine lv_iload_n hx hb dX1_bestPlace_75 rfl (lv_at hl 4 rfl) ?_
                      refine lv_istore_n (lv' := [(3, .int (nI (bcP P K S Wt q0))), (5, .int (nI (bcP P K S Wt q))), (0, .ref h), (1, .int (nI b)), (2, .int (nI n)), (4, .int (nI q))]) hx hb dX1_bestPlace_76 rfl hl (by decide) rfl (fun ls hl => ?_)
                      refine lv_iinc (v := nI (q + 1)) (lv' := [(4, .int (nI (q + 1))), (3, .int (nI (bcP P K S Wt q0))), (5, .int (nI (bcP P K S Wt q))), (0, .ref h), (1, .int (nI b)), (2, .int (nI n))]) hx hb dX1_bestPlace_77 hl (k := 5) rfl (by rw [← nI_1]; rfl) (by decide) rfl (fun ls hl => ?_)
                      refine lv_goto (tgt := 5) hx hb dX1_bestPlace_80 (by decide) ?_
                      have hnew := ansBp.more a0 a2 a3 a4 (by omega)
                      exact ih5 (q + 1) (nI (bcP P K S Wt q0)) (by omega) (by omega) hnew ls (lv_sub hl [3, 4, 5, 1, 0] rfl)
                    · skip
                      refine lv_iload hx hb dX1_bestPlace_70 (lv_at hl 0 rfl) ?_
                      refine lv_goto (tgt := 76) hx hb dX1_bestPlace_72 (by decide) ?_
                      refine lv_istore_n (lv' := [(3, .int (nI (bcP P K S Wt q))), (5, .int (nI (bcP P K S Wt q))), (0, .ref h), (1, .int (nI b)), (2, .int (nI n)), (4, .int (nI q))]) hx hb dX1_bestPlace_76 rfl hl (by decide) rfl (fun ls hl => ?_)
                      refine lv_iinc (v := nI (q + 1)) (lv' := [(4, .int (nI (q + 1))), (3, .int (nI (bcP P K S Wt q))), (5, .int (nI (bcP P K S Wt q))), (0, .ref h), (1, .int (nI b)), (2, .int (nI n))]) hx hb dX1_bestPlace_77 hl (k := 5) rfl (by rw [← nI_1]; rfl) (by decide) rfl (fun ls hl => ?_)
                      refine lv_goto (tgt := 5) hx hb dX1_bestPlace_80 (by decide) ?_
                      have hT : (fun p => decide ((if b = 0 then p / 12 else p % 12) = n)) q = true := by
                        apply decide_eq_true
                        first | (rw [if_pos c32]; exact c49) | (rw [if_neg c32]; exact c49)
                      have hnew := ansBp.less a4 hpr hT (by omega)
                      exact ih5 (q + 1) (nI (bcP P K S Wt q)) (by omega) (by omega) hnew ls (lv_sub hl [3, 4, 5, 1, 0] rfl)
                · skip
                  refine lv_iload hx hb dX1_bestPlace_35 (lv_at hl 4 rfl) ?_
                  refine lv_bipush (v := (nI 12)) hx hb dX1_bestPlace_37 (by decide +kernel) ?_
                  refine n_idiv hx hb (by omega) (by decide) (by decide) dX1_bestPlace_39 ?_
                  refine lv_goto (tgt := 48) hx hb dX1_bestPlace_40 (by decide) ?_
                  refine lv_iload_n hx hb dX1_bestPlace_48 rfl (lv_at hl 2 rfl) ?_
                  refine n_icmp_ne (tgt := 77) hx hb dX1_bestPlace_49 (by decide) (by omega) (by omega) (fun c49 => ?_) (fun c49 => ?_)
                  · skip
                    refine lv_iinc (v := nI (q + 1)) (lv' := [(4, .int (nI (q + 1))), (0, .ref h), (1, .int (nI b)), (2, .int (nI n)), (3, .int (nI (bcP P K S Wt q0)))]) hx hb dX1_bestPlace_77 hl (k := 4) rfl (by rw [← nI_1]; rfl) (by decide) rfl (fun ls hl => ?_)
                    refine lv_goto (tgt := 5) hx hb dX1_bestPlace_80 (by decide) ?_
                    have hnew : ansBp P K S Wt (fun p => decide ((if b = 0 then p / 12 else p % 12) = n)) (q + 1) (nI (bcP P K S Wt q0)) := hab.skip (fun z => by
                      first
                        | exact absurd z hpr
                        | (apply decide_eq_false; first | (rw [if_pos c32]; exact c49) | (rw [if_neg c32]; exact c49)))
                    exact ih5 (q + 1) (nI (bcP P K S Wt q0)) (by omega) (by omega) hnew ls (lv_sub hl [1, 2, 3, 4, 0] rfl)
                  · skip
                    refine lv_aload_n hx hb dX1_bestPlace_52 rfl (lv_at hl 0 rfl) ?_
                    refine lv_iload hx hb dX1_bestPlace_53 (lv_at hl 4 rfl) ?_
                    refine mc_before Y X hth (by omega) ⟨by omega, by omega⟩ hl.1 (Nat.le_of_ble_eq_true rfl) dX1_bestPlace_55 (fun r4 hr4 => ?_)
                    subst hr4
                    refine lv_istore (lv' := [(5, .int (nI (bcP P K S Wt q))), (0, .ref h), (1, .int (nI b)), (2, .int (nI n)), (3, .int (nI (bcP P K S Wt q0))), (4, .int (nI q))]) hx hb dX1_bestPlace_58 hl (by decide) rfl (fun ls hl => ?_)
                    have hbq := bcP_le P K S Wt q
                    refine lv_iload_n hx hb dX1_bestPlace_60 rfl (lv_at hl 4 rfl) ?_
                    refine n_if_ltN (tgt := 70) hx hb dX1_bestPlace_61 (by decide) (by omega) ?_
                    refine lv_iload hx hb dX1_bestPlace_64 (lv_at hl 0 rfl) ?_
                    refine lv_iload_n hx hb dX1_bestPlace_66 rfl (lv_at hl 4 rfl) ?_
                    refine n_icmp_ge (tgt := 75) hx hb dX1_bestPlace_67 (by decide) (by omega) (by omega) (fun c67 => ?_) (fun c67 => ?_)
                    · skip
                      refine lv_iload_n hx hb dX1_bestPlace_75 rfl (lv_at hl 4 rfl) ?_
                      refine lv_istore_n (lv' := [(3, .int (nI (bcP P K S Wt q0))), (5, .int (nI (bcP P K S Wt q))), (0, .ref h), (1, .int (nI b)), (2, .int (nI n)), (4, .int (nI q))]) hx hb dX1_bestPlace_76 rfl hl (by decide) rfl (fun ls hl => ?_)
                      refine lv_iinc (v := nI (q + 1)) (lv' := [(4, .int (nI (q + 1))), (3, .int (nI (bcP P K S Wt q0))), (5, .int (nI (bcP P K S Wt q))), (0, .ref h), (1, .int (nI b)), (2, .int (nI n))]) hx hb dX1_bestPlace_77 hl (k := 5) rfl (by rw [← nI_1]; rfl) (by decide) rfl (fun ls hl => ?_)
                      refine lv_goto (tgt := 5) hx hb dX1_bestPlace_80 (by decide) ?_
                      have hnew := ansBp.more a0 a2 a3 a4 (by omega)
                      exact ih5 (q + 1) (nI (bcP P K S Wt q0)) (by omega) (by omega) hnew ls (lv_sub hl [3, 4, 5, 1, 0] rfl)
                    · skip
                      refine lv_iload hx hb dX1_bestPlace_70 (lv_at hl 0 rfl) ?_
                      refine lv_goto (tgt := 76) hx hb dX1_bestPlace_72 (by decide) ?_
                      refine lv_istore_n (lv' := [(3, .int (nI (bcP P K S Wt q))), (5, .int (nI (bcP P K S Wt q))), (0, .ref h), (1, .int (nI b)), (2, .int (nI n)), (4, .int (nI q))]) hx hb dX1_bestPlace_76 rfl hl (by decide) rfl (fun ls hl => ?_)
                      refine lv_iinc (v := nI (q + 1)) (lv' := [(4, .int (nI (q + 1))), (3, .int (nI (bcP P K S Wt q))), (5, .int (nI (bcP P K S Wt q))), (0, .ref h), (1, .int (nI b)), (2, .int (nI n))]) hx hb dX1_bestPlace_77 hl (k := 5) rfl (by rw [← nI_1]; rfl) (by decide) rfl (fun ls hl => ?_)
                      refine lv_goto (tgt := 5) hx hb dX1_bestPlace_80 (by decide) ?_
                      have hT : (fun p => decide ((if b = 0 then p / 12 else p % 12) = n)) q = true := by
                        apply decide_eq_true
                        first | (rw [if_pos c32]; exact c49) | (rw [if_neg c32]; exact c49)
                      have hnew := ansBp.less a4 hpr hT (by omega)
                      exact ih5 (q + 1) (nI (bcP P K S Wt q)) (by omega) (by omega) hnew ls (lv_sub hl [3, 4, 5, 1, 0] rfl)
              · subst er2
                have hpr := cc2
                refine k_eqT (tgt := 77) hx hb dX1_bestPlace_28 (by decide) ?_
                refine lv_iinc (v := nI (q + 1)) (lv' := [(4, .int (nI (q + 1))), (0, .ref h), (1, .int (nI b)), (2, .int (nI n)), (3, .int (nI (bcP P K S Wt q0)))]) hx hb dX1_bestPlace_77 hl (k := 4) rfl (by rw [← nI_1]; rfl) (by decide) rfl (fun ls hl => ?_)
                refine lv_goto (tgt := 5) hx hb dX1_bestPlace_80 (by decide) ?_
                have hnew : ansBp P K S Wt (fun p => decide ((if b = 0 then p / 12 else p % 12) = n)) (q + 1) (nI (bcP P K S Wt q0)) := hab.skip (fun z => by
                  first
                    | exact absurd z hpr
                    | (apply decide_eq_false; first | (rw [if_pos c32]; exact c49) | (rw [if_neg c32]; exact c49)))
                exact ih5 (q + 1) (nI (bcP P K S Wt q0)) (by omega) (by omega) hnew ls (lv_sub hl [1, 2, 3, 4, 0] rfl)
            · subst er1
              have hne := cc1
              refine k_eqT (tgt := 83) hx hb dX1_bestPlace_19 (by decide) ?_
              refine lv_iload_n hx hb dX1_bestPlace_83 rfl (lv_at hl 3 rfl) ?_
              exact absurd ((hasP_nI hb2 hn12).mpr hbit) hne
        · subst er
          refine lv_iload hx hb dX1_bestPlace_5 (lv_at hl 4 rfl) ?_
          refine lv_sipush (v := (nI 144)) hx hb dX1_bestPlace_7 (by decide +kernel) ?_
          refine n_icmp_ge (tgt := 83) hx hb dX1_bestPlace_10 (by decide) (by omega) (by omega) (fun c10 => ?_) (fun c10 => ?_)
          · skip
            refine lv_iload_n hx hb dX1_bestPlace_83 rfl (lv_at hl 3 rfl) ?_
            have eq1 : q = 144 := by omega
            subst eq1
            exact hret _ _ _ (Or.inr ⟨b, n, hb2, hn12, rfl, rfl, hbit, hab⟩) rfl dX1_bestPlace_84
          · skip
            refine lv_aload_n hx hb dX1_bestPlace_13 rfl (lv_at hl 0 rfl) ?_
            refine lv_iload_n hx hb dX1_bestPlace_14 rfl (lv_at hl 1 rfl) ?_
            refine lv_iload_n hx hb dX1_bestPlace_15 rfl (lv_at hl 2 rfl) ?_
            refine mc_entry Y X hth ⟨by omega, by omega⟩ hl.1 (Nat.le_of_ble_eq_true rfl) dX1_bestPlace_16 (fun r5 hr5 => ?_)
            rcases hr5 with ⟨cc5, er5⟩ | ⟨cc5, er5⟩
            · subst er5
              refine k_eqF (tgt := 83) hx hb dX1_bestPlace_19 (by decide) ?_
              refine lv_aload_n hx hb dX1_bestPlace_22 rfl (lv_at hl 0 rfl) ?_
              refine lv_iload hx hb dX1_bestPlace_23 (lv_at hl 4 rfl) ?_
              refine mc_pair Y X hth (by omega) ⟨by omega, by omega⟩ hl.1 (Nat.le_of_ble_eq_true rfl) dX1_bestPlace_25 (fun r6 hr6 => ?_)
              rcases hr6 with ⟨cc6, er6⟩ | ⟨cc6, er6⟩
              · subst er6
                have hpr := cc6
                refine k_eqF (tgt := 77) hx hb dX1_bestPlace_28 (by decide) ?_
                refine lv_iload_n hx hb dX1_bestPlace_31 rfl (lv_at hl 1 rfl) ?_
                refine n_if_ne (tgt := 43) hx hb dX1_bestPlace_32 (by decide) (by omega) (fun c32 => ?_) (fun c32 => ?_)
                · skip
                  refine lv_iload hx hb dX1_bestPlace_43 (lv_at hl 4 rfl) ?_
                  refine lv_bipush (v := (nI 12)) hx hb dX1_bestPlace_45 (by decide +kernel) ?_
                  refine n_irem hx hb (by omega) (by decide) (by decide) dX1_bestPlace_47 ?_
                  refine lv_iload_n hx hb dX1_bestPlace_48 rfl (lv_at hl 2 rfl) ?_
                  refine n_icmp_ne (tgt := 77) hx hb dX1_bestPlace_49 (by decide) (by omega) (by omega) (fun c49 => ?_) (fun c49 => ?_)
                  · skip
                    refine lv_iinc (v := nI (q + 1)) (lv' := [(4, .int (nI (q + 1))), (0, .ref h), (1, .int (nI b)), (2, .int (nI n)), (3, .int (-1))]) hx hb dX1_bestPlace_77 hl (k := 4) rfl (by rw [← nI_1]; rfl) (by decide) rfl (fun ls hl => ?_)
                    refine lv_goto (tgt := 5) hx hb dX1_bestPlace_80 (by decide) ?_
                    have hnew : ansBp P K S Wt (fun p => decide ((if b = 0 then p / 12 else p % 12) = n)) (q + 1) ((-1)) := hab.skip (fun z => by
                      first
                        | exact absurd z hpr
                        | (apply decide_eq_false; first | (rw [if_pos c32]; exact c49) | (rw [if_neg c32]; exact c49)))
                    exact ih5 (q + 1) (-1) (by omega) (by omega) hnew ls (lv_sub hl [1, 2, 3, 4, 0] rfl)
                  · skip
                    refine lv_aload_n hx hb dX1_bestPlace_52 rfl (lv_at hl 0 rfl) ?_
                    refine lv_iload hx hb dX1_bestPlace_53 (lv_at hl 4 rfl) ?_
                    refine mc_before Y X hth (by omega) ⟨by omega, by omega⟩ hl.1 (Nat.le_of_ble_eq_true rfl) dX1_bestPlace_55 (fun r7 hr7 => ?_)
                    subst hr7
                    refine lv_istore (lv' := [(5, .int (nI (bcP P K S Wt q))), (0, .ref h), (1, .int (nI b)), (2, .int (nI n)), (3, .int (-1)), (4, .int (nI q))]) hx hb dX1_bestPlace_58 hl (by decide) rfl (fun ls hl => ?_)
                    have hbq := bcP_le P K S Wt q
                    refine lv_iload_n hx hb dX1_bestPlace_60 rfl (lv_at hl 4 rfl) ?_
                    refine k_ltM (tgt := 70) hx hb dX1_bestPlace_61 (by decide) ?_
                    refine lv_iload hx hb dX1_bestPlace_70 (lv_at hl 0 rfl) ?_
                    refine lv_goto (tgt := 76) hx hb dX1_bestPlace_72 (by decide) ?_
                    refine lv_istore_n (lv' := [(3, .int (nI (bcP P K S Wt q))), (5, .int (nI (bcP P K S Wt q))), (0, .ref h), (1, .int (nI b)), (2, .int (nI n)), (4, .int (nI q))]) hx hb dX1_bestPlace_76 rfl hl (by decide) rfl (fun ls hl => ?_)
                    refine lv_iinc (v := nI (q + 1)) (lv' := [(4, .int (nI (q + 1))), (3, .int (nI (bcP P K S Wt q))), (5, .int (nI (bcP P K S Wt q))), (0, .ref h), (1, .int (nI b)), (2, .int (nI n))]) hx hb dX1_bestPlace_77 hl (k := 5) rfl (by rw [← nI_1]; rfl) (by decide) rfl (fun ls hl => ?_)
                    refine lv_goto (tgt := 5) hx hb dX1_bestPlace_80 (by decide) ?_
                    have hT : (fun p => decide ((if b = 0 then p / 12 else p % 12) = n)) q = true := by
                      apply decide_eq_true
                      first | (rw [if_pos c32]; exact c49) | (rw [if_neg c32]; exact c49)
                    have hnew := ansBp.first (S := S) (W := Wt) a1 hpr hT
                    exact ih5 (q + 1) (nI (bcP P K S Wt q)) (by omega) (by omega) hnew ls (lv_sub hl [3, 4, 5, 1, 0] rfl)
                · skip
                  refine lv_iload hx hb dX1_bestPlace_35 (lv_at hl 4 rfl) ?_
                  refine lv_bipush (v := (nI 12)) hx hb dX1_bestPlace_37 (by decide +kernel) ?_
                  refine n_idiv hx hb (by omega) (by decide) (by decide) dX1_bestPlace_39 ?_
                  refine lv_goto (tgt := 48) hx hb dX1_bestPlace_40 (by decide) ?_
                  refine lv_iload_n hx hb dX1_bestPlace_48 rfl (lv_at hl 2 rfl) ?_
                  refine n_icmp_ne (tgt := 77) hx hb dX1_bestPlace_49 (by decide) (by omega) (by omega) (fun c49 => ?_) (fun c49 => ?_)
                  · skip
                    refine lv_iinc (v := nI (q + 1)) (lv' := [(4, .int (nI (q + 1))), (0, .ref h), (1, .int (nI b)), (2, .int (nI n)), (3, .int (-1))]) hx hb dX1_bestPlace_77 hl (k := 4) rfl (by rw [← nI_1]; rfl) (by decide) rfl (fun ls hl => ?_)
                    refine lv_goto (tgt := 5) hx hb dX1_bestPlace_80 (by decide) ?_
                    have hnew : ansBp P K S Wt (fun p => decide ((if b = 0 then p / 12 else p % 12) = n)) (q + 1) ((-1)) := hab.skip (fun z => by
                      first
                        | exact absurd z hpr
                        | (apply decide_eq_false; first | (rw [if_pos c32]; exact c49) | (rw [if_neg c32]; exact c49)))
                    exact ih5 (q + 1) (-1) (by omega) (by omega) hnew ls (lv_sub hl [1, 2, 3, 4, 0] rfl)
                  · skip
                    refine lv_aload_n hx hb dX1_bestPlace_52 rfl (lv_at hl 0 rfl) ?_
                    refine lv_iload hx hb dX1_bestPlace_53 (lv_at hl 4 rfl) ?_
                    refine mc_before Y X hth (by omega) ⟨by omega, by omega⟩ hl.1 (Nat.le_of_ble_eq_true rfl) dX1_bestPlace_55 (fun r8 hr8 => ?_)
                    subst hr8
                    refine lv_istore (lv' := [(5, .int (nI (bcP P K S Wt q))), (0, .ref h), (1, .int (nI b)), (2, .int (nI n)), (3, .int (-1)), (4, .int (nI q))]) hx hb dX1_bestPlace_58 hl (by decide) rfl (fun ls hl => ?_)
                    have hbq := bcP_le P K S Wt q
                    refine lv_iload_n hx hb dX1_bestPlace_60 rfl (lv_at hl 4 rfl) ?_
                    refine k_ltM (tgt := 70) hx hb dX1_bestPlace_61 (by decide) ?_
                    refine lv_iload hx hb dX1_bestPlace_70 (lv_at hl 0 rfl) ?_
                    refine lv_goto (tgt := 76) hx hb dX1_bestPlace_72 (by decide) ?_
                    refine lv_istore_n (lv' := [(3, .int (nI (bcP P K S Wt q))), (5, .int (nI (bcP P K S Wt q))), (0, .ref h), (1, .int (nI b)), (2, .int (nI n)), (4, .int (nI q))]) hx hb dX1_bestPlace_76 rfl hl (by decide) rfl (fun ls hl => ?_)
                    refine lv_iinc (v := nI (q + 1)) (lv' := [(4, .int (nI (q + 1))), (3, .int (nI (bcP P K S Wt q))), (5, .int (nI (bcP P K S Wt q))), (0, .ref h), (1, .int (nI b)), (2, .int (nI n))]) hx hb dX1_bestPlace_77 hl (k := 5) rfl (by rw [← nI_1]; rfl) (by decide) rfl (fun ls hl => ?_)
                    refine lv_goto (tgt := 5) hx hb dX1_bestPlace_80 (by decide) ?_
                    have hT : (fun p => decide ((if b = 0 then p / 12 else p % 12) = n)) q = true := by
                      apply decide_eq_true
                      first | (rw [if_pos c32]; exact c49) | (rw [if_neg c32]; exact c49)
                    have hnew := ansBp.first (S := S) (W := Wt) a1 hpr hT
                    exact ih5 (q + 1) (nI (bcP P K S Wt q)) (by omega) (by omega) hnew ls (lv_sub hl [3, 4, 5, 1, 0] rfl)
              · subst er6
                have hpr := cc6
                refine k_eqT (tgt := 77) hx hb dX1_bestPlace_28 (by decide) ?_
                refine lv_iinc (v := nI (q + 1)) (lv' := [(4, .int (nI (q + 1))), (0, .ref h), (1, .int (nI b)), (2, .int (nI n)), (3, .int (-1))]) hx hb dX1_bestPlace_77 hl (k := 4) rfl (by rw [← nI_1]; rfl) (by decide) rfl (fun ls hl => ?_)
                refine lv_goto (tgt := 5) hx hb dX1_bestPlace_80 (by decide) ?_
                have hnew : ansBp P K S Wt (fun p => decide ((if b = 0 then p / 12 else p % 12) = n)) (q + 1) ((-1)) := hab.skip (fun z => by
                  first
                    | exact absurd z hpr
                    | (apply decide_eq_false; first | (rw [if_pos c32]; exact c49) | (rw [if_neg c32]; exact c49)))
                exact ih5 (q + 1) (-1) (by omega) (by omega) hnew ls (lv_sub hl [1, 2, 3, 4, 0] rfl)
            · subst er5
              have hne := cc5
              refine k_eqT (tgt := 83) hx hb dX1_bestPlace_19 (by decide) ?_
              refine lv_iload_n hx hb dX1_bestPlace_83 rfl (lv_at hl 3 rfl) ?_
              exact absurd ((hasP_nI hb2 hn12).mpr hbit) hne
    exact loop5 (144 + 1) 0 (-1) (by omega) (by omega) (Or.inr ⟨fun q z => absurd z (by omega), rfl⟩) ls (lv_sub hl [2, 3, 4, 1, 0] rfl)
  · skip
    refine lv_iconst (v := (-1)) hx hb dX1_bestPlace_0 (by decide +kernel) ?_
    refine lv_istore_n (lv' := [(3, .int (-1)), (0, .ref h), (1, .int x), (2, .int y)]) hx hb dX1_bestPlace_1 rfl hl (by decide) rfl (fun ls hl => ?_)
    refine lv_iconst (v := (nI 0)) hx hb dX1_bestPlace_2 (by decide +kernel) ?_
    refine lv_istore (lv' := [(4, .int (nI 0)), (3, .int (-1)), (0, .ref h), (1, .int x), (2, .int y)]) hx hb dX1_bestPlace_3 hl (by decide) rfl (fun ls hl => ?_)
    refine lv_iload hx hb dX1_bestPlace_5 (lv_at hl 0 rfl) ?_
    refine lv_sipush (v := (nI 144)) hx hb dX1_bestPlace_7 (by decide +kernel) ?_
    refine n_icmp_ge (tgt := 83) hx hb dX1_bestPlace_10 (by decide) (by omega) (by omega) (fun c10 => ?_) (fun c10 => ?_)
    · skip
      refine lv_iload_n hx hb dX1_bestPlace_83 rfl (lv_at hl 1 rfl) ?_
      exact hret _ _ _ (Or.inl ⟨hv, rfl⟩) rfl dX1_bestPlace_84
    · skip
      refine lv_aload_n hx hb dX1_bestPlace_13 rfl (lv_at hl 2 rfl) ?_
      refine lv_iload_n hx hb dX1_bestPlace_14 rfl (lv_at hl 3 rfl) ?_
      refine lv_iload_n hx hb dX1_bestPlace_15 rfl (lv_at hl 4 rfl) ?_
      refine mc_entry Y X hth ⟨by omega, by omega⟩ hl.1 (Nat.le_of_ble_eq_true rfl) dX1_bestPlace_16 (fun r9 hr9 => ?_)
      have er9 : r9 = nI 0 := by
        rcases hr9 with ⟨z, -⟩ | ⟨-, z⟩
        · exact absurd z hv
        · exact z
      subst er9
      refine k_eqT (tgt := 83) hx hb dX1_bestPlace_19 (by decide) ?_
      refine lv_iload_n hx hb dX1_bestPlace_83 rfl (lv_at hl 1 rfl) ?_
      exact hret _ _ _ (Or.inl ⟨hv, rfl⟩) rfl dX1_bestPlace_84

set_option maxHeartbeats 4000000 in
set_option maxRecDepth 100000 in
theorem mt_enter (l : Launch) (D : va_G) (h : Nat) (a : Nat → Nat) (d : Nat → ClassId) (th K S Wt : Nat → Nat) (cu : Nat) (P : Nat → Nat) (x k sc : Int32) (hth : th = thF P) : cI (S := (Nat → Nat) × (Nat → Nat) × (Nat → Nat) × Nat) l yX1_enter cX1_enter 5 .int 0 0 [.ref h, .int x, .int k, .int sc] (mAt D TT h a d th K S Wt cu) (mA h a) (fun (r : Int32) (u : (Nat → Nat) × (Nat → Nat) × (Nat → Nat) × Nat) => EnR P K S cu x k sc r u.1 u.2.1 u.2.2.1 u.2.2.2) (fun u => mAt D (mA h a) h a d (thF u.1) (u.2.1) (u.2.2.1) Wt (u.2.2.2)) := by
  refine g_methI (own := "BestPairsModel") (by decide) rfl (Nat.le_of_ble_eq_true rfl) mA_in ?_
  intro p e R s m args below meth c Q Y hRf hRl hret ls hl X
  have hx := Y.1
  have hb := Y.2.1
  have hl : lv_has ls 5 [(0, .ref h), (1, .int x), (2, .int k), (3, .int sc)] := hl
  refine lv_iload_n hx hb dX1_enter_0 rfl (lv_at hl 1 rfl) ?_
  refine lv_if_eq (tgt := 9) hx hb dX1_enter_1 (by decide) (fun c1 => ?_) (fun c1 => ?_)
  · skip
    obtain ⟨b, hb2, eb⟩ := isL (x := x) (by first | exact Or.inl c1 | exact Or.inr (by rw [c6]; decide))
    subst eb
    refine lv_iload_n hx hb dX1_enter_9 rfl (lv_at hl 2 rfl) ?_
    refine lv_if_lt (tgt := 30) hx hb dX1_enter_10 (by decide) (fun c10 => ?_) (fun c10 => ?_)
    · skip
      refine lv_iconst (v := (-1)) hx hb dX1_enter_30 (by decide +kernel) ?_
      subst hth
      refine hret (P, K, S, cu) _ _ _ _ _ X (Or.inl ⟨?_, rfl, rfl, rfl, rfl, rfl⟩) rfl dX1_enter_31
      first | exact enK (Or.inl c10) | exact enK (Or.inr c16) | exact enS (Or.inl c20) | exact enS (Or.inr c27) | exact enX (fun z => z.elim c1 (fun z => c6 (z.trans (by decide))))
    · skip
      refine lv_iload_n hx hb dX1_enter_13 rfl (lv_at hl 2 rfl) ?_
      refine lv_bipush (v := (nI 7)) hx hb dX1_enter_14 (by decide +kernel) ?_
      refine lv_icmp_gt (tgt := 30) hx hb dX1_enter_16 (by decide) (fun c16 => ?_) (fun c16 => ?_)
      · skip
        refine lv_iconst (v := (-1)) hx hb dX1_enter_30 (by decide +kernel) ?_
        subst hth
        refine hret (P, K, S, cu) _ _ _ _ _ X (Or.inl ⟨?_, rfl, rfl, rfl, rfl, rfl⟩) rfl dX1_enter_31
        first | exact enK (Or.inl c10) | exact enK (Or.inr c16) | exact enS (Or.inl c20) | exact enS (Or.inr c27) | exact enX (fun z => z.elim c1 (fun z => c6 (z.trans (by decide))))
      · skip
        refine lv_iload_n hx hb dX1_enter_19 rfl (lv_at hl 3 rfl) ?_
        refine lv_if_lt (tgt := 30) hx hb dX1_enter_20 (by decide) (fun c20 => ?_) (fun c20 => ?_)
        · skip
          refine lv_iconst (v := (-1)) hx hb dX1_enter_30 (by decide +kernel) ?_
          subst hth
          refine hret (P, K, S, cu) _ _ _ _ _ X (Or.inl ⟨?_, rfl, rfl, rfl, rfl, rfl⟩) rfl dX1_enter_31
          first | exact enK (Or.inl c10) | exact enK (Or.inr c16) | exact enS (Or.inl c20) | exact enS (Or.inr c27) | exact enX (fun z => z.elim c1 (fun z => c6 (z.trans (by decide))))
        · skip
          refine lv_iload_n hx hb dX1_enter_23 rfl (lv_at hl 3 rfl) ?_
          refine lv_sipush (v := (nI 1000)) hx hb dX1_enter_24 (by decide +kernel) ?_
          refine lv_icmp_le (tgt := 32) hx hb dX1_enter_27 (by decide) (fun c27 => ?_) (fun c27 => ?_)
          · skip
            obtain ⟨kk, hkk, ek⟩ := nleN (by decide) c10 c16
            obtain ⟨t, ht1, et⟩ := nleN' (by decide) c20 c27
            subst ek
            subst et
            have hen : enOK (nI b) (nI kk) (nI t) b kk t := ⟨hb2, by omega, ht1, rfl, rfl, rfl⟩
            refine lv_iconst (v := (nI 0)) hx hb dX1_enter_32 (by decide +kernel) ?_
            refine lv_istore (lv' := [(4, .int (nI 0)), (0, .ref h), (1, .int (nI b)), (2, .int (nI kk)), (3, .int (nI t))]) hx hb dX1_enter_33 hl (by decide) rfl (fun ls hl => ?_)
            have loop35 : ∀ (fuel35 : Nat) (i : Nat), 12 - i < fuel35 → i ≤ 12 → (∀ j, j < i → (P b).testBit j = true) → ∀ (H : Heap) (locs : List Loc), mX D (mA h a) s h a d th K S Wt cu H locs → ∀ ls : Array Slot, lv_has ls 5 [(0, .ref h), (1, .int (nI b)), (2, .int (nI kk)), (3, .int (nI t)), (4, .int (nI i))] → W p l e R s m args below meth c H locs 0 0 Q (F0 m 35 ls []) := by
              intro fuel35
              induction fuel35 with
              | zero =>
                intro i hfu35
                exact absurd hfu35 (Nat.not_lt_zero _)
              | succ fuel35 ih35 =>
                intro i hfu35 hi hfull H locs X ls hl
                refine lv_iload hx hb dX1_enter_35 (lv_at hl 4 rfl) ?_
                refine lv_bipush (v := (nI 12)) hx hb dX1_enter_37 (by decide +kernel) ?_
                refine n_icmp_ge (tgt := 110) hx hb dX1_enter_39 (by decide) (by omega) (by omega) (fun c39 => ?_) (fun c39 => ?_)
                · skip
                  refine lv_bipush (v := (-2)) hx hb dX1_enter_110 (by decide +kernel) ?_
                  subst hth
                  have ei : i = 12 := by omega
                  subst ei
                  exact hret (P, K, S, cu) _ _ _ _ _ X (Or.inr (Or.inl ⟨b, kk, t, hen, hfull, rfl, rfl, rfl, rfl, rfl⟩)) rfl dX1_enter_112
                · skip
                  refine lv_aload_n hx hb dX1_enter_42 rfl (lv_at hl 0 rfl) ?_
                  refine mg_0 Y X dX1_enter_43 ?_
                  refine lv_bipush (v := (nI 12)) hx hb dX1_enter_46 (by decide +kernel) ?_
                  refine lv_iload_n hx hb dX1_enter_48 rfl (lv_at hl 1 rfl) ?_
                  refine n_imul (z := 12 * b) hx hb (rfl) dX1_enter_49 ?_
                  refine lv_iload hx hb dX1_enter_50 (lv_at hl 4 rfl) ?_
                  refine n_iadd (z := 12 * b + i) hx hb (rfl) dX1_enter_52 ?_
                  refine ml_0 Y X (by omega) dX1_enter_53 (fun bd53 => ?_)
                  refine n_if_ne (tgt := 104) hx hb dX1_enter_54 (by decide) (by omega) (fun c54 => ?_) (fun c54 => ?_)
                  · skip
                    refine lv_iinc (v := nI (i + 1)) (lv' := [(4, .int (nI (i + 1))), (0, .ref h), (1, .int (nI b)), (2, .int (nI kk)), (3, .int (nI t))]) hx hb dX1_enter_104 hl (k := 4) rfl (by rw [← nI_1]; rfl) (by decide) rfl (fun ls hl => ?_)
                    refine lv_goto (tgt := 35) hx hb dX1_enter_107 (by decide) ?_
                    rw [hth, thF_at (by omega), ifb'] at c54
                    exact ih35 (i + 1) (by omega) (by omega) (lt_s hfull c54) _ _ X ls (lv_sub hl [1, 2, 3, 4, 0] rfl)
                  · skip
                    refine lv_aload_n hx hb dX1_enter_57 rfl (lv_at hl 0 rfl) ?_
                    refine mg_0 Y X dX1_enter_58 ?_
                    refine lv_bipush (v := (nI 12)) hx hb dX1_enter_61 (by decide +kernel) ?_
                    refine lv_iload_n hx hb dX1_enter_63 rfl (lv_at hl 1 rfl) ?_
                    refine n_imul (z := 12 * b) hx hb (rfl) dX1_enter_64 ?_
                    refine lv_iload hx hb dX1_enter_65 (lv_at hl 4 rfl) ?_
                    refine n_iadd (z := 12 * b + i) hx hb (rfl) dX1_enter_67 ?_
                    refine lv_iconst (v := (nI 1)) hx hb dX1_enter_68 (by decide +kernel) ?_
                    refine ms_0 (j := 12 * b + i) (x := 1) Y X (by omega) (by omega) dX1_enter_69 (fun H locs X => ?_)
                    refine lv_aload_n hx hb dX1_enter_70 rfl (lv_at hl 0 rfl) ?_
                    refine mg_1 Y X dX1_enter_71 ?_
                    refine lv_bipush (v := (nI 12)) hx hb dX1_enter_74 (by decide +kernel) ?_
                    refine lv_iload_n hx hb dX1_enter_76 rfl (lv_at hl 1 rfl) ?_
                    refine n_imul (z := 12 * b) hx hb (rfl) dX1_enter_77 ?_
                    refine lv_iload hx hb dX1_enter_78 (lv_at hl 4 rfl) ?_
                    refine n_iadd (z := 12 * b + i) hx hb (rfl) dX1_enter_80 ?_
                    refine lv_iload_n hx hb dX1_enter_81 rfl (lv_at hl 2 rfl) ?_
                    refine ms_1 (j := 12 * b + i) (x := kk) Y X (by omega) (by omega) dX1_enter_82 (fun H locs X => ?_)
                    refine lv_aload_n hx hb dX1_enter_83 rfl (lv_at hl 0 rfl) ?_
                    refine mg_2 Y X dX1_enter_84 ?_
                    refine lv_bipush (v := (nI 12)) hx hb dX1_enter_87 (by decide +kernel) ?_
                    refine lv_iload_n hx hb dX1_enter_89 rfl (lv_at hl 1 rfl) ?_
                    refine n_imul (z := 12 * b) hx hb (rfl) dX1_enter_90 ?_
                    refine lv_iload hx hb dX1_enter_91 (lv_at hl 4 rfl) ?_
                    refine n_iadd (z := 12 * b + i) hx hb (rfl) dX1_enter_93 ?_
                    refine lv_iload_n hx hb dX1_enter_94 rfl (lv_at hl 3 rfl) ?_
                    refine ms_2 (j := 12 * b + i) (x := t) Y X (by omega) (by omega) dX1_enter_95 (fun H locs X => ?_)
                    refine lv_aload_n hx hb dX1_enter_96 rfl (lv_at hl 0 rfl) ?_
                    refine lv_iconst (v := (nI 0)) hx hb dX1_enter_97 (by decide +kernel) ?_
                    refine mp_4 Y X (by omega) dX1_enter_98 (fun H locs X => ?_)
                    refine lv_iload hx hb dX1_enter_101 (lv_at hl 4 rfl) ?_
                    rw [hth, thF_at (by omega), ifb] at c54
                    subst hth
                    rw [thF_on (by omega)] at X
                    exact hret (updN P b (P b ||| 2 ^ i), updN K (12 * b + i) kk, updN S (12 * b + i) t, 0) _ _ _ _ _ X (Or.inr (Or.inr ⟨b, kk, t, i, hen, by omega, hfull, c54, rfl, rfl, rfl, rfl, rfl⟩)) rfl dX1_enter_103
            exact loop35 (12 + 1) 0 (by omega) (by omega) lt_0 _ _ X ls (lv_sub hl [1, 2, 3, 4, 0] rfl)
          · skip
            refine lv_iconst (v := (-1)) hx hb dX1_enter_30 (by decide +kernel) ?_
            subst hth
            refine hret (P, K, S, cu) _ _ _ _ _ X (Or.inl ⟨?_, rfl, rfl, rfl, rfl, rfl⟩) rfl dX1_enter_31
            first | exact enK (Or.inl c10) | exact enK (Or.inr c16) | exact enS (Or.inl c20) | exact enS (Or.inr c27) | exact enX (fun z => z.elim c1 (fun z => c6 (z.trans (by decide))))
  · skip
    refine lv_iload_n hx hb dX1_enter_4 rfl (lv_at hl 1 rfl) ?_
    refine lv_iconst (v := (nI 1)) hx hb dX1_enter_5 (by decide +kernel) ?_
    refine lv_icmp_ne (tgt := 30) hx hb dX1_enter_6 (by decide) (fun c6 => ?_) (fun c6 => ?_)
    · skip
      refine lv_iconst (v := (-1)) hx hb dX1_enter_30 (by decide +kernel) ?_
      subst hth
      refine hret (P, K, S, cu) _ _ _ _ _ X (Or.inl ⟨?_, rfl, rfl, rfl, rfl, rfl⟩) rfl dX1_enter_31
      first | exact enK (Or.inl c10) | exact enK (Or.inr c16) | exact enS (Or.inl c20) | exact enS (Or.inr c27) | exact enX (fun z => z.elim c1 (fun z => c6 (z.trans (by decide))))
    · skip
      obtain ⟨b, hb2, eb⟩ := isL (x := x) (by first | exact Or.inl c1 | exact Or.inr (by rw [c6]; decide))
      subst eb
      refine lv_iload_n hx hb dX1_enter_9 rfl (lv_at hl 2 rfl) ?_
      refine lv_if_lt (tgt := 30) hx hb dX1_enter_10 (by decide) (fun c10 => ?_) (fun c10 => ?_)
      · skip
        refine lv_iconst (v := (-1)) hx hb dX1_enter_30 (by decide +kernel) ?_
        subst hth
        refine hret (P, K, S, cu) _ _ _ _ _ X (Or.inl ⟨?_, rfl, rfl, rfl, rfl, rfl⟩) rfl dX1_enter_31
        first | exact enK (Or.inl c10) | exact enK (Or.inr c16) | exact enS (Or.inl c20) | exact enS (Or.inr c27) | exact enX (fun z => z.elim c1 (fun z => c6 (z.trans (by decide))))
      · skip
        refine lv_iload_n hx hb dX1_enter_13 rfl (lv_at hl 2 rfl) ?_
        refine lv_bipush (v := (nI 7)) hx hb dX1_enter_14 (by decide +kernel) ?_
        refine lv_icmp_gt (tgt := 30) hx hb dX1_enter_16 (by decide) (fun c16 => ?_) (fun c16 => ?_)
        · skip
          refine lv_iconst (v := (-1)) hx hb dX1_enter_30 (by decide +kernel) ?_
          subst hth
          refine hret (P, K, S, cu) _ _ _ _ _ X (Or.inl ⟨?_, rfl, rfl, rfl, rfl, rfl⟩) rfl dX1_enter_31
          first | exact enK (Or.inl c10) | exact enK (Or.inr c16) | exact enS (Or.inl c20) | exact enS (Or.inr c27) | exact enX (fun z => z.elim c1 (fun z => c6 (z.trans (by decide))))
        · skip
          refine lv_iload_n hx hb dX1_enter_19 rfl (lv_at hl 3 rfl) ?_
          refine lv_if_lt (tgt := 30) hx hb dX1_enter_20 (by decide) (fun c20 => ?_) (fun c20 => ?_)
          · skip
            refine lv_iconst (v := (-1)) hx hb dX1_enter_30 (by decide +kernel) ?_
            subst hth
            refine hret (P, K, S, cu) _ _ _ _ _ X (Or.inl ⟨?_, rfl, rfl, rfl, rfl, rfl⟩) rfl dX1_enter_31
            first | exact enK (Or.inl c10) | exact enK (Or.inr c16) | exact enS (Or.inl c20) | exact enS (Or.inr c27) | exact enX (fun z => z.elim c1 (fun z => c6 (z.trans (by decide))))
          · skip
            refine lv_iload_n hx hb dX1_enter_23 rfl (lv_at hl 3 rfl) ?_
            refine lv_sipush (v := (nI 1000)) hx hb dX1_enter_24 (by decide +kernel) ?_
            refine lv_icmp_le (tgt := 32) hx hb dX1_enter_27 (by decide) (fun c27 => ?_) (fun c27 => ?_)
            · skip
              obtain ⟨kk, hkk, ek⟩ := nleN (by decide) c10 c16
              obtain ⟨t, ht1, et⟩ := nleN' (by decide) c20 c27
              subst ek
              subst et
              have hen : enOK (nI b) (nI kk) (nI t) b kk t := ⟨hb2, by omega, ht1, rfl, rfl, rfl⟩
              refine lv_iconst (v := (nI 0)) hx hb dX1_enter_32 (by decide +kernel) ?_
              refine lv_istore (lv' := [(4, .int (nI 0)), (0, .ref h), (1, .int (nI b)), (2, .int (nI kk)), (3, .int (nI t))]) hx hb dX1_enter_33 hl (by decide) rfl (fun ls hl => ?_)
              have loop35 : ∀ (fuel35 : Nat) (i : Nat), 12 - i < fuel35 → i ≤ 12 → (∀ j, j < i → (P b).testBit j = true) → ∀ (H : Heap) (locs : List Loc), mX D (mA h a) s h a d th K S Wt cu H locs → ∀ ls : Array Slot, lv_has ls 5 [(0, .ref h), (1, .int (nI b)), (2, .int (nI kk)), (3, .int (nI t)), (4, .int (nI i))] → W p l e R s m args below meth c H locs 0 0 Q (F0 m 35 ls []) := by
                intro fuel35
                induction fuel35 with
                | zero =>
                  intro i hfu35
                  exact absurd hfu35 (Nat.not_lt_zero _)
                | succ fuel35 ih35 =>
                  intro i hfu35 hi hfull H locs X ls hl
                  refine lv_iload hx hb dX1_enter_35 (lv_at hl 4 rfl) ?_
                  refine lv_bipush (v := (nI 12)) hx hb dX1_enter_37 (by decide +kernel) ?_
                  refine n_icmp_ge (tgt := 110) hx hb dX1_enter_39 (by decide) (by omega) (by omega) (fun c39 => ?_) (fun c39 => ?_)
                  · skip
                    refine lv_bipush (v := (-2)) hx hb dX1_enter_110 (by decide +kernel) ?_
                    subst hth
                    have ei : i = 12 := by omega
                    subst ei
                    exact hret (P, K, S, cu) _ _ _ _ _ X (Or.inr (Or.inl ⟨b, kk, t, hen, hfull, rfl, rfl, rfl, rfl, rfl⟩)) rfl dX1_enter_112
                  · skip
                    refine lv_aload_n hx hb dX1_enter_42 rfl (lv_at hl 0 rfl) ?_
                    refine mg_0 Y X dX1_enter_43 ?_
                    refine lv_bipush (v := (nI 12)) hx hb dX1_enter_46 (by decide +kernel) ?_
                    refine lv_iload_n hx hb dX1_enter_48 rfl (lv_at hl 1 rfl) ?_
                    refine n_imul (z := 12 * b) hx hb (rfl) dX1_enter_49 ?_
                    refine lv_iload hx hb dX1_enter_50 (lv_at hl 4 rfl) ?_
                    refine n_iadd (z := 12 * b + i) hx hb (rfl) dX1_enter_52 ?_
                    refine ml_0 Y X (by omega) dX1_enter_53 (fun bd53 => ?_)
                    refine n_if_ne (tgt := 104) hx hb dX1_enter_54 (by decide) (by omega) (fun c54 => ?_) (fun c54 => ?_)
                    · skip
                      refine lv_iinc (v := nI (i + 1)) (lv' := [(4, .int (nI (i + 1))), (0, .ref h), (1, .int (nI b)), (2, .int (nI kk)), (3, .int (nI t))]) hx hb dX1_enter_104 hl (k := 4) rfl (by rw [← nI_1]; rfl) (by decide) rfl (fun ls hl => ?_)
                      refine lv_goto (tgt := 35) hx hb dX1_enter_107 (by decide) ?_
                      rw [hth, thF_at (by omega), ifb'] at c54
                      exact ih35 (i + 1) (by omega) (by omega) (lt_s hfull c54) _ _ X ls (lv_sub hl [1, 2, 3, 4, 0] rfl)
                    · skip
                      refine lv_aload_n hx hb dX1_enter_57 rfl (lv_at hl 0 rfl) ?_
                      refine mg_0 Y X dX1_enter_58 ?_
                      refine lv_bipush (v := (nI 12)) hx hb dX1_enter_61 (by decide +kernel) ?_
                      refine lv_iload_n hx hb dX1_enter_63 rfl (lv_at hl 1 rfl) ?_
                      refine n_imul (z := 12 * b) hx hb (rfl) dX1_enter_64 ?_
                      refine lv_iload hx hb dX1_enter_65 (lv_at hl 4 rfl) ?_
                      refine n_iadd (z := 12 * b + i) hx hb (rfl) dX1_enter_67 ?_
                      refine lv_iconst (v := (nI 1)) hx hb dX1_enter_68 (by decide +kernel) ?_
                      refine ms_0 (j := 12 * b + i) (x := 1) Y X (by omega) (by omega) dX1_enter_69 (fun H locs X => ?_)
                      refine lv_aload_n hx hb dX1_enter_70 rfl (lv_at hl 0 rfl) ?_
                      refine mg_1 Y X dX1_enter_71 ?_
                      refine lv_bipush (v := (nI 12)) hx hb dX1_enter_74 (by decide +kernel) ?_
                      refine lv_iload_n hx hb dX1_enter_76 rfl (lv_at hl 1 rfl) ?_
                      refine n_imul (z := 12 * b) hx hb (rfl) dX1_enter_77 ?_
                      refine lv_iload hx hb dX1_enter_78 (lv_at hl 4 rfl) ?_
                      refine n_iadd (z := 12 * b + i) hx hb (rfl) dX1_enter_80 ?_
                      refine lv_iload_n hx hb dX1_enter_81 rfl (lv_at hl 2 rfl) ?_
                      refine ms_1 (j := 12 * b + i) (x := kk) Y X (by omega) (by omega) dX1_enter_82 (fun H locs X => ?_)
                      refine lv_aload_n hx hb dX1_enter_83 rfl (lv_at hl 0 rfl) ?_
                      refine mg_2 Y X dX1_enter_84 ?_
                      refine lv_bipush (v := (nI 12)) hx hb dX1_enter_87 (by decide +kernel) ?_
                      refine lv_iload_n hx hb dX1_enter_89 rfl (lv_at hl 1 rfl) ?_
                      refine n_imul (z := 12 * b) hx hb (rfl) dX1_enter_90 ?_
                      refine lv_iload hx hb dX1_enter_91 (lv_at hl 4 rfl) ?_
                      refine n_iadd (z := 12 * b + i) hx hb (rfl) dX1_enter_93 ?_
                      refine lv_iload_n hx hb dX1_enter_94 rfl (lv_at hl 3 rfl) ?_
                      refine ms_2 (j := 12 * b + i) (x := t) Y X (by omega) (by omega) dX1_enter_95 (fun H locs X => ?_)
                      refine lv_aload_n hx hb dX1_enter_96 rfl (lv_at hl 0 rfl) ?_
                      refine lv_iconst (v := (nI 0)) hx hb dX1_enter_97 (by decide +kernel) ?_
                      refine mp_4 Y X (by omega) dX1_enter_98 (fun H locs X => ?_)
                      refine lv_iload hx hb dX1_enter_101 (lv_at hl 4 rfl) ?_
                      rw [hth, thF_at (by omega), ifb] at c54
                      subst hth
                      rw [thF_on (by omega)] at X
                      exact hret (updN P b (P b ||| 2 ^ i), updN K (12 * b + i) kk, updN S (12 * b + i) t, 0) _ _ _ _ _ X (Or.inr (Or.inr ⟨b, kk, t, i, hen, by omega, hfull, c54, rfl, rfl, rfl, rfl, rfl⟩)) rfl dX1_enter_103
              exact loop35 (12 + 1) 0 (by omega) (by omega) lt_0 _ _ X ls (lv_sub hl [1, 2, 3, 4, 0] rfl)
            · skip
              refine lv_iconst (v := (-1)) hx hb dX1_enter_30 (by decide +kernel) ?_
              subst hth
              refine hret (P, K, S, cu) _ _ _ _ _ X (Or.inl ⟨?_, rfl, rfl, rfl, rfl, rfl⟩) rfl dX1_enter_31
              first | exact enK (Or.inl c10) | exact enK (Or.inr c16) | exact enS (Or.inl c20) | exact enS (Or.inr c27) | exact enX (fun z => z.elim c1 (fun z => c6 (z.trans (by decide))))

set_option maxHeartbeats 4000000 in
set_option maxRecDepth 100000 in
theorem mt_remove (l : Launch) (D : va_G) (h : Nat) (a : Nat → Nat) (d : Nat → ClassId) (th K S Wt : Nat → Nat) (cu : Nat) (P : Nat → Nat) (x y : Int32) (hth : th = thF P) : cI (S := (Nat → Nat) × Nat) l yX1_remove cX1_remove 3 .boolean 1 22 [.ref h, .int x, .int y] (mAt D TT h a d th K S Wt cu) (mA h a) (fun (r : Int32) (u : (Nat → Nat) × Nat) => RmR P cu x y r u.1 u.2) (fun u => mAt D (mA h a) h a d (thF u.1) K S Wt (u.2)) := by
  refine g_methI (own := "BestPairsModel") (by decide) rfl (Nat.le_of_ble_eq_true rfl) mA_in ?_
  intro p e R s m args below meth c Q Y hRf hRl hret ls hl X
  have hx := Y.1
  have hb := Y.2.1
  have hl : lv_has ls 3 [(0, .ref h), (1, .int x), (2, .int y)] := hl
  refine lv_aload_n hx hb dX1_remove_0 rfl (lv_at hl 0 rfl) ?_
  refine lv_iload_n hx hb dX1_remove_1 rfl (lv_at hl 1 rfl) ?_
  refine lv_iload_n hx hb dX1_remove_2 rfl (lv_at hl 2 rfl) ?_
  refine mc_entry Y X hth ⟨by omega, by omega⟩ hl.1 (Nat.le_of_ble_eq_true rfl) dX1_remove_3 (fun r1 hr1 => ?_)
  rcases hr1 with ⟨cc1, er1⟩ | ⟨cc1, er1⟩
  · subst er1
    obtain ⟨b, n, hb2, hn12, eb, en, hbit⟩ := cc1
    subst eb
    subst en
    refine k_neT (tgt := 11) hx hb dX1_remove_6 (by decide) ?_
    refine lv_aload_n hx hb dX1_remove_11 rfl (lv_at hl 0 rfl) ?_
    refine mg_0 Y X dX1_remove_12 ?_
    refine lv_bipush (v := (nI 12)) hx hb dX1_remove_15 (by decide +kernel) ?_
    refine lv_iload_n hx hb dX1_remove_17 rfl (lv_at hl 1 rfl) ?_
    refine n_imul (z := 12 * b) hx hb (rfl) dX1_remove_18 ?_
    refine lv_iload_n hx hb dX1_remove_19 rfl (lv_at hl 2 rfl) ?_
    refine n_iadd (z := 12 * b + n) hx hb (rfl) dX1_remove_20 ?_
    refine lv_iconst (v := (nI 0)) hx hb dX1_remove_21 (by decide +kernel) ?_
    refine ms_0 (j := 12 * b + n) (x := 0) Y X (by omega) (by omega) dX1_remove_22 (fun H locs X => ?_)
    refine lv_aload_n hx hb dX1_remove_23 rfl (lv_at hl 0 rfl) ?_
    refine lv_iconst (v := (nI 0)) hx hb dX1_remove_24 (by decide +kernel) ?_
    refine mp_4 Y X (by omega) dX1_remove_25 (fun H locs X => ?_)
    refine lv_iconst (v := (nI 1)) hx hb dX1_remove_28 (by decide +kernel) ?_
    subst hth
    rw [thF_off (by omega)] at X
    exact hret (updN P b (offM (P b) n), 0) _ _ _ _ _ X (Or.inr ⟨b, n, hb2, hn12, rfl, rfl, hbit, rfl, rfl, rfl⟩) nar1 dX1_remove_29
  · subst er1
    refine k_neF (tgt := 11) hx hb dX1_remove_6 (by decide) ?_
    refine lv_iconst (v := (nI 0)) hx hb dX1_remove_9 (by decide +kernel) ?_
    subst hth
    exact hret (P, cu) _ _ _ _ _ X (Or.inl ⟨cc1, rfl, rfl, rfl⟩) nar0 dX1_remove_10

set_option maxHeartbeats 4000000 in
set_option maxRecDepth 100000 in
theorem mt_rescore (l : Launch) (D : va_G) (h : Nat) (a : Nat → Nat) (d : Nat → ClassId) (th K S Wt : Nat → Nat) (cu : Nat) (P : Nat → Nat) (x y z : Int32) (hth : th = thF P) : cI (S := (Nat → Nat) × Nat) l yX1_rescore cX1_rescore 4 .boolean 1 22 [.ref h, .int x, .int y, .int z] (mAt D TT h a d th K S Wt cu) (mA h a) (fun (r : Int32) (u : (Nat → Nat) × Nat) => RsR P S cu x y z r u.1 u.2) (fun u => mAt D (mA h a) h a d th K (u.1) Wt (u.2)) := by
  refine g_methI (own := "BestPairsModel") (by decide) rfl (Nat.le_of_ble_eq_true rfl) mA_in ?_
  intro p e R s m args below meth c Q Y hRf hRl hret ls hl X
  have hx := Y.1
  have hb := Y.2.1
  have hl : lv_has ls 4 [(0, .ref h), (1, .int x), (2, .int y), (3, .int z)] := hl
  refine lv_aload_n hx hb dX1_rescore_0 rfl (lv_at hl 0 rfl) ?_
  refine lv_iload_n hx hb dX1_rescore_1 rfl (lv_at hl 1 rfl) ?_
  refine lv_iload_n hx hb dX1_rescore_2 rfl (lv_at hl 2 rfl) ?_
  refine mc_entry Y X hth ⟨by omega, by omega⟩ hl.1 (Nat.le_of_ble_eq_true rfl) dX1_rescore_3 (fun r1 hr1 => ?_)
  rcases hr1 with ⟨cc1, er1⟩ | ⟨cc1, er1⟩
  · subst er1
    obtain ⟨b, n, hb2, hn12, eb, en, hbit⟩ := cc1
    subst eb
    subst en
    refine k_eqF (tgt := 20) hx hb dX1_rescore_6 (by decide) ?_
    refine lv_iload_n hx hb dX1_rescore_9 rfl (lv_at hl 3 rfl) ?_
    refine lv_if_lt (tgt := 20) hx hb dX1_rescore_10 (by decide) (fun c10 => ?_) (fun c10 => ?_)
    · skip
      refine lv_iconst (v := (nI 0)) hx hb dX1_rescore_20 (by decide +kernel) ?_
      refine hret (S, cu) _ _ _ _ _ X (Or.inl ⟨?_, rfl, rfl, rfl⟩) nar0 dX1_rescore_21
      rintro ⟨t, h1, h2, h3⟩
      first
        | exact cc1 h3
        | exact nI_pos (n := t) (by omega) (by rw [← h2]; exact c10)
        | exact c17 (by rw [h2]; exact nI_le h1 (by omega))
    · skip
      refine lv_iload_n hx hb dX1_rescore_13 rfl (lv_at hl 3 rfl) ?_
      refine lv_sipush (v := (nI 1000)) hx hb dX1_rescore_14 (by decide +kernel) ?_
      refine lv_icmp_le (tgt := 22) hx hb dX1_rescore_17 (by decide) (fun c17 => ?_) (fun c17 => ?_)
      · skip
        obtain ⟨t, ht1, et⟩ := nleN' (by decide) c10 c17
        subst et
        refine lv_aload_n hx hb dX1_rescore_22 rfl (lv_at hl 0 rfl) ?_
        refine mg_2 Y X dX1_rescore_23 ?_
        refine lv_bipush (v := (nI 12)) hx hb dX1_rescore_26 (by decide +kernel) ?_
        refine lv_iload_n hx hb dX1_rescore_28 rfl (lv_at hl 1 rfl) ?_
        refine n_imul (z := 12 * b) hx hb (rfl) dX1_rescore_29 ?_
        refine lv_iload_n hx hb dX1_rescore_30 rfl (lv_at hl 2 rfl) ?_
        refine n_iadd (z := 12 * b + n) hx hb (rfl) dX1_rescore_31 ?_
        refine lv_iload_n hx hb dX1_rescore_32 rfl (lv_at hl 3 rfl) ?_
        refine ms_2 (j := 12 * b + n) (x := t) Y X (by omega) (by omega) dX1_rescore_33 (fun H locs X => ?_)
        refine lv_aload_n hx hb dX1_rescore_34 rfl (lv_at hl 0 rfl) ?_
        refine lv_iconst (v := (nI 0)) hx hb dX1_rescore_35 (by decide +kernel) ?_
        refine mp_4 Y X (by omega) dX1_rescore_36 (fun H locs X => ?_)
        refine lv_iconst (v := (nI 1)) hx hb dX1_rescore_39 (by decide +kernel) ?_
        exact hret (updN S (12 * b + n) t, 0) _ _ _ _ _ X (Or.inr ⟨b, n, t, hb2, hn12, ht1, rfl, rfl, rfl, hbit, rfl, rfl, rfl⟩) nar1 dX1_rescore_40
      · skip
        refine lv_iconst (v := (nI 0)) hx hb dX1_rescore_20 (by decide +kernel) ?_
        refine hret (S, cu) _ _ _ _ _ X (Or.inl ⟨?_, rfl, rfl, rfl⟩) nar0 dX1_rescore_21
        rintro ⟨t, h1, h2, h3⟩
        first
          | exact cc1 h3
          | exact nI_pos (n := t) (by omega) (by rw [← h2]; exact c10)
          | exact c17 (by rw [h2]; exact nI_le h1 (by omega))
  · subst er1
    refine k_eqT (tgt := 20) hx hb dX1_rescore_6 (by decide) ?_
    refine lv_iconst (v := (nI 0)) hx hb dX1_rescore_20 (by decide +kernel) ?_
    refine hret (S, cu) _ _ _ _ _ X (Or.inl ⟨?_, rfl, rfl, rfl⟩) nar0 dX1_rescore_21
    rintro ⟨t, h1, h2, h3⟩
    first
      | exact cc1 h3
      | exact nI_pos (n := t) (by omega) (by rw [← h2]; exact c10)
      | exact c17 (by rw [h2]; exact nI_le h1 (by omega))

set_option maxHeartbeats 4000000 in
set_option maxRecDepth 100000 in
theorem mt_weigh (l : Launch) (D : va_G) (h : Nat) (a : Nat → Nat) (d : Nat → ClassId) (th K S Wt : Nat → Nat) (cu : Nat) (x y : Int32)  : cI (S := (Nat → Nat) × Nat) l yX1_weigh cX1_weigh 3 .boolean 0 0 [.ref h, .int x, .int y] (mAt D TT h a d th K S Wt cu) (mA h a) (fun (r : Int32) (u : (Nat → Nat) × Nat) => WgR Wt cu x y r u.1 u.2) (fun u => mAt D (mA h a) h a d th K S (u.1) (u.2)) := by
  refine g_methI (own := "BestPairsModel") (by decide) rfl (Nat.le_of_ble_eq_true rfl) mA_in ?_
  intro p e R s m args below meth c Q Y hRf hRl hret ls hl X
  have hx := Y.1
  have hb := Y.2.1
  have hl : lv_has ls 3 [(0, .ref h), (1, .int x), (2, .int y)] := hl
  refine lv_iload_n hx hb dX1_weigh_0 rfl (lv_at hl 1 rfl) ?_
  refine lv_if_eq (tgt := 9) hx hb dX1_weigh_1 (by decide) (fun c1 => ?_) (fun c1 => ?_)
  · skip
    obtain ⟨b, hb2, eb⟩ := isL (x := x) (by first | exact Or.inl c1 | exact Or.inr (by rw [c6]; decide))
    subst eb
    refine lv_iload_n hx hb dX1_weigh_9 rfl (lv_at hl 2 rfl) ?_
    refine lv_if_lt (tgt := 19) hx hb dX1_weigh_10 (by decide) (fun c10 => ?_) (fun c10 => ?_)
    · skip
      refine lv_iconst (v := (nI 0)) hx hb dX1_weigh_19 (by decide +kernel) ?_
      refine hret (Wt, cu) _ _ _ _ _ X (Or.inl ⟨?_, rfl, rfl, rfl⟩) nar0 dX1_weigh_20
      rintro ⟨b0, t, h0, h1, h2, h3⟩
      first
        | exact nI_pos (n := t) (by omega) (by rw [← h3]; exact c10)
        | exact c16 (by rw [h3]; exact nI_le h1 (by omega))
        | exact (isL' h0).elim (fun q => c1 (h2.trans q)) (fun q => c6 (h2.trans (q.trans (by decide))))
    · skip
      refine lv_iload_n hx hb dX1_weigh_13 rfl (lv_at hl 2 rfl) ?_
      refine lv_bipush (v := (nI 9)) hx hb dX1_weigh_14 (by decide +kernel) ?_
      refine lv_icmp_le (tgt := 21) hx hb dX1_weigh_16 (by decide) (fun c16 => ?_) (fun c16 => ?_)
      · skip
        obtain ⟨t, ht1, et⟩ := nleN' (by decide) c10 c16
        subst et
        refine lv_aload_n hx hb dX1_weigh_21 rfl (lv_at hl 0 rfl) ?_
        refine mg_3 Y X dX1_weigh_22 ?_
        refine lv_iload_n hx hb dX1_weigh_25 rfl (lv_at hl 1 rfl) ?_
        refine lv_iload_n hx hb dX1_weigh_26 rfl (lv_at hl 2 rfl) ?_
        refine ms_3 (j := b) (x := t) Y X (by omega) (by omega) dX1_weigh_27 (fun H locs X => ?_)
        refine lv_aload_n hx hb dX1_weigh_28 rfl (lv_at hl 0 rfl) ?_
        refine lv_iconst (v := (nI 0)) hx hb dX1_weigh_29 (by decide +kernel) ?_
        refine mp_4 Y X (by omega) dX1_weigh_30 (fun H locs X => ?_)
        refine lv_iconst (v := (nI 1)) hx hb dX1_weigh_33 (by decide +kernel) ?_
        exact hret (updN Wt b t, 0) _ _ _ _ _ X (Or.inr ⟨b, t, hb2, ht1, rfl, rfl, rfl, rfl, rfl⟩) nar1 dX1_weigh_34
      · skip
        refine lv_iconst (v := (nI 0)) hx hb dX1_weigh_19 (by decide +kernel) ?_
        refine hret (Wt, cu) _ _ _ _ _ X (Or.inl ⟨?_, rfl, rfl, rfl⟩) nar0 dX1_weigh_20
        rintro ⟨b0, t, h0, h1, h2, h3⟩
        first
          | exact nI_pos (n := t) (by omega) (by rw [← h3]; exact c10)
          | exact c16 (by rw [h3]; exact nI_le h1 (by omega))
          | exact (isL' h0).elim (fun q => c1 (h2.trans q)) (fun q => c6 (h2.trans (q.trans (by decide))))
  · skip
    refine lv_iload_n hx hb dX1_weigh_4 rfl (lv_at hl 1 rfl) ?_
    refine lv_iconst (v := (nI 1)) hx hb dX1_weigh_5 (by decide +kernel) ?_
    refine lv_icmp_ne (tgt := 19) hx hb dX1_weigh_6 (by decide) (fun c6 => ?_) (fun c6 => ?_)
    · skip
      refine lv_iconst (v := (nI 0)) hx hb dX1_weigh_19 (by decide +kernel) ?_
      refine hret (Wt, cu) _ _ _ _ _ X (Or.inl ⟨?_, rfl, rfl, rfl⟩) nar0 dX1_weigh_20
      rintro ⟨b0, t, h0, h1, h2, h3⟩
      first
        | exact nI_pos (n := t) (by omega) (by rw [← h3]; exact c10)
        | exact c16 (by rw [h3]; exact nI_le h1 (by omega))
        | exact (isL' h0).elim (fun q => c1 (h2.trans q)) (fun q => c6 (h2.trans (q.trans (by decide))))
    · skip
      obtain ⟨b, hb2, eb⟩ := isL (x := x) (by first | exact Or.inl c1 | exact Or.inr (by rw [c6]; decide))
      subst eb
      refine lv_iload_n hx hb dX1_weigh_9 rfl (lv_at hl 2 rfl) ?_
      refine lv_if_lt (tgt := 19) hx hb dX1_weigh_10 (by decide) (fun c10 => ?_) (fun c10 => ?_)
      · skip
        refine lv_iconst (v := (nI 0)) hx hb dX1_weigh_19 (by decide +kernel) ?_
        refine hret (Wt, cu) _ _ _ _ _ X (Or.inl ⟨?_, rfl, rfl, rfl⟩) nar0 dX1_weigh_20
        rintro ⟨b0, t, h0, h1, h2, h3⟩
        first
          | exact nI_pos (n := t) (by omega) (by rw [← h3]; exact c10)
          | exact c16 (by rw [h3]; exact nI_le h1 (by omega))
          | exact (isL' h0).elim (fun q => c1 (h2.trans q)) (fun q => c6 (h2.trans (q.trans (by decide))))
      · skip
        refine lv_iload_n hx hb dX1_weigh_13 rfl (lv_at hl 2 rfl) ?_
        refine lv_bipush (v := (nI 9)) hx hb dX1_weigh_14 (by decide +kernel) ?_
        refine lv_icmp_le (tgt := 21) hx hb dX1_weigh_16 (by decide) (fun c16 => ?_) (fun c16 => ?_)
        · skip
          obtain ⟨t, ht1, et⟩ := nleN' (by decide) c10 c16
          subst et
          refine lv_aload_n hx hb dX1_weigh_21 rfl (lv_at hl 0 rfl) ?_
          refine mg_3 Y X dX1_weigh_22 ?_
          refine lv_iload_n hx hb dX1_weigh_25 rfl (lv_at hl 1 rfl) ?_
          refine lv_iload_n hx hb dX1_weigh_26 rfl (lv_at hl 2 rfl) ?_
          refine ms_3 (j := b) (x := t) Y X (by omega) (by omega) dX1_weigh_27 (fun H locs X => ?_)
          refine lv_aload_n hx hb dX1_weigh_28 rfl (lv_at hl 0 rfl) ?_
          refine lv_iconst (v := (nI 0)) hx hb dX1_weigh_29 (by decide +kernel) ?_
          refine mp_4 Y X (by omega) dX1_weigh_30 (fun H locs X => ?_)
          refine lv_iconst (v := (nI 1)) hx hb dX1_weigh_33 (by decide +kernel) ?_
          exact hret (updN Wt b t, 0) _ _ _ _ _ X (Or.inr ⟨b, t, hb2, ht1, rfl, rfl, rfl, rfl, rfl⟩) nar1 dX1_weigh_34
        · skip
          refine lv_iconst (v := (nI 0)) hx hb dX1_weigh_19 (by decide +kernel) ?_
          refine hret (Wt, cu) _ _ _ _ _ X (Or.inl ⟨?_, rfl, rfl, rfl⟩) nar0 dX1_weigh_20
          rintro ⟨b0, t, h0, h1, h2, h3⟩
          first
            | exact nI_pos (n := t) (by omega) (by rw [← h3]; exact c10)
            | exact c16 (by rw [h3]; exact nI_le h1 (by omega))
            | exact (isL' h0).elim (fun q => c1 (h2.trans q)) (fun q => c6 (h2.trans (q.trans (by decide))))

end MOD
end
section
/-! the two constructors (written by gen/init.py) -/
section INI
abbrev z0 : Nat → Nat := fun _ => 0
abbrev w11 : Nat → Nat := updN (updN z0 0 1) 1 1
def nA (h sz : Nat) : Nat → Prop := fun q => q = h ∨ sz ≤ q
abbrev bF0 : List Value := [.null, .null, .null, .null, .int (nI 0), .null, .null, .null, .null, .int (nI 0), .null, .int (nI 0), .int (nI 0), .int (nI 0)]
abbrev mF0 : List Value := [.null, .null, .null, .null, .int (nI 0)]
theorem w11_le : ∀ j, w11 j ≤ 9 := updN_b (p := fun z => z ≤ 9) (updN_b (p := fun z => z ≤ 9) (fun _ => Nat.zero_le _) (by decide)) (by decide)
theorem bOK0 : bOK z0 z0 z0 w11 0 z0 z0 z0 z0 0 z0 0 0 0 := ⟨fun _ => (by decide : (0 : Nat) < 4096), fun _ => (by decide : (0 : Nat) < 8), fun _ => (by decide : (0 : Nat) ≤ 1000), w11_le, fun _ => (by decide : (0 : Nat) < 12), fun _ => (by decide : (0 : Nat) ≤ 12), fun _ => (by decide : (0 : Nat) ≤ 12), fun _ => (⟨by decide, by decide⟩ : (0 : Nat) < 192 ∧ (0 : Nat) % 16 < 12), fun _ => (⟨by decide, by decide⟩ : (0 : Nat) < 192 ∧ (0 : Nat) % 16 < 12), by decide, by decide, by decide, by decide, by decide⟩
theorem mOK0 : mOK z0 z0 z0 w11 0 := ⟨fun _ => (by decide : (0 : Nat) ≤ 1), fun _ => (by decide : (0 : Nat) < 8), fun _ => (by decide : (0 : Nat) ≤ 1000), w11_le, by decide⟩
set_option maxHeartbeats 4000000 in
set_option maxRecDepth 100000 in
theorem bt_init (l : Launch) (D : va_G) (h sz : Nat) : Met l yX0_init (ws_ yX0_init cX0_init 1 none) { frames := 1, cells := 9, slots := 368, locals := 12 } (va_Pc [.ref h] (fun U => U.heap.size = sz ∧ va_P D vwCl [(h, .inr (0, bF0))] U.heap ∧ va_K D vwCl [] U ∧ va_D TT [(h, .inr (0, bF0))])) (va_Qv (fun (_ : (Nat → Nat) × (Nat → ClassId)) => True) (fun u => gAt D (bty u.2) (nA h sz) (bw h u.1 u.2 z0 z0 z0 w11 0 z0 z0 z0 z0 0 z0 0 0 0) (bOK z0 z0 z0 w11 0 z0 z0 z0 z0 0 z0 0 0 0)) (nA h sz)) 9 368 (nA h sz) := by
  refine Met.ofW (cc := cX0_init) (maxL := 1) (ret := none) (by decide) rfl ?_
  intro p e s m args below meth c s₁ B hml hv
  obtain ⟨rfl, hsz, hP, hK, hD0⟩ := hv
  have hx := B.exec
  have hb := B.bytes
  have hr := B.returns
  have hts := atoms_spec (ws := ws_ yX0_init cX0_init 1 none) B.pre
  have hts : ∀ w ∈ lw_all, w.before _ s = true := fun w h => hts w (List.mem_cons_of_mem _ h)
  have hown : s.vm.findClass RX0 = some m.cls := findClass_of_methodNamed B.named
  have hin : meth.name = "<init>" := (name_of_methodNamed B.named B.method).1
  subst hsz
  have hD : va_D (nA h s.heap.size) [(h, .inr (0, bF0))] := ⟨hD0.1, fun k q hq => by
    match k, hq with
    | 0, hq => cases hq; exact Or.inl rfl
    | k + 1, hq => cases hq⟩
  generalize hAe : nA h s.heap.size = A at hD ⊢
  have hA : ∀ q : Nat, s.heap.size ≤ q → A q := fun q h => by rw [← hAe]; exact Or.inr h
  have hS : va_S A s.heap s.heap [] := va_S.rf
  have hl := lv_entry ([.ref h]) (n := 1) (Nat.le_of_ble_eq_true rfl)
  rw [lg_entry_eq]
  generalize (lg_sl ([.ref h]) ++ List.replicate (1 - (lg_sl ([.ref h])).length) Slot.unset).toArray = ls at hl ⊢
  have hl : lv_has ls 1 [(0, .ref h)] := hl
  refine lv_aload_n hx hb dX0_init_0 rfl (lv_at hl 0 rfl) ?_
  refine W.objInit hx hb hown (hts _ q30) (hts _ q31) (hts _ q32) rfl (by rw [hml]; exact hl.1) rfl dX0_init_1 (Nat.le_of_ble_eq_true rfl) (Nat.le_of_ble_eq_true rfl) ?_
  refine W.eq (g2 := F0 m 4 ls []) rfl ?_
  refine lv_aload_n hx hb dX0_init_4 rfl (lv_at hl 0 rfl) ?_
  refine lv_iconst (v := nI 2) hx hb dX0_init_5 (by decide +kernel) ?_
  refine va_newa (atype := .int) (ty := .int) (N' := 2) (a0 := (2, .inl (nF z0))) hx hb (hts _ q76) rfl hK hP hD hS hA (fun _ => rfl) (by decide +kernel) (nI_clamp (by decide)) (by decide) (Nat.le_of_ble_eq_true rfl) (Nat.le_of_ble_eq_true rfl) dX0_init_6 (fun q0 d0 H hK hP hD hS => ?_)
  have hP : va_P D vwCl [(h, .inr (0, [.null, .null, .null, .null, .int (nI 0), .null, .null, .null, .null, .int (nI 0), .null, .int (nI 0), .int (nI 0), .int (nI 0)])), (q0, .inl (d0, 2, .inl (nF z0)))] H := hP
  have hD : va_D A [(h, .inr (0, [.null, .null, .null, .null, .int (nI 0), .null, .null, .null, .null, .int (nI 0), .null, .int (nI 0), .int (nI 0), .int (nI 0)])), (q0, .inl (d0, 2, .inl (nF z0)))] := hD
  have hK : va_K D vwCl [(d0, .int)] s := hK
  refine W.widen (k := 1) (n := 2) (Nat.le_of_ble_eq_true rfl) (Nat.le_of_ble_eq_true rfl) ?_
  refine va_putF (D := D) (ci := 0) (v := .ref q0) (ty := .array .int) (C := RX0) (T := TX0) (N := 14) hx hb hts in_X0 tyX0 tyX0_ok nmX0 hown hK hP hD hS 0 rfl rfl 0 (by decide) (hts _ q33) (fun _ h9 => h9) rfl hin rfl (by decide +kernel) rfl rfl (Nat.le_of_ble_eq_true rfl) dX0_init_8 (fun H locs hP hD hS => ?_)
  have hP : va_P D vwCl [(h, .inr (0, [.ref q0, .null, .null, .null, .int (nI 0), .null, .null, .null, .null, .int (nI 0), .null, .int (nI 0), .int (nI 0), .int (nI 0)])), (q0, .inl (d0, 2, .inl (nF z0)))] H := hP
  have hD : va_D A [(h, .inr (0, [.ref q0, .null, .null, .null, .int (nI 0), .null, .null, .null, .null, .int (nI 0), .null, .int (nI 0), .int (nI 0), .int (nI 0)])), (q0, .inl (d0, 2, .inl (nF z0)))] := hD
  refine lv_aload_n hx hb dX0_init_11 rfl (lv_at hl 0 rfl) ?_
  refine lv_bipush (v := nI 24) hx hb dX0_init_12 (by decide +kernel) ?_
  refine va_newa (atype := .byte) (ty := .byte) (N' := 24) (a0 := (24, .inl (nF z0))) hx hb (hts _ q77) rfl hK hP hD hS hA (fun _ => rfl) (by decide +kernel) (nI_clamp (by decide)) (by decide) (Nat.le_of_ble_eq_true rfl) (Nat.le_of_ble_eq_true rfl) dX0_init_14 (fun q1 d1 H hK hP hD hS => ?_)
  have hP : va_P D vwCl [(h, .inr (0, [.ref q0, .null, .null, .null, .int (nI 0), .null, .null, .null, .null, .int (nI 0), .null, .int (nI 0), .int (nI 0), .int (nI 0)])), (q0, .inl (d0, 2, .inl (nF z0))), (q1, .inl (d1, 24, .inl (nF z0)))] H := hP
  have hD : va_D A [(h, .inr (0, [.ref q0, .null, .null, .null, .int (nI 0), .null, .null, .null, .null, .int (nI 0), .null, .int (nI 0), .int (nI 0), .int (nI 0)])), (q0, .inl (d0, 2, .inl (nF z0))), (q1, .inl (d1, 24, .inl (nF z0)))] := hD
  have hK : va_K D vwCl [(d0, .int), (d1, .byte)] s := hK
  refine W.widen (k := 2) (n := 26) (Nat.le_of_ble_eq_true rfl) (Nat.le_of_ble_eq_true rfl) ?_
  refine va_putF (D := D) (ci := 0) (v := .ref q1) (ty := .array .byte) (C := RX0) (T := TX0) (N := 14) hx hb hts in_X0 tyX0 tyX0_ok nmX0 hown hK hP hD hS 0 rfl rfl 1 (by decide) (hts _ q34) (fun _ h9 => h9) rfl hin rfl (by decide +kernel) rfl rfl (Nat.le_of_ble_eq_true rfl) dX0_init_16 (fun H locs hP hD hS => ?_)
  have hP : va_P D vwCl [(h, .inr (0, [.ref q0, .ref q1, .null, .null, .int (nI 0), .null, .null, .null, .null, .int (nI 0), .null, .int (nI 0), .int (nI 0), .int (nI 0)])), (q0, .inl (d0, 2, .inl (nF z0))), (q1, .inl (d1, 24, .inl (nF z0)))] H := hP
  have hD : va_D A [(h, .inr (0, [.ref q0, .ref q1, .null, .null, .int (nI 0), .null, .null, .null, .null, .int (nI 0), .null, .int (nI 0), .int (nI 0), .int (nI 0)])), (q0, .inl (d0, 2, .inl (nF z0))), (q1, .inl (d1, 24, .inl (nF z0)))] := hD
  refine lv_aload_n hx hb dX0_init_19 rfl (lv_at hl 0 rfl) ?_
  refine lv_bipush (v := nI 24) hx hb dX0_init_20 (by decide +kernel) ?_
  refine va_newa (atype := .short) (ty := .short) (N' := 24) (a0 := (24, .inl (nF z0))) hx hb (hts _ q78) rfl hK hP hD hS hA (fun _ => rfl) (by decide +kernel) (nI_clamp (by decide)) (by decide) (Nat.le_of_ble_eq_true rfl) (Nat.le_of_ble_eq_true rfl) dX0_init_22 (fun q2 d2 H hK hP hD hS => ?_)
  have hP : va_P D vwCl [(h, .inr (0, [.ref q0, .ref q1, .null, .null, .int (nI 0), .null, .null, .null, .null, .int (nI 0), .null, .int (nI 0), .int (nI 0), .int (nI 0)])), (q0, .inl (d0, 2, .inl (nF z0))), (q1, .inl (d1, 24, .inl (nF z0))), (q2, .inl (d2, 24, .inl (nF z0)))] H := hP
  have hD : va_D A [(h, .inr (0, [.ref q0, .ref q1, .null, .null, .int (nI 0), .null, .null, .null, .null, .int (nI 0), .null, .int (nI 0), .int (nI 0), .int (nI 0)])), (q0, .inl (d0, 2, .inl (nF z0))), (q1, .inl (d1, 24, .inl (nF z0))), (q2, .inl (d2, 24, .inl (nF z0)))] := hD
  have hK : va_K D vwCl [(d0, .int), (d1, .byte), (d2, .short)] s := hK
  refine W.widen (k := 3) (n := 50) (Nat.le_of_ble_eq_true rfl) (Nat.le_of_ble_eq_true rfl) ?_
  refine va_putF (D := D) (ci := 0) (v := .ref q2) (ty := .array .short) (C := RX0) (T := TX0) (N := 14) hx hb hts in_X0 tyX0 tyX0_ok nmX0 hown hK hP hD hS 0 rfl rfl 2 (by decide) (hts _ q35) (fun _ h9 => h9) rfl hin rfl (by decide +kernel) rfl rfl (Nat.le_of_ble_eq_true rfl) dX0_init_24 (fun H locs hP hD hS => ?_)
  have hP : va_P D vwCl [(h, .inr (0, [.ref q0, .ref q1, .ref q2, .null, .int (nI 0), .null, .null, .null, .null, .int (nI 0), .null, .int (nI 0), .int (nI 0), .int (nI 0)])), (q0, .inl (d0, 2, .inl (nF z0))), (q1, .inl (d1, 24, .inl (nF z0))), (q2, .inl (d2, 24, .inl (nF z0)))] H := hP
  have hD : va_D A [(h, .inr (0, [.ref q0, .ref q1, .ref q2, .null, .int (nI 0), .null, .null, .null, .null, .int (nI 0), .null, .int (nI 0), .int (nI 0), .int (nI 0)])), (q0, .inl (d0, 2, .inl (nF z0))), (q1, .inl (d1, 24, .inl (nF z0))), (q2, .inl (d2, 24, .inl (nF z0)))] := hD
  refine lv_aload_n hx hb dX0_init_27 rfl (lv_at hl 0 rfl) ?_
  refine lv_iconst (v := nI 2) hx hb dX0_init_28 (by decide +kernel) ?_
  refine va_newa (atype := .byte) (ty := .byte) (N' := 2) (a0 := (2, .inl (nF z0))) hx hb (hts _ q77) rfl hK hP hD hS hA (fun _ => rfl) (by decide +kernel) (nI_clamp (by decide)) (by decide) (Nat.le_of_ble_eq_true rfl) (Nat.le_of_ble_eq_true rfl) dX0_init_29 (fun q3 d3 H hK hP hD hS => ?_)
  have hP : va_P D vwCl [(h, .inr (0, [.ref q0, .ref q1, .ref q2, .null, .int (nI 0), .null, .null, .null, .null, .int (nI 0), .null, .int (nI 0), .int (nI 0), .int (nI 0)])), (q0, .inl (d0, 2, .inl (nF z0))), (q1, .inl (d1, 24, .inl (nF z0))), (q2, .inl (d2, 24, .inl (nF z0))), (q3, .inl (d3, 2, .inl (nF z0)))] H := hP
  have hD : va_D A [(h, .inr (0, [.ref q0, .ref q1, .ref q2, .null, .int (nI 0), .null, .null, .null, .null, .int (nI 0), .null, .int (nI 0), .int (nI 0), .int (nI 0)])), (q0, .inl (d0, 2, .inl (nF z0))), (q1, .inl (d1, 24, .inl (nF z0))), (q2, .inl (d2, 24, .inl (nF z0))), (q3, .inl (d3, 2, .inl (nF z0)))] := hD
  have hK : va_K D vwCl [(d0, .int), (d1, .byte), (d2, .short), (d3, .byte)] s := hK
  refine W.widen (k := 4) (n := 52) (Nat.le_of_ble_eq_true rfl) (Nat.le_of_ble_eq_true rfl) ?_
  refine va_putF (D := D) (ci := 0) (v := .ref q3) (ty := .array .byte) (C := RX0) (T := TX0) (N := 14) hx hb hts in_X0 tyX0 tyX0_ok nmX0 hown hK hP hD hS 0 rfl rfl 3 (by decide) (hts _ q36) (fun _ h9 => h9) rfl hin rfl (by decide +kernel) rfl rfl (Nat.le_of_ble_eq_true rfl) dX0_init_31 (fun H locs hP hD hS => ?_)
  have hP : va_P D vwCl [(h, .inr (0, [.ref q0, .ref q1, .ref q2, .ref q3, .int (nI 0), .null, .null, .null, .null, .int (nI 0), .null, .int (nI 0), .int (nI 0), .int (nI 0)])), (q0, .inl (d0, 2, .inl (nF z0))), (q1, .inl (d1, 24, .inl (nF z0))), (q2, .inl (d2, 24, .inl (nF z0))), (q3, .inl (d3, 2, .inl (nF z0)))] H := hP
  have hD : va_D A [(h, .inr (0, [.ref q0, .ref q1, .ref q2, .ref q3, .int (nI 0), .null, .null, .null, .null, .int (nI 0), .null, .int (nI 0), .int (nI 0), .int (nI 0)])), (q0, .inl (d0, 2, .inl (nF z0))), (q1, .inl (d1, 24, .inl (nF z0))), (q2, .inl (d2, 24, .inl (nF z0))), (q3, .inl (d3, 2, .inl (nF z0)))] := hD
  refine lv_aload_n hx hb dX0_init_34 rfl (lv_at hl 0 rfl) ?_
  refine lv_bipush (v := nI 24) hx hb dX0_init_35 (by decide +kernel) ?_
  refine va_newa (atype := .byte) (ty := .byte) (N' := 24) (a0 := (24, .inl (nF z0))) hx hb (hts _ q77) rfl hK hP hD hS hA (fun _ => rfl) (by decide +kernel) (nI_clamp (by decide)) (by decide) (Nat.le_of_ble_eq_true rfl) (Nat.le_of_ble_eq_true rfl) dX0_init_37 (fun q4 d4 H hK hP hD hS => ?_)
  have hP : va_P D vwCl [(h, .inr (0, [.ref q0, .ref q1, .ref q2, .ref q3, .int (nI 0), .null, .null, .null, .null, .int (nI 0), .null, .int (nI 0), .int (nI 0), .int (nI 0)])), (q0, .inl (d0, 2, .inl (nF z0))), (q1, .inl (d1, 24, .inl (nF z0))), (q2, .inl (d2, 24, .inl (nF z0))), (q3, .inl (d3, 2, .inl (nF z0))), (q4, .inl (d4, 24, .inl (nF z0)))] H := hP
  have hD : va_D A [(h, .inr (0, [.ref q0, .ref q1, .ref q2, .ref q3, .int (nI 0), .null, .null, .null, .null, .int (nI 0), .null, .int (nI 0), .int (nI 0), .int (nI 0)])), (q0, .inl (d0, 2, .inl (nF z0))), (q1, .inl (d1, 24, .inl (nF z0))), (q2, .inl (d2, 24, .inl (nF z0))), (q3, .inl (d3, 2, .inl (nF z0))), (q4, .inl (d4, 24, .inl (nF z0)))] := hD
  have hK : va_K D vwCl [(d0, .int), (d1, .byte), (d2, .short), (d3, .byte), (d4, .byte)] s := hK
  refine W.widen (k := 5) (n := 76) (Nat.le_of_ble_eq_true rfl) (Nat.le_of_ble_eq_true rfl) ?_
  refine va_putF (D := D) (ci := 0) (v := .ref q4) (ty := .array .byte) (C := RX0) (T := TX0) (N := 14) hx hb hts in_X0 tyX0 tyX0_ok nmX0 hown hK hP hD hS 0 rfl rfl 5 (by decide) (hts _ q38) (fun _ h9 => h9) rfl hin rfl (by decide +kernel) rfl rfl (Nat.le_of_ble_eq_true rfl) dX0_init_39 (fun H locs hP hD hS => ?_)
  have hP : va_P D vwCl [(h, .inr (0, [.ref q0, .ref q1, .ref q2, .ref q3, .int (nI 0), .ref q4, .null, .null, .null, .int (nI 0), .null, .int (nI 0), .int (nI 0), .int (nI 0)])), (q0, .inl (d0, 2, .inl (nF z0))), (q1, .inl (d1, 24, .inl (nF z0))), (q2, .inl (d2, 24, .inl (nF z0))), (q3, .inl (d3, 2, .inl (nF z0))), (q4, .inl (d4, 24, .inl (nF z0)))] H := hP
  have hD : va_D A [(h, .inr (0, [.ref q0, .ref q1, .ref q2, .ref q3, .int (nI 0), .ref q4, .null, .null, .null, .int (nI 0), .null, .int (nI 0), .int (nI 0), .int (nI 0)])), (q0, .inl (d0, 2, .inl (nF z0))), (q1, .inl (d1, 24, .inl (nF z0))), (q2, .inl (d2, 24, .inl (nF z0))), (q3, .inl (d3, 2, .inl (nF z0))), (q4, .inl (d4, 24, .inl (nF z0)))] := hD
  refine lv_aload_n hx hb dX0_init_42 rfl (lv_at hl 0 rfl) ?_
  refine lv_iconst (v := nI 2) hx hb dX0_init_43 (by decide +kernel) ?_
  refine va_newa (atype := .byte) (ty := .byte) (N' := 2) (a0 := (2, .inl (nF z0))) hx hb (hts _ q77) rfl hK hP hD hS hA (fun _ => rfl) (by decide +kernel) (nI_clamp (by decide)) (by decide) (Nat.le_of_ble_eq_true rfl) (Nat.le_of_ble_eq_true rfl) dX0_init_44 (fun q5 d5 H hK hP hD hS => ?_)
  have hP : va_P D vwCl [(h, .inr (0, [.ref q0, .ref q1, .ref q2, .ref q3, .int (nI 0), .ref q4, .null, .null, .null, .int (nI 0), .null, .int (nI 0), .int (nI 0), .int (nI 0)])), (q0, .inl (d0, 2, .inl (nF z0))), (q1, .inl (d1, 24, .inl (nF z0))), (q2, .inl (d2, 24, .inl (nF z0))), (q3, .inl (d3, 2, .inl (nF z0))), (q4, .inl (d4, 24, .inl (nF z0))), (q5, .inl (d5, 2, .inl (nF z0)))] H := hP
  have hD : va_D A [(h, .inr (0, [.ref q0, .ref q1, .ref q2, .ref q3, .int (nI 0), .ref q4, .null, .null, .null, .int (nI 0), .null, .int (nI 0), .int (nI 0), .int (nI 0)])), (q0, .inl (d0, 2, .inl (nF z0))), (q1, .inl (d1, 24, .inl (nF z0))), (q2, .inl (d2, 24, .inl (nF z0))), (q3, .inl (d3, 2, .inl (nF z0))), (q4, .inl (d4, 24, .inl (nF z0))), (q5, .inl (d5, 2, .inl (nF z0)))] := hD
  have hK : va_K D vwCl [(d0, .int), (d1, .byte), (d2, .short), (d3, .byte), (d4, .byte), (d5, .byte)] s := hK
  refine W.widen (k := 6) (n := 78) (Nat.le_of_ble_eq_true rfl) (Nat.le_of_ble_eq_true rfl) ?_
  refine va_putF (D := D) (ci := 0) (v := .ref q5) (ty := .array .byte) (C := RX0) (T := TX0) (N := 14) hx hb hts in_X0 tyX0 tyX0_ok nmX0 hown hK hP hD hS 0 rfl rfl 6 (by decide) (hts _ q39) (fun _ h9 => h9) rfl hin rfl (by decide +kernel) rfl rfl (Nat.le_of_ble_eq_true rfl) dX0_init_46 (fun H locs hP hD hS => ?_)
  have hP : va_P D vwCl [(h, .inr (0, [.ref q0, .ref q1, .ref q2, .ref q3, .int (nI 0), .ref q4, .ref q5, .null, .null, .int (nI 0), .null, .int (nI 0), .int (nI 0), .int (nI 0)])), (q0, .inl (d0, 2, .inl (nF z0))), (q1, .inl (d1, 24, .inl (nF z0))), (q2, .inl (d2, 24, .inl (nF z0))), (q3, .inl (d3, 2, .inl (nF z0))), (q4, .inl (d4, 24, .inl (nF z0))), (q5, .inl (d5, 2, .inl (nF z0)))] H := hP
  have hD : va_D A [(h, .inr (0, [.ref q0, .ref q1, .ref q2, .ref q3, .int (nI 0), .ref q4, .ref q5, .null, .null, .int (nI 0), .null, .int (nI 0), .int (nI 0), .int (nI 0)])), (q0, .inl (d0, 2, .inl (nF z0))), (q1, .inl (d1, 24, .inl (nF z0))), (q2, .inl (d2, 24, .inl (nF z0))), (q3, .inl (d3, 2, .inl (nF z0))), (q4, .inl (d4, 24, .inl (nF z0))), (q5, .inl (d5, 2, .inl (nF z0)))] := hD
  refine lv_aload_n hx hb dX0_init_49 rfl (lv_at hl 0 rfl) ?_
  refine lv_iconst (v := nI 2) hx hb dX0_init_50 (by decide +kernel) ?_
  refine va_newa (atype := .byte) (ty := .byte) (N' := 2) (a0 := (2, .inl (nF z0))) hx hb (hts _ q77) rfl hK hP hD hS hA (fun _ => rfl) (by decide +kernel) (nI_clamp (by decide)) (by decide) (Nat.le_of_ble_eq_true rfl) (Nat.le_of_ble_eq_true rfl) dX0_init_51 (fun q6 d6 H hK hP hD hS => ?_)
  have hP : va_P D vwCl [(h, .inr (0, [.ref q0, .ref q1, .ref q2, .ref q3, .int (nI 0), .ref q4, .ref q5, .null, .null, .int (nI 0), .null, .int (nI 0), .int (nI 0), .int (nI 0)])), (q0, .inl (d0, 2, .inl (nF z0))), (q1, .inl (d1, 24, .inl (nF z0))), (q2, .inl (d2, 24, .inl (nF z0))), (q3, .inl (d3, 2, .inl (nF z0))), (q4, .inl (d4, 24, .inl (nF z0))), (q5, .inl (d5, 2, .inl (nF z0))), (q6, .inl (d6, 2, .inl (nF z0)))] H := hP
  have hD : va_D A [(h, .inr (0, [.ref q0, .ref q1, .ref q2, .ref q3, .int (nI 0), .ref q4, .ref q5, .null, .null, .int (nI 0), .null, .int (nI 0), .int (nI 0), .int (nI 0)])), (q0, .inl (d0, 2, .inl (nF z0))), (q1, .inl (d1, 24, .inl (nF z0))), (q2, .inl (d2, 24, .inl (nF z0))), (q3, .inl (d3, 2, .inl (nF z0))), (q4, .inl (d4, 24, .inl (nF z0))), (q5, .inl (d5, 2, .inl (nF z0))), (q6, .inl (d6, 2, .inl (nF z0)))] := hD
  have hK : va_K D vwCl [(d0, .int), (d1, .byte), (d2, .short), (d3, .byte), (d4, .byte), (d5, .byte), (d6, .byte)] s := hK
  refine W.widen (k := 7) (n := 80) (Nat.le_of_ble_eq_true rfl) (Nat.le_of_ble_eq_true rfl) ?_
  refine va_putF (D := D) (ci := 0) (v := .ref q6) (ty := .array .byte) (C := RX0) (T := TX0) (N := 14) hx hb hts in_X0 tyX0 tyX0_ok nmX0 hown hK hP hD hS 0 rfl rfl 7 (by decide) (hts _ q40) (fun _ h9 => h9) rfl hin rfl (by decide +kernel) rfl rfl (Nat.le_of_ble_eq_true rfl) dX0_init_53 (fun H locs hP hD hS => ?_)
  have hP : va_P D vwCl [(h, .inr (0, [.ref q0, .ref q1, .ref q2, .ref q3, .int (nI 0), .ref q4, .ref q5, .ref q6, .null, .int (nI 0), .null, .int (nI 0), .int (nI 0), .int (nI 0)])), (q0, .inl (d0, 2, .inl (nF z0))), (q1, .inl (d1, 24, .inl (nF z0))), (q2, .inl (d2, 24, .inl (nF z0))), (q3, .inl (d3, 2, .inl (nF z0))), (q4, .inl (d4, 24, .inl (nF z0))), (q5, .inl (d5, 2, .inl (nF z0))), (q6, .inl (d6, 2, .inl (nF z0)))] H := hP
  have hD : va_D A [(h, .inr (0, [.ref q0, .ref q1, .ref q2, .ref q3, .int (nI 0), .ref q4, .ref q5, .ref q6, .null, .int (nI 0), .null, .int (nI 0), .int (nI 0), .int (nI 0)])), (q0, .inl (d0, 2, .inl (nF z0))), (q1, .inl (d1, 24, .inl (nF z0))), (q2, .inl (d2, 24, .inl (nF z0))), (q3, .inl (d3, 2, .inl (nF z0))), (q4, .inl (d4, 24, .inl (nF z0))), (q5, .inl (d5, 2, .inl (nF z0))), (q6, .inl (d6, 2, .inl (nF z0)))] := hD
  refine lv_aload_n hx hb dX0_init_56 rfl (lv_at hl 0 rfl) ?_
  refine lv_sipush (v := nI 144) hx hb dX0_init_57 (by decide +kernel) ?_
  refine va_newa (atype := .short) (ty := .short) (N' := 144) (a0 := (144, .inl (nF z0))) hx hb (hts _ q78) rfl hK hP hD hS hA (fun _ => rfl) (by decide +kernel) (nI_clamp (by decide)) (by decide) (Nat.le_of_ble_eq_true rfl) (Nat.le_of_ble_eq_true rfl) dX0_init_60 (fun q7 d7 H hK hP hD hS => ?_)
  have hP : va_P D vwCl [(h, .inr (0, [.ref q0, .ref q1, .ref q2, .ref q3, .int (nI 0), .ref q4, .ref q5, .ref q6, .null, .int (nI 0), .null, .int (nI 0), .int (nI 0), .int (nI 0)])), (q0, .inl (d0, 2, .inl (nF z0))), (q1, .inl (d1, 24, .inl (nF z0))), (q2, .inl (d2, 24, .inl (nF z0))), (q3, .inl (d3, 2, .inl (nF z0))), (q4, .inl (d4, 24, .inl (nF z0))), (q5, .inl (d5, 2, .inl (nF z0))), (q6, .inl (d6, 2, .inl (nF z0))), (q7, .inl (d7, 144, .inl (nF z0)))] H := hP
  have hD : va_D A [(h, .inr (0, [.ref q0, .ref q1, .ref q2, .ref q3, .int (nI 0), .ref q4, .ref q5, .ref q6, .null, .int (nI 0), .null, .int (nI 0), .int (nI 0), .int (nI 0)])), (q0, .inl (d0, 2, .inl (nF z0))), (q1, .inl (d1, 24, .inl (nF z0))), (q2, .inl (d2, 24, .inl (nF z0))), (q3, .inl (d3, 2, .inl (nF z0))), (q4, .inl (d4, 24, .inl (nF z0))), (q5, .inl (d5, 2, .inl (nF z0))), (q6, .inl (d6, 2, .inl (nF z0))), (q7, .inl (d7, 144, .inl (nF z0)))] := hD
  have hK : va_K D vwCl [(d0, .int), (d1, .byte), (d2, .short), (d3, .byte), (d4, .byte), (d5, .byte), (d6, .byte), (d7, .short)] s := hK
  refine W.widen (k := 8) (n := 224) (Nat.le_of_ble_eq_true rfl) (Nat.le_of_ble_eq_true rfl) ?_
  refine va_putF (D := D) (ci := 0) (v := .ref q7) (ty := .array .short) (C := RX0) (T := TX0) (N := 14) hx hb hts in_X0 tyX0 tyX0_ok nmX0 hown hK hP hD hS 0 rfl rfl 8 (by decide) (hts _ q41) (fun _ h9 => h9) rfl hin rfl (by decide +kernel) rfl rfl (Nat.le_of_ble_eq_true rfl) dX0_init_62 (fun H locs hP hD hS => ?_)
  have hP : va_P D vwCl [(h, .inr (0, [.ref q0, .ref q1, .ref q2, .ref q3, .int (nI 0), .ref q4, .ref q5, .ref q6, .ref q7, .int (nI 0), .null, .int (nI 0), .int (nI 0), .int (nI 0)])), (q0, .inl (d0, 2, .inl (nF z0))), (q1, .inl (d1, 24, .inl (nF z0))), (q2, .inl (d2, 24, .inl (nF z0))), (q3, .inl (d3, 2, .inl (nF z0))), (q4, .inl (d4, 24, .inl (nF z0))), (q5, .inl (d5, 2, .inl (nF z0))), (q6, .inl (d6, 2, .inl (nF z0))), (q7, .inl (d7, 144, .inl (nF z0)))] H := hP
  have hD : va_D A [(h, .inr (0, [.ref q0, .ref q1, .ref q2, .ref q3, .int (nI 0), .ref q4, .ref q5, .ref q6, .ref q7, .int (nI 0), .null, .int (nI 0), .int (nI 0), .int (nI 0)])), (q0, .inl (d0, 2, .inl (nF z0))), (q1, .inl (d1, 24, .inl (nF z0))), (q2, .inl (d2, 24, .inl (nF z0))), (q3, .inl (d3, 2, .inl (nF z0))), (q4, .inl (d4, 24, .inl (nF z0))), (q5, .inl (d5, 2, .inl (nF z0))), (q6, .inl (d6, 2, .inl (nF z0))), (q7, .inl (d7, 144, .inl (nF z0)))] := hD
  refine lv_aload_n hx hb dX0_init_65 rfl (lv_at hl 0 rfl) ?_
  refine lv_sipush (v := nI 144) hx hb dX0_init_66 (by decide +kernel) ?_
  refine va_newa (atype := .short) (ty := .short) (N' := 144) (a0 := (144, .inl (nF z0))) hx hb (hts _ q78) rfl hK hP hD hS hA (fun _ => rfl) (by decide +kernel) (nI_clamp (by decide)) (by decide) (Nat.le_of_ble_eq_true rfl) (Nat.le_of_ble_eq_true rfl) dX0_init_69 (fun q8 d8 H hK hP hD hS => ?_)
  have hP : va_P D vwCl [(h, .inr (0, [.ref q0, .ref q1, .ref q2, .ref q3, .int (nI 0), .ref q4, .ref q5, .ref q6, .ref q7, .int (nI 0), .null, .int (nI 0), .int (nI 0), .int (nI 0)])), (q0, .inl (d0, 2, .inl (nF z0))), (q1, .inl (d1, 24, .inl (nF z0))), (q2, .inl (d2, 24, .inl (nF z0))), (q3, .inl (d3, 2, .inl (nF z0))), (q4, .inl (d4, 24, .inl (nF z0))), (q5, .inl (d5, 2, .inl (nF z0))), (q6, .inl (d6, 2, .inl (nF z0))), (q7, .inl (d7, 144, .inl (nF z0))), (q8, .inl (d8, 144, .inl (nF z0)))] H := hP
  have hD : va_D A [(h, .inr (0, [.ref q0, .ref q1, .ref q2, .ref q3, .int (nI 0), .ref q4, .ref q5, .ref q6, .ref q7, .int (nI 0), .null, .int (nI 0), .int (nI 0), .int (nI 0)])), (q0, .inl (d0, 2, .inl (nF z0))), (q1, .inl (d1, 24, .inl (nF z0))), (q2, .inl (d2, 24, .inl (nF z0))), (q3, .inl (d3, 2, .inl (nF z0))), (q4, .inl (d4, 24, .inl (nF z0))), (q5, .inl (d5, 2, .inl (nF z0))), (q6, .inl (d6, 2, .inl (nF z0))), (q7, .inl (d7, 144, .inl (nF z0))), (q8, .inl (d8, 144, .inl (nF z0)))] := hD
  have hK : va_K D vwCl [(d0, .int), (d1, .byte), (d2, .short), (d3, .byte), (d4, .byte), (d5, .byte), (d6, .byte), (d7, .short), (d8, .short)] s := hK
  refine W.widen (k := 9) (n := 368) (Nat.le_of_ble_eq_true rfl) (Nat.le_of_ble_eq_true rfl) ?_
  refine va_putF (D := D) (ci := 0) (v := .ref q8) (ty := .array .short) (C := RX0) (T := TX0) (N := 14) hx hb hts in_X0 tyX0 tyX0_ok nmX0 hown hK hP hD hS 0 rfl rfl 10 (by decide) (hts _ q43) (fun _ h9 => h9) rfl hin rfl (by decide +kernel) rfl rfl (Nat.le_of_ble_eq_true rfl) dX0_init_71 (fun H locs hP hD hS => ?_)
  have hP : va_P D vwCl [(h, .inr (0, [.ref q0, .ref q1, .ref q2, .ref q3, .int (nI 0), .ref q4, .ref q5, .ref q6, .ref q7, .int (nI 0), .ref q8, .int (nI 0), .int (nI 0), .int (nI 0)])), (q0, .inl (d0, 2, .inl (nF z0))), (q1, .inl (d1, 24, .inl (nF z0))), (q2, .inl (d2, 24, .inl (nF z0))), (q3, .inl (d3, 2, .inl (nF z0))), (q4, .inl (d4, 24, .inl (nF z0))), (q5, .inl (d5, 2, .inl (nF z0))), (q6, .inl (d6, 2, .inl (nF z0))), (q7, .inl (d7, 144, .inl (nF z0))), (q8, .inl (d8, 144, .inl (nF z0)))] H := hP
  have hD : va_D A [(h, .inr (0, [.ref q0, .ref q1, .ref q2, .ref q3, .int (nI 0), .ref q4, .ref q5, .ref q6, .ref q7, .int (nI 0), .ref q8, .int (nI 0), .int (nI 0), .int (nI 0)])), (q0, .inl (d0, 2, .inl (nF z0))), (q1, .inl (d1, 24, .inl (nF z0))), (q2, .inl (d2, 24, .inl (nF z0))), (q3, .inl (d3, 2, .inl (nF z0))), (q4, .inl (d4, 24, .inl (nF z0))), (q5, .inl (d5, 2, .inl (nF z0))), (q6, .inl (d6, 2, .inl (nF z0))), (q7, .inl (d7, 144, .inl (nF z0))), (q8, .inl (d8, 144, .inl (nF z0)))] := hD
  refine lv_aload_n hx hb dX0_init_74 rfl (lv_at hl 0 rfl) ?_
  refine va_get (D := D) (ci := 0) (v := .ref q3) (C := RX0) (T := TX0) (N := 14) hx hb hts in_X0 hown hK hP 0 rfl rfl 3 (by decide) (hts _ q36) (fun _ h9 => h9) rfl dX0_init_75 ?_
  refine lv_iconst (v := nI 0) hx hb dX0_init_78 (by decide +kernel) ?_
  refine lv_iconst (v := nI 1) hx hb dX0_init_79 (by decide +kernel) ?_
  refine va_bast hx hb hK hP hD hS 4 3 rfl rfl (vp_in_nI (show 0 < 2 by decide) (by decide)) dX0_init_80 (fun H locs hP hD hS => ?_)
  rw [nI_clamp (show 0 < 2 ^ 31 by decide), vp_nar_byte, nI_b8 _ (show 1 < 128 by decide), upd_nF] at hP hD
  have hP : va_P D vwCl [(h, .inr (0, [.ref q0, .ref q1, .ref q2, .ref q3, .int (nI 0), .ref q4, .ref q5, .ref q6, .ref q7, .int (nI 0), .ref q8, .int (nI 0), .int (nI 0), .int (nI 0)])), (q0, .inl (d0, 2, .inl (nF z0))), (q1, .inl (d1, 24, .inl (nF z0))), (q2, .inl (d2, 24, .inl (nF z0))), (q3, .inl (d3, 2, .inl (nF (updN z0 0 1)))), (q4, .inl (d4, 24, .inl (nF z0))), (q5, .inl (d5, 2, .inl (nF z0))), (q6, .inl (d6, 2, .inl (nF z0))), (q7, .inl (d7, 144, .inl (nF z0))), (q8, .inl (d8, 144, .inl (nF z0)))] H := hP
  have hD : va_D A [(h, .inr (0, [.ref q0, .ref q1, .ref q2, .ref q3, .int (nI 0), .ref q4, .ref q5, .ref q6, .ref q7, .int (nI 0), .ref q8, .int (nI 0), .int (nI 0), .int (nI 0)])), (q0, .inl (d0, 2, .inl (nF z0))), (q1, .inl (d1, 24, .inl (nF z0))), (q2, .inl (d2, 24, .inl (nF z0))), (q3, .inl (d3, 2, .inl (nF (updN z0 0 1)))), (q4, .inl (d4, 24, .inl (nF z0))), (q5, .inl (d5, 2, .inl (nF z0))), (q6, .inl (d6, 2, .inl (nF z0))), (q7, .inl (d7, 144, .inl (nF z0))), (q8, .inl (d8, 144, .inl (nF z0)))] := hD
  refine lv_aload_n hx hb dX0_init_81 rfl (lv_at hl 0 rfl) ?_
  refine va_get (D := D) (ci := 0) (v := .ref q3) (C := RX0) (T := TX0) (N := 14) hx hb hts in_X0 hown hK hP 0 rfl rfl 3 (by decide) (hts _ q36) (fun _ h9 => h9) rfl dX0_init_82 ?_
  refine lv_iconst (v := nI 1) hx hb dX0_init_85 (by decide +kernel) ?_
  refine lv_iconst (v := nI 1) hx hb dX0_init_86 (by decide +kernel) ?_
  refine va_bast hx hb hK hP hD hS 4 3 rfl rfl (vp_in_nI (show 1 < 2 by decide) (by decide)) dX0_init_87 (fun H locs hP hD hS => ?_)
  rw [nI_clamp (show 1 < 2 ^ 31 by decide), vp_nar_byte, nI_b8 _ (show 1 < 128 by decide), upd_nF] at hP hD
  have hP : va_P D vwCl [(h, .inr (0, [.ref q0, .ref q1, .ref q2, .ref q3, .int (nI 0), .ref q4, .ref q5, .ref q6, .ref q7, .int (nI 0), .ref q8, .int (nI 0), .int (nI 0), .int (nI 0)])), (q0, .inl (d0, 2, .inl (nF z0))), (q1, .inl (d1, 24, .inl (nF z0))), (q2, .inl (d2, 24, .inl (nF z0))), (q3, .inl (d3, 2, .inl (nF (updN (updN z0 0 1) 1 1)))), (q4, .inl (d4, 24, .inl (nF z0))), (q5, .inl (d5, 2, .inl (nF z0))), (q6, .inl (d6, 2, .inl (nF z0))), (q7, .inl (d7, 144, .inl (nF z0))), (q8, .inl (d8, 144, .inl (nF z0)))] H := hP
  have hD : va_D A [(h, .inr (0, [.ref q0, .ref q1, .ref q2, .ref q3, .int (nI 0), .ref q4, .ref q5, .ref q6, .ref q7, .int (nI 0), .ref q8, .int (nI 0), .int (nI 0), .int (nI 0)])), (q0, .inl (d0, 2, .inl (nF z0))), (q1, .inl (d1, 24, .inl (nF z0))), (q2, .inl (d2, 24, .inl (nF z0))), (q3, .inl (d3, 2, .inl (nF (updN (updN z0 0 1) 1 1)))), (q4, .inl (d4, 24, .inl (nF z0))), (q5, .inl (d5, 2, .inl (nF z0))), (q6, .inl (d6, 2, .inl (nF z0))), (q7, .inl (d7, 144, .inl (nF z0))), (q8, .inl (d8, 144, .inl (nF z0)))] := hD
  exact W.vret hx hb hr (fun t ht hW => ⟨⟨((fun i => match i with | 0 => q0 | 1 => q1 | 2 => q2 | 3 => q3 | 4 => q4 | 5 => q5 | 6 => q6 | 7 => q7 | _ => q8), (fun i => match i with | 0 => d0 | 1 => d1 | 2 => d2 | 3 => d3 | 4 => d4 | 5 => d5 | 6 => d6 | 7 => d7 | _ => d8)), rfl, trivial, bOK0, by rw [ht]; exact hP, va_K.moved hW.alike hK, hD⟩, hS.F ht⟩) hS.2.2 dX0_init_88 B.notSynchronized
set_option maxHeartbeats 4000000 in
set_option maxRecDepth 100000 in
theorem mt_init (l : Launch) (D : va_G) (h sz : Nat) : Met l yX1_init (ws_ yX1_init cX1_init 1 none) { frames := 1, cells := 4, slots := 74, locals := 12 } (va_Pc [.ref h] (fun U => U.heap.size = sz ∧ va_P D vwCl [(h, .inr (1, mF0))] U.heap ∧ va_K D vwCl [] U ∧ va_D TT [(h, .inr (1, mF0))])) (va_Qv (fun (_ : (Nat → Nat) × (Nat → ClassId)) => True) (fun u => gAt D (mty u.2) (nA h sz) (mw h u.1 u.2 z0 z0 z0 w11 0) (mOK z0 z0 z0 w11 0)) (nA h sz)) 4 74 (nA h sz) := by
  refine Met.ofW (cc := cX1_init) (maxL := 1) (ret := none) (by decide) rfl ?_
  intro p e s m args below meth c s₁ B hml hv
  obtain ⟨rfl, hsz, hP, hK, hD0⟩ := hv
  have hx := B.exec
  have hb := B.bytes
  have hr := B.returns
  have hts := atoms_spec (ws := ws_ yX1_init cX1_init 1 none) B.pre
  have hts : ∀ w ∈ lw_all, w.before _ s = true := fun w h => hts w (List.mem_cons_of_mem _ h)
  have hown : s.vm.findClass RX1 = some m.cls := findClass_of_methodNamed B.named
  have hin : meth.name = "<init>" := (name_of_methodNamed B.named B.method).1
  subst hsz
  have hD : va_D (nA h s.heap.size) [(h, .inr (1, mF0))] := ⟨hD0.1, fun k q hq => by
    match k, hq with
    | 0, hq => cases hq; exact Or.inl rfl
    | k + 1, hq => cases hq⟩
  generalize hAe : nA h s.heap.size = A at hD ⊢
  have hA : ∀ q : Nat, s.heap.size ≤ q → A q := fun q h => by rw [← hAe]; exact Or.inr h
  have hS : va_S A s.heap s.heap [] := va_S.rf
  have hl := lv_entry ([.ref h]) (n := 1) (Nat.le_of_ble_eq_true rfl)
  rw [lg_entry_eq]
  generalize (lg_sl ([.ref h]) ++ List.replicate (1 - (lg_sl ([.ref h])).length) Slot.unset).toArray = ls at hl ⊢
  have hl : lv_has ls 1 [(0, .ref h)] := hl
  refine lv_aload_n hx hb dX1_init_0 rfl (lv_at hl 0 rfl) ?_
  refine W.objInit hx hb hown (hts _ q207) (hts _ q31) (hts _ q32) rfl (by rw [hml]; exact hl.1) rfl dX1_init_1 (Nat.le_of_ble_eq_true rfl) (Nat.le_of_ble_eq_true rfl) ?_
  refine W.eq (g2 := F0 m 4 ls []) rfl ?_
  refine lv_aload_n hx hb dX1_init_4 rfl (lv_at hl 0 rfl) ?_
  refine lv_bipush (v := nI 24) hx hb dX1_init_5 (by decide +kernel) ?_
  refine va_newa (atype := .boolean) (ty := .boolean) (N' := 24) (a0 := (24, .inl (nF z0))) hx hb (hts _ q224) rfl hK hP hD hS hA (fun _ => rfl) (by decide +kernel) (nI_clamp (by decide)) (by decide) (Nat.le_of_ble_eq_true rfl) (Nat.le_of_ble_eq_true rfl) dX1_init_7 (fun q0 d0 H hK hP hD hS => ?_)
  have hP : va_P D vwCl [(h, .inr (1, [.null, .null, .null, .null, .int (nI 0)])), (q0, .inl (d0, 24, .inl (nF z0)))] H := hP
  have hD : va_D A [(h, .inr (1, [.null, .null, .null, .null, .int (nI 0)])), (q0, .inl (d0, 24, .inl (nF z0)))] := hD
  have hK : va_K D vwCl [(d0, .boolean)] s := hK
  refine W.widen (k := 1) (n := 24) (Nat.le_of_ble_eq_true rfl) (Nat.le_of_ble_eq_true rfl) ?_
  refine va_put (D := D) (ci := 1) (v := .ref q0) (ty := .array .boolean) (C := RX1) (T := TX1) (N := 5) hx hb hts in_X1 tyX1 tyX1_ok nmX1 hown hK hP hD hS 0 rfl rfl 0 (by decide) (hts _ q208) (fun _ h9 => h9) rfl (by decide +kernel) rfl rfl (Nat.le_of_ble_eq_true rfl) dX1_init_9 (fun H locs hP hD hS => ?_)
  have hP : va_P D vwCl [(h, .inr (1, [.ref q0, .null, .null, .null, .int (nI 0)])), (q0, .inl (d0, 24, .inl (nF z0)))] H := hP
  have hD : va_D A [(h, .inr (1, [.ref q0, .null, .null, .null, .int (nI 0)])), (q0, .inl (d0, 24, .inl (nF z0)))] := hD
  refine lv_aload_n hx hb dX1_init_12 rfl (lv_at hl 0 rfl) ?_
  refine lv_bipush (v := nI 24) hx hb dX1_init_13 (by decide +kernel) ?_
  refine va_newa (atype := .int) (ty := .int) (N' := 24) (a0 := (24, .inl (nF z0))) hx hb (hts _ q76) rfl hK hP hD hS hA (fun _ => rfl) (by decide +kernel) (nI_clamp (by decide)) (by decide) (Nat.le_of_ble_eq_true rfl) (Nat.le_of_ble_eq_true rfl) dX1_init_15 (fun q1 d1 H hK hP hD hS => ?_)
  have hP : va_P D vwCl [(h, .inr (1, [.ref q0, .null, .null, .null, .int (nI 0)])), (q0, .inl (d0, 24, .inl (nF z0))), (q1, .inl (d1, 24, .inl (nF z0)))] H := hP
  have hD : va_D A [(h, .inr (1, [.ref q0, .null, .null, .null, .int (nI 0)])), (q0, .inl (d0, 24, .inl (nF z0))), (q1, .inl (d1, 24, .inl (nF z0)))] := hD
  have hK : va_K D vwCl [(d0, .boolean), (d1, .int)] s := hK
  refine W.widen (k := 2) (n := 48) (Nat.le_of_ble_eq_true rfl) (Nat.le_of_ble_eq_true rfl) ?_
  refine va_put (D := D) (ci := 1) (v := .ref q1) (ty := .array .int) (C := RX1) (T := TX1) (N := 5) hx hb hts in_X1 tyX1 tyX1_ok nmX1 hown hK hP hD hS 0 rfl rfl 1 (by decide) (hts _ q209) (fun _ h9 => h9) rfl (by decide +kernel) rfl rfl (Nat.le_of_ble_eq_true rfl) dX1_init_17 (fun H locs hP hD hS => ?_)
  have hP : va_P D vwCl [(h, .inr (1, [.ref q0, .ref q1, .null, .null, .int (nI 0)])), (q0, .inl (d0, 24, .inl (nF z0))), (q1, .inl (d1, 24, .inl (nF z0)))] H := hP
  have hD : va_D A [(h, .inr (1, [.ref q0, .ref q1, .null, .null, .int (nI 0)])), (q0, .inl (d0, 24, .inl (nF z0))), (q1, .inl (d1, 24, .inl (nF z0)))] := hD
  refine lv_aload_n hx hb dX1_init_20 rfl (lv_at hl 0 rfl) ?_
  refine lv_bipush (v := nI 24) hx hb dX1_init_21 (by decide +kernel) ?_
  refine va_newa (atype := .int) (ty := .int) (N' := 24) (a0 := (24, .inl (nF z0))) hx hb (hts _ q76) rfl hK hP hD hS hA (fun _ => rfl) (by decide +kernel) (nI_clamp (by decide)) (by decide) (Nat.le_of_ble_eq_true rfl) (Nat.le_of_ble_eq_true rfl) dX1_init_23 (fun q2 d2 H hK hP hD hS => ?_)
  have hP : va_P D vwCl [(h, .inr (1, [.ref q0, .ref q1, .null, .null, .int (nI 0)])), (q0, .inl (d0, 24, .inl (nF z0))), (q1, .inl (d1, 24, .inl (nF z0))), (q2, .inl (d2, 24, .inl (nF z0)))] H := hP
  have hD : va_D A [(h, .inr (1, [.ref q0, .ref q1, .null, .null, .int (nI 0)])), (q0, .inl (d0, 24, .inl (nF z0))), (q1, .inl (d1, 24, .inl (nF z0))), (q2, .inl (d2, 24, .inl (nF z0)))] := hD
  have hK : va_K D vwCl [(d0, .boolean), (d1, .int), (d2, .int)] s := hK
  refine W.widen (k := 3) (n := 72) (Nat.le_of_ble_eq_true rfl) (Nat.le_of_ble_eq_true rfl) ?_
  refine va_put (D := D) (ci := 1) (v := .ref q2) (ty := .array .int) (C := RX1) (T := TX1) (N := 5) hx hb hts in_X1 tyX1 tyX1_ok nmX1 hown hK hP hD hS 0 rfl rfl 2 (by decide) (hts _ q210) (fun _ h9 => h9) rfl (by decide +kernel) rfl rfl (Nat.le_of_ble_eq_true rfl) dX1_init_25 (fun H locs hP hD hS => ?_)
  have hP : va_P D vwCl [(h, .inr (1, [.ref q0, .ref q1, .ref q2, .null, .int (nI 0)])), (q0, .inl (d0, 24, .inl (nF z0))), (q1, .inl (d1, 24, .inl (nF z0))), (q2, .inl (d2, 24, .inl (nF z0)))] H := hP
  have hD : va_D A [(h, .inr (1, [.ref q0, .ref q1, .ref q2, .null, .int (nI 0)])), (q0, .inl (d0, 24, .inl (nF z0))), (q1, .inl (d1, 24, .inl (nF z0))), (q2, .inl (d2, 24, .inl (nF z0)))] := hD
  refine lv_aload_n hx hb dX1_init_28 rfl (lv_at hl 0 rfl) ?_
  refine lv_iconst (v := nI 2) hx hb dX1_init_29 (by decide +kernel) ?_
  refine va_newa (atype := .int) (ty := .int) (N' := 2) (a0 := (2, .inl (nF z0))) hx hb (hts _ q76) rfl hK hP hD hS hA (fun _ => rfl) (by decide +kernel) (nI_clamp (by decide)) (by decide) (Nat.le_of_ble_eq_true rfl) (Nat.le_of_ble_eq_true rfl) dX1_init_30 (fun q3 d3 H hK hP hD hS => ?_)
  have hP : va_P D vwCl [(h, .inr (1, [.ref q0, .ref q1, .ref q2, .null, .int (nI 0)])), (q0, .inl (d0, 24, .inl (nF z0))), (q1, .inl (d1, 24, .inl (nF z0))), (q2, .inl (d2, 24, .inl (nF z0))), (q3, .inl (d3, 2, .inl (nF z0)))] H := hP
  have hD : va_D A [(h, .inr (1, [.ref q0, .ref q1, .ref q2, .null, .int (nI 0)])), (q0, .inl (d0, 24, .inl (nF z0))), (q1, .inl (d1, 24, .inl (nF z0))), (q2, .inl (d2, 24, .inl (nF z0))), (q3, .inl (d3, 2, .inl (nF z0)))] := hD
  have hK : va_K D vwCl [(d0, .boolean), (d1, .int), (d2, .int), (d3, .int)] s := hK
  refine W.widen (k := 4) (n := 74) (Nat.le_of_ble_eq_true rfl) (Nat.le_of_ble_eq_true rfl) ?_
  refine va_put (D := D) (ci := 1) (v := .ref q3) (ty := .array .int) (C := RX1) (T := TX1) (N := 5) hx hb hts in_X1 tyX1 tyX1_ok nmX1 hown hK hP hD hS 0 rfl rfl 3 (by decide) (hts _ q211) (fun _ h9 => h9) rfl (by decide +kernel) rfl rfl (Nat.le_of_ble_eq_true rfl) dX1_init_32 (fun H locs hP hD hS => ?_)
  have hP : va_P D vwCl [(h, .inr (1, [.ref q0, .ref q1, .ref q2, .ref q3, .int (nI 0)])), (q0, .inl (d0, 24, .inl (nF z0))), (q1, .inl (d1, 24, .inl (nF z0))), (q2, .inl (d2, 24, .inl (nF z0))), (q3, .inl (d3, 2, .inl (nF z0)))] H := hP
  have hD : va_D A [(h, .inr (1, [.ref q0, .ref q1, .ref q2, .ref q3, .int (nI 0)])), (q0, .inl (d0, 24, .inl (nF z0))), (q1, .inl (d1, 24, .inl (nF z0))), (q2, .inl (d2, 24, .inl (nF z0))), (q3, .inl (d3, 2, .inl (nF z0)))] := hD
  refine lv_aload_n hx hb dX1_init_35 rfl (lv_at hl 0 rfl) ?_
  refine va_get (D := D) (ci := 1) (v := .ref q3) (C := RX1) (T := TX1) (N := 5) hx hb hts in_X1 hown hK hP 0 rfl rfl 3 (by decide) (hts _ q211) (fun _ h9 => h9) rfl dX1_init_36 ?_
  refine lv_iconst (v := nI 0) hx hb dX1_init_39 (by decide +kernel) ?_
  refine lv_iconst (v := nI 1) hx hb dX1_init_40 (by decide +kernel) ?_
  refine va_iast hx hb hK hP hD hS 4 3 rfl rfl (vp_in_nI (show 0 < 2 by decide) (by decide)) dX1_init_41 (fun H locs hP hD hS => ?_)
  rw [nI_clamp (show 0 < 2 ^ 31 by decide), upd_nF] at hP hD
  have hP : va_P D vwCl [(h, .inr (1, [.ref q0, .ref q1, .ref q2, .ref q3, .int (nI 0)])), (q0, .inl (d0, 24, .inl (nF z0))), (q1, .inl (d1, 24, .inl (nF z0))), (q2, .inl (d2, 24, .inl (nF z0))), (q3, .inl (d3, 2, .inl (nF (updN z0 0 1))))] H := hP
  have hD : va_D A [(h, .inr (1, [.ref q0, .ref q1, .ref q2, .ref q3, .int (nI 0)])), (q0, .inl (d0, 24, .inl (nF z0))), (q1, .inl (d1, 24, .inl (nF z0))), (q2, .inl (d2, 24, .inl (nF z0))), (q3, .inl (d3, 2, .inl (nF (updN z0 0 1))))] := hD
  refine lv_aload_n hx hb dX1_init_42 rfl (lv_at hl 0 rfl) ?_
  refine va_get (D := D) (ci := 1) (v := .ref q3) (C := RX1) (T := TX1) (N := 5) hx hb hts in_X1 hown hK hP 0 rfl rfl 3 (by decide) (hts _ q211) (fun _ h9 => h9) rfl dX1_init_43 ?_
  refine lv_iconst (v := nI 1) hx hb dX1_init_46 (by decide +kernel) ?_
  refine lv_iconst (v := nI 1) hx hb dX1_init_47 (by decide +kernel) ?_
  refine va_iast hx hb hK hP hD hS 4 3 rfl rfl (vp_in_nI (show 1 < 2 by decide) (by decide)) dX1_init_48 (fun H locs hP hD hS => ?_)
  rw [nI_clamp (show 1 < 2 ^ 31 by decide), upd_nF] at hP hD
  have hP : va_P D vwCl [(h, .inr (1, [.ref q0, .ref q1, .ref q2, .ref q3, .int (nI 0)])), (q0, .inl (d0, 24, .inl (nF z0))), (q1, .inl (d1, 24, .inl (nF z0))), (q2, .inl (d2, 24, .inl (nF z0))), (q3, .inl (d3, 2, .inl (nF (updN (updN z0 0 1) 1 1))))] H := hP
  have hD : va_D A [(h, .inr (1, [.ref q0, .ref q1, .ref q2, .ref q3, .int (nI 0)])), (q0, .inl (d0, 24, .inl (nF z0))), (q1, .inl (d1, 24, .inl (nF z0))), (q2, .inl (d2, 24, .inl (nF z0))), (q3, .inl (d3, 2, .inl (nF (updN (updN z0 0 1) 1 1))))] := hD
  exact W.vret hx hb hr (fun t ht hW => ⟨⟨((fun i => match i with | 0 => q0 | 1 => q1 | 2 => q2 | _ => q3), (fun i => match i with | 0 => d0 | 1 => d1 | 2 => d2 | _ => d3)), rfl, trivial, mOK0, by rw [ht]; exact hP, va_K.moved hW.alike hK, hD⟩, hS.F ht⟩) hS.2.2 dX1_init_49 B.notSynchronized
end INI
end
section
-- ===== end of PART A; then your names; then what follows =====
/-! THE CLAIM OUT OF ONE WALK OF THE LAW'S BODY. Your part is whole_start (and what it stands on); all else here is the same for every law, but numbers. -/
def R_law : String := "BestPairsLaw"
def lw_P (b : Addr) (xs : List Int32) (args : Array Value) (s : State) : Prop := args = #[.ref b] ∧ s.IntsAt b xs ∧ xs.length ≤ 256 ∧ (Jvm.Cond.and given_1 narrow_1).before args s = true
def lw_Q (_ : Array Value) (s : State) (o : Outcome) (t : State) : Prop := o = .returned (some (.int 1)) ∧ Framed s o t [] 600000 7290000
def lw_Z (below : List Frame) (a : Array Value) (s : State) : State → Prop := fun t => ∃ o, t.status = .running ∧ Ended t below o ∧ lw_Q a s o t
/-- the law's own end, with 1 on the stack, nothing written that was there before, its room as the claim has it -/
theorem lw_ret {p : Program} {l : Launch} {e : Env} {s : State} {m : MethodId} {below : List Frame} {meth : Method} {c : Code} {b : Nat} (hx : p.tables.exec = Jvm.exec) (hb : c.code = code) (hr : meth.sig.returnType = ret) (hlocks : meth.locks = false) {pc : Nat} {H : Heap} {ls : Array Slot} (hdg : decode code pc = .ok (.ireturn, 1)) : W p l e room_1 s m #[Value.ref b] below meth c H [] 600000 7290000 (lw_Z below #[Value.ref b] s) (F0 m pc ls [.int 1]) := by
  intro T hT X
  obtain ⟨fs, hret, hrun, hended, hW, hframe⟩ := X.leave (v := some (.int 1)) (hlocks := hlocks) (fun h => by rw [hr] at h; cases h)
  have hmeth' : T.vm.method? m = some meth := X.method'
  refine ⟨T.setFrames fs, ?_, .returned (some (.int 1)), hrun, hended, rfl, ⟨_, rfl⟩, hW, hframe⟩
  jvm_step X.here [X.here.top, hx, hb, hdg, hmeth', hr, ret, narrow_b1]
  (try refine ⟨rfl, ?_⟩); (try refine ⟨rfl, ?_⟩)
  first | (intro acts; rw [hret _ acts rfl rfl rfl]) | rw [hret _ _ rfl rfl rfl]
  exact Steps.refl _
/-- what holds at the law's entry: the machine, the code, the tables' words (any of lw_tbl by 'hts w (by decide +kernel)'), the script of L ints xs at the cell b, what the Statement gives of the start (any of its parts by flat_of_before) -/
def lw_At (p : Program) (s : State) (m : MethodId) (meth : Method) (c : Code) (b L : Nat) (xs : Nat → Int32) : Prop :=
  p.tables.exec = Jvm.exec ∧ c.code = code ∧ meth.sig.returnType = ret ∧ c.maxLocals = 4 ∧ s.vm.findClass R_law = some m.cls ∧ (∀ w ∈ lw_tbl, w.before #[Value.ref b] s = true) ∧ va_X b L xs s s.heap ∧ b < s.heap.size ∧ meth.locks = false ∧ (Jvm.Cond.and given_1 narrow_1).before #[Value.ref b] s = true
end
section
/-! the law: rows for two worlds side by side, answers that are one (written by gen/law.py) -/
section LRW
variable {p : Program} {l : Launch} {e : Env} {R : Room} {s : State} {m : MethodId} {args : Array Value} {below : List Frame} {meth : Method} {c : Code} {H H1 : Heap} {locs : List Loc} {cells slots : Nat} {Q : State → Prop} {cc code' : ByteArray} {nL nL' idx fr lo pc q0 ci h n : Nat} {own C : String} {D : va_G} {t1 t2 : List (ClassId × FieldType)} {A A1 : Nat → Prop} {w1 w2 w1' : va_W} {o1 o2 : Prop} {y : MethodName} {ty : FieldType} {As rest st0 fs : List Value} {qv : vw_C} {ls : Array Slot}
theorem gX_join (hP : va_P D vwCl (w1 ++ w2) H) (hD : va_D A (w1 ++ w2)) (hA1 : ∀ q, q < H.size → A1 q → ∃ (k : Nat) (e : va_E), w1[k]? = some (q, e)) (hA : ∀ q, A1 q → A q) (hk : ∀ q : Nat, q < H.size → ¬ A1 q → H1[q]? = H[q]?) (hP1 : va_P D vwCl w1' H1) (hD1 : va_D A1 w1') : va_P D vwCl (w2 ++ w1') H1 ∧ va_D A (w2 ++ w1') := by
  have at2 : ∀ (k : Nat) (q : Nat × va_E), w2[k]? = some q → (w1 ++ w2)[w1.length + k]? = some q := fun k q hq => by
    rw [List.getElem?_append_right (by omega), show w1.length + k - w1.length = k by omega]
    exact hq
  have apart : ∀ (k : Nat) (q : Nat × va_E), w2[k]? = some q → q.1 < H.size ∧ ¬ A1 q.1 := by
    intro k q hq
    have h2 := at2 k q hq
    have hl := (hP _ q h2).lt
    refine ⟨hl, fun hz => ?_⟩
    obtain ⟨k1, e, h3⟩ := hA1 q.1 hl hz
    have h5 := (List.getElem?_eq_some_iff.mp h3).1
    have h4 : (w1 ++ w2)[k1]? = some (q.1, e) := by rw [List.getElem?_append_left h5]; exact h3
    have h6 := hD.1 _ _ q (q.1, e) h2 h4 rfl
    omega
  refine ⟨va_P.app (fun k q hq => ?_) hP1, va_D.app ⟨fun i j p q hi hj e => ?_, fun k q hq => hD.2 _ q (at2 k q hq)⟩ (hD1.weaken (fun k q _ h => hA q.1 h)) (fun i j x y hx hy hxy => ?_)⟩
  · obtain ⟨g1, g2⟩ := apart k q hq
    exact (hP _ q (at2 k q hq)).kept (hk q.1 g1 g2)
  · have z := hD.1 _ _ p q (at2 i p hi) (at2 j q hj) e
    omega
  · exact (apart i x hx).2 (by rw [hxy]; exact hD1.2 j y hy)
theorem gX.rot (X : gX D (t1 ++ t2) A s (w1 ++ w2) (o1 ∧ o2) H locs) : gX D (t2 ++ t1) A s (w2 ++ w1) (o2 ∧ o1) H locs := by
  obtain ⟨⟨a1, a2⟩, hP, hK, hD, hS⟩ := X
  have at1 : ∀ (k : Nat) (q : Nat × va_E), w1[k]? = some q → (w1 ++ w2)[k]? = some q := fun k q hq => by
    rw [List.getElem?_append_left ((List.getElem?_eq_some_iff.mp hq).1)]; exact hq
  have at2 : ∀ (k : Nat) (q : Nat × va_E), w2[k]? = some q → (w1 ++ w2)[w1.length + k]? = some q := fun k q hq => by
    rw [List.getElem?_append_right (by omega), show w1.length + k - w1.length = k by omega]
    exact hq
  have kt1 : va_K D vwCl t1 s := ⟨hK.1, fun k q hq => hK.2 k q (by rw [List.getElem?_append_left ((List.getElem?_eq_some_iff.mp hq).1)]; exact hq)⟩
  have kt2 : va_K D vwCl t2 s := ⟨hK.1, fun k q hq => hK.2 (t1.length + k) q (by rw [List.getElem?_append_right (by omega), show t1.length + k - t1.length = k by omega]; exact hq)⟩
  refine ⟨⟨a2, a1⟩, va_P.app (fun k q hq => hP _ q (at2 k q hq)) (fun k q hq => hP _ q (at1 k q hq)), kt2.app kt1, va_D.app ⟨fun i j p q hi hj e => ?_, fun k q hq => hD.2 _ q (at2 k q hq)⟩ ⟨fun i j p q hi hj e => hD.1 _ _ p q (at1 i p hi) (at1 j q hj) e, fun k q hq => hD.2 _ q (at1 k q hq)⟩ (fun i j x y hx hy hxy => ?_), hS⟩
  · have z := hD.1 _ _ p q (at2 i p hi) (at2 j q hj) e
    omega
  · have z := hD.1 _ _ x y (at2 i x hx) (at1 j y hy) hxy
    have z2 := (List.getElem?_eq_some_iff.mp hy).1
    omega
theorem gX.fst (X : gX D (t1 ++ t2) A s (w1 ++ w2) (o1 ∧ o2) H locs) : gX D t1 A s w1 o1 H locs := by
  obtain ⟨⟨a1, a2⟩, hP, hK, hD, hS⟩ := X
  have at1 : ∀ (k : Nat) (q : Nat × va_E), w1[k]? = some q → (w1 ++ w2)[k]? = some q := fun k q hq => by
    rw [List.getElem?_append_left ((List.getElem?_eq_some_iff.mp hq).1)]; exact hq
  exact ⟨a1, fun k q hq => hP _ q (at1 k q hq), ⟨hK.1, fun k q hq => hK.2 k q (by rw [List.getElem?_append_left ((List.getElem?_eq_some_iff.mp hq).1)]; exact hq)⟩, ⟨fun i j p q hi hj e => hD.1 _ _ p q (at1 i p hi) (at1 j q hj) e, fun k q hq => hD.2 _ q (at1 k q hq)⟩, hS⟩
theorem l_callR {post : Int32 → Prop} (Y : CallFix p m c cc nL s args lw_all own) (X : gX D (t1 ++ t2) A s (w1 ++ w2) (o1 ∧ o2) H locs) (hM : cR l y code' nL' ty fr lo (.ref h :: As) (gAt D t1 TT w1 o1) post) (hG : GoodIn lw_all (wsV own idx C y (ws_ y code' nL' (some ty))))
    (hd : y.cls = C ∧ y.cls ≠ "java/lang/invoke/MethodHandle" ∧ y.cls ≠ "java/lang/invoke/VarHandle" ∧ (parseMethodDescriptor y.desc).map (fun d => d.parameters.length) = some n) (hn : As.length = n) (hR : fr + 1 ≤ R.frames ∧ 8 + (nL' + 11) + lo ≤ R.locals)
    (hc : vwCl[ci]? = some qv) (hC : qv.1 = C) (he : w1[q0]? = some (h, .inr (ci, fs))) (hls : ls.size = nL) (hst : st0 = As.reverse ++ .ref h :: rest) (hW : (rest.map fun v => v.category).sum ≤ 8) (hdg : decode cc pc = .ok (.invokevirtual idx, 3)) (hcs : cells ≤ R.cells ∧ slots ≤ R.slots)
    (kk : ∀ r : Int32, post r → gX D (t2 ++ t1) A s (w2 ++ w1) (o2 ∧ o1) H locs → W p l e R s m args below meth c H locs cells slots Q (F0 m (pc + 3) ls (.int r :: rest))) : W p l e R s m args below meth c H locs cells slots Q (F0 m pc ls st0) :=
  vp_callSi (W.runV (As := As) (rest := rest) (C := C) Y hM (cwV n Y.2.2.2.2 hG rfl rfl rfl hd hR) ⟨gAt_blind, by rw [← hC]; exact va_recv X.fst.2.2.1 X.fst.2.1 hc he, X.fst.pre⟩ rfl hn hls hst (lv_room hW) hdg hcs) (fun r hr => kk r hr X.rot)
theorem l_callI {S : Type} {post : Int32 → S → Prop} {ws' : S → va_W} {ok' : S → Prop} (Y : CallFix p m c cc nL s args lw_all own) (X : gX D (t1 ++ t2) A s (w1 ++ w2) (o1 ∧ o2) H locs) (hM : cI l y code' nL' ty fr lo (.ref h :: As) (gAt D t1 TT w1 o1) A1 post (fun u => gAt D t1 A1 (ws' u) (ok' u))) (hA1 : ∀ q, A1 q → ∃ (k : Nat) (e : va_E), w1[k]? = some (q, e)) (hG : GoodIn lw_all (wsV own idx C y (ws_ y code' nL' (some ty))))
    (hd : y.cls = C ∧ y.cls ≠ "java/lang/invoke/MethodHandle" ∧ y.cls ≠ "java/lang/invoke/VarHandle" ∧ (parseMethodDescriptor y.desc).map (fun d => d.parameters.length) = some n) (hn : As.length = n) (hR : fr + 1 ≤ R.frames ∧ 8 + (nL' + 11) + lo ≤ R.locals)
    (hc : vwCl[ci]? = some qv) (hC : qv.1 = C) (he : w1[q0]? = some (h, .inr (ci, fs))) (hls : ls.size = nL) (hst : st0 = As.reverse ++ .ref h :: rest) (hW : (rest.map fun v => v.category).sum ≤ 8) (hdg : decode cc pc = .ok (.invokevirtual idx, 3)) (hcs : cells ≤ R.cells ∧ slots ≤ R.slots)
    (kk : ∀ (r : Int32) (u : S) (H1 : Heap) (locs1 : List Loc), post r u → gX D (t2 ++ t1) A s (w2 ++ ws' u) (o2 ∧ ok' u) H1 locs1 → W p l e R s m args below meth c H1 locs1 cells slots Q (F0 m (pc + 3) ls (.int r :: rest))) : W p l e R s m args below meth c H locs cells slots Q (F0 m pc ls st0) := by
  have hAA : ∀ q, A1 q → A q := fun q hq => by
    obtain ⟨k, e, he⟩ := hA1 q hq
    exact X.fst.2.2.2.1.2 k (q, e) he
  refine va_calli (va_runV (As := As) (rest := rest) (C := C) Y hM (cwV n Y.2.2.2.2 hG rfl rfl rfl hd hR) ⟨gAt_blind, by rw [← hC]; exact va_recv X.fst.2.2.1 X.fst.2.1 hc he, X.fst.pre⟩ rfl hn hls hst (lv_room hW) hdg hcs) X.2.2.2.2 (fun q _ h => hAA q h) hAA (fun r u t H1 locs1 ht hvm hp hB _ hk hS => ?_)
  obtain ⟨b1, bP, bK, bD⟩ := hB
  rw [ht] at bP
  obtain ⟨jP, jD⟩ := gX_join X.2.1 X.2.2.2.1 (fun q _ h => hA1 q h) hAA hk bP bD
  exact kk r u H1 locs1 hp ⟨⟨X.1.2, b1⟩, jP, X.rot.fst.2.2.1.app (va_K.moved hvm.symm bK), jD, hS⟩
theorem l_callV {S : Type} {post : S → Prop} {ws' : S → va_W} {ok' : S → Prop} (Y : CallFix p m c cc nL s args lw_all own) (X : gX D (t1 ++ t2) A s (w1 ++ w2) (o1 ∧ o2) H locs) (hM : cV l y code' nL' fr lo (.ref h :: As) (gAt D t1 TT w1 o1) A1 post (fun u => gAt D t1 A1 (ws' u) (ok' u))) (hA1 : ∀ q, A1 q → ∃ (k : Nat) (e : va_E), w1[k]? = some (q, e)) (hG : GoodIn lw_all (wsV own idx C y (ws_ y code' nL' none)))
    (hd : y.cls = C ∧ y.cls ≠ "java/lang/invoke/MethodHandle" ∧ y.cls ≠ "java/lang/invoke/VarHandle" ∧ (parseMethodDescriptor y.desc).map (fun d => d.parameters.length) = some n) (hn : As.length = n) (hR : fr + 1 ≤ R.frames ∧ 8 + (nL' + 11) + lo ≤ R.locals)
    (hc : vwCl[ci]? = some qv) (hC : qv.1 = C) (he : w1[q0]? = some (h, .inr (ci, fs))) (hls : ls.size = nL) (hst : st0 = As.reverse ++ .ref h :: rest) (hW : (rest.map fun v => v.category).sum ≤ 8) (hdg : decode cc pc = .ok (.invokevirtual idx, 3)) (hcs : cells ≤ R.cells ∧ slots ≤ R.slots)
    (kk : ∀ (u : S) (H1 : Heap) (locs1 : List Loc), post u → gX D (t2 ++ t1) A s (w2 ++ ws' u) (o2 ∧ ok' u) H1 locs1 → W p l e R s m args below meth c H1 locs1 cells slots Q (F0 m (pc + 3) ls rest)) : W p l e R s m args below meth c H locs cells slots Q (F0 m pc ls st0) := by
  have hAA : ∀ q, A1 q → A q := fun q hq => by
    obtain ⟨k, e, he⟩ := hA1 q hq
    exact X.fst.2.2.2.1.2 k (q, e) he
  refine va_callv (va_runV (As := As) (rest := rest) (C := C) Y hM (cwV n Y.2.2.2.2 hG rfl rfl rfl hd hR) ⟨gAt_blind, by rw [← hC]; exact va_recv X.fst.2.2.1 X.fst.2.1 hc he, X.fst.pre⟩ rfl hn hls hst (lv_room hW) hdg hcs) X.2.2.2.2 (fun q _ h => hAA q h) hAA (fun u t H1 locs1 ht hvm hp hB _ hk hS => ?_)
  obtain ⟨b1, bP, bK, bD⟩ := hB
  rw [ht] at bP
  obtain ⟨jP, jD⟩ := gX_join X.2.1 X.2.2.2.1 (fun q _ h => hA1 q h) hAA hk bP bD
  exact kk u H1 locs1 hp ⟨⟨X.1.2, b1⟩, jP, X.rot.fst.2.2.1.app (va_K.moved hvm.symm bK), jD, hS⟩
theorem l_sld (hexec : p.tables.exec = Jvm.exec) (hb : c.code = cc) {b L : Nat} {xs : Nat → Int32} {H0 : Heap} (hX : va_X b L xs s H0) (hbl : b < H0.size) (hbA : ¬ A b) (hS : va_S A H0 H locs) {j : Nat} (hj : j < L) (hL : L ≤ 256) (hdg : decode cc pc = .ok (.iaload, 1))
    (kk : W p l e R s m args below meth c H locs cells slots Q (F0 m (pc + 1) ls (.int (xs j) :: rest))) : W p l e R s m args below meth c H locs cells slots Q (F0 m pc ls (.int (nI j) :: .ref b :: rest)) := by
  refine va_sld hexec hb hX hbl hbA hS (vp_in_nI hj (by omega)) hdg ?_
  rw [nI_clamp (show j < 2 ^ 31 by omega)]
  exact kk
end LRW
section LUQ
theorem bA_ex {h : Nat} {a : Nat → Nat} {d : Nat → ClassId} {P K S Wt : Nat → Nat} {bg : Nat} {so si rd hp : Nat → Nat} {hn : Nat} {rk : Nat → Nat} {rn dn cu : Nat} : ∀ q, bA h a q → ∃ (k : Nat) (e : va_E), (bw h a d P K S Wt bg so si rd hp hn rk rn dn cu)[k]? = some (q, e) := by
  rintro q (e | ⟨i, hi, e⟩)
  · subst e; exact ⟨0, _, rfl⟩
  · subst e
    rcases (show i = 0 ∨ i = 1 ∨ i = 2 ∨ i = 3 ∨ i = 4 ∨ i = 5 ∨ i = 6 ∨ i = 7 ∨ i = 8 by omega) with e | e | e | e | e | e | e | e | e <;> subst e
    · exact ⟨1, _, rfl⟩
    · exact ⟨2, _, rfl⟩
    · exact ⟨3, _, rfl⟩
    · exact ⟨4, _, rfl⟩
    · exact ⟨5, _, rfl⟩
    · exact ⟨6, _, rfl⟩
    · exact ⟨7, _, rfl⟩
    · exact ⟨8, _, rfl⟩
    · exact ⟨9, _, rfl⟩
theorem mA_ex {h : Nat} {a : Nat → Nat} {d : Nat → ClassId} {th K S Wt : Nat → Nat} {cu : Nat} : ∀ q, mA h a q → ∃ (k : Nat) (e : va_E), (mw h a d th K S Wt cu)[k]? = some (q, e) := by
  rintro q (e | ⟨i, hi, e⟩)
  · subst e; exact ⟨0, _, rfl⟩
  · subst e
    rcases (show i = 0 ∨ i = 1 ∨ i = 2 ∨ i = 3 by omega) with e | e | e | e <;> subst e
    · exact ⟨1, _, rfl⟩
    · exact ⟨2, _, rfl⟩
    · exact ⟨3, _, rfl⟩
    · exact ⟨4, _, rfl⟩
theorem BI0 {P K S Wt so si rd hp : Nat → Nat} {hn : Nat} {rk : Nat → Nat} {rn dn : Nat} : BI P K S Wt 0 so si rd hp hn rk rn dn 0 := ⟨fun q => absurd q (by decide), fun q => absurd q (by decide)⟩
theorem enOK.uniq {x k sc : Int32} {b kk t b' kk' t' : Nat} (h : enOK x k sc b kk t) (h' : enOK x k sc b' kk' t') : b = b' ∧ kk = kk' ∧ t = t' := by
  obtain ⟨h1, h2, h3, h4, h5, h6⟩ := h
  obtain ⟨g1, g2, g3, g4, g5, g6⟩ := h'
  exact ⟨(nI_eq (by omega) (by omega)).mp (h4.symm.trans g4), (nI_eq (by omega) (by omega)).mp (h5.symm.trans g5), (nI_eq (by omega) (by omega)).mp (h6.symm.trans g6)⟩
theorem EnR.uniq {P K S : Nat → Nat} {cu : Nat} {x k sc r r' : Int32} {P1 K1 S1 P2 K2 S2 : Nat → Nat} {c1 c2 : Nat} (h : EnR P K S cu x k sc r P1 K1 S1 c1) (h' : EnR P K S cu x k sc r' P2 K2 S2 c2) : r = r' ∧ P1 = P2 ∧ K1 = K2 ∧ S1 = S2 ∧ c1 = c2 := by
  rcases h with ⟨n0, e1, e2, e3, e4, e5⟩ | ⟨b, kk, t, o, f, e1, e2, e3, e4, e5⟩ | ⟨b, kk, t, i, o, hi, f, g, e1, e2, e3, e4, e5⟩
  · rcases h' with ⟨n0', d1, d2, d3, d4, d5⟩ | ⟨b', kk', t', o', -⟩ | ⟨b', kk', t', i', o', -⟩
    · exact ⟨e1.trans d1.symm, e2.trans d2.symm, e3.trans d3.symm, e4.trans d4.symm, e5.trans d5.symm⟩
    · exact absurd ⟨b', kk', t', o'⟩ n0
    · exact absurd ⟨b', kk', t', o'⟩ n0
  · rcases h' with ⟨n0', -⟩ | ⟨b', kk', t', o', f', d1, d2, d3, d4, d5⟩ | ⟨b', kk', t', i', o', hi', f', g', -⟩
    · exact absurd ⟨b, kk, t, o⟩ n0'
    · exact ⟨e1.trans d1.symm, e2.trans d2.symm, e3.trans d3.symm, e4.trans d4.symm, e5.trans d5.symm⟩
    · obtain ⟨z1, z2, z3⟩ := o.uniq o'
      subst z1
      rw [f i' hi'] at g'
      cases g'
  · rcases h' with ⟨n0', -⟩ | ⟨b', kk', t', o', f', -⟩ | ⟨b', kk', t', i', o', hi', f', g', d1, d2, d3, d4, d5⟩
    · exact absurd ⟨b, kk, t, o⟩ n0'
    · obtain ⟨z1, z2, z3⟩ := o.uniq o'
      subst z1
      rw [f' i hi] at g
      cases g
    · obtain ⟨z1, z2, z3⟩ := o.uniq o'
      subst z1; subst z2; subst z3
      have z : i = i' := by
        rcases Nat.lt_trichotomy i i' with q | q | q
        · rw [f' i q] at g; cases g
        · exact q
        · rw [f i' q] at g'; cases g'
      subst z
      exact ⟨e1.trans d1.symm, e2.trans d2.symm, e3.trans d3.symm, e4.trans d4.symm, e5.trans d5.symm⟩
theorem RmR.uniq {P : Nat → Nat} {cu : Nat} {x y r r' : Int32} {P1 P2 : Nat → Nat} {c1 c2 : Nat} (h : RmR P cu x y r P1 c1) (h' : RmR P cu x y r' P2 c2) : r = r' ∧ P1 = P2 ∧ c1 = c2 := by
  rcases h with ⟨n0, e1, e2, e3⟩ | ⟨b, n, hb, hn, ex, ey, t, e1, e2, e3⟩
  · rcases h' with ⟨n0', d1, d2, d3⟩ | ⟨b', n', hb', hn', ex', ey', t', -⟩
    · exact ⟨e1.trans d1.symm, e2.trans d2.symm, e3.trans d3.symm⟩
    · exact absurd ⟨b', n', hb', hn', ex', ey', t'⟩ n0
  · rcases h' with ⟨n0', -⟩ | ⟨b', n', hb', hn', ex', ey', t', d1, d2, d3⟩
    · exact absurd ⟨b, n, hb, hn, ex, ey, t⟩ n0'
    · have z1 := (nI_eq (by omega) (by omega)).mp (ex.symm.trans ex')
      have z2 := (nI_eq (by omega) (by omega)).mp (ey.symm.trans ey')
      subst z1; subst z2
      exact ⟨e1.trans d1.symm, e2.trans d2.symm, e3.trans d3.symm⟩
theorem RsR.uniq {P S : Nat → Nat} {cu : Nat} {x y z r r' : Int32} {S1 S2 : Nat → Nat} {c1 c2 : Nat} (h : RsR P S cu x y z r S1 c1) (h' : RsR P S cu x y z r' S2 c2) : r = r' ∧ S1 = S2 ∧ c1 = c2 := by
  rcases h with ⟨n0, e1, e2, e3⟩ | ⟨b, n, t, hb, hn, ht, ex, ey, ez, u, e1, e2, e3⟩
  · rcases h' with ⟨n0', d1, d2, d3⟩ | ⟨b', n', t', hb', hn', ht', ex', ey', ez', u', -⟩
    · exact ⟨e1.trans d1.symm, e2.trans d2.symm, e3.trans d3.symm⟩
    · exact absurd ⟨t', ht', ez', b', n', hb', hn', ex', ey', u'⟩ n0
  · rcases h' with ⟨n0', -⟩ | ⟨b', n', t', hb', hn', ht', ex', ey', ez', u', d1, d2, d3⟩
    · exact absurd ⟨t, ht, ez, b, n, hb, hn, ex, ey, u⟩ n0'
    · have z1 := (nI_eq (by omega) (by omega)).mp (ex.symm.trans ex')
      have z2 := (nI_eq (by omega) (by omega)).mp (ey.symm.trans ey')
      have z3 := (nI_eq (by omega) (by omega)).mp (ez.symm.trans ez')
      subst z1; subst z2; subst z3
      exact ⟨e1.trans d1.symm, e2.trans d2.symm, e3.trans d3.symm⟩
theorem WgR.uniq {Wt : Nat → Nat} {cu : Nat} {x y r r' : Int32} {W1 W2 : Nat → Nat} {c1 c2 : Nat} (h : WgR Wt cu x y r W1 c1) (h' : WgR Wt cu x y r' W2 c2) : r = r' ∧ W1 = W2 ∧ c1 = c2 := by
  rcases h with ⟨n0, e1, e2, e3⟩ | ⟨b, t, hb, ht, ex, ey, e1, e2, e3⟩
  · rcases h' with ⟨n0', d1, d2, d3⟩ | ⟨b', t', hb', ht', ex', ey', -⟩
    · exact ⟨e1.trans d1.symm, e2.trans d2.symm, e3.trans d3.symm⟩
    · exact absurd ⟨b', t', hb', ht', ex', ey'⟩ n0
  · rcases h' with ⟨n0', -⟩ | ⟨b', t', hb', ht', ex', ey', d1, d2, d3⟩
    · exact absurd ⟨b, t, hb, ht, ex, ey⟩ n0'
    · have z1 := (nI_eq (by omega) (by omega)).mp (ex.symm.trans ex')
      have z2 := (nI_eq (by omega) (by omega)).mp (ey.symm.trans ey')
      subst z1; subst z2
      exact ⟨e1.trans d1.symm, e2.trans d2.symm, e3.trans d3.symm⟩
theorem ent_uniq {P : Nat → Nat} {x r r' : Int32} (h : (∃ b, b < 2 ∧ x = nI b ∧ r = nI (P b)) ∨ (¬ (x = 0 ∨ x = 1) ∧ r = 0)) (h' : (∃ b, b < 2 ∧ x = nI b ∧ r' = nI (P b)) ∨ (¬ (x = 0 ∨ x = 1) ∧ r' = 0)) : r = r' := by
  rcases h with ⟨b, hb, ex, er⟩ | ⟨nx, er⟩
  · rcases h' with ⟨b', hb', ex', er'⟩ | ⟨nx', er'⟩
    · have z1 := (nI_eq (by omega) (by omega)).mp (ex.symm.trans ex')
      rw [er, er', z1]
    · exact absurd (by rw [ex]; exact isL' hb) nx'
  · rcases h' with ⟨b', hb', ex', er'⟩ | ⟨nx', er'⟩
    · exact absurd (by rw [ex']; exact isL' hb') nx
    · rw [er, er']
theorem sco_uniq {P S : Nat → Nat} {x y r r' : Int32} (h : (∃ b n, b < 2 ∧ n < 12 ∧ x = nI b ∧ y = nI n ∧ (P b).testBit n = true ∧ r = nI (S (12 * b + n))) ∨ (¬ hasP P x y ∧ r = -1)) (h' : (∃ b n, b < 2 ∧ n < 12 ∧ x = nI b ∧ y = nI n ∧ (P b).testBit n = true ∧ r' = nI (S (12 * b + n))) ∨ (¬ hasP P x y ∧ r' = -1)) : r = r' := by
  rcases h with ⟨b, n, hb, hn, ex, ey, t, er⟩ | ⟨nx, er⟩
  · rcases h' with ⟨b', n', hb', hn', ex', ey', t', er'⟩ | ⟨nx', er'⟩
    · have z1 := (nI_eq (by omega) (by omega)).mp (ex.symm.trans ex')
      have z2 := (nI_eq (by omega) (by omega)).mp (ey.symm.trans ey')
      rw [er, er', z1, z2]
    · exact absurd ⟨b, n, hb, hn, ex, ey, t⟩ nx'
  · rcases h' with ⟨b', n', hb', hn', ex', ey', t', er'⟩ | ⟨nx', er'⟩
    · exact absurd ⟨b', n', hb', hn', ex', ey', t'⟩ nx
    · rw [er, er']
theorem NxR.uniq {P K S W : Nat → Nat} {cu : Nat} {r r' : Int32} {c1 c2 : Nat} (h : NxR P K S W cu r c1) (h' : NxR P K S W cu r' c2) : r = r' ∧ c1 = c2 := by
  rcases h with ⟨p, a1, a2, a3, a4, a5⟩ | ⟨a1, a2, a3⟩
  · rcases h' with ⟨q, b1, b2, b3, b4, b5⟩ | ⟨b1, b2, b3⟩
    · have z1 := bcP_le P K S W p
      have z2 := bcP_le P K S W q
      have z := bcP_inj a1 b1 a2 b2 ((nI_eq (by omega) (by omega)).mp (a3.trans b3.symm))
      rw [a4, b4, z, a5, b5]
      exact ⟨rfl, rfl⟩
    · exact absurd a3 (b1 p a1 a2)
  · rcases h' with ⟨q, b1, b2, b3, b4, b5⟩ | ⟨b1, b2, b3⟩
    · exact absurd b3 (a1 q b1 b2)
    · exact ⟨a2.trans b2.symm, a3.trans b3.symm⟩
theorem bp_uniq {P K S W : Nat → Nat} {x y r r' : Int32} (h : (¬ hasP P x y ∧ r = -1) ∨ (∃ b n, b < 2 ∧ n < 12 ∧ x = nI b ∧ y = nI n ∧ (P b).testBit n = true ∧ ansB P K S W (fun p => decide ((if b = 0 then p / 12 else p % 12) = n)) r)) (h' : (¬ hasP P x y ∧ r' = -1) ∨ (∃ b n, b < 2 ∧ n < 12 ∧ x = nI b ∧ y = nI n ∧ (P b).testBit n = true ∧ ansB P K S W (fun p => decide ((if b = 0 then p / 12 else p % 12) = n)) r')) : r = r' := by
  rcases h with ⟨nx, er⟩ | ⟨b, n, hb, hn, ex, ey, t, er⟩
  · rcases h' with ⟨nx', er'⟩ | ⟨b', n', hb', hn', ex', ey', t', er'⟩
    · rw [er, er']
    · exact absurd ⟨b', n', hb', hn', ex', ey', t'⟩ nx
  · rcases h' with ⟨nx', er'⟩ | ⟨b', n', hb', hn', ex', ey', t', er'⟩
    · exact absurd ⟨b, n, hb, hn, ex, ey, t⟩ nx'
    · have z1 := (nI_eq (by omega) (by omega)).mp (ex.symm.trans ex')
      have z2 := (nI_eq (by omega) (by omega)).mp (ey.symm.trans ey')
      subst z1; subst z2
      exact er.uniq er'
abbrev LX (D : va_G) (A : Nat → Prop) (s : State) (hB : Nat) (aB : Nat → Nat) (dB : Nat → ClassId) (hM : Nat) (aM : Nat → Nat) (dM : Nat → ClassId) (P K S Wt : Nat → Nat) (bg : Nat) (so si rd hp : Nat → Nat) (hn : Nat) (rk : Nat → Nat) (rn dn cu : Nat) (H : Heap) (locs : List Loc) : Prop :=
  gX D (bty dB ++ mty dM) A s (bw hB aB dB P K S Wt bg so si rd hp hn rk rn dn cu ++ mw hM aM dM (thF P) K S Wt cu) (bOK P K S Wt bg so si rd hp hn rk rn dn cu ∧ mOK (thF P) K S Wt cu) H locs
end LUQ
end
section
/-! the law: one call of each kind (written by gen/law.py) -/
section LCS
set_option maxHeartbeats 4000000 in
set_option maxRecDepth 100000 in
theorem lc_enter {p : Program} {l : Launch} {e : Env} {R : Room} {s : State} {m : MethodId} {args : Array Value} {below : List Frame} {meth : Method} {c : Code} {H : Heap} {locs : List Loc} {cells slots : Nat} {Q : State → Prop} {D : va_G} {A : Nat → Prop} {b L i hB hM : Nat} {xs : Nat → Int32} {aB aM : Nat → Nat} {dB dM : Nat → ClassId} {ls : Array Slot} {P K S Wt : Nat → Nat} {bg : Nat} {so si rd hp : Nat → Nat} {hn : Nat} {rk : Nat → Nat} {rn dn cu : Nat} (Y : CallFix p m c code 4 s args lw_all R_law) (Z : va_X b L xs s s.heap ∧ b < s.heap.size ∧ ¬ A b) (hl : lv_has ls 4 [(0, .ref b), (1, .ref hB), (2, .ref hM), (3, .int (nI i))]) (hi : i + 4 ≤ L) (hL : L ≤ 256) (hRm : 10 ≤ R.frames ∧ 374 ≤ R.locals) (hcs : cells ≤ R.cells ∧ slots ≤ R.slots) (hBI : BI P K S Wt bg so si rd hp hn rk rn dn cu) (X : LX D A s hB aB dB hM aM dM P K S Wt bg so si rd hp hn rk rn dn cu H locs) (kk : ∀ (P K S Wt : Nat → Nat) (bg : Nat) (so si rd hp : Nat → Nat) (hn : Nat) (rk : Nat → Nat) (rn dn cu : Nat) (H : Heap) (locs : List Loc), BI P K S Wt bg so si rd hp hn rk rn dn cu → LX D A s hB aB dB hM aM dM P K S Wt bg so si rd hp hn rk rn dn cu H locs → W p l e R s m args below meth c H locs cells slots Q (F0 m 454 ls [])) : W p l e R s m args below meth c H locs cells slots Q (F0 m 104 ls []) := by
  have hx := Y.1
  have hb := Y.2.1
  refine lv_aload_n hx hb dL_law_104 rfl (lv_at hl 1 rfl) ?_
  refine lv_aload_n hx hb dL_law_105 rfl (lv_at hl 0 rfl) ?_
  refine lv_iload_n hx hb dL_law_106 rfl (lv_at hl 3 rfl) ?_
  refine lv_iconst (v := (nI 1)) hx hb dL_law_107 (by decide +kernel) ?_
  refine n_iadd (z := i + 1) hx hb (rfl) dL_law_108 ?_
  refine l_sld hx hb Z.1 Z.2.1 Z.2.2 X.2.2.2.2 (by omega) hL dL_law_109 ?_
  refine lv_aload_n hx hb dL_law_110 rfl (lv_at hl 0 rfl) ?_
  refine lv_iload_n hx hb dL_law_111 rfl (lv_at hl 3 rfl) ?_
  refine lv_iconst (v := (nI 2)) hx hb dL_law_112 (by decide +kernel) ?_
  refine n_iadd (z := i + 2) hx hb (rfl) dL_law_113 ?_
  refine l_sld hx hb Z.1 Z.2.1 Z.2.2 X.2.2.2.2 (by omega) hL dL_law_114 ?_
  refine lv_aload_n hx hb dL_law_115 rfl (lv_at hl 0 rfl) ?_
  refine lv_iload_n hx hb dL_law_116 rfl (lv_at hl 3 rfl) ?_
  refine lv_iconst (v := (nI 3)) hx hb dL_law_117 (by decide +kernel) ?_
  refine n_iadd (z := i + 3) hx hb (rfl) dL_law_118 ?_
  refine l_sld hx hb Z.1 Z.2.1 Z.2.2 X.2.2.2.2 (by omega) hL dL_law_119 ?_
  refine l_callI (C := "BestPairs") (ci := 0) (q0 := 0) (n := 3) (As := [.int (xs (i + 1)), .int (xs (i + 2)), .int (xs (i + 3))]) (rest := []) Y X (bt_enter l D hB aB dB P K S Wt bg so si rd hp hn rk rn dn cu (xs (i + 1)) (xs (i + 2)) (xs (i + 3)) ) bA_ex (lw_V q79 q80 q81 q23 q82) (by decide +kernel) rfl ⟨by omega, by omega⟩ rfl rfl rfl hl.1 rfl (Nat.le_of_ble_eq_true rfl) dL_law_120 hcs (fun r1 u1 H locs hu1 X => ?_)
  obtain ⟨P1, K1, S1, bg1, cu1⟩ := u1
  refine lv_aload_n hx hb dL_law_123 rfl (lv_at hl 2 rfl) ?_
  refine lv_aload_n hx hb dL_law_124 rfl (lv_at hl 0 rfl) ?_
  refine lv_iload_n hx hb dL_law_125 rfl (lv_at hl 3 rfl) ?_
  refine lv_iconst (v := (nI 1)) hx hb dL_law_126 (by decide +kernel) ?_
  refine n_iadd (z := i + 1) hx hb (rfl) dL_law_127 ?_
  refine l_sld hx hb Z.1 Z.2.1 Z.2.2 X.2.2.2.2 (by omega) hL dL_law_128 ?_
  refine lv_aload_n hx hb dL_law_129 rfl (lv_at hl 0 rfl) ?_
  refine lv_iload_n hx hb dL_law_130 rfl (lv_at hl 3 rfl) ?_
  refine lv_iconst (v := (nI 2)) hx hb dL_law_131 (by decide +kernel) ?_
  refine n_iadd (z := i + 2) hx hb (rfl) dL_law_132 ?_
  refine l_sld hx hb Z.1 Z.2.1 Z.2.2 X.2.2.2.2 (by omega) hL dL_law_133 ?_
  refine lv_aload_n hx hb dL_law_134 rfl (lv_at hl 0 rfl) ?_
  refine lv_iload_n hx hb dL_law_135 rfl (lv_at hl 3 rfl) ?_
  refine lv_iconst (v := (nI 3)) hx hb dL_law_136 (by decide +kernel) ?_
  refine n_iadd (z := i + 3) hx hb (rfl) dL_law_137 ?_
  refine l_sld hx hb Z.1 Z.2.1 Z.2.2 X.2.2.2.2 (by omega) hL dL_law_138 ?_
  refine l_callI (C := "BestPairsModel") (ci := 1) (q0 := 0) (n := 3) (As := [.int (xs (i + 1)), .int (xs (i + 2)), .int (xs (i + 3))]) (rest := [.int r1]) Y X (mt_enter l D hM aM dM (thF P) K S Wt cu P (xs (i + 1)) (xs (i + 2)) (xs (i + 3)) rfl) mA_ex (lw_V q225 q226 q227 q24 q228) (by decide +kernel) rfl ⟨by omega, by omega⟩ rfl rfl rfl hl.1 rfl (Nat.le_of_ble_eq_true rfl) dL_law_139 hcs (fun r2 u2 H locs hu2 X => ?_)
  obtain ⟨P2, K2, S2, cu2⟩ := u2
  obtain ⟨er, eP, eK, eS, ec⟩ := EnR.uniq hu1.1 hu2
  dsimp only at er eP eK eS ec
  subst eP; subst eK; subst eS; subst ec
  have hX := X
  subst er
  refine lv_icmp_eq (tgt := 454) hx hb dL_law_142 (by decide) (fun _ => ?_) (fun z => absurd rfl z)
  have hbi : BI P1 K1 S1 Wt bg1 so si rd hp hn rk rn dn cu1 := by
    rcases hu1.2 with ⟨z1, z2⟩ | ⟨z1, z2, z3, z4, z5⟩
    · dsimp only at z1 z2
      subst z1; subst z2
      exact BI0
    · dsimp only at z1 z2 z3 z4 z5
      subst z1; subst z2; subst z3; subst z4; subst z5
      exact hBI
  exact kk P1 K1 S1 Wt bg1 so si rd hp hn rk rn dn cu1 _ _ hbi X
set_option maxHeartbeats 4000000 in
set_option maxRecDepth 100000 in
theorem lc_remove {p : Program} {l : Launch} {e : Env} {R : Room} {s : State} {m : MethodId} {args : Array Value} {below : List Frame} {meth : Method} {c : Code} {H : Heap} {locs : List Loc} {cells slots : Nat} {Q : State → Prop} {D : va_G} {A : Nat → Prop} {b L i hB hM : Nat} {xs : Nat → Int32} {aB aM : Nat → Nat} {dB dM : Nat → ClassId} {ls : Array Slot} {P K S Wt : Nat → Nat} {bg : Nat} {so si rd hp : Nat → Nat} {hn : Nat} {rk : Nat → Nat} {rn dn cu : Nat} (Y : CallFix p m c code 4 s args lw_all R_law) (Z : va_X b L xs s s.heap ∧ b < s.heap.size ∧ ¬ A b) (hl : lv_has ls 4 [(0, .ref b), (1, .ref hB), (2, .ref hM), (3, .int (nI i))]) (hi : i + 4 ≤ L) (hL : L ≤ 256) (hRm : 10 ≤ R.frames ∧ 374 ≤ R.locals) (hcs : cells ≤ R.cells ∧ slots ≤ R.slots) (hBI : BI P K S Wt bg so si rd hp hn rk rn dn cu) (X : LX D A s hB aB dB hM aM dM P K S Wt bg so si rd hp hn rk rn dn cu H locs) (kk : ∀ (P K S Wt : Nat → Nat) (bg : Nat) (so si rd hp : Nat → Nat) (hn : Nat) (rk : Nat → Nat) (rn dn cu : Nat) (H : Heap) (locs : List Loc), BI P K S Wt bg so si rd hp hn rk rn dn cu → LX D A s hB aB dB hM aM dM P K S Wt bg so si rd hp hn rk rn dn cu H locs → W p l e R s m args below meth c H locs cells slots Q (F0 m 454 ls [])) : W p l e R s m args below meth c H locs cells slots Q (F0 m 147 ls []) := by
  have hx := Y.1
  have hb := Y.2.1
  refine lv_aload_n hx hb dL_law_147 rfl (lv_at hl 1 rfl) ?_
  refine lv_aload_n hx hb dL_law_148 rfl (lv_at hl 0 rfl) ?_
  refine lv_iload_n hx hb dL_law_149 rfl (lv_at hl 3 rfl) ?_
  refine lv_iconst (v := (nI 1)) hx hb dL_law_150 (by decide +kernel) ?_
  refine n_iadd (z := i + 1) hx hb (rfl) dL_law_151 ?_
  refine l_sld hx hb Z.1 Z.2.1 Z.2.2 X.2.2.2.2 (by omega) hL dL_law_152 ?_
  refine lv_aload_n hx hb dL_law_153 rfl (lv_at hl 0 rfl) ?_
  refine lv_iload_n hx hb dL_law_154 rfl (lv_at hl 3 rfl) ?_
  refine lv_iconst (v := (nI 2)) hx hb dL_law_155 (by decide +kernel) ?_
  refine n_iadd (z := i + 2) hx hb (rfl) dL_law_156 ?_
  refine l_sld hx hb Z.1 Z.2.1 Z.2.2 X.2.2.2.2 (by omega) hL dL_law_157 ?_
  refine l_callI (C := "BestPairs") (ci := 0) (q0 := 0) (n := 2) (As := [.int (xs (i + 1)), .int (xs (i + 2))]) (rest := []) Y X (bt_remove l D hB aB dB P K S Wt bg so si rd hp hn rk rn dn cu (xs (i + 1)) (xs (i + 2)) ) bA_ex (lw_V q94 q95 q96 q23 q97) (by decide +kernel) rfl ⟨by omega, by omega⟩ rfl rfl rfl hl.1 rfl (Nat.le_of_ble_eq_true rfl) dL_law_158 hcs (fun r1 u1 H locs hu1 X => ?_)
  obtain ⟨P1, bg1, cu1⟩ := u1
  refine lv_aload_n hx hb dL_law_161 rfl (lv_at hl 2 rfl) ?_
  refine lv_aload_n hx hb dL_law_162 rfl (lv_at hl 0 rfl) ?_
  refine lv_iload_n hx hb dL_law_163 rfl (lv_at hl 3 rfl) ?_
  refine lv_iconst (v := (nI 1)) hx hb dL_law_164 (by decide +kernel) ?_
  refine n_iadd (z := i + 1) hx hb (rfl) dL_law_165 ?_
  refine l_sld hx hb Z.1 Z.2.1 Z.2.2 X.2.2.2.2 (by omega) hL dL_law_166 ?_
  refine lv_aload_n hx hb dL_law_167 rfl (lv_at hl 0 rfl) ?_
  refine lv_iload_n hx hb dL_law_168 rfl (lv_at hl 3 rfl) ?_
  refine lv_iconst (v := (nI 2)) hx hb dL_law_169 (by decide +kernel) ?_
  refine n_iadd (z := i + 2) hx hb (rfl) dL_law_170 ?_
  refine l_sld hx hb Z.1 Z.2.1 Z.2.2 X.2.2.2.2 (by omega) hL dL_law_171 ?_
  refine l_callI (C := "BestPairsModel") (ci := 1) (q0 := 0) (n := 2) (As := [.int (xs (i + 1)), .int (xs (i + 2))]) (rest := [.int r1]) Y X (mt_remove l D hM aM dM (thF P) K S Wt cu P (xs (i + 1)) (xs (i + 2)) rfl) mA_ex (lw_V q229 q230 q231 q24 q232) (by decide +kernel) rfl ⟨by omega, by omega⟩ rfl rfl rfl hl.1 rfl (Nat.le_of_ble_eq_true rfl) dL_law_172 hcs (fun r2 u2 H locs hu2 X => ?_)
  obtain ⟨P2, cu2⟩ := u2
  obtain ⟨er, eP, ec⟩ := RmR.uniq hu1.1 hu2
  dsimp only at er eP ec
  subst eP; subst ec
  have hX := X
  subst er
  refine lv_icmp_eq (tgt := 454) hx hb dL_law_175 (by decide) (fun _ => ?_) (fun z => absurd rfl z)
  have hbi : BI P1 K S Wt bg1 so si rd hp hn rk rn dn cu1 := by
    rcases hu1.2 with ⟨z1, z2⟩ | ⟨z1, z4, z5⟩
    · dsimp only at z1 z2
      subst z1; subst z2
      exact BI0
    · dsimp only at z1 z4 z5
      subst z1; subst z4; subst z5
      exact hBI
  exact kk P1 K S Wt bg1 so si rd hp hn rk rn dn cu1 _ _ hbi X
set_option maxHeartbeats 4000000 in
set_option maxRecDepth 100000 in
theorem lc_rescore {p : Program} {l : Launch} {e : Env} {R : Room} {s : State} {m : MethodId} {args : Array Value} {below : List Frame} {meth : Method} {c : Code} {H : Heap} {locs : List Loc} {cells slots : Nat} {Q : State → Prop} {D : va_G} {A : Nat → Prop} {b L i hB hM : Nat} {xs : Nat → Int32} {aB aM : Nat → Nat} {dB dM : Nat → ClassId} {ls : Array Slot} {P K S Wt : Nat → Nat} {bg : Nat} {so si rd hp : Nat → Nat} {hn : Nat} {rk : Nat → Nat} {rn dn cu : Nat} (Y : CallFix p m c code 4 s args lw_all R_law) (Z : va_X b L xs s s.heap ∧ b < s.heap.size ∧ ¬ A b) (hl : lv_has ls 4 [(0, .ref b), (1, .ref hB), (2, .ref hM), (3, .int (nI i))]) (hi : i + 4 ≤ L) (hL : L ≤ 256) (hRm : 10 ≤ R.frames ∧ 374 ≤ R.locals) (hcs : cells ≤ R.cells ∧ slots ≤ R.slots) (hBI : BI P K S Wt bg so si rd hp hn rk rn dn cu) (X : LX D A s hB aB dB hM aM dM P K S Wt bg so si rd hp hn rk rn dn cu H locs) (kk : ∀ (P K S Wt : Nat → Nat) (bg : Nat) (so si rd hp : Nat → Nat) (hn : Nat) (rk : Nat → Nat) (rn dn cu : Nat) (H : Heap) (locs : List Loc), BI P K S Wt bg so si rd hp hn rk rn dn cu → LX D A s hB aB dB hM aM dM P K S Wt bg so si rd hp hn rk rn dn cu H locs → W p l e R s m args below meth c H locs cells slots Q (F0 m 454 ls [])) : W p l e R s m args below meth c H locs cells slots Q (F0 m 180 ls []) := by
  have hx := Y.1
  have hb := Y.2.1
  refine lv_aload_n hx hb dL_law_180 rfl (lv_at hl 1 rfl) ?_
  refine lv_aload_n hx hb dL_law_181 rfl (lv_at hl 0 rfl) ?_
  refine lv_iload_n hx hb dL_law_182 rfl (lv_at hl 3 rfl) ?_
  refine lv_iconst (v := (nI 1)) hx hb dL_law_183 (by decide +kernel) ?_
  refine n_iadd (z := i + 1) hx hb (rfl) dL_law_184 ?_
  refine l_sld hx hb Z.1 Z.2.1 Z.2.2 X.2.2.2.2 (by omega) hL dL_law_185 ?_
  refine lv_aload_n hx hb dL_law_186 rfl (lv_at hl 0 rfl) ?_
  refine lv_iload_n hx hb dL_law_187 rfl (lv_at hl 3 rfl) ?_
  refine lv_iconst (v := (nI 2)) hx hb dL_law_188 (by decide +kernel) ?_
  refine n_iadd (z := i + 2) hx hb (rfl) dL_law_189 ?_
  refine l_sld hx hb Z.1 Z.2.1 Z.2.2 X.2.2.2.2 (by omega) hL dL_law_190 ?_
  refine lv_aload_n hx hb dL_law_191 rfl (lv_at hl 0 rfl) ?_
  refine lv_iload_n hx hb dL_law_192 rfl (lv_at hl 3 rfl) ?_
  refine lv_iconst (v := (nI 3)) hx hb dL_law_193 (by decide +kernel) ?_
  refine n_iadd (z := i + 3) hx hb (rfl) dL_law_194 ?_
  refine l_sld hx hb Z.1 Z.2.1 Z.2.2 X.2.2.2.2 (by omega) hL dL_law_195 ?_
  refine l_callI (C := "BestPairs") (ci := 0) (q0 := 0) (n := 3) (As := [.int (xs (i + 1)), .int (xs (i + 2)), .int (xs (i + 3))]) (rest := []) Y X (bt_rescore l D hB aB dB P K S Wt bg so si rd hp hn rk rn dn cu (xs (i + 1)) (xs (i + 2)) (xs (i + 3)) ) bA_ex (lw_V q98 q99 q100 q23 q101) (by decide +kernel) rfl ⟨by omega, by omega⟩ rfl rfl rfl hl.1 rfl (Nat.le_of_ble_eq_true rfl) dL_law_196 hcs (fun r1 u1 H locs hu1 X => ?_)
  obtain ⟨S1, bg1, cu1⟩ := u1
  refine lv_aload_n hx hb dL_law_199 rfl (lv_at hl 2 rfl) ?_
  refine lv_aload_n hx hb dL_law_200 rfl (lv_at hl 0 rfl) ?_
  refine lv_iload_n hx hb dL_law_201 rfl (lv_at hl 3 rfl) ?_
  refine lv_iconst (v := (nI 1)) hx hb dL_law_202 (by decide +kernel) ?_
  refine n_iadd (z := i + 1) hx hb (rfl) dL_law_203 ?_
  refine l_sld hx hb Z.1 Z.2.1 Z.2.2 X.2.2.2.2 (by omega) hL dL_law_204 ?_
  refine lv_aload_n hx hb dL_law_205 rfl (lv_at hl 0 rfl) ?_
  refine lv_iload_n hx hb dL_law_206 rfl (lv_at hl 3 rfl) ?_
  refine lv_iconst (v := (nI 2)) hx hb dL_law_207 (by decide +kernel) ?_
  refine n_iadd (z := i + 2) hx hb (rfl) dL_law_208 ?_
  refine l_sld hx hb Z.1 Z.2.1 Z.2.2 X.2.2.2.2 (by omega) hL dL_law_209 ?_
  refine lv_aload_n hx hb dL_law_210 rfl (lv_at hl 0 rfl) ?_
  refine lv_iload_n hx hb dL_law_211 rfl (lv_at hl 3 rfl) ?_
  refine lv_iconst (v := (nI 3)) hx hb dL_law_212 (by decide +kernel) ?_
  refine n_iadd (z := i + 3) hx hb (rfl) dL_law_213 ?_
  refine l_sld hx hb Z.1 Z.2.1 Z.2.2 X.2.2.2.2 (by omega) hL dL_law_214 ?_
  refine l_callI (C := "BestPairsModel") (ci := 1) (q0 := 0) (n := 3) (As := [.int (xs (i + 1)), .int (xs (i + 2)), .int (xs (i + 3))]) (rest := [.int r1]) Y X (mt_rescore l D hM aM dM (thF P) K S Wt cu P (xs (i + 1)) (xs (i + 2)) (xs (i + 3)) rfl) mA_ex (lw_V q237 q238 q239 q24 q240) (by decide +kernel) rfl ⟨by omega, by omega⟩ rfl rfl rfl hl.1 rfl (Nat.le_of_ble_eq_true rfl) dL_law_215 hcs (fun r2 u2 H locs hu2 X => ?_)
  obtain ⟨S2, cu2⟩ := u2
  obtain ⟨er, eP, ec⟩ := RsR.uniq hu1.1 hu2
  dsimp only at er eP ec
  subst eP; subst ec
  have hX := X
  subst er
  refine lv_icmp_eq (tgt := 454) hx hb dL_law_218 (by decide) (fun _ => ?_) (fun z => absurd rfl z)
  have hbi : BI P K S1 Wt bg1 so si rd hp hn rk rn dn cu1 := by
    rcases hu1.2 with ⟨z1, z2⟩ | ⟨z1, z4, z5⟩
    · dsimp only at z1 z2
      subst z1; subst z2
      exact BI0
    · dsimp only at z1 z4 z5
      subst z1; subst z4; subst z5
      exact hBI
  exact kk P K S1 Wt bg1 so si rd hp hn rk rn dn cu1 _ _ hbi X
set_option maxHeartbeats 4000000 in
set_option maxRecDepth 100000 in
theorem lc_weigh {p : Program} {l : Launch} {e : Env} {R : Room} {s : State} {m : MethodId} {args : Array Value} {below : List Frame} {meth : Method} {c : Code} {H : Heap} {locs : List Loc} {cells slots : Nat} {Q : State → Prop} {D : va_G} {A : Nat → Prop} {b L i hB hM : Nat} {xs : Nat → Int32} {aB aM : Nat → Nat} {dB dM : Nat → ClassId} {ls : Array Slot} {P K S Wt : Nat → Nat} {bg : Nat} {so si rd hp : Nat → Nat} {hn : Nat} {rk : Nat → Nat} {rn dn cu : Nat} (Y : CallFix p m c code 4 s args lw_all R_law) (Z : va_X b L xs s s.heap ∧ b < s.heap.size ∧ ¬ A b) (hl : lv_has ls 4 [(0, .ref b), (1, .ref hB), (2, .ref hM), (3, .int (nI i))]) (hi : i + 4 ≤ L) (hL : L ≤ 256) (hRm : 10 ≤ R.frames ∧ 374 ≤ R.locals) (hcs : cells ≤ R.cells ∧ slots ≤ R.slots) (hBI : BI P K S Wt bg so si rd hp hn rk rn dn cu) (X : LX D A s hB aB dB hM aM dM P K S Wt bg so si rd hp hn rk rn dn cu H locs) (kk : ∀ (P K S Wt : Nat → Nat) (bg : Nat) (so si rd hp : Nat → Nat) (hn : Nat) (rk : Nat → Nat) (rn dn cu : Nat) (H : Heap) (locs : List Loc), BI P K S Wt bg so si rd hp hn rk rn dn cu → LX D A s hB aB dB hM aM dM P K S Wt bg so si rd hp hn rk rn dn cu H locs → W p l e R s m args below meth c H locs cells slots Q (F0 m 454 ls [])) : W p l e R s m args below meth c H locs cells slots Q (F0 m 223 ls []) := by
  have hx := Y.1
  have hb := Y.2.1
  refine lv_aload_n hx hb dL_law_223 rfl (lv_at hl 1 rfl) ?_
  refine lv_aload_n hx hb dL_law_224 rfl (lv_at hl 0 rfl) ?_
  refine lv_iload_n hx hb dL_law_225 rfl (lv_at hl 3 rfl) ?_
  refine lv_iconst (v := (nI 1)) hx hb dL_law_226 (by decide +kernel) ?_
  refine n_iadd (z := i + 1) hx hb (rfl) dL_law_227 ?_
  refine l_sld hx hb Z.1 Z.2.1 Z.2.2 X.2.2.2.2 (by omega) hL dL_law_228 ?_
  refine lv_aload_n hx hb dL_law_229 rfl (lv_at hl 0 rfl) ?_
  refine lv_iload_n hx hb dL_law_230 rfl (lv_at hl 3 rfl) ?_
  refine lv_iconst (v := (nI 2)) hx hb dL_law_231 (by decide +kernel) ?_
  refine n_iadd (z := i + 2) hx hb (rfl) dL_law_232 ?_
  refine l_sld hx hb Z.1 Z.2.1 Z.2.2 X.2.2.2.2 (by omega) hL dL_law_233 ?_
  refine l_callI (C := "BestPairs") (ci := 0) (q0 := 0) (n := 2) (As := [.int (xs (i + 1)), .int (xs (i + 2))]) (rest := []) Y X (bt_weigh l D hB aB dB P K S Wt bg so si rd hp hn rk rn dn cu (xs (i + 1)) (xs (i + 2)) ) bA_ex (lw_V q102 q103 q104 q23 q105) (by decide +kernel) rfl ⟨by omega, by omega⟩ rfl rfl rfl hl.1 rfl (Nat.le_of_ble_eq_true rfl) dL_law_234 hcs (fun r1 u1 H locs hu1 X => ?_)
  obtain ⟨W1, bg1, cu1⟩ := u1
  refine lv_aload_n hx hb dL_law_237 rfl (lv_at hl 2 rfl) ?_
  refine lv_aload_n hx hb dL_law_238 rfl (lv_at hl 0 rfl) ?_
  refine lv_iload_n hx hb dL_law_239 rfl (lv_at hl 3 rfl) ?_
  refine lv_iconst (v := (nI 1)) hx hb dL_law_240 (by decide +kernel) ?_
  refine n_iadd (z := i + 1) hx hb (rfl) dL_law_241 ?_
  refine l_sld hx hb Z.1 Z.2.1 Z.2.2 X.2.2.2.2 (by omega) hL dL_law_242 ?_
  refine lv_aload_n hx hb dL_law_243 rfl (lv_at hl 0 rfl) ?_
  refine lv_iload_n hx hb dL_law_244 rfl (lv_at hl 3 rfl) ?_
  refine lv_iconst (v := (nI 2)) hx hb dL_law_245 (by decide +kernel) ?_
  refine n_iadd (z := i + 2) hx hb (rfl) dL_law_246 ?_
  refine l_sld hx hb Z.1 Z.2.1 Z.2.2 X.2.2.2.2 (by omega) hL dL_law_247 ?_
  refine l_callI (C := "BestPairsModel") (ci := 1) (q0 := 0) (n := 2) (As := [.int (xs (i + 1)), .int (xs (i + 2))]) (rest := [.int r1]) Y X (mt_weigh l D hM aM dM (thF P) K S Wt cu  (xs (i + 1)) (xs (i + 2)) ) mA_ex (lw_V q241 q242 q243 q24 q244) (by decide +kernel) rfl ⟨by omega, by omega⟩ rfl rfl rfl hl.1 rfl (Nat.le_of_ble_eq_true rfl) dL_law_248 hcs (fun r2 u2 H locs hu2 X => ?_)
  obtain ⟨W2, cu2⟩ := u2
  obtain ⟨er, eP, ec⟩ := WgR.uniq hu1.1 hu2
  dsimp only at er eP ec
  subst eP; subst ec
  have hX := X
  subst er
  refine lv_icmp_eq (tgt := 454) hx hb dL_law_251 (by decide) (fun _ => ?_) (fun z => absurd rfl z)
  have hbi : BI P K S W1 bg1 so si rd hp hn rk rn dn cu1 := by
    rcases hu1.2 with ⟨z1, z2⟩ | ⟨z1, z4, z5⟩
    · dsimp only at z1 z2
      subst z1; subst z2
      exact BI0
    · dsimp only at z1 z4 z5
      subst z1; subst z4; subst z5
      exact hBI
  exact kk P K S W1 bg1 so si rd hp hn rk rn dn cu1 _ _ hbi X
set_option maxHeartbeats 4000000 in
set_option maxRecDepth 100000 in
theorem lc_entries {p : Program} {l : Launch} {e : Env} {R : Room} {s : State} {m : MethodId} {args : Array Value} {below : List Frame} {meth : Method} {c : Code} {H : Heap} {locs : List Loc} {cells slots : Nat} {Q : State → Prop} {D : va_G} {A : Nat → Prop} {b L i hB hM : Nat} {xs : Nat → Int32} {aB aM : Nat → Nat} {dB dM : Nat → ClassId} {ls : Array Slot} {P K S Wt : Nat → Nat} {bg : Nat} {so si rd hp : Nat → Nat} {hn : Nat} {rk : Nat → Nat} {rn dn cu : Nat} (Y : CallFix p m c code 4 s args lw_all R_law) (Z : va_X b L xs s s.heap ∧ b < s.heap.size ∧ ¬ A b) (hl : lv_has ls 4 [(0, .ref b), (1, .ref hB), (2, .ref hM), (3, .int (nI i))]) (hi : i + 4 ≤ L) (hL : L ≤ 256) (hRm : 10 ≤ R.frames ∧ 374 ≤ R.locals) (hcs : cells ≤ R.cells ∧ slots ≤ R.slots) (hBI : BI P K S Wt bg so si rd hp hn rk rn dn cu) (X : LX D A s hB aB dB hM aM dM P K S Wt bg so si rd hp hn rk rn dn cu H locs) (kk : ∀ (P K S Wt : Nat → Nat) (bg : Nat) (so si rd hp : Nat → Nat) (hn : Nat) (rk : Nat → Nat) (rn dn cu : Nat) (H : Heap) (locs : List Loc), BI P K S Wt bg so si rd hp hn rk rn dn cu → LX D A s hB aB dB hM aM dM P K S Wt bg so si rd hp hn rk rn dn cu H locs → W p l e R s m args below meth c H locs cells slots Q (F0 m 454 ls [])) : W p l e R s m args below meth c H locs cells slots Q (F0 m 256 ls []) := by
  have hx := Y.1
  have hb := Y.2.1
  refine lv_aload_n hx hb dL_law_256 rfl (lv_at hl 1 rfl) ?_
  refine lv_aload_n hx hb dL_law_257 rfl (lv_at hl 0 rfl) ?_
  refine lv_iload_n hx hb dL_law_258 rfl (lv_at hl 3 rfl) ?_
  refine lv_iconst (v := (nI 1)) hx hb dL_law_259 (by decide +kernel) ?_
  refine n_iadd (z := i + 1) hx hb (rfl) dL_law_260 ?_
  refine l_sld hx hb Z.1 Z.2.1 Z.2.2 X.2.2.2.2 (by omega) hL dL_law_261 ?_
  refine l_callR (C := "BestPairs") (ci := 0) (q0 := 0) (n := 1) (As := [.int (xs (i + 1))]) (rest := []) Y X (bt_entries l D hB aB dB P K S Wt bg so si rd hp hn rk rn dn cu (xs (i + 1)) ) (lw_V q106 q107 q108 q23 q109) (by decide +kernel) rfl ⟨by omega, by omega⟩ rfl rfl rfl hl.1 rfl (Nat.le_of_ble_eq_true rfl) dL_law_262 hcs (fun r1 hu1 X => ?_)
  refine lv_aload_n hx hb dL_law_265 rfl (lv_at hl 2 rfl) ?_
  refine lv_aload_n hx hb dL_law_266 rfl (lv_at hl 0 rfl) ?_
  refine lv_iload_n hx hb dL_law_267 rfl (lv_at hl 3 rfl) ?_
  refine lv_iconst (v := (nI 1)) hx hb dL_law_268 (by decide +kernel) ?_
  refine n_iadd (z := i + 1) hx hb (rfl) dL_law_269 ?_
  refine l_sld hx hb Z.1 Z.2.1 Z.2.2 X.2.2.2.2 (by omega) hL dL_law_270 ?_
  refine l_callR (C := "BestPairsModel") (ci := 1) (q0 := 0) (n := 1) (As := [.int (xs (i + 1))]) (rest := [.int r1]) Y X (mt_entries l D hM aM dM (thF P) K S Wt cu P (xs (i + 1)) rfl X.1.2.1) (lw_V q245 q246 q247 q24 q248) (by decide +kernel) rfl ⟨by omega, by omega⟩ rfl rfl rfl hl.1 rfl (Nat.le_of_ble_eq_true rfl) dL_law_271 hcs (fun r2 hu2 X => ?_)
  have er := ent_uniq hu1 hu2
  have hX := X
  subst er
  refine lv_icmp_eq (tgt := 454) hx hb dL_law_274 (by decide) (fun _ => ?_) (fun z => absurd rfl z)
  exact kk P K S Wt bg so si rd hp hn rk rn dn cu _ _ hBI X
set_option maxHeartbeats 4000000 in
set_option maxRecDepth 100000 in
theorem lc_score {p : Program} {l : Launch} {e : Env} {R : Room} {s : State} {m : MethodId} {args : Array Value} {below : List Frame} {meth : Method} {c : Code} {H : Heap} {locs : List Loc} {cells slots : Nat} {Q : State → Prop} {D : va_G} {A : Nat → Prop} {b L i hB hM : Nat} {xs : Nat → Int32} {aB aM : Nat → Nat} {dB dM : Nat → ClassId} {ls : Array Slot} {P K S Wt : Nat → Nat} {bg : Nat} {so si rd hp : Nat → Nat} {hn : Nat} {rk : Nat → Nat} {rn dn cu : Nat} (Y : CallFix p m c code 4 s args lw_all R_law) (Z : va_X b L xs s s.heap ∧ b < s.heap.size ∧ ¬ A b) (hl : lv_has ls 4 [(0, .ref b), (1, .ref hB), (2, .ref hM), (3, .int (nI i))]) (hi : i + 4 ≤ L) (hL : L ≤ 256) (hRm : 10 ≤ R.frames ∧ 374 ≤ R.locals) (hcs : cells ≤ R.cells ∧ slots ≤ R.slots) (hBI : BI P K S Wt bg so si rd hp hn rk rn dn cu) (X : LX D A s hB aB dB hM aM dM P K S Wt bg so si rd hp hn rk rn dn cu H locs) (kk : ∀ (P K S Wt : Nat → Nat) (bg : Nat) (so si rd hp : Nat → Nat) (hn : Nat) (rk : Nat → Nat) (rn dn cu : Nat) (H : Heap) (locs : List Loc), BI P K S Wt bg so si rd hp hn rk rn dn cu → LX D A s hB aB dB hM aM dM P K S Wt bg so si rd hp hn rk rn dn cu H locs → W p l e R s m args below meth c H locs cells slots Q (F0 m 454 ls [])) : W p l e R s m args below meth c H locs cells slots Q (F0 m 279 ls []) := by
  have hx := Y.1
  have hb := Y.2.1
  refine lv_aload_n hx hb dL_law_279 rfl (lv_at hl 1 rfl) ?_
  refine lv_aload_n hx hb dL_law_280 rfl (lv_at hl 0 rfl) ?_
  refine lv_iload_n hx hb dL_law_281 rfl (lv_at hl 3 rfl) ?_
  refine lv_iconst (v := (nI 1)) hx hb dL_law_282 (by decide +kernel) ?_
  refine n_iadd (z := i + 1) hx hb (rfl) dL_law_283 ?_
  refine l_sld hx hb Z.1 Z.2.1 Z.2.2 X.2.2.2.2 (by omega) hL dL_law_284 ?_
  refine lv_aload_n hx hb dL_law_285 rfl (lv_at hl 0 rfl) ?_
  refine lv_iload_n hx hb dL_law_286 rfl (lv_at hl 3 rfl) ?_
  refine lv_iconst (v := (nI 2)) hx hb dL_law_287 (by decide +kernel) ?_
  refine n_iadd (z := i + 2) hx hb (rfl) dL_law_288 ?_
  refine l_sld hx hb Z.1 Z.2.1 Z.2.2 X.2.2.2.2 (by omega) hL dL_law_289 ?_
  refine l_callR (C := "BestPairs") (ci := 0) (q0 := 0) (n := 2) (As := [.int (xs (i + 1)), .int (xs (i + 2))]) (rest := []) Y X (bt_score l D hB aB dB P K S Wt bg so si rd hp hn rk rn dn cu (xs (i + 1)) (xs (i + 2)) ) (lw_V q110 q111 q112 q23 q113) (by decide +kernel) rfl ⟨by omega, by omega⟩ rfl rfl rfl hl.1 rfl (Nat.le_of_ble_eq_true rfl) dL_law_290 hcs (fun r1 hu1 X => ?_)
  refine lv_aload_n hx hb dL_law_293 rfl (lv_at hl 2 rfl) ?_
  refine lv_aload_n hx hb dL_law_294 rfl (lv_at hl 0 rfl) ?_
  refine lv_iload_n hx hb dL_law_295 rfl (lv_at hl 3 rfl) ?_
  refine lv_iconst (v := (nI 1)) hx hb dL_law_296 (by decide +kernel) ?_
  refine n_iadd (z := i + 1) hx hb (rfl) dL_law_297 ?_
  refine l_sld hx hb Z.1 Z.2.1 Z.2.2 X.2.2.2.2 (by omega) hL dL_law_298 ?_
  refine lv_aload_n hx hb dL_law_299 rfl (lv_at hl 0 rfl) ?_
  refine lv_iload_n hx hb dL_law_300 rfl (lv_at hl 3 rfl) ?_
  refine lv_iconst (v := (nI 2)) hx hb dL_law_301 (by decide +kernel) ?_
  refine n_iadd (z := i + 2) hx hb (rfl) dL_law_302 ?_
  refine l_sld hx hb Z.1 Z.2.1 Z.2.2 X.2.2.2.2 (by omega) hL dL_law_303 ?_
  refine l_callR (C := "BestPairsModel") (ci := 1) (q0 := 0) (n := 2) (As := [.int (xs (i + 1)), .int (xs (i + 2))]) (rest := [.int r1]) Y X (mt_score l D hM aM dM (thF P) K S Wt cu P (xs (i + 1)) (xs (i + 2)) rfl) (lw_V q249 q250 q251 q24 q252) (by decide +kernel) rfl ⟨by omega, by omega⟩ rfl rfl rfl hl.1 rfl (Nat.le_of_ble_eq_true rfl) dL_law_304 hcs (fun r2 hu2 X => ?_)
  have er := sco_uniq hu1 hu2
  have hX := X
  subst er
  refine lv_icmp_eq (tgt := 454) hx hb dL_law_307 (by decide) (fun _ => ?_) (fun z => absurd rfl z)
  exact kk P K S Wt bg so si rd hp hn rk rn dn cu _ _ hBI X
set_option maxHeartbeats 4000000 in
set_option maxRecDepth 100000 in
theorem lc_next {p : Program} {l : Launch} {e : Env} {R : Room} {s : State} {m : MethodId} {args : Array Value} {below : List Frame} {meth : Method} {c : Code} {H : Heap} {locs : List Loc} {cells slots : Nat} {Q : State → Prop} {D : va_G} {A : Nat → Prop} {b L i hB hM : Nat} {xs : Nat → Int32} {aB aM : Nat → Nat} {dB dM : Nat → ClassId} {ls : Array Slot} {P K S Wt : Nat → Nat} {bg : Nat} {so si rd hp : Nat → Nat} {hn : Nat} {rk : Nat → Nat} {rn dn cu : Nat} (Y : CallFix p m c code 4 s args lw_all R_law) (Z : va_X b L xs s s.heap ∧ b < s.heap.size ∧ ¬ A b) (hl : lv_has ls 4 [(0, .ref b), (1, .ref hB), (2, .ref hM), (3, .int (nI i))]) (hi : i + 4 ≤ L) (hL : L ≤ 256) (hRm : 10 ≤ R.frames ∧ 374 ≤ R.locals) (hcs : cells ≤ R.cells ∧ slots ≤ R.slots) (hBI : BI P K S Wt bg so si rd hp hn rk rn dn cu) (X : LX D A s hB aB dB hM aM dM P K S Wt bg so si rd hp hn rk rn dn cu H locs) (kk : ∀ (P K S Wt : Nat → Nat) (bg : Nat) (so si rd hp : Nat → Nat) (hn : Nat) (rk : Nat → Nat) (rn dn cu : Nat) (H : Heap) (locs : List Loc), BI P K S Wt bg so si rd hp hn rk rn dn cu → LX D A s hB aB dB hM aM dM P K S Wt bg so si rd hp hn rk rn dn cu H locs → W p l e R s m args below meth c H locs cells slots Q (F0 m 454 ls [])) : W p l e R s m args below meth c H locs cells slots Q (F0 m 312 ls []) := by
  have hx := Y.1
  have hb := Y.2.1
  refine lv_aload_n hx hb dL_law_312 rfl (lv_at hl 1 rfl) ?_
  refine l_callI (C := "BestPairs") (ci := 0) (q0 := 0) (n := 0) (As := []) (rest := []) Y X (bt_next l D hB aB dB P K S Wt bg so si rd hp hn rk rn dn cu  hBI) bA_ex (lw_V q114 q115 q116 q23 q117) (by decide +kernel) rfl ⟨by omega, by omega⟩ rfl rfl rfl hl.1 rfl (Nat.le_of_ble_eq_true rfl) dL_law_313 hcs (fun r1 u1 H locs hu1 X => ?_)
  obtain ⟨bg1, so1, si1, rd1, hp1, hn1, rk1, rn1, dn1, cu1⟩ := u1
  refine lv_aload_n hx hb dL_law_316 rfl (lv_at hl 2 rfl) ?_
  refine l_callI (C := "BestPairsModel") (ci := 1) (q0 := 0) (n := 0) (As := []) (rest := [.int r1]) Y X (mt_next l D hM aM dM (thF P) K S Wt cu P  rfl) mA_ex (lw_V q253 q254 q255 q24 q256) (by decide +kernel) rfl ⟨by omega, by omega⟩ rfl rfl rfl hl.1 rfl (Nat.le_of_ble_eq_true rfl) dL_law_317 hcs (fun r2 u2 H locs hu2 X => ?_)
  obtain ⟨er, ec⟩ := NxR.uniq hu1.2 hu2
  dsimp only at er ec
  subst ec
  have hX := X
  subst er
  refine lv_icmp_eq (tgt := 454) hx hb dL_law_320 (by decide) (fun _ => ?_) (fun z => absurd rfl z)
  exact kk P K S Wt bg1 so1 si1 rd1 hp1 hn1 rk1 rn1 dn1 cu1 _ _ hu1.1 X
set_option maxHeartbeats 4000000 in
set_option maxRecDepth 100000 in
theorem lc_passed {p : Program} {l : Launch} {e : Env} {R : Room} {s : State} {m : MethodId} {args : Array Value} {below : List Frame} {meth : Method} {c : Code} {H : Heap} {locs : List Loc} {cells slots : Nat} {Q : State → Prop} {D : va_G} {A : Nat → Prop} {b L i hB hM : Nat} {xs : Nat → Int32} {aB aM : Nat → Nat} {dB dM : Nat → ClassId} {ls : Array Slot} {P K S Wt : Nat → Nat} {bg : Nat} {so si rd hp : Nat → Nat} {hn : Nat} {rk : Nat → Nat} {rn dn cu : Nat} (Y : CallFix p m c code 4 s args lw_all R_law) (Z : va_X b L xs s s.heap ∧ b < s.heap.size ∧ ¬ A b) (hl : lv_has ls 4 [(0, .ref b), (1, .ref hB), (2, .ref hM), (3, .int (nI i))]) (hi : i + 4 ≤ L) (hL : L ≤ 256) (hRm : 10 ≤ R.frames ∧ 374 ≤ R.locals) (hcs : cells ≤ R.cells ∧ slots ≤ R.slots) (hBI : BI P K S Wt bg so si rd hp hn rk rn dn cu) (X : LX D A s hB aB dB hM aM dM P K S Wt bg so si rd hp hn rk rn dn cu H locs) (kk : ∀ (P K S Wt : Nat → Nat) (bg : Nat) (so si rd hp : Nat → Nat) (hn : Nat) (rk : Nat → Nat) (rn dn cu : Nat) (H : Heap) (locs : List Loc), BI P K S Wt bg so si rd hp hn rk rn dn cu → LX D A s hB aB dB hM aM dM P K S Wt bg so si rd hp hn rk rn dn cu H locs → W p l e R s m args below meth c H locs cells slots Q (F0 m 454 ls [])) : W p l e R s m args below meth c H locs cells slots Q (F0 m 325 ls []) := by
  have hx := Y.1
  have hb := Y.2.1
  refine lv_aload_n hx hb dL_law_325 rfl (lv_at hl 1 rfl) ?_
  refine l_callR (C := "BestPairs") (ci := 0) (q0 := 0) (n := 0) (As := []) (rest := []) Y X (bt_passed l D hB aB dB P K S Wt bg so si rd hp hn rk rn dn cu  ) (lw_V q170 q171 q172 q23 q173) (by decide +kernel) rfl ⟨by omega, by omega⟩ rfl rfl rfl hl.1 rfl (Nat.le_of_ble_eq_true rfl) dL_law_326 hcs (fun r1 hu1 X => ?_)
  refine lv_aload_n hx hb dL_law_329 rfl (lv_at hl 2 rfl) ?_
  refine l_callR (C := "BestPairsModel") (ci := 1) (q0 := 0) (n := 0) (As := []) (rest := [.int r1]) Y X (mt_passed l D hM aM dM (thF P) K S Wt cu   ) (lw_V q277 q278 q279 q24 q280) (by decide +kernel) rfl ⟨by omega, by omega⟩ rfl rfl rfl hl.1 rfl (Nat.le_of_ble_eq_true rfl) dL_law_330 hcs (fun r2 hu2 X => ?_)
  have er := hu1.trans hu2.symm
  have hX := X
  subst er
  refine lv_icmp_eq (tgt := 454) hx hb dL_law_333 (by decide) (fun _ => ?_) (fun z => absurd rfl z)
  exact kk P K S Wt bg so si rd hp hn rk rn dn cu _ _ hBI X
set_option maxHeartbeats 4000000 in
set_option maxRecDepth 100000 in
theorem lc_lastValue {p : Program} {l : Launch} {e : Env} {R : Room} {s : State} {m : MethodId} {args : Array Value} {below : List Frame} {meth : Method} {c : Code} {H : Heap} {locs : List Loc} {cells slots : Nat} {Q : State → Prop} {D : va_G} {A : Nat → Prop} {b L i hB hM : Nat} {xs : Nat → Int32} {aB aM : Nat → Nat} {dB dM : Nat → ClassId} {ls : Array Slot} {P K S Wt : Nat → Nat} {bg : Nat} {so si rd hp : Nat → Nat} {hn : Nat} {rk : Nat → Nat} {rn dn cu : Nat} (Y : CallFix p m c code 4 s args lw_all R_law) (Z : va_X b L xs s s.heap ∧ b < s.heap.size ∧ ¬ A b) (hl : lv_has ls 4 [(0, .ref b), (1, .ref hB), (2, .ref hM), (3, .int (nI i))]) (hi : i + 4 ≤ L) (hL : L ≤ 256) (hRm : 10 ≤ R.frames ∧ 374 ≤ R.locals) (hcs : cells ≤ R.cells ∧ slots ≤ R.slots) (hBI : BI P K S Wt bg so si rd hp hn rk rn dn cu) (X : LX D A s hB aB dB hM aM dM P K S Wt bg so si rd hp hn rk rn dn cu H locs) (kk : ∀ (P K S Wt : Nat → Nat) (bg : Nat) (so si rd hp : Nat → Nat) (hn : Nat) (rk : Nat → Nat) (rn dn cu : Nat) (H : Heap) (locs : List Loc), BI P K S Wt bg so si rd hp hn rk rn dn cu → LX D A s hB aB dB hM aM dM P K S Wt bg so si rd hp hn rk rn dn cu H locs → W p l e R s m args below meth c H locs cells slots Q (F0 m 454 ls [])) : W p l e R s m args below meth c H locs cells slots Q (F0 m 338 ls []) := by
  have hx := Y.1
  have hb := Y.2.1
  refine lv_aload_n hx hb dL_law_338 rfl (lv_at hl 1 rfl) ?_
  refine l_callR (C := "BestPairs") (ci := 0) (q0 := 0) (n := 0) (As := []) (rest := []) Y X (bt_lastValue l D hB aB dB P K S Wt bg so si rd hp hn rk rn dn cu  hBI) (lw_V q174 q175 q176 q23 q177) (by decide +kernel) rfl ⟨by omega, by omega⟩ rfl rfl rfl hl.1 rfl (Nat.le_of_ble_eq_true rfl) dL_law_339 hcs (fun r1 hu1 X => ?_)
  refine lv_aload_n hx hb dL_law_342 rfl (lv_at hl 2 rfl) ?_
  refine l_callR (C := "BestPairsModel") (ci := 1) (q0 := 0) (n := 0) (As := []) (rest := [.int r1]) Y X (mt_lastValue l D hM aM dM (thF P) K S Wt cu P  rfl) (lw_V q281 q282 q283 q24 q284) (by decide +kernel) rfl ⟨by omega, by omega⟩ rfl rfl rfl hl.1 rfl (Nat.le_of_ble_eq_true rfl) dL_law_343 hcs (fun r2 hu2 X => ?_)
  have er := ansX.uniq hu1 hu2
  have hX := X
  subst er
  refine lv_icmp_eq (tgt := 454) hx hb dL_law_346 (by decide) (fun _ => ?_) (fun z => absurd rfl z)
  exact kk P K S Wt bg so si rd hp hn rk rn dn cu _ _ hBI X
set_option maxHeartbeats 4000000 in
set_option maxRecDepth 100000 in
theorem lc_rewind {p : Program} {l : Launch} {e : Env} {R : Room} {s : State} {m : MethodId} {args : Array Value} {below : List Frame} {meth : Method} {c : Code} {H : Heap} {locs : List Loc} {cells slots : Nat} {Q : State → Prop} {D : va_G} {A : Nat → Prop} {b L i hB hM : Nat} {xs : Nat → Int32} {aB aM : Nat → Nat} {dB dM : Nat → ClassId} {ls : Array Slot} {P K S Wt : Nat → Nat} {bg : Nat} {so si rd hp : Nat → Nat} {hn : Nat} {rk : Nat → Nat} {rn dn cu : Nat} (Y : CallFix p m c code 4 s args lw_all R_law) (Z : va_X b L xs s s.heap ∧ b < s.heap.size ∧ ¬ A b) (hl : lv_has ls 4 [(0, .ref b), (1, .ref hB), (2, .ref hM), (3, .int (nI i))]) (hi : i + 4 ≤ L) (hL : L ≤ 256) (hRm : 10 ≤ R.frames ∧ 374 ≤ R.locals) (hcs : cells ≤ R.cells ∧ slots ≤ R.slots) (hBI : BI P K S Wt bg so si rd hp hn rk rn dn cu) (X : LX D A s hB aB dB hM aM dM P K S Wt bg so si rd hp hn rk rn dn cu H locs) (kk : ∀ (P K S Wt : Nat → Nat) (bg : Nat) (so si rd hp : Nat → Nat) (hn : Nat) (rk : Nat → Nat) (rn dn cu : Nat) (H : Heap) (locs : List Loc), BI P K S Wt bg so si rd hp hn rk rn dn cu → LX D A s hB aB dB hM aM dM P K S Wt bg so si rd hp hn rk rn dn cu H locs → W p l e R s m args below meth c H locs cells slots Q (F0 m 454 ls [])) : W p l e R s m args below meth c H locs cells slots Q (F0 m 351 ls []) := by
  have hx := Y.1
  have hb := Y.2.1
  refine lv_aload_n hx hb dL_law_351 rfl (lv_at hl 1 rfl) ?_
  refine l_callV (C := "BestPairs") (ci := 0) (q0 := 0) (n := 0) (As := []) (rest := []) Y X (bt_rewind l D hB aB dB P K S Wt bg so si rd hp hn rk rn dn cu  ) bA_ex (lw_V q178 q179 q180 q23 q181) (by decide +kernel) rfl ⟨by omega, by omega⟩ rfl rfl rfl hl.1 rfl (Nat.le_of_ble_eq_true rfl) dL_law_352 hcs (fun u1 H locs hu1 X => ?_)
  refine lv_aload_n hx hb dL_law_355 rfl (lv_at hl 2 rfl) ?_
  refine l_callV (C := "BestPairsModel") (ci := 1) (q0 := 0) (n := 0) (As := []) (rest := []) Y X (mt_rewind l D hM aM dM (thF P) K S Wt cu   ) mA_ex (lw_V q285 q286 q287 q24 q288) (by decide +kernel) rfl ⟨by omega, by omega⟩ rfl rfl rfl hl.1 rfl (Nat.le_of_ble_eq_true rfl) dL_law_356 hcs (fun u2 H locs hu2 X => ?_)
  have hX := X
  refine lv_goto (tgt := 454) hx hb dL_law_359 (by decide) ?_
  have hbi : BI P K S Wt bg so si rd hp hn rk rn dn 0 := ⟨hBI.1, fun q => absurd q (by decide)⟩
  exact kk P K S Wt bg so si rd hp hn rk rn dn 0 _ _ hbi X
set_option maxHeartbeats 4000000 in
set_option maxRecDepth 100000 in
theorem lc_pairAt {p : Program} {l : Launch} {e : Env} {R : Room} {s : State} {m : MethodId} {args : Array Value} {below : List Frame} {meth : Method} {c : Code} {H : Heap} {locs : List Loc} {cells slots : Nat} {Q : State → Prop} {D : va_G} {A : Nat → Prop} {b L i hB hM : Nat} {xs : Nat → Int32} {aB aM : Nat → Nat} {dB dM : Nat → ClassId} {ls : Array Slot} {P K S Wt : Nat → Nat} {bg : Nat} {so si rd hp : Nat → Nat} {hn : Nat} {rk : Nat → Nat} {rn dn cu : Nat} (Y : CallFix p m c code 4 s args lw_all R_law) (Z : va_X b L xs s s.heap ∧ b < s.heap.size ∧ ¬ A b) (hl : lv_has ls 4 [(0, .ref b), (1, .ref hB), (2, .ref hM), (3, .int (nI i))]) (hi : i + 4 ≤ L) (hL : L ≤ 256) (hRm : 10 ≤ R.frames ∧ 374 ≤ R.locals) (hcs : cells ≤ R.cells ∧ slots ≤ R.slots) (hBI : BI P K S Wt bg so si rd hp hn rk rn dn cu) (X : LX D A s hB aB dB hM aM dM P K S Wt bg so si rd hp hn rk rn dn cu H locs) (kk : ∀ (P K S Wt : Nat → Nat) (bg : Nat) (so si rd hp : Nat → Nat) (hn : Nat) (rk : Nat → Nat) (rn dn cu : Nat) (H : Heap) (locs : List Loc), BI P K S Wt bg so si rd hp hn rk rn dn cu → LX D A s hB aB dB hM aM dM P K S Wt bg so si rd hp hn rk rn dn cu H locs → W p l e R s m args below meth c H locs cells slots Q (F0 m 454 ls [])) : W p l e R s m args below meth c H locs cells slots Q (F0 m 362 ls []) := by
  have hx := Y.1
  have hb := Y.2.1
  refine lv_aload_n hx hb dL_law_362 rfl (lv_at hl 1 rfl) ?_
  refine lv_aload_n hx hb dL_law_363 rfl (lv_at hl 0 rfl) ?_
  refine lv_iload_n hx hb dL_law_364 rfl (lv_at hl 3 rfl) ?_
  refine lv_iconst (v := (nI 1)) hx hb dL_law_365 (by decide +kernel) ?_
  refine n_iadd (z := i + 1) hx hb (rfl) dL_law_366 ?_
  refine l_sld hx hb Z.1 Z.2.1 Z.2.2 X.2.2.2.2 (by omega) hL dL_law_367 ?_
  refine l_callI (C := "BestPairs") (ci := 0) (q0 := 0) (n := 1) (As := [.int (xs (i + 1))]) (rest := []) Y X (bt_pairAt l D hB aB dB P K S Wt bg so si rd hp hn rk rn dn cu (xs (i + 1)) hBI) bA_ex (lw_V q182 q183 q184 q23 q185) (by decide +kernel) rfl ⟨by omega, by omega⟩ rfl rfl rfl hl.1 rfl (Nat.le_of_ble_eq_true rfl) dL_law_368 hcs (fun r1 u1 H locs hu1 X => ?_)
  obtain ⟨bg1, so1, si1, rd1, hp1, hn1, rk1, rn1, dn1, cu1⟩ := u1
  refine lv_aload_n hx hb dL_law_371 rfl (lv_at hl 2 rfl) ?_
  refine lv_aload_n hx hb dL_law_372 rfl (lv_at hl 0 rfl) ?_
  refine lv_iload_n hx hb dL_law_373 rfl (lv_at hl 3 rfl) ?_
  refine lv_iconst (v := (nI 1)) hx hb dL_law_374 (by decide +kernel) ?_
  refine n_iadd (z := i + 1) hx hb (rfl) dL_law_375 ?_
  refine l_sld hx hb Z.1 Z.2.1 Z.2.2 X.2.2.2.2 (by omega) hL dL_law_376 ?_
  refine l_callR (C := "BestPairsModel") (ci := 1) (q0 := 0) (n := 1) (As := [.int (xs (i + 1))]) (rest := [.int r1]) Y X (mt_pairAt l D hM aM dM (thF P) K S Wt cu P (xs (i + 1)) rfl) (lw_V q289 q290 q291 q24 q292) (by decide +kernel) rfl ⟨by omega, by omega⟩ rfl rfl rfl hl.1 rfl (Nat.le_of_ble_eq_true rfl) dL_law_377 hcs (fun r2 hu2 X => ?_)
  have er := ansX.uniq hu1.2.2 hu2
  have ec : cu1 = cu := hu1.2.1
  subst ec
  have hX := X
  subst er
  refine lv_icmp_eq (tgt := 454) hx hb dL_law_380 (by decide) (fun _ => ?_) (fun z => absurd rfl z)
  exact kk P K S Wt bg1 so1 si1 rd1 hp1 hn1 rk1 rn1 dn1 cu1 _ _ hu1.1 X
set_option maxHeartbeats 4000000 in
set_option maxRecDepth 100000 in
theorem lc_pairs {p : Program} {l : Launch} {e : Env} {R : Room} {s : State} {m : MethodId} {args : Array Value} {below : List Frame} {meth : Method} {c : Code} {H : Heap} {locs : List Loc} {cells slots : Nat} {Q : State → Prop} {D : va_G} {A : Nat → Prop} {b L i hB hM : Nat} {xs : Nat → Int32} {aB aM : Nat → Nat} {dB dM : Nat → ClassId} {ls : Array Slot} {P K S Wt : Nat → Nat} {bg : Nat} {so si rd hp : Nat → Nat} {hn : Nat} {rk : Nat → Nat} {rn dn cu : Nat} (Y : CallFix p m c code 4 s args lw_all R_law) (Z : va_X b L xs s s.heap ∧ b < s.heap.size ∧ ¬ A b) (hl : lv_has ls 4 [(0, .ref b), (1, .ref hB), (2, .ref hM), (3, .int (nI i))]) (hi : i + 4 ≤ L) (hL : L ≤ 256) (hRm : 10 ≤ R.frames ∧ 374 ≤ R.locals) (hcs : cells ≤ R.cells ∧ slots ≤ R.slots) (hBI : BI P K S Wt bg so si rd hp hn rk rn dn cu) (X : LX D A s hB aB dB hM aM dM P K S Wt bg so si rd hp hn rk rn dn cu H locs) (kk : ∀ (P K S Wt : Nat → Nat) (bg : Nat) (so si rd hp : Nat → Nat) (hn : Nat) (rk : Nat → Nat) (rn dn cu : Nat) (H : Heap) (locs : List Loc), BI P K S Wt bg so si rd hp hn rk rn dn cu → LX D A s hB aB dB hM aM dM P K S Wt bg so si rd hp hn rk rn dn cu H locs → W p l e R s m args below meth c H locs cells slots Q (F0 m 454 ls [])) : W p l e R s m args below meth c H locs cells slots Q (F0 m 385 ls []) := by
  have hx := Y.1
  have hb := Y.2.1
  refine lv_aload_n hx hb dL_law_385 rfl (lv_at hl 1 rfl) ?_
  refine l_callR (C := "BestPairs") (ci := 0) (q0 := 0) (n := 0) (As := []) (rest := []) Y X (bt_pairs l D hB aB dB P K S Wt bg so si rd hp hn rk rn dn cu  ) (lw_V q186 q187 q188 q23 q189) (by decide +kernel) rfl ⟨by omega, by omega⟩ rfl rfl rfl hl.1 rfl (Nat.le_of_ble_eq_true rfl) dL_law_386 hcs (fun r1 hu1 X => ?_)
  refine lv_aload_n hx hb dL_law_389 rfl (lv_at hl 2 rfl) ?_
  refine l_callR (C := "BestPairsModel") (ci := 1) (q0 := 0) (n := 0) (As := []) (rest := [.int r1]) Y X (mt_pairs l D hM aM dM (thF P) K S Wt cu P  rfl) (lw_V q293 q294 q295 q24 q296) (by decide +kernel) rfl ⟨by omega, by omega⟩ rfl rfl rfl hl.1 rfl (Nat.le_of_ble_eq_true rfl) dL_law_390 hcs (fun r2 hu2 X => ?_)
  have er := hu1.trans hu2.symm
  have hX := X
  subst er
  refine lv_icmp_eq (tgt := 454) hx hb dL_law_393 (by decide) (fun _ => ?_) (fun z => absurd rfl z)
  exact kk P K S Wt bg so si rd hp hn rk rn dn cu _ _ hBI X
set_option maxHeartbeats 4000000 in
set_option maxRecDepth 100000 in
theorem lc_atLeast {p : Program} {l : Launch} {e : Env} {R : Room} {s : State} {m : MethodId} {args : Array Value} {below : List Frame} {meth : Method} {c : Code} {H : Heap} {locs : List Loc} {cells slots : Nat} {Q : State → Prop} {D : va_G} {A : Nat → Prop} {b L i hB hM : Nat} {xs : Nat → Int32} {aB aM : Nat → Nat} {dB dM : Nat → ClassId} {ls : Array Slot} {P K S Wt : Nat → Nat} {bg : Nat} {so si rd hp : Nat → Nat} {hn : Nat} {rk : Nat → Nat} {rn dn cu : Nat} (Y : CallFix p m c code 4 s args lw_all R_law) (Z : va_X b L xs s s.heap ∧ b < s.heap.size ∧ ¬ A b) (hl : lv_has ls 4 [(0, .ref b), (1, .ref hB), (2, .ref hM), (3, .int (nI i))]) (hi : i + 4 ≤ L) (hL : L ≤ 256) (hRm : 10 ≤ R.frames ∧ 374 ≤ R.locals) (hcs : cells ≤ R.cells ∧ slots ≤ R.slots) (hBI : BI P K S Wt bg so si rd hp hn rk rn dn cu) (X : LX D A s hB aB dB hM aM dM P K S Wt bg so si rd hp hn rk rn dn cu H locs) (kk : ∀ (P K S Wt : Nat → Nat) (bg : Nat) (so si rd hp : Nat → Nat) (hn : Nat) (rk : Nat → Nat) (rn dn cu : Nat) (H : Heap) (locs : List Loc), BI P K S Wt bg so si rd hp hn rk rn dn cu → LX D A s hB aB dB hM aM dM P K S Wt bg so si rd hp hn rk rn dn cu H locs → W p l e R s m args below meth c H locs cells slots Q (F0 m 454 ls [])) : W p l e R s m args below meth c H locs cells slots Q (F0 m 398 ls []) := by
  have hx := Y.1
  have hb := Y.2.1
  refine lv_aload_n hx hb dL_law_398 rfl (lv_at hl 1 rfl) ?_
  refine lv_aload_n hx hb dL_law_399 rfl (lv_at hl 0 rfl) ?_
  refine lv_iload_n hx hb dL_law_400 rfl (lv_at hl 3 rfl) ?_
  refine lv_iconst (v := (nI 1)) hx hb dL_law_401 (by decide +kernel) ?_
  refine n_iadd (z := i + 1) hx hb (rfl) dL_law_402 ?_
  refine l_sld hx hb Z.1 Z.2.1 Z.2.2 X.2.2.2.2 (by omega) hL dL_law_403 ?_
  refine l_callI (C := "BestPairs") (ci := 0) (q0 := 0) (n := 1) (As := [.int (xs (i + 1))]) (rest := []) Y X (bt_atLeast l D hB aB dB P K S Wt bg so si rd hp hn rk rn dn cu (xs (i + 1)) hBI) bA_ex (lw_V q194 q195 q196 q23 q197) (by decide +kernel) rfl ⟨by omega, by omega⟩ rfl rfl rfl hl.1 rfl (Nat.le_of_ble_eq_true rfl) dL_law_404 hcs (fun r1 u1 H locs hu1 X => ?_)
  obtain ⟨bg1, so1, si1, rd1, hp1, hn1, rk1, rn1, dn1, cu1⟩ := u1
  refine lv_aload_n hx hb dL_law_407 rfl (lv_at hl 2 rfl) ?_
  refine lv_aload_n hx hb dL_law_408 rfl (lv_at hl 0 rfl) ?_
  refine lv_iload_n hx hb dL_law_409 rfl (lv_at hl 3 rfl) ?_
  refine lv_iconst (v := (nI 1)) hx hb dL_law_410 (by decide +kernel) ?_
  refine n_iadd (z := i + 1) hx hb (rfl) dL_law_411 ?_
  refine l_sld hx hb Z.1 Z.2.1 Z.2.2 X.2.2.2.2 (by omega) hL dL_law_412 ?_
  refine l_callR (C := "BestPairsModel") (ci := 1) (q0 := 0) (n := 1) (As := [.int (xs (i + 1))]) (rest := [.int r1]) Y X (mt_atLeast l D hM aM dM (thF P) K S Wt cu P (xs (i + 1)) rfl) (lw_V q297 q298 q299 q24 q300) (by decide +kernel) rfl ⟨by omega, by omega⟩ rfl rfl rfl hl.1 rfl (Nat.le_of_ble_eq_true rfl) dL_law_413 hcs (fun r2 hu2 X => ?_)
  have er := hu1.2.2.trans hu2.symm
  have ec : cu1 = cu := hu1.2.1
  subst ec
  have hX := X
  subst er
  refine lv_icmp_eq (tgt := 454) hx hb dL_law_416 (by decide) (fun _ => ?_) (fun z => absurd rfl z)
  exact kk P K S Wt bg1 so1 si1 rd1 hp1 hn1 rk1 rn1 dn1 cu1 _ _ hu1.1 X
set_option maxHeartbeats 4000000 in
set_option maxRecDepth 100000 in
theorem lc_bestPlace {p : Program} {l : Launch} {e : Env} {R : Room} {s : State} {m : MethodId} {args : Array Value} {below : List Frame} {meth : Method} {c : Code} {H : Heap} {locs : List Loc} {cells slots : Nat} {Q : State → Prop} {D : va_G} {A : Nat → Prop} {b L i hB hM : Nat} {xs : Nat → Int32} {aB aM : Nat → Nat} {dB dM : Nat → ClassId} {ls : Array Slot} {P K S Wt : Nat → Nat} {bg : Nat} {so si rd hp : Nat → Nat} {hn : Nat} {rk : Nat → Nat} {rn dn cu : Nat} (Y : CallFix p m c code 4 s args lw_all R_law) (Z : va_X b L xs s s.heap ∧ b < s.heap.size ∧ ¬ A b) (hl : lv_has ls 4 [(0, .ref b), (1, .ref hB), (2, .ref hM), (3, .int (nI i))]) (hi : i + 4 ≤ L) (hL : L ≤ 256) (hRm : 10 ≤ R.frames ∧ 374 ≤ R.locals) (hcs : cells ≤ R.cells ∧ slots ≤ R.slots) (hBI : BI P K S Wt bg so si rd hp hn rk rn dn cu) (X : LX D A s hB aB dB hM aM dM P K S Wt bg so si rd hp hn rk rn dn cu H locs) (kk : ∀ (P K S Wt : Nat → Nat) (bg : Nat) (so si rd hp : Nat → Nat) (hn : Nat) (rk : Nat → Nat) (rn dn cu : Nat) (H : Heap) (locs : List Loc), BI P K S Wt bg so si rd hp hn rk rn dn cu → LX D A s hB aB dB hM aM dM P K S Wt bg so si rd hp hn rk rn dn cu H locs → W p l e R s m args below meth c H locs cells slots Q (F0 m 454 ls [])) : W p l e R s m args below meth c H locs cells slots Q (F0 m 421 ls []) := by
  have hx := Y.1
  have hb := Y.2.1
  refine lv_aload_n hx hb dL_law_421 rfl (lv_at hl 1 rfl) ?_
  refine lv_aload_n hx hb dL_law_422 rfl (lv_at hl 0 rfl) ?_
  refine lv_iload_n hx hb dL_law_423 rfl (lv_at hl 3 rfl) ?_
  refine lv_iconst (v := (nI 1)) hx hb dL_law_424 (by decide +kernel) ?_
  refine n_iadd (z := i + 1) hx hb (rfl) dL_law_425 ?_
  refine l_sld hx hb Z.1 Z.2.1 Z.2.2 X.2.2.2.2 (by omega) hL dL_law_426 ?_
  refine lv_aload_n hx hb dL_law_427 rfl (lv_at hl 0 rfl) ?_
  refine lv_iload_n hx hb dL_law_428 rfl (lv_at hl 3 rfl) ?_
  refine lv_iconst (v := (nI 2)) hx hb dL_law_429 (by decide +kernel) ?_
  refine n_iadd (z := i + 2) hx hb (rfl) dL_law_430 ?_
  refine l_sld hx hb Z.1 Z.2.1 Z.2.2 X.2.2.2.2 (by omega) hL dL_law_431 ?_
  refine l_callI (C := "BestPairs") (ci := 0) (q0 := 0) (n := 2) (As := [.int (xs (i + 1)), .int (xs (i + 2))]) (rest := []) Y X (bt_bestPlace l D hB aB dB P K S Wt bg so si rd hp hn rk rn dn cu (xs (i + 1)) (xs (i + 2)) hBI) bA_ex (lw_V q198 q199 q200 q23 q201) (by decide +kernel) rfl ⟨by omega, by omega⟩ rfl rfl rfl hl.1 rfl (Nat.le_of_ble_eq_true rfl) dL_law_432 hcs (fun r1 u1 H locs hu1 X => ?_)
  obtain ⟨bg1, so1, si1, rd1, hp1, hn1, rk1, rn1, dn1, cu1⟩ := u1
  refine lv_aload_n hx hb dL_law_435 rfl (lv_at hl 2 rfl) ?_
  refine lv_aload_n hx hb dL_law_436 rfl (lv_at hl 0 rfl) ?_
  refine lv_iload_n hx hb dL_law_437 rfl (lv_at hl 3 rfl) ?_
  refine lv_iconst (v := (nI 1)) hx hb dL_law_438 (by decide +kernel) ?_
  refine n_iadd (z := i + 1) hx hb (rfl) dL_law_439 ?_
  refine l_sld hx hb Z.1 Z.2.1 Z.2.2 X.2.2.2.2 (by omega) hL dL_law_440 ?_
  refine lv_aload_n hx hb dL_law_441 rfl (lv_at hl 0 rfl) ?_
  refine lv_iload_n hx hb dL_law_442 rfl (lv_at hl 3 rfl) ?_
  refine lv_iconst (v := (nI 2)) hx hb dL_law_443 (by decide +kernel) ?_
  refine n_iadd (z := i + 2) hx hb (rfl) dL_law_444 ?_
  refine l_sld hx hb Z.1 Z.2.1 Z.2.2 X.2.2.2.2 (by omega) hL dL_law_445 ?_
  refine l_callR (C := "BestPairsModel") (ci := 1) (q0 := 0) (n := 2) (As := [.int (xs (i + 1)), .int (xs (i + 2))]) (rest := [.int r1]) Y X (mt_bestPlace l D hM aM dM (thF P) K S Wt cu P (xs (i + 1)) (xs (i + 2)) rfl) (lw_V q301 q302 q303 q24 q304) (by decide +kernel) rfl ⟨by omega, by omega⟩ rfl rfl rfl hl.1 rfl (Nat.le_of_ble_eq_true rfl) dL_law_446 hcs (fun r2 hu2 X => ?_)
  have er := bp_uniq hu1.2.2 hu2
  have ec : cu1 = cu := hu1.2.1
  subst ec
  have hX := X
  subst er
  refine lv_icmp_eq (tgt := 454) hx hb dL_law_449 (by decide) (fun _ => ?_) (fun z => absurd rfl z)
  exact kk P K S Wt bg1 so1 si1 rd1 hp1 hn1 rk1 rn1 dn1 cu1 _ _ hu1.1 X
end LCS
end
section
section LST
set_option maxHeartbeats 4000000 in
set_option maxRecDepth 100000 in
theorem whole_start {p : Program} {e : Env} {s : State} {m : MethodId} {below : List Frame} {meth : Method} {c : Code} (l : Launch) {b L : Nat} {xs : Nat → Int32} (hL : L ≤ 256) (C0 : lw_At p s m meth c b L xs) : W p l e room_1 s m #[Value.ref b] below meth c s.heap [] 0 0 (lw_Z below #[Value.ref b] s) (entryFrame m ([Value.ref b] : List Value).toArray 4) := by
  obtain ⟨hx, hb, hr, hml, hown, hts0, hX, hbl, hlocks, hgv⟩ := id C0
  have hts : ∀ w ∈ lw_all, w.before #[Value.ref b] s = true := fun w h => hts0 w (lw_all_tbl h)
  have Y : CallFix p m c code 4 s #[Value.ref b] lw_all R_law := ⟨hx, hb, hml, hown, hts⟩
  have hA : ∀ q : Nat, s.heap.size ≤ q → (fun q : Nat => s.heap.size ≤ q) q := fun _ h => h
  have Z : va_X b L xs s s.heap ∧ b < s.heap.size ∧ ¬ (fun q : Nat => s.heap.size ≤ q) b := ⟨hX, hbl, Nat.not_le.mpr hbl⟩
  obtain ⟨c0_, iS0, hKn0⟩ := u_known (C := RX0) (T := TX0) (N := 14) (n := 14) hts in_X0 (hts _ q26)
  obtain ⟨c1_, iS1, hKn1⟩ := u_known (C := RX1) (T := TX1) (N := 5) (n := 5) hts in_X1 (hts _ q203)
  obtain ⟨dC, dI, hKc⟩ : ∃ (dC : Nat → ClassId) (dI : Nat → Nat → Nat), ∀ (k : Nat) (q : vw_C), vwCl[k]? = some q → u_Kn s q.1 q.2.1 q.2.2 (dC k) (dI k) := by
    refine ⟨fun k => if k = 0 then c0_ else c1_, fun k => if k = 0 then iS0 else iS1, ?_⟩
    intro k q hq
    match k, hq with
    | 0, hq => cases hq; exact hKn0
    | 1, hq => cases hq; exact hKn1
    | k + 2, hq => simp [vwCl] at hq
  have hS : va_S (fun q : Nat => s.heap.size ≤ q) s.heap s.heap [] := va_S.rf
  have hK : va_K (dC, dI) vwCl [] s := ⟨hKc, fun k q h => by simp at h⟩
  have hP : va_P (dC, dI) vwCl [] s.heap := fun k q h => by simp at h
  have hD : va_D (fun q : Nat => s.heap.size ≤ q) [] := ⟨fun i j p q h => by simp at h, fun k q h => by simp at h⟩
  have hl := lv_entry ([.ref b]) (n := 4) (Nat.le_of_ble_eq_true rfl)
  rw [lg_entry_eq]
  generalize (lg_sl ([.ref b]) ++ List.replicate (4 - (lg_sl ([.ref b])).length) Slot.unset).toArray = ls at hl ⊢
  have hl : lv_has ls 4 [(0, .ref b)] := hl
  refine va_new (ci := 0) (fs := bF0) (C := RX0) (T := TX0) (N := 14) hx hb hts in_X0 tyX0 tyX0_ok hown (hts _ q25) (hts _ q26) (hts _ q23) hK hP hD hS hA rfl (fun j hj => by rcases (show j = 0 ∨ j = 1 ∨ j = 2 ∨ j = 3 ∨ j = 4 ∨ j = 5 ∨ j = 6 ∨ j = 7 ∨ j = 8 ∨ j = 9 ∨ j = 10 ∨ j = 11 ∨ j = 12 ∨ j = 13 by omega) with rfl | rfl | rfl | rfl | rfl | rfl | rfl | rfl | rfl | rfl | rfl | rfl | rfl | rfl <;> rfl) (Nat.le_of_ble_eq_true rfl) (Nat.le_of_ble_eq_true rfl) dL_law_0 (fun qB H hP hD hS => ?_)
  have hP : va_P (dC, dI) vwCl [(qB, .inr (0, bF0))] H := hP
  have hD : va_D (fun q : Nat => s.heap.size ≤ q) [(qB, .inr (0, bF0))] := hD
  refine W.widen (k := 1) (n := 14) (Nat.le_of_ble_eq_true rfl) (Nat.le_of_ble_eq_true rfl) ?_
  refine lv_dup hx hb dL_law_3 rfl ?_
  have hP1 := hP
  have hD1 := hD
  have hK0 := hK
  have hFB : ∀ q, nA qB H.size q → (fun q : Nat => s.heap.size ≤ q) q := fun q h => by
    rcases h with h | h
    · rw [h]; exact hD1.2 0 _ rfl
    · exact Nat.le_trans hS.1 h
  refine va_callv (va_runI (As := []) (rest := [.ref qB]) Y (bt_init l (dC, dI) qB H.size) (cwI 0 hts (lw_meth q29) rfl rfl rfl (hts _ q23) (hts _ q27) (hts _ q28) rfl (by decide +kernel) ⟨(Nat.le_of_ble_eq_true rfl), (Nat.le_of_ble_eq_true rfl)⟩) ⟨fun a U g mk q => by obtain ⟨q0, q1, qP, qK, qD⟩ := q; exact ⟨q0, q1, qP, va_K.moved (u := U) (U := U.calling g mk a) (Vm.Alike.refl U.vm) qK, qD⟩, fun U hU hW => ⟨rfl, by rw [hU], by rw [hU]; exact hP1, va_K.moved hW.alike hK0, hD1.weaken (fun _ _ _ _ => trivial)⟩⟩ rfl rfl hl.1 rfl (lv_room (Nat.le_of_ble_eq_true rfl)) dL_law_4 ⟨(Nat.le_of_ble_eq_true rfl), (Nat.le_of_ble_eq_true rfl)⟩) hS (fun q _ h => hFB q h) hFB (fun u t H1 locs ht hvm hw hB hz hk hS => ?_)
  obtain ⟨aB, dB⟩ := u
  obtain ⟨b1, bP, bK, bD⟩ := hB
  rw [ht] at bP
  obtain ⟨hP, hD⟩ := gX_join (w1 := [(qB, .inr (0, bF0))]) (w2 := []) hP hD (fun q hq hz => hz.elim (fun z => ⟨0, _, by rw [z]; rfl⟩) (fun z => absurd z (by omega))) hFB hk bP bD
  have hP : va_P (dC, dI) vwCl (bw qB aB dB z0 z0 z0 w11 0 z0 z0 z0 z0 0 z0 0 0 0) H1 := hP
  have hD : va_D (fun q : Nat => s.heap.size ≤ q) (bw qB aB dB z0 z0 z0 w11 0 z0 z0 z0 z0 0 z0 0 0 0) := hD
  have hK : va_K (dC, dI) vwCl (bty dB) s := va_K.moved hvm.symm bK
  have hOB := b1
  generalize H1 = H at hP hS ⊢
  refine W.widen (k := 10) (n := 382) (Nat.le_of_ble_eq_true rfl) (Nat.le_of_ble_eq_true rfl) ?_
  refine lv_astore_n (lv' := [(1, .ref qB), (0, .ref b)]) hx hb dL_law_7 rfl hl (by decide) rfl (fun ls hl => ?_)
  refine va_new (ci := 1) (fs := mF0) (C := RX1) (T := TX1) (N := 5) hx hb hts in_X1 tyX1 tyX1_ok hown (hts _ q202) (hts _ q203) (hts _ q24) hK hP hD hS hA rfl (fun j hj => by rcases (show j = 0 ∨ j = 1 ∨ j = 2 ∨ j = 3 ∨ j = 4 by omega) with rfl | rfl | rfl | rfl | rfl <;> rfl) (Nat.le_of_ble_eq_true rfl) (Nat.le_of_ble_eq_true rfl) dL_law_8 (fun qM H hP hD hS => ?_)
  refine W.widen (k := 11) (n := 387) (Nat.le_of_ble_eq_true rfl) (Nat.le_of_ble_eq_true rfl) ?_
  refine lv_dup hx hb dL_law_11 rfl ?_
  have X2 : gX (dC, dI) (bty dB ++ []) (fun q : Nat => s.heap.size ≤ q) s (bw qB aB dB z0 z0 z0 w11 0 z0 z0 z0 z0 0 z0 0 0 0 ++ [(qM, .inr (1, mF0))]) (bOK z0 z0 z0 w11 0 z0 z0 z0 z0 0 z0 0 0 0 ∧ True) H _ := ⟨⟨hOB, trivial⟩, hP, hK, hD, hS⟩
  have X3 := X2.rot
  have hP1 := X3.fst.2.1
  have hD1 := X3.fst.2.2.2.1
  have hK0 := X3.fst.2.2.1
  have hFM : ∀ q, nA qM H.size q → (fun q : Nat => s.heap.size ≤ q) q := fun q h => by
    rcases h with h | h
    · rw [h]; exact hD1.2 0 _ rfl
    · exact Nat.le_trans hS.1 h
  refine va_callv (va_runI (As := []) (rest := [.ref qM]) Y (mt_init l (dC, dI) qM H.size) (cwI 0 hts (lw_meth q206) rfl rfl rfl (hts _ q24) (hts _ q204) (hts _ q205) rfl (by decide +kernel) ⟨(Nat.le_of_ble_eq_true rfl), (Nat.le_of_ble_eq_true rfl)⟩) ⟨fun a U g mk q => by obtain ⟨q0, q1, qP, qK, qD⟩ := q; exact ⟨q0, q1, qP, va_K.moved (u := U) (U := U.calling g mk a) (Vm.Alike.refl U.vm) qK, qD⟩, fun U hU hW => ⟨rfl, by rw [hU], by rw [hU]; exact hP1, va_K.moved hW.alike hK0, hD1.weaken (fun _ _ _ _ => trivial)⟩⟩ rfl rfl hl.1 rfl (lv_room (Nat.le_of_ble_eq_true rfl)) dL_law_12 ⟨(Nat.le_of_ble_eq_true rfl), (Nat.le_of_ble_eq_true rfl)⟩) hS (fun q _ h => hFM q h) hFM (fun u t H1 locs ht hvm hw hB hz hk hS => ?_)
  obtain ⟨aM, dM⟩ := u
  obtain ⟨m1, mP, mK, mD⟩ := hB
  rw [ht] at mP
  obtain ⟨hP, hD⟩ := gX_join X3.2.1 X3.2.2.2.1 (fun q hq hz => hz.elim (fun z => ⟨0, _, by rw [z]; rfl⟩) (fun z => absurd z (by omega))) hFM hk mP mD
  have eth : thF z0 = z0 := by funext j; unfold thF; rw [Nat.zero_testBit]; rfl
  have X : LX (dC, dI) (fun q : Nat => s.heap.size ≤ q) s qB aB dB qM aM dM z0 z0 z0 w11 0 z0 z0 z0 z0 0 z0 0 0 0 H1 locs := by
    show gX _ _ _ _ (_ ++ mw qM aM dM (thF z0) z0 z0 w11 0) (_ ∧ mOK (thF z0) z0 z0 w11 0) _ _
    rw [eth]
    exact ⟨⟨hOB, m1⟩, hP, hK.app (va_K.moved hvm.symm mK), hD, hS⟩
  refine W.widen (k := 15) (n := 461) (Nat.le_of_ble_eq_true rfl) (Nat.le_of_ble_eq_true rfl) ?_
  refine lv_astore_n (lv' := [(2, .ref qM), (1, .ref qB), (0, .ref b)]) hx hb dL_law_15 rfl hl (by decide) rfl (fun ls hl => ?_)
  refine lv_iconst (v := nI 0) hx hb dL_law_16 (by decide +kernel) ?_
  refine lv_istore_n (lv' := [(3, .int (nI 0)), (2, .ref qM), (1, .ref qB), (0, .ref b)]) hx hb dL_law_17 rfl hl (by decide) rfl (fun ls hl => ?_)
  have loop : ∀ (fuel i : Nat) (P K S Wt : Nat → Nat) (bg : Nat) (so si rd hp : Nat → Nat) (hn : Nat) (rk : Nat → Nat) (rn dn cu : Nat) (H : Heap) (locs : List Loc) (ls : Array Slot), L - i < fuel → i ≤ L → BI P K S Wt bg so si rd hp hn rk rn dn cu → LX (dC, dI) (fun q : Nat => s.heap.size ≤ q) s qB aB dB qM aM dM P K S Wt bg so si rd hp hn rk rn dn cu H locs → lv_has ls 4 [(0, .ref b), (1, .ref qB), (2, .ref qM), (3, .int (nI i))] → W p l e room_1 s m #[Value.ref b] below meth c H locs 15 461 (lw_Z below #[Value.ref b] s) (F0 m 18 ls []) := by
    intro fuel
    induction fuel with
    | zero =>
      intro i P K S Wt bg so si rd hp hn rk rn dn cu H locs ls hf
      exact absurd hf (Nat.not_lt_zero _)
    | succ fuel ih =>
      intro i P K S Wt bg so si rd hp hn rk rn dn cu H locs ls hf hiL hBI X hl
      refine lv_iload_n hx hb dL_law_18 rfl (lv_at hl 3 rfl) ?_
      refine lv_aload_n hx hb dL_law_19 rfl (lv_at hl 0 rfl) ?_
      refine va_slen hx hb Z.1 Z.2.1 Z.2.2 X.2.2.2.2 dL_law_20 ?_
      refine W.eq (g2 := F0 m 21 ls [.int (nI L), .int (nI i)]) rfl ?_
      refine lv_iconst (v := nI 4) hx hb dL_law_21 (by decide +kernel) ?_
      refine lv_isub hx hb dL_law_22 ?_
      have hsub : (nI L - nI 4).toInt = (L : Int) - 4 := pk_sub_toInt (by omega) (by decide)
      have hii : (nI i).toInt = (i : Int) := nI_toInt (by omega)
      refine i_icmp_gt (tgt := 460) hx hb dL_law_23 (by decide) (fun c23 => ?_) (fun c23 => ?_)
      · refine lv_iconst (v := 1) hx hb dL_law_460 (by decide +kernel) ?_
        refine W.widen (k := 600000) (n := 7290000) (Nat.le_of_ble_eq_true rfl) (Nat.le_of_ble_eq_true rfl) ?_
        refine va_forget (fun q hq => X.2.2.2.2.2.2 q hq) ?_
        exact lw_ret hx hb hr hlocks dL_law_461
      · have hi4 : i + 4 ≤ L := by omega
        have hk454 : ∀ (P K S Wt : Nat → Nat) (bg : Nat) (so si rd hp : Nat → Nat) (hn : Nat) (rk : Nat → Nat) (rn dn cu : Nat) (H : Heap) (locs : List Loc), BI P K S Wt bg so si rd hp hn rk rn dn cu → LX (dC, dI) (fun q : Nat => s.heap.size ≤ q) s qB aB dB qM aM dM P K S Wt bg so si rd hp hn rk rn dn cu H locs → W p l e room_1 s m #[Value.ref b] below meth c H locs 15 461 (lw_Z below #[Value.ref b] s) (F0 m 454 ls []) := by
          intro P K S Wt bg so si rd hp hn rk rn dn cu H locs hBI X
          refine lv_iinc (v := nI (i + 4)) (lv' := [(3, .int (nI (i + 4))), (0, .ref b), (1, .ref qB), (2, .ref qM)]) hx hb dL_law_454 hl (k := 3) rfl (by rw [← nI_add]; rfl) (by decide) rfl (fun ls hl => ?_)
          refine lv_goto (tgt := 18) hx hb dL_law_457 (by decide) ?_
          exact ih (i + 4) P K S Wt bg so si rd hp hn rk rn dn cu H locs ls (by omega) hi4 hBI X (lv_sub hl [1, 2, 3, 0] rfl)
        have hRm : 10 ≤ room_1.frames ∧ 374 ≤ room_1.locals := ⟨by decide, by decide⟩
        have hcs : 15 ≤ room_1.cells ∧ 461 ≤ room_1.slots := ⟨by decide, by decide⟩
        refine lv_aload_n hx hb dL_law_26 rfl (lv_at hl 0 rfl) ?_
        refine lv_iload_n hx hb dL_law_27 rfl (lv_at hl 3 rfl) ?_
        refine l_sld hx hb Z.1 Z.2.1 Z.2.2 X.2.2.2.2 (by omega) hL dL_law_28 ?_
        refine lv_bipush (v := nI 15) hx hb dL_law_29 (by decide +kernel) ?_
        refine lv_iand hx hb dL_law_31 ?_
        obtain ⟨j, hj, ej⟩ := pk_andE (xs i) (m := nI 15) 4 (by decide +kernel)
        rw [ej]
        have hj16 : j < 16 := hj
        rcases (show j = 0 ∨ j = 1 ∨ j = 2 ∨ j = 3 ∨ j = 4 ∨ j = 5 ∨ j = 6 ∨ j = 7 ∨ j = 8 ∨ j = 9 ∨ j = 10 ∨ j = 11 ∨ j = 12 ∨ j = 13 ∨ j = 14 ∨ j = 15 by omega) with z | z | z | z | z | z | z | z | z | z | z | z | z | z | z | z <;> subst z
        · refine lv_tableIn (tgt := 104) (off := 72) hx hb dL_law_32 (by decide +kernel) (by decide +kernel) (by decide +kernel) (by decide) ?_
          exact lc_enter Y Z hl hi4 hL hRm hcs hBI X hk454
        · refine lv_tableIn (tgt := 147) (off := 115) hx hb dL_law_32 (by decide +kernel) (by decide +kernel) (by decide +kernel) (by decide) ?_
          exact lc_remove Y Z hl hi4 hL hRm hcs hBI X hk454
        · refine lv_tableIn (tgt := 180) (off := 148) hx hb dL_law_32 (by decide +kernel) (by decide +kernel) (by decide +kernel) (by decide) ?_
          exact lc_rescore Y Z hl hi4 hL hRm hcs hBI X hk454
        · refine lv_tableIn (tgt := 223) (off := 191) hx hb dL_law_32 (by decide +kernel) (by decide +kernel) (by decide +kernel) (by decide) ?_
          exact lc_weigh Y Z hl hi4 hL hRm hcs hBI X hk454
        · refine lv_tableIn (tgt := 256) (off := 224) hx hb dL_law_32 (by decide +kernel) (by decide +kernel) (by decide +kernel) (by decide) ?_
          exact lc_entries Y Z hl hi4 hL hRm hcs hBI X hk454
        · refine lv_tableIn (tgt := 279) (off := 247) hx hb dL_law_32 (by decide +kernel) (by decide +kernel) (by decide +kernel) (by decide) ?_
          exact lc_score Y Z hl hi4 hL hRm hcs hBI X hk454
        · refine lv_tableIn (tgt := 312) (off := 280) hx hb dL_law_32 (by decide +kernel) (by decide +kernel) (by decide +kernel) (by decide) ?_
          exact lc_next Y Z hl hi4 hL hRm hcs hBI X hk454
        · refine lv_tableIn (tgt := 325) (off := 293) hx hb dL_law_32 (by decide +kernel) (by decide +kernel) (by decide +kernel) (by decide) ?_
          exact lc_passed Y Z hl hi4 hL hRm hcs hBI X hk454
        · refine lv_tableIn (tgt := 338) (off := 306) hx hb dL_law_32 (by decide +kernel) (by decide +kernel) (by decide +kernel) (by decide) ?_
          exact lc_lastValue Y Z hl hi4 hL hRm hcs hBI X hk454
        · refine lv_tableIn (tgt := 351) (off := 319) hx hb dL_law_32 (by decide +kernel) (by decide +kernel) (by decide +kernel) (by decide) ?_
          exact lc_rewind Y Z hl hi4 hL hRm hcs hBI X hk454
        · refine lv_tableIn (tgt := 362) (off := 330) hx hb dL_law_32 (by decide +kernel) (by decide +kernel) (by decide +kernel) (by decide) ?_
          exact lc_pairAt Y Z hl hi4 hL hRm hcs hBI X hk454
        · refine lv_tableIn (tgt := 385) (off := 353) hx hb dL_law_32 (by decide +kernel) (by decide +kernel) (by decide +kernel) (by decide) ?_
          exact lc_pairs Y Z hl hi4 hL hRm hcs hBI X hk454
        · refine lv_tableIn (tgt := 398) (off := 366) hx hb dL_law_32 (by decide +kernel) (by decide +kernel) (by decide +kernel) (by decide) ?_
          exact lc_atLeast Y Z hl hi4 hL hRm hcs hBI X hk454
        · refine lv_tableIn (tgt := 421) (off := 389) hx hb dL_law_32 (by decide +kernel) (by decide +kernel) (by decide +kernel) (by decide) ?_
          exact lc_bestPlace Y Z hl hi4 hL hRm hcs hBI X hk454
        · refine lv_tableOut (tgt := 454) hx hb dL_law_32 (Or.inr (by decide +kernel)) (by decide) ?_
          exact hk454 P K S Wt bg so si rd hp hn rk rn dn cu H locs hBI X
        · refine lv_tableOut (tgt := 454) hx hb dL_law_32 (Or.inr (by decide +kernel)) (by decide) ?_
          exact hk454 P K S Wt bg so si rd hp hn rk rn dn cu H locs hBI X
  exact loop (L + 1) 0 z0 z0 z0 w11 0 z0 z0 z0 z0 0 z0 0 0 0 H1 locs ls (by omega) (Nat.zero_le _) BI0 X (lv_sub hl [3, 2, 1, 0] rfl)
end LST
end
section
-- ===== YOUR PART ENDS =====
set_option maxHeartbeats 4000000 in
theorem lw_walk (l : Launch) (b : Addr) (xs : List Int32) : MetFree l x (headSpec (Jvm.Cond.code x code maxLocals ret :: tables_1) room_1) (lw_P b xs) (fun _ _ _ _ _ => True) lw_Q := by
  refine MetFree.of_bodyS (code := code) (maxLocals := maxLocals) (ret := ret) (by decide) ?_ ?_
  · intro args s m h hn
    obtain ⟨meth, c, h1, h2, h3, h4, h5, h6, -, -⟩ := Cond.code_spec hn (atoms_spec (ws := Jvm.Cond.code x code maxLocals ret :: tables_1) h _ List.mem_cons_self)
    exact ⟨meth, c, h1, h2, h3, h4, h5, h6⟩
  · intro p e s m args below meth c s₁ B hml0 hP _
    obtain ⟨rfl, hx, hbd, hgv⟩ := hP
    obtain ⟨scr, harrAt, hlist, hof, hsmall⟩ := hx
    obtain ⟨hcb, hkn, -, -⟩ := State.arrayAt?_spec harrAt
    have hown : s.vm.findClass R_law = some m.cls := findClass_of_methodNamed B.named
    have hts0 : ∀ c ∈ (Jvm.Cond.code x code maxLocals ret :: tables_1), c.before #[Value.ref b] s = true := atoms_spec (ws := Jvm.Cond.code x code maxLocals ret :: tables_1) B.pre
    have hts : ∀ w ∈ lw_tbl, w.before #[Value.ref b] s = true := k2_hts_sels lw_privs (fun w hw => hts0 w (List.mem_cons_of_mem _ hw)) lw_privs_ok
    have hml : c.maxLocals = 4 := B.maxLocals_eq (hts0 _ List.mem_cons_self)
    have X₀ : Stand p l e room_1 s m #[Value.ref b] below meth c s₁ [] 0 0 := Stand.of_body B
    have hh0 : s₁.heap = s.heap := by rw [B.state]; rfl
    have hsz : scr.slots.size = xs.length := by rw [← Array.length_toList, hlist, List.length_map]
    have hval : ∀ j : Nat, j < xs.length → scr.slots[j]? = some (.int (xs.getD j 0)) := fun j hj => by
      rw [← Array.getElem?_toList, hlist]
      simp [hj]
    have hbl : b < s.heap.size := (Array.getElem?_eq_some_iff.mp hcb).1
    have hX : va_X b xs.length (fun j => xs.getD j 0) s s.heap := ⟨scr, hcb, hof, hkn, hsz, hval⟩
    have K : W p l e room_1 s m #[Value.ref b] below meth c s₁.heap [] 0 0 (lw_Z below #[Value.ref b] s) (entryFrame m ([Value.ref b] : List Value).toArray 4) := by
      rw [hh0]
      exact whole_start l hbd ⟨B.exec, B.bytes, B.returns, hml, hown, hts, hX, hbl, B.notSynchronized, hgv⟩
    obtain ⟨t, a1, o, b1, b2, b3⟩ := K s₁ rfl X₀
    exact ⟨t, o, a1, b1, b2, b3⟩
theorem lw_pre_spec {args : Array Value} {s : State} (h : (Jvm.Cond.and given_1 narrow_1).before args s = true) (hr : rest_1_c.before args s = true) : ∃ (b : Addr) (xs : List Int32), lw_P b xs args s := by
  have hs := flat_of_before _ h
  have hq := flat_of_before _ hr
  have hc : (Cond.count 1).before args s = true := hs _ (by decide +kernel)
  have harr : (Cond.arrayOf (.arg 0) .int).before args s = true := hs _ (by decide +kernel)
  have hle : (Cond.le (.length (.arg 0)) (.int 256)).before args s = true := hs _ (by decide +kernel)
  have hlen : (Cond.isInt (.length (.arg 0))).before args s = true := hq _ (by decide +kernel)
  have hall : (Cond.all (.arg 0) (.isInt (.elem (.arg 0) (.index 0)))).before args s = true := hq _ (by decide +kernel)
  obtain ⟨b, xs, hb, hx⟩ := State.ints_of_pre rfl harr hlen hall
  have hsm : xs.length < 2 ^ 31 := hx.choose_spec.2.2.2
  have hev : (Term.length (.arg 0)).eval args s none [] s = some (.int xs.length.toInt32) := hx.length_eval hb
  have hv := Cond.le_ints hev (show (Term.int 256).eval args s none [] s = some (.int 256) from rfl)
  have hd : xs.length.toInt32 ≤ 256 := by
    simpa [Cond.before, Cond.holds, hv] using hle
  have hN : xs.length ≤ 256 := (Int32.ofNat_le_ofNat hsm (by decide)).mp (show Int32.ofNat xs.length ≤ Int32.ofNat 256 from hd)
  exact ⟨b, xs, Cond.one_arg hc (show args[0]? = some (.ref b) from hb), hx, hN, h⟩
theorem lw_comes (l : Launch) : Comes l x (Jvm.Cond.code x code maxLocals ret :: tables_1) room_1 (fun tb e args s => Calls_1 tb e args s ∧ rest_1 tb e args s ∧ Pre_1 tb e args s)
    (fun _ _ args s o t => lw_Q args s o t) := by
  intro p e ha hc hk s m args below hf hfit hheap happ hpre
  obtain ⟨b, xs, hP⟩ := lw_pre_spec hpre.2.2 hpre.2.1
  obtain ⟨k, o, h1, h2, h3, hQ⟩ := lw_walk l b xs p e ha hc hk s m args below hf ((Spec.applies_iff_loose hf).mp happ).1 hP trivial
  exact ⟨k, o, h1, h2, h3, hQ⟩
theorem lw_frame {s t : State} {o : Outcome} {args : Array Value} (h : Framed s o t [] 600000 7290000) :
    Framed s o t (fieldLocs frame_1_writes args s ++ arrayLocs frame_1_arrays args s ++ staticLocs frame_1_statics s) 600000 7290000 := h
theorem lw_limb (L : Cond) (hL : ∀ (args : Array Value) (s t : State), L.after args s (.returned (some (.int 1))) t = true) :
    ArmFor flags0 classFile x code maxLocals ret World_1 tables_1 room_1 Calls_1 rest_1 Pre_1
      (fun tb e a s o t => postC L tb e a s o t ∧ Framed s o t (fieldLocs frame_1_writes a s ++ arrayLocs frame_1_arrays a s ++ staticLocs frame_1_statics s) 600000 7290000) := by
  intro l _ _ _ p e ha hc hk s m args below hf hfit hheap happ hpre
  obtain ⟨k, o, h1, h2, h3, rfl, hF⟩ := lw_comes l p e ha hc hk s m args below hf hfit hheap happ hpre
  exact ⟨k, _, h1, h2, h3, hL args s _, lw_frame hF⟩
theorem i_vc : Claimed_1_1 ∧ Claimed_1_2 := ⟨lw_limb limb_1_1 (fun args s t => by simp [limb_1_1, Cond.after, Cond.holds, Cond.value]), lw_limb limb_1_2 (fun args s t => Cond.after_iff.mpr (by
  first | (rw [show limb_1_2 = Cond.eq .result (.int 1) from rfl, Cond.eq_ints (x := 1) (y := 1) rfl rfl]; simp; done) | (simp [limb_1_2, Cond.value, Term.eval]; done)))⟩
end
