section
-- ===== PART A: goes FIRST, ahead of the names: the tables' words, and 'selects' of the private methods out of them =====
/-- a private method of a class that the tables say can be made, by its rows of tables_1 -/
def lw_okq (q : MethodName × Nat) : Prop := (q.1.cls ≠ "java/lang/invoke/MethodHandle" ∧ q.1.cls ≠ "java/lang/invoke/VarHandle") ∧ Cond.instantiable q.1.cls q.2 ∈ tables_1 ∧ Cond.privateMethod q.1 ∈ tables_1 ∧ Cond.instanceMethod q.1 ∈ tables_1
set_option maxRecDepth 100000
theorem lw_t1 {w : Cond} (h : w ∈ tables_1_1) : w ∈ tables_1 := List.mem_append_left _ h
theorem lw_t2 {w : Cond} (h : w ∈ tables_1_2) : w ∈ tables_1 := List.mem_append_right _ h
theorem lw_p0 : lw_okq (⟨"FactorFreeWords", "place", "(I)I"⟩, 11) := ⟨⟨by decide +kernel, by decide +kernel⟩, lw_t1 (List.mem_of_getElem? (i := 4) rfl), lw_t1 (List.mem_of_getElem? (i := 61) rfl), lw_t1 (List.mem_of_getElem? (i := 62) rfl)⟩
theorem lw_p1 : lw_okq (⟨"FactorFreeWords", "build", "()V"⟩, 11) := ⟨⟨by decide +kernel, by decide +kernel⟩, lw_t1 (List.mem_of_getElem? (i := 4) rfl), lw_t1 (List.mem_of_getElem? (i := 83) rfl), lw_t1 (List.mem_of_getElem? (i := 84) rfl)⟩
theorem lw_p2 : lw_okq (⟨"FactorFreeWords", "stateOf", "(I)I"⟩, 11) := ⟨⟨by decide +kernel, by decide +kernel⟩, lw_t1 (List.mem_of_getElem? (i := 4) rfl), lw_t1 (List.mem_of_getElem? (i := 87) rfl), lw_t1 (List.mem_of_getElem? (i := 88) rfl)⟩
theorem lw_p3 : lw_okq (⟨"FactorFreeWords", "target", "(I)I"⟩, 11) := ⟨⟨by decide +kernel, by decide +kernel⟩, lw_t1 (List.mem_of_getElem? (i := 4) rfl), lw_t1 (List.mem_of_getElem? (i := 91) rfl), lw_t1 (List.mem_of_getElem? (i := 92) rfl)⟩
theorem lw_p4 : lw_okq (⟨"FactorFreeWords", "countWays", "()V"⟩, 11) := ⟨⟨by decide +kernel, by decide +kernel⟩, lw_t1 (List.mem_of_getElem? (i := 4) rfl), lw_t1 (List.mem_of_getElem? (i := 95) rfl), lw_t1 (List.mem_of_getElem? (i := 96) rfl)⟩
theorem lw_p5 : lw_okq (⟨"FactorFreeWords", "read", "(III)I"⟩, 11) := ⟨⟨by decide +kernel, by decide +kernel⟩, lw_t1 (List.mem_of_getElem? (i := 4) rfl), lw_t1 (List.mem_of_getElem? (i := 99) rfl), lw_t1 (List.mem_of_getElem? (i := 100) rfl)⟩
theorem lw_p6 : lw_okq (⟨"FactorFreeWords", "spreadTable", "()V"⟩, 11) := ⟨⟨by decide +kernel, by decide +kernel⟩, lw_t1 (List.mem_of_getElem? (i := 4) rfl), lw_t1 (List.mem_of_getElem? (i := 112) rfl), lw_t1 (List.mem_of_getElem? (i := 113) rfl)⟩
theorem lw_p7 : lw_okq (⟨"FactorFreeWords", "below", "(II)I"⟩, 11) := ⟨⟨by decide +kernel, by decide +kernel⟩, lw_t1 (List.mem_of_getElem? (i := 4) rfl), lw_t1 (List.mem_of_getElem? (i := 120) rfl), lw_t1 (List.mem_of_getElem? (i := 121) rfl)⟩
theorem lw_p8 : lw_okq (⟨"FactorFreeWords", "unrank", "(II)I"⟩, 11) := ⟨⟨by decide +kernel, by decide +kernel⟩, lw_t1 (List.mem_of_getElem? (i := 4) rfl), lw_t1 (List.mem_of_getElem? (i := 128) rfl), lw_t1 (List.mem_of_getElem? (i := 129) rfl)⟩
theorem lw_p9 : lw_okq (⟨"FactorFreeWords", "through", "(III)J"⟩, 11) := ⟨⟨by decide +kernel, by decide +kernel⟩, lw_t1 (List.mem_of_getElem? (i := 4) rfl), lw_t1 (List.mem_of_getElem? (i := 144) rfl), lw_t1 (List.mem_of_getElem? (i := 145) rfl)⟩
theorem lw_p10 : lw_okq (⟨"FactorFreeWordsModel", "letters", "(I)I"⟩, 4) := ⟨⟨by decide +kernel, by decide +kernel⟩, lw_t1 (List.mem_of_getElem? (i := 167) rfl), lw_t1 (List.mem_of_getElem? (i := 191) rfl), lw_t1 (List.mem_of_getElem? (i := 192) rfl)⟩
theorem lw_p11 : lw_okq (⟨"FactorFreeWordsModel", "badLength", "(I)Z"⟩, 4) := ⟨⟨by decide +kernel, by decide +kernel⟩, lw_t1 (List.mem_of_getElem? (i := 167) rfl), lw_t1 (List.mem_of_getElem? (i := 207) rfl), lw_t1 (List.mem_of_getElem? (i := 208) rfl)⟩
theorem lw_p12 : lw_okq (⟨"FactorFreeWordsModel", "badCode", "(II)Z"⟩, 4) := ⟨⟨by decide +kernel, by decide +kernel⟩, lw_t1 (List.mem_of_getElem? (i := 167) rfl), lw_t1 (List.mem_of_getElem? (i := 211) rfl), lw_t1 (List.mem_of_getElem? (i := 212) rfl)⟩
theorem lw_p13 : lw_okq (⟨"FactorFreeWordsModel", "power", "(I)I"⟩, 4) := ⟨⟨by decide +kernel, by decide +kernel⟩, lw_t1 (List.mem_of_getElem? (i := 167) rfl), lw_t1 (List.mem_of_getElem? (i := 215) rfl), lw_t1 (List.mem_of_getElem? (i := 216) rfl)⟩
theorem lw_p14 : lw_okq (⟨"FactorFreeWordsModel", "good", "(II)Z"⟩, 4) := ⟨⟨by decide +kernel, by decide +kernel⟩, lw_t1 (List.mem_of_getElem? (i := 167) rfl), lw_t1 (List.mem_of_getElem? (i := 219) rfl), lw_t1 (List.mem_of_getElem? (i := 220) rfl)⟩
theorem lw_p15 : lw_okq (⟨"FactorFreeWordsModel", "plainCount", "(I)I"⟩, 4) := ⟨⟨by decide +kernel, by decide +kernel⟩, lw_t1 (List.mem_of_getElem? (i := 167) rfl), lw_t1 (List.mem_of_getElem? (i := 228) rfl), lw_t1 (List.mem_of_getElem? (i := 229) rfl)⟩
def lw_privs_1 : List (MethodName × Nat) := [(⟨"FactorFreeWords", "place", "(I)I"⟩, 11), (⟨"FactorFreeWords", "build", "()V"⟩, 11), (⟨"FactorFreeWords", "stateOf", "(I)I"⟩, 11), (⟨"FactorFreeWords", "target", "(I)I"⟩, 11), (⟨"FactorFreeWords", "countWays", "()V"⟩, 11), (⟨"FactorFreeWords", "read", "(III)I"⟩, 11), (⟨"FactorFreeWords", "spreadTable", "()V"⟩, 11), (⟨"FactorFreeWords", "below", "(II)I"⟩, 11), (⟨"FactorFreeWords", "unrank", "(II)I"⟩, 11), (⟨"FactorFreeWords", "through", "(III)J"⟩, 11), (⟨"FactorFreeWordsModel", "letters", "(I)I"⟩, 4), (⟨"FactorFreeWordsModel", "badLength", "(I)Z"⟩, 4), (⟨"FactorFreeWordsModel", "badCode", "(II)Z"⟩, 4), (⟨"FactorFreeWordsModel", "power", "(I)I"⟩, 4), (⟨"FactorFreeWordsModel", "good", "(II)Z"⟩, 4), (⟨"FactorFreeWordsModel", "plainCount", "(I)I"⟩, 4)]
theorem lw_r1 : ∀ q ∈ lw_privs_1, lw_okq q := List.forall_mem_cons.mpr ⟨lw_p0, List.forall_mem_cons.mpr ⟨lw_p1, List.forall_mem_cons.mpr ⟨lw_p2, List.forall_mem_cons.mpr ⟨lw_p3, List.forall_mem_cons.mpr ⟨lw_p4, List.forall_mem_cons.mpr ⟨lw_p5, List.forall_mem_cons.mpr ⟨lw_p6, List.forall_mem_cons.mpr ⟨lw_p7, List.forall_mem_cons.mpr ⟨lw_p8, List.forall_mem_cons.mpr ⟨lw_p9, List.forall_mem_cons.mpr ⟨lw_p10, List.forall_mem_cons.mpr ⟨lw_p11, List.forall_mem_cons.mpr ⟨lw_p12, List.forall_mem_cons.mpr ⟨lw_p13, List.forall_mem_cons.mpr ⟨lw_p14, List.forall_mem_cons.mpr ⟨lw_p15, fun _ h => absurd h List.not_mem_nil⟩⟩⟩⟩⟩⟩⟩⟩⟩⟩⟩⟩⟩⟩⟩⟩
theorem lw_p16 : lw_okq (⟨"FactorFreeWordsModel", "grow", "()V"⟩, 4) := ⟨⟨by decide +kernel, by decide +kernel⟩, lw_t1 (List.mem_of_getElem? (i := 167) rfl), lw_t1 (List.mem_of_getElem? (i := 232) rfl), lw_t1 (List.mem_of_getElem? (i := 233) rfl)⟩
theorem lw_p17 : lw_okq (⟨"FactorFreeWordsModel", "zeros", "(II)I"⟩, 4) := ⟨⟨by decide +kernel, by decide +kernel⟩, lw_t1 (List.mem_of_getElem? (i := 167) rfl), lw_t2 (List.mem_of_getElem? (i := 0) rfl), lw_t2 (List.mem_of_getElem? (i := 1) rfl)⟩
theorem lw_p18 : lw_okq (⟨"FactorFreeWordsModel", "stands", "(IIII)Z"⟩, 4) := ⟨⟨by decide +kernel, by decide +kernel⟩, lw_t1 (List.mem_of_getElem? (i := 167) rfl), lw_t2 (List.mem_of_getElem? (i := 24) rfl), lw_t2 (List.mem_of_getElem? (i := 25) rfl)⟩
theorem lw_p19 : lw_okq (⟨"FactorFreeWordsModel", "places", "(IIII)I"⟩, 4) := ⟨⟨by decide +kernel, by decide +kernel⟩, lw_t1 (List.mem_of_getElem? (i := 167) rfl), lw_t2 (List.mem_of_getElem? (i := 32) rfl), lw_t2 (List.mem_of_getElem? (i := 33) rfl)⟩
theorem lw_p20 : lw_okq (⟨"FactorFreeWordsModel", "backward", "(II)I"⟩, 4) := ⟨⟨by decide +kernel, by decide +kernel⟩, lw_t1 (List.mem_of_getElem? (i := 167) rfl), lw_t2 (List.mem_of_getElem? (i := 48) rfl), lw_t2 (List.mem_of_getElem? (i := 49) rfl)⟩
def lw_privs_2 : List (MethodName × Nat) := [(⟨"FactorFreeWordsModel", "grow", "()V"⟩, 4), (⟨"FactorFreeWordsModel", "zeros", "(II)I"⟩, 4), (⟨"FactorFreeWordsModel", "stands", "(IIII)Z"⟩, 4), (⟨"FactorFreeWordsModel", "places", "(IIII)I"⟩, 4), (⟨"FactorFreeWordsModel", "backward", "(II)I"⟩, 4)]
theorem lw_r2 : ∀ q ∈ lw_privs_2, lw_okq q := List.forall_mem_cons.mpr ⟨lw_p16, List.forall_mem_cons.mpr ⟨lw_p17, List.forall_mem_cons.mpr ⟨lw_p18, List.forall_mem_cons.mpr ⟨lw_p19, List.forall_mem_cons.mpr ⟨lw_p20, fun _ h => absurd h List.not_mem_nil⟩⟩⟩⟩⟩
def lw_privs : List (MethodName × Nat) := lw_privs_1 ++ (lw_privs_2)
def lw_tbl : List Cond := k2_sels lw_privs ++ tables_1
theorem lw_privs_ok : ∀ q ∈ lw_privs, lw_okq q := by
  show ∀ q ∈ lw_privs_1 ++ (lw_privs_2), lw_okq q
  exact List.forall_mem_append.mpr ⟨lw_r1, lw_r2⟩
-- ===== ONE list of words for every method: the tables' words that hold all through a run =====
def lw_all : List Cond := lw_tbl.filter goodWord
/-- a word of the tables by its place: claim/WORDS.tsv -/
theorem lw_w {w : Cond} (i : Nat) (h : lw_tbl[i]? = some w) (g : goodWord w = true) : w ∈ lw_all := List.mem_filter.mpr ⟨List.mem_of_getElem? h, g⟩
theorem lw_all_tbl {w : Cond} (h : w ∈ lw_all) : w ∈ lw_tbl := (List.mem_filter.mp h).1
theorem lw_self : GoodIn lw_all lw_all := fun w h => ⟨h, good_of_word (List.mem_filter.mp h).2⟩
/-- a class's field words, by their places -/
theorem lw_in (ws : List Cond) (ps : List Nat) (hp : ws = ps.filterMap (fun i => lw_tbl[i]?)) (hg : ws.all goodWord = true) : ∀ w ∈ ws, w ∈ lw_all := by
  intro w h
  have h1 := List.all_eq_true.mp hg w h
  rw [hp] at h
  obtain ⟨i, -, hi⟩ := List.mem_filterMap.mp h
  exact lw_w i hi h1
/-- the words of a contract for the method y with code b, L locals, answer r -/
abbrev ws_ (y : MethodName) (b : ByteArray) (L : Nat) (r : Option FieldType) : List Cond := Cond.code y b L r :: lw_all
theorem lw_meth {y : MethodName} {b : ByteArray} {L : Nat} {r : Option FieldType} (h : Cond.code y b L r ∈ lw_all) : GoodIn lw_all (ws_ y b L r) := by
  intro w hw
  rcases List.mem_cons.mp hw with e | e
  · rw [e]
    exact lw_self _ h
  · exact lw_self _ e
theorem lw_app {a c : List Cond} (ha : ∀ w ∈ a, w ∈ lw_all) (hc : GoodIn lw_all c) : GoodIn lw_all (a ++ c) := by
  intro w hw
  rcases List.mem_append.mp hw with e | e
  · exact lw_self w (ha w e)
  · exact hc w e
/-- what a call through an object asks: cwV n hts (lw_V ..) -/
theorem lw_V {own : String} {idx : Nat} {C : String} {y : MethodName} {b : ByteArray} {L : Nat} {r : Option FieldType} (h1 : Cond.methodLink own idx y ∈ lw_all) (h2 : Cond.instanceMethod y ∈ lw_all) (h3 : Cond.selects C y y ∈ lw_all) (h4 : Cond.initialized C ∈ lw_all) (h5 : Cond.code y b L r ∈ lw_all) : GoodIn lw_all (wsV own idx C y (ws_ y b L r)) := by
  refine lw_app ?_ (lw_meth h5)
  intro w hw
  simp only [List.mem_cons, List.not_mem_nil, or_false] at hw
  rcases hw with e | e | e | e
  · rw [e]; exact h1
  · rw [e]; exact h2
  · rw [e]; exact h3
  · rw [e]; exact h4
/-- what a static call asks: va_cwS n hts (lw_S ..) -/
theorem lw_S {own : String} {idx : Nat} {y : MethodName} {b : ByteArray} {L : Nat} {r : Option FieldType} (h1 : Cond.methodLink own idx y ∈ lw_all) (h2 : Cond.static y ∈ lw_all) (h3 : Cond.initialized y.cls ∈ lw_all) (h4 : Cond.code y b L r ∈ lw_all) : GoodIn lw_all (va_wsS own idx y (ws_ y b L r)) := by
  refine lw_app ?_ (lw_meth h4)
  intro w hw
  simp only [List.mem_cons, List.not_mem_nil, or_false] at hw
  rcases hw with e | e | e
  · rw [e]; exact h1
  · rw [e]; exact h2
  · rw [e]; exact h3
/-- the words of a contract for a method WITH HANDLERS (hh: its table) -/
abbrev wsW_ (y : MethodName) (b : ByteArray) (L : Nat) (r : Option FieldType) (hh : List (Nat × Nat × Nat × Nat)) : List Cond := Cond.codeWith y b L r hh :: lw_all
theorem lw_methW {y : MethodName} {b : ByteArray} {L : Nat} {r : Option FieldType} {hh : List (Nat × Nat × Nat × Nat)} (h : Cond.codeWith y b L r hh ∈ lw_all) : GoodIn lw_all (wsW_ y b L r hh) := by
  intro w hw
  rcases List.mem_cons.mp hw with e | e
  · rw [e]
    exact lw_self _ h
  · exact lw_self _ e
/-- any list of words by their places (lw_in), good -/
theorem lw_good {ws : List Cond} (h : ∀ w ∈ ws, w ∈ lw_all) : GoodIn lw_all ws := fun w hw => lw_self w (h w hw)
/-- what a call of a method with handlers asks: vx_cwVW n hts (lw_VW ..), vx_cwSW n hts (lw_SW ..) -/
theorem lw_VW {own : String} {idx : Nat} {C : String} {y : MethodName} {b : ByteArray} {L : Nat} {r : Option FieldType} {hh : List (Nat × Nat × Nat × Nat)} (h1 : Cond.methodLink own idx y ∈ lw_all) (h2 : Cond.instanceMethod y ∈ lw_all) (h3 : Cond.selects C y y ∈ lw_all) (h4 : Cond.initialized C ∈ lw_all) (h5 : Cond.codeWith y b L r hh ∈ lw_all) : GoodIn lw_all (wsV own idx C y (wsW_ y b L r hh)) := by
  refine lw_app ?_ (lw_methW h5)
  intro w hw
  simp only [List.mem_cons, List.not_mem_nil, or_false] at hw
  rcases hw with e | e | e | e
  · rw [e]; exact h1
  · rw [e]; exact h2
  · rw [e]; exact h3
  · rw [e]; exact h4
theorem lw_SW {own : String} {idx : Nat} {y : MethodName} {b : ByteArray} {L : Nat} {r : Option FieldType} {hh : List (Nat × Nat × Nat × Nat)} (h1 : Cond.methodLink own idx y ∈ lw_all) (h2 : Cond.static y ∈ lw_all) (h3 : Cond.initialized y.cls ∈ lw_all) (h4 : Cond.codeWith y b L r hh ∈ lw_all) : GoodIn lw_all (va_wsS own idx y (wsW_ y b L r hh)) := by
  refine lw_app ?_ (lw_methW h4)
  intro w hw
  simp only [List.mem_cons, List.not_mem_nil, or_false] at hw
  rcases hw with e | e | e
  · rw [e]; exact h1
  · rw [e]; exact h2
  · rw [e]; exact h3
/-- a word by its place in its run of the tables -/
theorem lw_at {r : List Cond} (hr : ∀ w ∈ r, w ∈ lw_tbl) {w : Cond} (i : Nat) (h : r[i]? = some w) : w ∈ lw_tbl := hr w (List.mem_of_getElem? h)
theorem lw_g {w : Cond} (h : w ∈ lw_tbl) (g : goodWord w = true) : w ∈ lw_all := List.mem_filter.mpr ⟨h, g⟩
theorem lw_ms : ∀ w ∈ k2_sels lw_privs, w ∈ lw_tbl := fun w h => show w ∈ k2_sels lw_privs ++ tables_1 from List.mem_append_left _ h
theorem lw_m1 : ∀ w ∈ tables_1_1, w ∈ lw_tbl := fun w h => show w ∈ k2_sels lw_privs ++ tables_1 from List.mem_append_right (k2_sels lw_privs) (show w ∈ tables_1 from List.mem_append_left _ h)
theorem lw_m2 : ∀ w ∈ tables_1_2, w ∈ lw_tbl := fun w h => show w ∈ k2_sels lw_privs ++ tables_1 from List.mem_append_right (k2_sels lw_privs) (show w ∈ tables_1 from List.mem_append_right _ h)
theorem qs0 : (Cond.selects "FactorFreeWords" ⟨"FactorFreeWords", "place", "(I)I"⟩ ⟨"FactorFreeWords", "place", "(I)I"⟩) ∈ lw_all := lw_g (lw_at lw_ms 0 rfl) rfl
theorem qs1 : (Cond.selects "FactorFreeWords" ⟨"FactorFreeWords", "build", "()V"⟩ ⟨"FactorFreeWords", "build", "()V"⟩) ∈ lw_all := lw_g (lw_at lw_ms 1 rfl) rfl
theorem qs2 : (Cond.selects "FactorFreeWords" ⟨"FactorFreeWords", "stateOf", "(I)I"⟩ ⟨"FactorFreeWords", "stateOf", "(I)I"⟩) ∈ lw_all := lw_g (lw_at lw_ms 2 rfl) rfl
theorem qs3 : (Cond.selects "FactorFreeWords" ⟨"FactorFreeWords", "target", "(I)I"⟩ ⟨"FactorFreeWords", "target", "(I)I"⟩) ∈ lw_all := lw_g (lw_at lw_ms 3 rfl) rfl
theorem qs4 : (Cond.selects "FactorFreeWords" ⟨"FactorFreeWords", "countWays", "()V"⟩ ⟨"FactorFreeWords", "countWays", "()V"⟩) ∈ lw_all := lw_g (lw_at lw_ms 4 rfl) rfl
theorem qs5 : (Cond.selects "FactorFreeWords" ⟨"FactorFreeWords", "read", "(III)I"⟩ ⟨"FactorFreeWords", "read", "(III)I"⟩) ∈ lw_all := lw_g (lw_at lw_ms 5 rfl) rfl
theorem qs6 : (Cond.selects "FactorFreeWords" ⟨"FactorFreeWords", "spreadTable", "()V"⟩ ⟨"FactorFreeWords", "spreadTable", "()V"⟩) ∈ lw_all := lw_g (lw_at lw_ms 6 rfl) rfl
theorem qs7 : (Cond.selects "FactorFreeWords" ⟨"FactorFreeWords", "below", "(II)I"⟩ ⟨"FactorFreeWords", "below", "(II)I"⟩) ∈ lw_all := lw_g (lw_at lw_ms 7 rfl) rfl
theorem qs8 : (Cond.selects "FactorFreeWords" ⟨"FactorFreeWords", "unrank", "(II)I"⟩ ⟨"FactorFreeWords", "unrank", "(II)I"⟩) ∈ lw_all := lw_g (lw_at lw_ms 8 rfl) rfl
theorem qs9 : (Cond.selects "FactorFreeWords" ⟨"FactorFreeWords", "through", "(III)J"⟩ ⟨"FactorFreeWords", "through", "(III)J"⟩) ∈ lw_all := lw_g (lw_at lw_ms 9 rfl) rfl
theorem qs10 : (Cond.selects "FactorFreeWordsModel" ⟨"FactorFreeWordsModel", "letters", "(I)I"⟩ ⟨"FactorFreeWordsModel", "letters", "(I)I"⟩) ∈ lw_all := lw_g (lw_at lw_ms 10 rfl) rfl
theorem qs11 : (Cond.selects "FactorFreeWordsModel" ⟨"FactorFreeWordsModel", "badLength", "(I)Z"⟩ ⟨"FactorFreeWordsModel", "badLength", "(I)Z"⟩) ∈ lw_all := lw_g (lw_at lw_ms 11 rfl) rfl
theorem qs12 : (Cond.selects "FactorFreeWordsModel" ⟨"FactorFreeWordsModel", "badCode", "(II)Z"⟩ ⟨"FactorFreeWordsModel", "badCode", "(II)Z"⟩) ∈ lw_all := lw_g (lw_at lw_ms 12 rfl) rfl
theorem qs13 : (Cond.selects "FactorFreeWordsModel" ⟨"FactorFreeWordsModel", "power", "(I)I"⟩ ⟨"FactorFreeWordsModel", "power", "(I)I"⟩) ∈ lw_all := lw_g (lw_at lw_ms 13 rfl) rfl
theorem qs14 : (Cond.selects "FactorFreeWordsModel" ⟨"FactorFreeWordsModel", "good", "(II)Z"⟩ ⟨"FactorFreeWordsModel", "good", "(II)Z"⟩) ∈ lw_all := lw_g (lw_at lw_ms 14 rfl) rfl
theorem qs15 : (Cond.selects "FactorFreeWordsModel" ⟨"FactorFreeWordsModel", "plainCount", "(I)I"⟩ ⟨"FactorFreeWordsModel", "plainCount", "(I)I"⟩) ∈ lw_all := lw_g (lw_at lw_ms 15 rfl) rfl
theorem qs16 : (Cond.selects "FactorFreeWordsModel" ⟨"FactorFreeWordsModel", "grow", "()V"⟩ ⟨"FactorFreeWordsModel", "grow", "()V"⟩) ∈ lw_all := lw_g (lw_at lw_ms 16 rfl) rfl
theorem qs17 : (Cond.selects "FactorFreeWordsModel" ⟨"FactorFreeWordsModel", "zeros", "(II)I"⟩ ⟨"FactorFreeWordsModel", "zeros", "(II)I"⟩) ∈ lw_all := lw_g (lw_at lw_ms 17 rfl) rfl
theorem qs18 : (Cond.selects "FactorFreeWordsModel" ⟨"FactorFreeWordsModel", "stands", "(IIII)Z"⟩ ⟨"FactorFreeWordsModel", "stands", "(IIII)Z"⟩) ∈ lw_all := lw_g (lw_at lw_ms 18 rfl) rfl
theorem qs19 : (Cond.selects "FactorFreeWordsModel" ⟨"FactorFreeWordsModel", "places", "(IIII)I"⟩ ⟨"FactorFreeWordsModel", "places", "(IIII)I"⟩) ∈ lw_all := lw_g (lw_at lw_ms 19 rfl) rfl
theorem qs20 : (Cond.selects "FactorFreeWordsModel" ⟨"FactorFreeWordsModel", "backward", "(II)I"⟩ ⟨"FactorFreeWordsModel", "backward", "(II)I"⟩) ∈ lw_all := lw_g (lw_at lw_ms 20 rfl) rfl
end
section
set_option maxRecDepth 100000
def RX0 : String := "FactorFreeWords"
def TX0 : u_T := fun k => match k with
  | 0 => ("FactorFreeWords", "list", "[I", true)
  | 1 => ("FactorFreeWords", "known", "[I", true)
  | 2 => ("FactorFreeWords", "step", "[I", true)
  | 3 => ("FactorFreeWords", "ways", "[J", true)
  | 4 => ("FactorFreeWords", "now", "[J", true)
  | 5 => ("FactorFreeWords", "then", "[J", true)
  | 6 => ("FactorFreeWords", "table", "[I", true)
  | 7 => ("FactorFreeWords", "fresh", "[I", true)
  | 8 => ("FactorFreeWords", "count", "I", false)
  | 9 => ("FactorFreeWords", "states", "I", false)
  | _ => ("FactorFreeWords", "built", "Z", false)
def tyX0 : Nat → FieldType := fun k => match k with
  | 0 => .array .int
  | 1 => .array .int
  | 2 => .array .int
  | 3 => .array .long
  | 4 => .array .long
  | 5 => .array .long
  | 6 => .array .int
  | 7 => .array .int
  | 8 => .int
  | 9 => .int
  | _ => .boolean
abbrev wsX00 : List Cond := u_ws RX0 TX0 11
theorem nmX0 : ∀ a, a < 11 → ∀ b, b < 11 → a ≠ b → (TX0 a).2.1 ≠ (TX0 b).2.1 := by decide +kernel
theorem tyX0_ok : ∀ k, k < 11 → parseFieldDescriptor (TX0 k).2.2.1 = some (tyX0 k) := by decide +kernel
abbrev cX0_init : ByteArray := prog_1_method_1_code
def yX0_init : MethodName := ⟨RX0, "<init>", "()V"⟩
abbrev cX0_forbid : ByteArray := prog_1_method_2_code
def yX0_forbid : MethodName := ⟨RX0, "forbid", "(I)I"⟩
abbrev cX0_isPiece : ByteArray := prog_1_method_17_code
def yX0_isPiece : MethodName := ⟨RX0, "isPiece", "(I)Z"⟩
abbrev cX0_sizeOf : ByteArray := prog_1_method_22_code
def yX0_sizeOf : MethodName := ⟨RX0, "sizeOf", "(I)I"⟩
abbrev cX0_power : ByteArray := prog_1_method_19_code
def yX0_power : MethodName := ⟨RX0, "power", "(I)I"⟩
abbrev cX0_place : ByteArray := prog_1_method_20_code
def yX0_place : MethodName := ⟨RX0, "place", "(I)I"⟩
abbrev cX0_permit : ByteArray := prog_1_method_3_code
def yX0_permit : MethodName := ⟨RX0, "permit", "(I)I"⟩
abbrev cX0_pieces : ByteArray := prog_1_method_4_code
def yX0_pieces : MethodName := ⟨RX0, "pieces", "()I"⟩
abbrev cX0_allowed : ByteArray := prog_1_method_5_code
def yX0_allowed : MethodName := ⟨RX0, "allowed", "(II)I"⟩
abbrev cX0_refused : ByteArray := prog_1_method_21_code
def yX0_refused : MethodName := ⟨RX0, "refused", "(II)I"⟩
abbrev cX0_isLength : ByteArray := prog_1_method_18_code
def yX0_isLength : MethodName := ⟨RX0, "isLength", "(I)Z"⟩
abbrev cX0_build : ByteArray := prog_1_method_24_code
def yX0_build : MethodName := ⟨RX0, "build", "()V"⟩
abbrev cX0_stateOf : ByteArray := prog_1_method_23_code
def yX0_stateOf : MethodName := ⟨RX0, "stateOf", "(I)I"⟩
abbrev cX0_target : ByteArray := prog_1_method_25_code
def yX0_target : MethodName := ⟨RX0, "target", "(I)I"⟩
abbrev cX0_countWays : ByteArray := prog_1_method_26_code
def yX0_countWays : MethodName := ⟨RX0, "countWays", "()V"⟩
abbrev cX0_read : ByteArray := prog_1_method_27_code
def yX0_read : MethodName := ⟨RX0, "read", "(III)I"⟩
abbrev cX0_count : ByteArray := prog_1_method_6_code
def yX0_count : MethodName := ⟨RX0, "count", "(I)J"⟩
abbrev cX0_countWith : ByteArray := prog_1_method_7_code
def yX0_countWith : MethodName := ⟨RX0, "countWith", "(II)I"⟩
abbrev cX0_spreadTable : ByteArray := prog_1_method_30_code
def yX0_spreadTable : MethodName := ⟨RX0, "spreadTable", "()V"⟩
abbrev cX0_rank : ByteArray := prog_1_method_8_code
def yX0_rank : MethodName := ⟨RX0, "rank", "(II)I"⟩
abbrev cX0_below : ByteArray := prog_1_method_28_code
def yX0_below : MethodName := ⟨RX0, "below", "(II)I"⟩
abbrev cX0_word : ByteArray := prog_1_method_9_code
def yX0_word : MethodName := ⟨RX0, "word", "(II)I"⟩
abbrev cX0_unrank : ByteArray := prog_1_method_29_code
def yX0_unrank : MethodName := ⟨RX0, "unrank", "(II)I"⟩
abbrev cX0_next : ByteArray := prog_1_method_10_code
def yX0_next : MethodName := ⟨RX0, "next", "(II)I"⟩
abbrev cX0_beginning : ByteArray := prog_1_method_11_code
def yX0_beginning : MethodName := ⟨RX0, "beginning", "(II)I"⟩
abbrev cX0_ending : ByteArray := prog_1_method_12_code
def yX0_ending : MethodName := ⟨RX0, "ending", "(II)I"⟩
abbrev cX0_through : ByteArray := prog_1_method_31_code
def yX0_through : MethodName := ⟨RX0, "through", "(III)J"⟩
abbrev cX0_standing : ByteArray := prog_1_method_13_code
def yX0_standing : MethodName := ⟨RX0, "standing", "(II)I"⟩
abbrev cX0_longest : ByteArray := prog_1_method_14_code
def yX0_longest : MethodName := ⟨RX0, "longest", "()I"⟩
abbrev cX0_choices : ByteArray := prog_1_method_15_code
def yX0_choices : MethodName := ⟨RX0, "choices", "(II)I"⟩
abbrev cX0_mirrored : ByteArray := prog_1_method_16_code
def yX0_mirrored : MethodName := ⟨RX0, "mirrored", "(I)I"⟩
abbrev cX0_reflect : ByteArray := prog_1_method_32_code
def yX0_reflect : MethodName := ⟨RX0, "reflect", "(III)I"⟩
theorem q22 : (Jvm.Cond.initialized "FactorFreeWords") ∈ lw_all := lw_g (lw_at lw_m1 1 rfl) rfl
theorem q25 : (Jvm.Cond.instantiable "FactorFreeWords" (11 : Nat)) ∈ lw_all := lw_g (lw_at lw_m1 4 rfl) rfl
theorem q27 : (Jvm.Cond.instanceMethod ({ cls := "FactorFreeWords", name := "<init>", desc := "()V" } : Jvm.MethodName)) ∈ lw_all := lw_g (lw_at lw_m1 6 rfl) rfl
theorem q28 : (Jvm.Cond.code ({ cls := "FactorFreeWords", name := "<init>", desc := "()V" } : Jvm.MethodName) prog_1_method_1_code (1 : Nat) (Option.none : Option Jvm.ClassFile.FieldType)) ∈ lw_all := lw_g (lw_at lw_m1 7 rfl) rfl
theorem q29 : (Jvm.Cond.methodLink "FactorFreeWords" (1 : Nat) ({ cls := "java/lang/Object", name := "<init>", desc := "()V" } : Jvm.MethodName)) ∈ lw_all := lw_g (lw_at lw_m1 8 rfl) rfl
theorem q32 : (Jvm.Cond.fieldLink "FactorFreeWords" (7 : Nat) "FactorFreeWords" "list" "[I") ∈ lw_all := lw_g (lw_at lw_m1 11 rfl) rfl
theorem q33 : (Jvm.Cond.fieldLink "FactorFreeWords" (13 : Nat) "FactorFreeWords" "known" "[I") ∈ lw_all := lw_g (lw_at lw_m1 12 rfl) rfl
theorem q34 : (Jvm.Cond.fieldLink "FactorFreeWords" (16 : Nat) "FactorFreeWords" "step" "[I") ∈ lw_all := lw_g (lw_at lw_m1 13 rfl) rfl
theorem q35 : (Jvm.Cond.fieldLink "FactorFreeWords" (19 : Nat) "FactorFreeWords" "ways" "[J") ∈ lw_all := lw_g (lw_at lw_m1 14 rfl) rfl
theorem q36 : (Jvm.Cond.fieldLink "FactorFreeWords" (23 : Nat) "FactorFreeWords" "now" "[J") ∈ lw_all := lw_g (lw_at lw_m1 15 rfl) rfl
theorem q37 : (Jvm.Cond.fieldLink "FactorFreeWords" (26 : Nat) "FactorFreeWords" "then" "[J") ∈ lw_all := lw_g (lw_at lw_m1 16 rfl) rfl
theorem q38 : (Jvm.Cond.fieldLink "FactorFreeWords" (29 : Nat) "FactorFreeWords" "table" "[I") ∈ lw_all := lw_g (lw_at lw_m1 17 rfl) rfl
theorem q39 : (Jvm.Cond.fieldLink "FactorFreeWords" (32 : Nat) "FactorFreeWords" "fresh" "[I") ∈ lw_all := lw_g (lw_at lw_m1 18 rfl) rfl
theorem q40 : (Jvm.Cond.fieldLink "FactorFreeWords" (47 : Nat) "FactorFreeWords" "count" "I") ∈ lw_all := lw_g (lw_at lw_m1 19 rfl) rfl
theorem q41 : (Jvm.Cond.fieldLink "FactorFreeWords" (70 : Nat) "FactorFreeWords" "states" "I") ∈ lw_all := lw_g (lw_at lw_m1 20 rfl) rfl
theorem q42 : (Jvm.Cond.fieldLink "FactorFreeWords" (35 : Nat) "FactorFreeWords" "built" "Z") ∈ lw_all := lw_g (lw_at lw_m1 21 rfl) rfl
theorem q43 : (Jvm.Cond.laysFinal "FactorFreeWords" "FactorFreeWords" "list" "[I") ∈ lw_all := lw_g (lw_at lw_m1 22 rfl) rfl
theorem q44 : (Jvm.Cond.soleField "FactorFreeWords" "list") ∈ lw_all := lw_g (lw_at lw_m1 23 rfl) rfl
theorem q45 : (Jvm.Cond.laysFinal "FactorFreeWords" "FactorFreeWords" "known" "[I") ∈ lw_all := lw_g (lw_at lw_m1 24 rfl) rfl
theorem q46 : (Jvm.Cond.soleField "FactorFreeWords" "known") ∈ lw_all := lw_g (lw_at lw_m1 25 rfl) rfl
theorem q47 : (Jvm.Cond.laysFinal "FactorFreeWords" "FactorFreeWords" "step" "[I") ∈ lw_all := lw_g (lw_at lw_m1 26 rfl) rfl
theorem q48 : (Jvm.Cond.soleField "FactorFreeWords" "step") ∈ lw_all := lw_g (lw_at lw_m1 27 rfl) rfl
theorem q49 : (Jvm.Cond.laysFinal "FactorFreeWords" "FactorFreeWords" "ways" "[J") ∈ lw_all := lw_g (lw_at lw_m1 28 rfl) rfl
theorem q50 : (Jvm.Cond.soleField "FactorFreeWords" "ways") ∈ lw_all := lw_g (lw_at lw_m1 29 rfl) rfl
theorem q51 : (Jvm.Cond.laysFinal "FactorFreeWords" "FactorFreeWords" "now" "[J") ∈ lw_all := lw_g (lw_at lw_m1 30 rfl) rfl
theorem q52 : (Jvm.Cond.soleField "FactorFreeWords" "now") ∈ lw_all := lw_g (lw_at lw_m1 31 rfl) rfl
theorem q53 : (Jvm.Cond.laysFinal "FactorFreeWords" "FactorFreeWords" "then" "[J") ∈ lw_all := lw_g (lw_at lw_m1 32 rfl) rfl
theorem q54 : (Jvm.Cond.soleField "FactorFreeWords" "then") ∈ lw_all := lw_g (lw_at lw_m1 33 rfl) rfl
theorem q55 : (Jvm.Cond.laysFinal "FactorFreeWords" "FactorFreeWords" "table" "[I") ∈ lw_all := lw_g (lw_at lw_m1 34 rfl) rfl
theorem q56 : (Jvm.Cond.soleField "FactorFreeWords" "table") ∈ lw_all := lw_g (lw_at lw_m1 35 rfl) rfl
theorem q57 : (Jvm.Cond.laysFinal "FactorFreeWords" "FactorFreeWords" "fresh" "[I") ∈ lw_all := lw_g (lw_at lw_m1 36 rfl) rfl
theorem q58 : (Jvm.Cond.soleField "FactorFreeWords" "fresh") ∈ lw_all := lw_g (lw_at lw_m1 37 rfl) rfl
theorem q59 : (Jvm.Cond.lays "FactorFreeWords" "FactorFreeWords" "count" "I") ∈ lw_all := lw_g (lw_at lw_m1 38 rfl) rfl
theorem q60 : (Jvm.Cond.soleField "FactorFreeWords" "count") ∈ lw_all := lw_g (lw_at lw_m1 39 rfl) rfl
theorem q61 : (Jvm.Cond.lays "FactorFreeWords" "FactorFreeWords" "states" "I") ∈ lw_all := lw_g (lw_at lw_m1 40 rfl) rfl
theorem q62 : (Jvm.Cond.soleField "FactorFreeWords" "states") ∈ lw_all := lw_g (lw_at lw_m1 41 rfl) rfl
theorem q63 : (Jvm.Cond.lays "FactorFreeWords" "FactorFreeWords" "built" "Z") ∈ lw_all := lw_g (lw_at lw_m1 42 rfl) rfl
theorem q64 : (Jvm.Cond.soleField "FactorFreeWords" "built") ∈ lw_all := lw_g (lw_at lw_m1 43 rfl) rfl
theorem q65 : (Jvm.Cond.superclass "FactorFreeWords" "java/lang/Object") ∈ lw_all := lw_g (lw_at lw_m1 44 rfl) rfl
theorem q69 : (Jvm.Cond.instanceMethod ({ cls := "FactorFreeWords", name := "forbid", desc := "(I)I" } : Jvm.MethodName)) ∈ lw_all := lw_g (lw_at lw_m1 48 rfl) rfl
theorem q70 : (Jvm.Cond.selects "FactorFreeWords" ({ cls := "FactorFreeWords", name := "forbid", desc := "(I)I" } : Jvm.MethodName) ({ cls := "FactorFreeWords", name := "forbid", desc := "(I)I" } : Jvm.MethodName)) ∈ lw_all := lw_g (lw_at lw_m1 49 rfl) rfl
theorem q71 : (Jvm.Cond.code ({ cls := "FactorFreeWords", name := "forbid", desc := "(I)I" } : Jvm.MethodName) prog_1_method_2_code (3 : Nat) (Option.some Jvm.ClassFile.FieldType.int)) ∈ lw_all := lw_g (lw_at lw_m1 50 rfl) rfl
theorem q72 : (Jvm.Cond.methodLink "FactorFreeWords" (39 : Nat) ({ cls := "FactorFreeWords", name := "isPiece", desc := "(I)Z" } : Jvm.MethodName)) ∈ lw_all := lw_g (lw_at lw_m1 51 rfl) rfl
theorem q73 : (Jvm.Cond.static ({ cls := "FactorFreeWords", name := "isPiece", desc := "(I)Z" } : Jvm.MethodName)) ∈ lw_all := lw_g (lw_at lw_m1 52 rfl) rfl
theorem q74 : (Jvm.Cond.code ({ cls := "FactorFreeWords", name := "isPiece", desc := "(I)Z" } : Jvm.MethodName) prog_1_method_17_code (2 : Nat) (Option.some Jvm.ClassFile.FieldType.boolean)) ∈ lw_all := lw_g (lw_at lw_m1 53 rfl) rfl
theorem q75 : (Jvm.Cond.methodLink "FactorFreeWords" (82 : Nat) ({ cls := "FactorFreeWords", name := "sizeOf", desc := "(I)I" } : Jvm.MethodName)) ∈ lw_all := lw_g (lw_at lw_m1 54 rfl) rfl
theorem q76 : (Jvm.Cond.static ({ cls := "FactorFreeWords", name := "sizeOf", desc := "(I)I" } : Jvm.MethodName)) ∈ lw_all := lw_g (lw_at lw_m1 55 rfl) rfl
theorem q77 : (Jvm.Cond.code ({ cls := "FactorFreeWords", name := "sizeOf", desc := "(I)I" } : Jvm.MethodName) prog_1_method_22_code (2 : Nat) (Option.some Jvm.ClassFile.FieldType.int)) ∈ lw_all := lw_g (lw_at lw_m1 56 rfl) rfl
theorem q78 : (Jvm.Cond.methodLink "FactorFreeWords" (79 : Nat) ({ cls := "FactorFreeWords", name := "power", desc := "(I)I" } : Jvm.MethodName)) ∈ lw_all := lw_g (lw_at lw_m1 57 rfl) rfl
theorem q79 : (Jvm.Cond.static ({ cls := "FactorFreeWords", name := "power", desc := "(I)I" } : Jvm.MethodName)) ∈ lw_all := lw_g (lw_at lw_m1 58 rfl) rfl
theorem q80 : (Jvm.Cond.code ({ cls := "FactorFreeWords", name := "power", desc := "(I)I" } : Jvm.MethodName) prog_1_method_19_code (3 : Nat) (Option.some Jvm.ClassFile.FieldType.int)) ∈ lw_all := lw_g (lw_at lw_m1 59 rfl) rfl
theorem q81 : (Jvm.Cond.methodLink "FactorFreeWords" (43 : Nat) ({ cls := "FactorFreeWords", name := "place", desc := "(I)I" } : Jvm.MethodName)) ∈ lw_all := lw_g (lw_at lw_m1 60 rfl) rfl
theorem q82 : (Jvm.Cond.privateMethod ({ cls := "FactorFreeWords", name := "place", desc := "(I)I" } : Jvm.MethodName)) ∈ lw_tbl := lw_at lw_m1 61 rfl
theorem q83 : (Jvm.Cond.instanceMethod ({ cls := "FactorFreeWords", name := "place", desc := "(I)I" } : Jvm.MethodName)) ∈ lw_all := lw_g (lw_at lw_m1 62 rfl) rfl
theorem q84 : (Jvm.Cond.code ({ cls := "FactorFreeWords", name := "place", desc := "(I)I" } : Jvm.MethodName) prog_1_method_20_code (3 : Nat) (Option.some Jvm.ClassFile.FieldType.int)) ∈ lw_all := lw_g (lw_at lw_m1 63 rfl) rfl
theorem q86 : (Jvm.Cond.instanceMethod ({ cls := "FactorFreeWords", name := "permit", desc := "(I)I" } : Jvm.MethodName)) ∈ lw_all := lw_g (lw_at lw_m1 65 rfl) rfl
theorem q87 : (Jvm.Cond.selects "FactorFreeWords" ({ cls := "FactorFreeWords", name := "permit", desc := "(I)I" } : Jvm.MethodName) ({ cls := "FactorFreeWords", name := "permit", desc := "(I)I" } : Jvm.MethodName)) ∈ lw_all := lw_g (lw_at lw_m1 66 rfl) rfl
theorem q88 : (Jvm.Cond.code ({ cls := "FactorFreeWords", name := "permit", desc := "(I)I" } : Jvm.MethodName) prog_1_method_3_code (4 : Nat) (Option.some Jvm.ClassFile.FieldType.int)) ∈ lw_all := lw_g (lw_at lw_m1 67 rfl) rfl
theorem q90 : (Jvm.Cond.instanceMethod ({ cls := "FactorFreeWords", name := "pieces", desc := "()I" } : Jvm.MethodName)) ∈ lw_all := lw_g (lw_at lw_m1 69 rfl) rfl
theorem q91 : (Jvm.Cond.selects "FactorFreeWords" ({ cls := "FactorFreeWords", name := "pieces", desc := "()I" } : Jvm.MethodName) ({ cls := "FactorFreeWords", name := "pieces", desc := "()I" } : Jvm.MethodName)) ∈ lw_all := lw_g (lw_at lw_m1 70 rfl) rfl
theorem q92 : (Jvm.Cond.code ({ cls := "FactorFreeWords", name := "pieces", desc := "()I" } : Jvm.MethodName) prog_1_method_4_code (1 : Nat) (Option.some Jvm.ClassFile.FieldType.int)) ∈ lw_all := lw_g (lw_at lw_m1 71 rfl) rfl
theorem q94 : (Jvm.Cond.instanceMethod ({ cls := "FactorFreeWords", name := "allowed", desc := "(II)I" } : Jvm.MethodName)) ∈ lw_all := lw_g (lw_at lw_m1 73 rfl) rfl
theorem q95 : (Jvm.Cond.selects "FactorFreeWords" ({ cls := "FactorFreeWords", name := "allowed", desc := "(II)I" } : Jvm.MethodName) ({ cls := "FactorFreeWords", name := "allowed", desc := "(II)I" } : Jvm.MethodName)) ∈ lw_all := lw_g (lw_at lw_m1 74 rfl) rfl
theorem q96 : (Jvm.Cond.code ({ cls := "FactorFreeWords", name := "allowed", desc := "(II)I" } : Jvm.MethodName) prog_1_method_5_code (4 : Nat) (Option.some Jvm.ClassFile.FieldType.int)) ∈ lw_all := lw_g (lw_at lw_m1 75 rfl) rfl
theorem q97 : (Jvm.Cond.methodLink "FactorFreeWords" (51 : Nat) ({ cls := "FactorFreeWords", name := "refused", desc := "(II)I" } : Jvm.MethodName)) ∈ lw_all := lw_g (lw_at lw_m1 76 rfl) rfl
theorem q98 : (Jvm.Cond.static ({ cls := "FactorFreeWords", name := "refused", desc := "(II)I" } : Jvm.MethodName)) ∈ lw_all := lw_g (lw_at lw_m1 77 rfl) rfl
theorem q99 : (Jvm.Cond.code ({ cls := "FactorFreeWords", name := "refused", desc := "(II)I" } : Jvm.MethodName) prog_1_method_21_code (2 : Nat) (Option.some Jvm.ClassFile.FieldType.int)) ∈ lw_all := lw_g (lw_at lw_m1 78 rfl) rfl
theorem q100 : (Jvm.Cond.methodLink "FactorFreeWords" (64 : Nat) ({ cls := "FactorFreeWords", name := "isLength", desc := "(I)Z" } : Jvm.MethodName)) ∈ lw_all := lw_g (lw_at lw_m1 79 rfl) rfl
theorem q101 : (Jvm.Cond.static ({ cls := "FactorFreeWords", name := "isLength", desc := "(I)Z" } : Jvm.MethodName)) ∈ lw_all := lw_g (lw_at lw_m1 80 rfl) rfl
theorem q102 : (Jvm.Cond.code ({ cls := "FactorFreeWords", name := "isLength", desc := "(I)Z" } : Jvm.MethodName) prog_1_method_18_code (1 : Nat) (Option.some Jvm.ClassFile.FieldType.boolean)) ∈ lw_all := lw_g (lw_at lw_m1 81 rfl) rfl
theorem q103 : (Jvm.Cond.methodLink "FactorFreeWords" (55 : Nat) ({ cls := "FactorFreeWords", name := "build", desc := "()V" } : Jvm.MethodName)) ∈ lw_all := lw_g (lw_at lw_m1 82 rfl) rfl
theorem q104 : (Jvm.Cond.privateMethod ({ cls := "FactorFreeWords", name := "build", desc := "()V" } : Jvm.MethodName)) ∈ lw_tbl := lw_at lw_m1 83 rfl
theorem q105 : (Jvm.Cond.instanceMethod ({ cls := "FactorFreeWords", name := "build", desc := "()V" } : Jvm.MethodName)) ∈ lw_all := lw_g (lw_at lw_m1 84 rfl) rfl
theorem q106 : (Jvm.Cond.code ({ cls := "FactorFreeWords", name := "build", desc := "()V" } : Jvm.MethodName) prog_1_method_24_code (5 : Nat) (Option.none : Option Jvm.ClassFile.FieldType)) ∈ lw_all := lw_g (lw_at lw_m1 85 rfl) rfl
theorem q107 : (Jvm.Cond.methodLink "FactorFreeWords" (92 : Nat) ({ cls := "FactorFreeWords", name := "stateOf", desc := "(I)I" } : Jvm.MethodName)) ∈ lw_all := lw_g (lw_at lw_m1 86 rfl) rfl
theorem q108 : (Jvm.Cond.privateMethod ({ cls := "FactorFreeWords", name := "stateOf", desc := "(I)I" } : Jvm.MethodName)) ∈ lw_tbl := lw_at lw_m1 87 rfl
theorem q109 : (Jvm.Cond.instanceMethod ({ cls := "FactorFreeWords", name := "stateOf", desc := "(I)I" } : Jvm.MethodName)) ∈ lw_all := lw_g (lw_at lw_m1 88 rfl) rfl
theorem q110 : (Jvm.Cond.code ({ cls := "FactorFreeWords", name := "stateOf", desc := "(I)I" } : Jvm.MethodName) prog_1_method_23_code (3 : Nat) (Option.some Jvm.ClassFile.FieldType.int)) ∈ lw_all := lw_g (lw_at lw_m1 89 rfl) rfl
theorem q111 : (Jvm.Cond.methodLink "FactorFreeWords" (95 : Nat) ({ cls := "FactorFreeWords", name := "target", desc := "(I)I" } : Jvm.MethodName)) ∈ lw_all := lw_g (lw_at lw_m1 90 rfl) rfl
theorem q112 : (Jvm.Cond.privateMethod ({ cls := "FactorFreeWords", name := "target", desc := "(I)I" } : Jvm.MethodName)) ∈ lw_tbl := lw_at lw_m1 91 rfl
theorem q113 : (Jvm.Cond.instanceMethod ({ cls := "FactorFreeWords", name := "target", desc := "(I)I" } : Jvm.MethodName)) ∈ lw_all := lw_g (lw_at lw_m1 92 rfl) rfl
theorem q114 : (Jvm.Cond.code ({ cls := "FactorFreeWords", name := "target", desc := "(I)I" } : Jvm.MethodName) prog_1_method_25_code (7 : Nat) (Option.some Jvm.ClassFile.FieldType.int)) ∈ lw_all := lw_g (lw_at lw_m1 93 rfl) rfl
theorem q115 : (Jvm.Cond.methodLink "FactorFreeWords" (98 : Nat) ({ cls := "FactorFreeWords", name := "countWays", desc := "()V" } : Jvm.MethodName)) ∈ lw_all := lw_g (lw_at lw_m1 94 rfl) rfl
theorem q116 : (Jvm.Cond.privateMethod ({ cls := "FactorFreeWords", name := "countWays", desc := "()V" } : Jvm.MethodName)) ∈ lw_tbl := lw_at lw_m1 95 rfl
theorem q117 : (Jvm.Cond.instanceMethod ({ cls := "FactorFreeWords", name := "countWays", desc := "()V" } : Jvm.MethodName)) ∈ lw_all := lw_g (lw_at lw_m1 96 rfl) rfl
theorem q118 : (Jvm.Cond.code ({ cls := "FactorFreeWords", name := "countWays", desc := "()V" } : Jvm.MethodName) prog_1_method_26_code (4 : Nat) (Option.none : Option Jvm.ClassFile.FieldType)) ∈ lw_all := lw_g (lw_at lw_m1 97 rfl) rfl
theorem q119 : (Jvm.Cond.methodLink "FactorFreeWords" (58 : Nat) ({ cls := "FactorFreeWords", name := "read", desc := "(III)I" } : Jvm.MethodName)) ∈ lw_all := lw_g (lw_at lw_m1 98 rfl) rfl
theorem q120 : (Jvm.Cond.privateMethod ({ cls := "FactorFreeWords", name := "read", desc := "(III)I" } : Jvm.MethodName)) ∈ lw_tbl := lw_at lw_m1 99 rfl
theorem q121 : (Jvm.Cond.instanceMethod ({ cls := "FactorFreeWords", name := "read", desc := "(III)I" } : Jvm.MethodName)) ∈ lw_all := lw_g (lw_at lw_m1 100 rfl) rfl
theorem q122 : (Jvm.Cond.code ({ cls := "FactorFreeWords", name := "read", desc := "(III)I" } : Jvm.MethodName) prog_1_method_27_code (7 : Nat) (Option.some Jvm.ClassFile.FieldType.int)) ∈ lw_all := lw_g (lw_at lw_m1 101 rfl) rfl
theorem q124 : (Jvm.Cond.instanceMethod ({ cls := "FactorFreeWords", name := "count", desc := "(I)J" } : Jvm.MethodName)) ∈ lw_all := lw_g (lw_at lw_m1 103 rfl) rfl
theorem q125 : (Jvm.Cond.selects "FactorFreeWords" ({ cls := "FactorFreeWords", name := "count", desc := "(I)J" } : Jvm.MethodName) ({ cls := "FactorFreeWords", name := "count", desc := "(I)J" } : Jvm.MethodName)) ∈ lw_all := lw_g (lw_at lw_m1 104 rfl) rfl
theorem q126 : (Jvm.Cond.code ({ cls := "FactorFreeWords", name := "count", desc := "(I)J" } : Jvm.MethodName) prog_1_method_6_code (2 : Nat) (Option.some Jvm.ClassFile.FieldType.long)) ∈ lw_all := lw_g (lw_at lw_m1 105 rfl) rfl
theorem q127 : (Jvm.Cond.constantLong "FactorFreeWords" (62 : Nat) (-1 : Int64)) ∈ lw_all := lw_g (lw_at lw_m1 106 rfl) rfl
theorem q129 : (Jvm.Cond.instanceMethod ({ cls := "FactorFreeWords", name := "countWith", desc := "(II)I" } : Jvm.MethodName)) ∈ lw_all := lw_g (lw_at lw_m1 108 rfl) rfl
theorem q130 : (Jvm.Cond.selects "FactorFreeWords" ({ cls := "FactorFreeWords", name := "countWith", desc := "(II)I" } : Jvm.MethodName) ({ cls := "FactorFreeWords", name := "countWith", desc := "(II)I" } : Jvm.MethodName)) ∈ lw_all := lw_g (lw_at lw_m1 109 rfl) rfl
theorem q131 : (Jvm.Cond.code ({ cls := "FactorFreeWords", name := "countWith", desc := "(II)I" } : Jvm.MethodName) prog_1_method_7_code (5 : Nat) (Option.some Jvm.ClassFile.FieldType.int)) ∈ lw_all := lw_g (lw_at lw_m1 110 rfl) rfl
theorem q132 : (Jvm.Cond.methodLink "FactorFreeWords" (67 : Nat) ({ cls := "FactorFreeWords", name := "spreadTable", desc := "()V" } : Jvm.MethodName)) ∈ lw_all := lw_g (lw_at lw_m1 111 rfl) rfl
theorem q133 : (Jvm.Cond.privateMethod ({ cls := "FactorFreeWords", name := "spreadTable", desc := "()V" } : Jvm.MethodName)) ∈ lw_tbl := lw_at lw_m1 112 rfl
theorem q134 : (Jvm.Cond.instanceMethod ({ cls := "FactorFreeWords", name := "spreadTable", desc := "()V" } : Jvm.MethodName)) ∈ lw_all := lw_g (lw_at lw_m1 113 rfl) rfl
theorem q135 : (Jvm.Cond.code ({ cls := "FactorFreeWords", name := "spreadTable", desc := "()V" } : Jvm.MethodName) prog_1_method_30_code (5 : Nat) (Option.none : Option Jvm.ClassFile.FieldType)) ∈ lw_all := lw_g (lw_at lw_m1 114 rfl) rfl
theorem q137 : (Jvm.Cond.instanceMethod ({ cls := "FactorFreeWords", name := "rank", desc := "(II)I" } : Jvm.MethodName)) ∈ lw_all := lw_g (lw_at lw_m1 116 rfl) rfl
theorem q138 : (Jvm.Cond.selects "FactorFreeWords" ({ cls := "FactorFreeWords", name := "rank", desc := "(II)I" } : Jvm.MethodName) ({ cls := "FactorFreeWords", name := "rank", desc := "(II)I" } : Jvm.MethodName)) ∈ lw_all := lw_g (lw_at lw_m1 117 rfl) rfl
theorem q139 : (Jvm.Cond.code ({ cls := "FactorFreeWords", name := "rank", desc := "(II)I" } : Jvm.MethodName) prog_1_method_8_code (4 : Nat) (Option.some Jvm.ClassFile.FieldType.int)) ∈ lw_all := lw_g (lw_at lw_m1 118 rfl) rfl
theorem q140 : (Jvm.Cond.methodLink "FactorFreeWords" (73 : Nat) ({ cls := "FactorFreeWords", name := "below", desc := "(II)I" } : Jvm.MethodName)) ∈ lw_all := lw_g (lw_at lw_m1 119 rfl) rfl
theorem q141 : (Jvm.Cond.privateMethod ({ cls := "FactorFreeWords", name := "below", desc := "(II)I" } : Jvm.MethodName)) ∈ lw_tbl := lw_at lw_m1 120 rfl
theorem q142 : (Jvm.Cond.instanceMethod ({ cls := "FactorFreeWords", name := "below", desc := "(II)I" } : Jvm.MethodName)) ∈ lw_all := lw_g (lw_at lw_m1 121 rfl) rfl
theorem q143 : (Jvm.Cond.code ({ cls := "FactorFreeWords", name := "below", desc := "(II)I" } : Jvm.MethodName) prog_1_method_28_code (9 : Nat) (Option.some Jvm.ClassFile.FieldType.int)) ∈ lw_all := lw_g (lw_at lw_m1 122 rfl) rfl
theorem q145 : (Jvm.Cond.instanceMethod ({ cls := "FactorFreeWords", name := "word", desc := "(II)I" } : Jvm.MethodName)) ∈ lw_all := lw_g (lw_at lw_m1 124 rfl) rfl
theorem q146 : (Jvm.Cond.selects "FactorFreeWords" ({ cls := "FactorFreeWords", name := "word", desc := "(II)I" } : Jvm.MethodName) ({ cls := "FactorFreeWords", name := "word", desc := "(II)I" } : Jvm.MethodName)) ∈ lw_all := lw_g (lw_at lw_m1 125 rfl) rfl
theorem q147 : (Jvm.Cond.code ({ cls := "FactorFreeWords", name := "word", desc := "(II)I" } : Jvm.MethodName) prog_1_method_9_code (3 : Nat) (Option.some Jvm.ClassFile.FieldType.int)) ∈ lw_all := lw_g (lw_at lw_m1 126 rfl) rfl
theorem q148 : (Jvm.Cond.methodLink "FactorFreeWords" (76 : Nat) ({ cls := "FactorFreeWords", name := "unrank", desc := "(II)I" } : Jvm.MethodName)) ∈ lw_all := lw_g (lw_at lw_m1 127 rfl) rfl
theorem q149 : (Jvm.Cond.privateMethod ({ cls := "FactorFreeWords", name := "unrank", desc := "(II)I" } : Jvm.MethodName)) ∈ lw_tbl := lw_at lw_m1 128 rfl
theorem q150 : (Jvm.Cond.instanceMethod ({ cls := "FactorFreeWords", name := "unrank", desc := "(II)I" } : Jvm.MethodName)) ∈ lw_all := lw_g (lw_at lw_m1 129 rfl) rfl
theorem q151 : (Jvm.Cond.code ({ cls := "FactorFreeWords", name := "unrank", desc := "(II)I" } : Jvm.MethodName) prog_1_method_29_code (9 : Nat) (Option.some Jvm.ClassFile.FieldType.int)) ∈ lw_all := lw_g (lw_at lw_m1 130 rfl) rfl
theorem q153 : (Jvm.Cond.instanceMethod ({ cls := "FactorFreeWords", name := "next", desc := "(II)I" } : Jvm.MethodName)) ∈ lw_all := lw_g (lw_at lw_m1 132 rfl) rfl
theorem q154 : (Jvm.Cond.selects "FactorFreeWords" ({ cls := "FactorFreeWords", name := "next", desc := "(II)I" } : Jvm.MethodName) ({ cls := "FactorFreeWords", name := "next", desc := "(II)I" } : Jvm.MethodName)) ∈ lw_all := lw_g (lw_at lw_m1 133 rfl) rfl
theorem q155 : (Jvm.Cond.code ({ cls := "FactorFreeWords", name := "next", desc := "(II)I" } : Jvm.MethodName) prog_1_method_10_code (5 : Nat) (Option.some Jvm.ClassFile.FieldType.int)) ∈ lw_all := lw_g (lw_at lw_m1 134 rfl) rfl
theorem q157 : (Jvm.Cond.instanceMethod ({ cls := "FactorFreeWords", name := "beginning", desc := "(II)I" } : Jvm.MethodName)) ∈ lw_all := lw_g (lw_at lw_m1 136 rfl) rfl
theorem q158 : (Jvm.Cond.selects "FactorFreeWords" ({ cls := "FactorFreeWords", name := "beginning", desc := "(II)I" } : Jvm.MethodName) ({ cls := "FactorFreeWords", name := "beginning", desc := "(II)I" } : Jvm.MethodName)) ∈ lw_all := lw_g (lw_at lw_m1 137 rfl) rfl
theorem q159 : (Jvm.Cond.code ({ cls := "FactorFreeWords", name := "beginning", desc := "(II)I" } : Jvm.MethodName) prog_1_method_11_code (5 : Nat) (Option.some Jvm.ClassFile.FieldType.int)) ∈ lw_all := lw_g (lw_at lw_m1 138 rfl) rfl
theorem q161 : (Jvm.Cond.instanceMethod ({ cls := "FactorFreeWords", name := "ending", desc := "(II)I" } : Jvm.MethodName)) ∈ lw_all := lw_g (lw_at lw_m1 140 rfl) rfl
theorem q162 : (Jvm.Cond.selects "FactorFreeWords" ({ cls := "FactorFreeWords", name := "ending", desc := "(II)I" } : Jvm.MethodName) ({ cls := "FactorFreeWords", name := "ending", desc := "(II)I" } : Jvm.MethodName)) ∈ lw_all := lw_g (lw_at lw_m1 141 rfl) rfl
theorem q163 : (Jvm.Cond.code ({ cls := "FactorFreeWords", name := "ending", desc := "(II)I" } : Jvm.MethodName) prog_1_method_12_code (4 : Nat) (Option.some Jvm.ClassFile.FieldType.int)) ∈ lw_all := lw_g (lw_at lw_m1 142 rfl) rfl
theorem q164 : (Jvm.Cond.methodLink "FactorFreeWords" (85 : Nat) ({ cls := "FactorFreeWords", name := "through", desc := "(III)J" } : Jvm.MethodName)) ∈ lw_all := lw_g (lw_at lw_m1 143 rfl) rfl
theorem q165 : (Jvm.Cond.privateMethod ({ cls := "FactorFreeWords", name := "through", desc := "(III)J" } : Jvm.MethodName)) ∈ lw_tbl := lw_at lw_m1 144 rfl
theorem q166 : (Jvm.Cond.instanceMethod ({ cls := "FactorFreeWords", name := "through", desc := "(III)J" } : Jvm.MethodName)) ∈ lw_all := lw_g (lw_at lw_m1 145 rfl) rfl
theorem q167 : (Jvm.Cond.code ({ cls := "FactorFreeWords", name := "through", desc := "(III)J" } : Jvm.MethodName) prog_1_method_31_code (9 : Nat) (Option.some Jvm.ClassFile.FieldType.long)) ∈ lw_all := lw_g (lw_at lw_m1 146 rfl) rfl
theorem q169 : (Jvm.Cond.instanceMethod ({ cls := "FactorFreeWords", name := "standing", desc := "(II)I" } : Jvm.MethodName)) ∈ lw_all := lw_g (lw_at lw_m1 148 rfl) rfl
theorem q170 : (Jvm.Cond.selects "FactorFreeWords" ({ cls := "FactorFreeWords", name := "standing", desc := "(II)I" } : Jvm.MethodName) ({ cls := "FactorFreeWords", name := "standing", desc := "(II)I" } : Jvm.MethodName)) ∈ lw_all := lw_g (lw_at lw_m1 149 rfl) rfl
theorem q171 : (Jvm.Cond.code ({ cls := "FactorFreeWords", name := "standing", desc := "(II)I" } : Jvm.MethodName) prog_1_method_13_code (7 : Nat) (Option.some Jvm.ClassFile.FieldType.int)) ∈ lw_all := lw_g (lw_at lw_m1 150 rfl) rfl
theorem q173 : (Jvm.Cond.instanceMethod ({ cls := "FactorFreeWords", name := "longest", desc := "()I" } : Jvm.MethodName)) ∈ lw_all := lw_g (lw_at lw_m1 152 rfl) rfl
theorem q174 : (Jvm.Cond.selects "FactorFreeWords" ({ cls := "FactorFreeWords", name := "longest", desc := "()I" } : Jvm.MethodName) ({ cls := "FactorFreeWords", name := "longest", desc := "()I" } : Jvm.MethodName)) ∈ lw_all := lw_g (lw_at lw_m1 153 rfl) rfl
theorem q175 : (Jvm.Cond.code ({ cls := "FactorFreeWords", name := "longest", desc := "()I" } : Jvm.MethodName) prog_1_method_14_code (2 : Nat) (Option.some Jvm.ClassFile.FieldType.int)) ∈ lw_all := lw_g (lw_at lw_m1 154 rfl) rfl
theorem q177 : (Jvm.Cond.instanceMethod ({ cls := "FactorFreeWords", name := "choices", desc := "(II)I" } : Jvm.MethodName)) ∈ lw_all := lw_g (lw_at lw_m1 156 rfl) rfl
theorem q178 : (Jvm.Cond.selects "FactorFreeWords" ({ cls := "FactorFreeWords", name := "choices", desc := "(II)I" } : Jvm.MethodName) ({ cls := "FactorFreeWords", name := "choices", desc := "(II)I" } : Jvm.MethodName)) ∈ lw_all := lw_g (lw_at lw_m1 157 rfl) rfl
theorem q179 : (Jvm.Cond.code ({ cls := "FactorFreeWords", name := "choices", desc := "(II)I" } : Jvm.MethodName) prog_1_method_15_code (5 : Nat) (Option.some Jvm.ClassFile.FieldType.int)) ∈ lw_all := lw_g (lw_at lw_m1 158 rfl) rfl
theorem q181 : (Jvm.Cond.instanceMethod ({ cls := "FactorFreeWords", name := "mirrored", desc := "(I)I" } : Jvm.MethodName)) ∈ lw_all := lw_g (lw_at lw_m1 160 rfl) rfl
theorem q182 : (Jvm.Cond.selects "FactorFreeWords" ({ cls := "FactorFreeWords", name := "mirrored", desc := "(I)I" } : Jvm.MethodName) ({ cls := "FactorFreeWords", name := "mirrored", desc := "(I)I" } : Jvm.MethodName)) ∈ lw_all := lw_g (lw_at lw_m1 161 rfl) rfl
theorem q183 : (Jvm.Cond.code ({ cls := "FactorFreeWords", name := "mirrored", desc := "(I)I" } : Jvm.MethodName) prog_1_method_16_code (8 : Nat) (Option.some Jvm.ClassFile.FieldType.int)) ∈ lw_all := lw_g (lw_at lw_m1 162 rfl) rfl
theorem q184 : (Jvm.Cond.methodLink "FactorFreeWords" (89 : Nat) ({ cls := "FactorFreeWords", name := "reflect", desc := "(III)I" } : Jvm.MethodName)) ∈ lw_all := lw_g (lw_at lw_m1 163 rfl) rfl
theorem q185 : (Jvm.Cond.static ({ cls := "FactorFreeWords", name := "reflect", desc := "(III)I" } : Jvm.MethodName)) ∈ lw_all := lw_g (lw_at lw_m1 164 rfl) rfl
theorem q186 : (Jvm.Cond.code ({ cls := "FactorFreeWords", name := "reflect", desc := "(III)I" } : Jvm.MethodName) prog_1_method_32_code (6 : Nat) (Option.some Jvm.ClassFile.FieldType.int)) ∈ lw_all := lw_g (lw_at lw_m1 165 rfl) rfl
theorem in_X0 : ∀ w ∈ wsX00, w ∈ lw_all := lw_in wsX00 [43, 45, 47, 49, 51, 53, 55, 57, 59, 61, 63] (by decide +kernel) (by decide +kernel)
def RX1 : String := "FactorFreeWordsModel"
def TX1 : u_T := fun k => match k with
  | 0 => ("FactorFreeWordsModel", "held", "I", false)
  | 1 => ("FactorFreeWordsModel", "barred", "[Z", false)
  | 2 => ("FactorFreeWordsModel", "now", "[J", false)
  | _ => ("FactorFreeWordsModel", "later", "[J", false)
def tyX1 : Nat → FieldType := fun k => match k with
  | 0 => .int
  | 1 => .array .boolean
  | 2 => .array .long
  | _ => .array .long
abbrev wsX10 : List Cond := u_ws RX1 TX1 4
theorem nmX1 : ∀ a, a < 4 → ∀ b, b < 4 → a ≠ b → (TX1 a).2.1 ≠ (TX1 b).2.1 := by decide +kernel
theorem tyX1_ok : ∀ k, k < 4 → parseFieldDescriptor (TX1 k).2.2.1 = some (tyX1 k) := by decide +kernel
abbrev cX1_init : ByteArray := prog_3_method_1_code
def yX1_init : MethodName := ⟨RX1, "<init>", "()V"⟩
abbrev cX1_forbid : ByteArray := prog_3_method_4_code
def yX1_forbid : MethodName := ⟨RX1, "forbid", "(I)I"⟩
abbrev cX1_letters : ByteArray := prog_3_method_3_code
def yX1_letters : MethodName := ⟨RX1, "letters", "(I)I"⟩
abbrev cX1_permit : ByteArray := prog_3_method_5_code
def yX1_permit : MethodName := ⟨RX1, "permit", "(I)I"⟩
abbrev cX1_pieces : ByteArray := prog_3_method_6_code
def yX1_pieces : MethodName := ⟨RX1, "pieces", "()I"⟩
abbrev cX1_allowed : ByteArray := prog_3_method_10_code
def yX1_allowed : MethodName := ⟨RX1, "allowed", "(II)I"⟩
abbrev cX1_badLength : ByteArray := prog_3_method_7_code
def yX1_badLength : MethodName := ⟨RX1, "badLength", "(I)Z"⟩
abbrev cX1_badCode : ByteArray := prog_3_method_8_code
def yX1_badCode : MethodName := ⟨RX1, "badCode", "(II)Z"⟩
abbrev cX1_power : ByteArray := prog_3_method_2_code
def yX1_power : MethodName := ⟨RX1, "power", "(I)I"⟩
abbrev cX1_good : ByteArray := prog_3_method_9_code
def yX1_good : MethodName := ⟨RX1, "good", "(II)Z"⟩
abbrev cX1_count : ByteArray := prog_3_method_13_code
def yX1_count : MethodName := ⟨RX1, "count", "(I)J"⟩
abbrev cX1_plainCount : ByteArray := prog_3_method_11_code
def yX1_plainCount : MethodName := ⟨RX1, "plainCount", "(I)I"⟩
abbrev cX1_grow : ByteArray := prog_3_method_12_code
def yX1_grow : MethodName := ⟨RX1, "grow", "()V"⟩
abbrev cX1_countWith : ByteArray := prog_3_method_15_code
def yX1_countWith : MethodName := ⟨RX1, "countWith", "(II)I"⟩
abbrev cX1_zeros : ByteArray := prog_3_method_14_code
def yX1_zeros : MethodName := ⟨RX1, "zeros", "(II)I"⟩
abbrev cX1_rank : ByteArray := prog_3_method_16_code
def yX1_rank : MethodName := ⟨RX1, "rank", "(II)I"⟩
abbrev cX1_word : ByteArray := prog_3_method_17_code
def yX1_word : MethodName := ⟨RX1, "word", "(II)I"⟩
abbrev cX1_next : ByteArray := prog_3_method_18_code
def yX1_next : MethodName := ⟨RX1, "next", "(II)I"⟩
abbrev cX1_beginning : ByteArray := prog_3_method_19_code
def yX1_beginning : MethodName := ⟨RX1, "beginning", "(II)I"⟩
abbrev cX1_ending : ByteArray := prog_3_method_21_code
def yX1_ending : MethodName := ⟨RX1, "ending", "(II)I"⟩
abbrev cX1_stands : ByteArray := prog_3_method_20_code
def yX1_stands : MethodName := ⟨RX1, "stands", "(IIII)Z"⟩
abbrev cX1_standing : ByteArray := prog_3_method_23_code
def yX1_standing : MethodName := ⟨RX1, "standing", "(II)I"⟩
abbrev cX1_places : ByteArray := prog_3_method_22_code
def yX1_places : MethodName := ⟨RX1, "places", "(IIII)I"⟩
abbrev cX1_longest : ByteArray := prog_3_method_24_code
def yX1_longest : MethodName := ⟨RX1, "longest", "()I"⟩
abbrev cX1_choices : ByteArray := prog_3_method_25_code
def yX1_choices : MethodName := ⟨RX1, "choices", "(II)I"⟩
abbrev cX1_mirrored : ByteArray := prog_3_method_27_code
def yX1_mirrored : MethodName := ⟨RX1, "mirrored", "(I)I"⟩
abbrev cX1_backward : ByteArray := prog_3_method_26_code
def yX1_backward : MethodName := ⟨RX1, "backward", "(II)I"⟩
theorem q23 : (Jvm.Cond.initialized "FactorFreeWordsModel") ∈ lw_all := lw_g (lw_at lw_m1 2 rfl) rfl
theorem q188 : (Jvm.Cond.instantiable "FactorFreeWordsModel" (4 : Nat)) ∈ lw_all := lw_g (lw_at lw_m1 167 rfl) rfl
theorem q190 : (Jvm.Cond.instanceMethod ({ cls := "FactorFreeWordsModel", name := "<init>", desc := "()V" } : Jvm.MethodName)) ∈ lw_all := lw_g (lw_at lw_m1 169 rfl) rfl
theorem q191 : (Jvm.Cond.code ({ cls := "FactorFreeWordsModel", name := "<init>", desc := "()V" } : Jvm.MethodName) prog_3_method_1_code (1 : Nat) (Option.none : Option Jvm.ClassFile.FieldType)) ∈ lw_all := lw_g (lw_at lw_m1 170 rfl) rfl
theorem q192 : (Jvm.Cond.methodLink "FactorFreeWordsModel" (1 : Nat) ({ cls := "java/lang/Object", name := "<init>", desc := "()V" } : Jvm.MethodName)) ∈ lw_all := lw_g (lw_at lw_m1 171 rfl) rfl
theorem q193 : (Jvm.Cond.fieldLink "FactorFreeWordsModel" (24 : Nat) "FactorFreeWordsModel" "held" "I") ∈ lw_all := lw_g (lw_at lw_m1 172 rfl) rfl
theorem q194 : (Jvm.Cond.fieldLink "FactorFreeWordsModel" (7 : Nat) "FactorFreeWordsModel" "barred" "[Z") ∈ lw_all := lw_g (lw_at lw_m1 173 rfl) rfl
theorem q195 : (Jvm.Cond.fieldLink "FactorFreeWordsModel" (13 : Nat) "FactorFreeWordsModel" "now" "[J") ∈ lw_all := lw_g (lw_at lw_m1 174 rfl) rfl
theorem q196 : (Jvm.Cond.fieldLink "FactorFreeWordsModel" (17 : Nat) "FactorFreeWordsModel" "later" "[J") ∈ lw_all := lw_g (lw_at lw_m1 175 rfl) rfl
theorem q197 : (Jvm.Cond.lays "FactorFreeWordsModel" "FactorFreeWordsModel" "held" "I") ∈ lw_all := lw_g (lw_at lw_m1 176 rfl) rfl
theorem q198 : (Jvm.Cond.soleField "FactorFreeWordsModel" "held") ∈ lw_all := lw_g (lw_at lw_m1 177 rfl) rfl
theorem q199 : (Jvm.Cond.lays "FactorFreeWordsModel" "FactorFreeWordsModel" "barred" "[Z") ∈ lw_all := lw_g (lw_at lw_m1 178 rfl) rfl
theorem q200 : (Jvm.Cond.soleField "FactorFreeWordsModel" "barred") ∈ lw_all := lw_g (lw_at lw_m1 179 rfl) rfl
theorem q201 : (Jvm.Cond.lays "FactorFreeWordsModel" "FactorFreeWordsModel" "now" "[J") ∈ lw_all := lw_g (lw_at lw_m1 180 rfl) rfl
theorem q202 : (Jvm.Cond.soleField "FactorFreeWordsModel" "now") ∈ lw_all := lw_g (lw_at lw_m1 181 rfl) rfl
theorem q203 : (Jvm.Cond.lays "FactorFreeWordsModel" "FactorFreeWordsModel" "later" "[J") ∈ lw_all := lw_g (lw_at lw_m1 182 rfl) rfl
theorem q204 : (Jvm.Cond.soleField "FactorFreeWordsModel" "later") ∈ lw_all := lw_g (lw_at lw_m1 183 rfl) rfl
theorem q205 : (Jvm.Cond.superclass "FactorFreeWordsModel" "java/lang/Object") ∈ lw_all := lw_g (lw_at lw_m1 184 rfl) rfl
theorem q208 : (Jvm.Cond.instanceMethod ({ cls := "FactorFreeWordsModel", name := "forbid", desc := "(I)I" } : Jvm.MethodName)) ∈ lw_all := lw_g (lw_at lw_m1 187 rfl) rfl
theorem q209 : (Jvm.Cond.selects "FactorFreeWordsModel" ({ cls := "FactorFreeWordsModel", name := "forbid", desc := "(I)I" } : Jvm.MethodName) ({ cls := "FactorFreeWordsModel", name := "forbid", desc := "(I)I" } : Jvm.MethodName)) ∈ lw_all := lw_g (lw_at lw_m1 188 rfl) rfl
theorem q210 : (Jvm.Cond.code ({ cls := "FactorFreeWordsModel", name := "forbid", desc := "(I)I" } : Jvm.MethodName) prog_3_method_4_code (2 : Nat) (Option.some Jvm.ClassFile.FieldType.int)) ∈ lw_all := lw_g (lw_at lw_m1 189 rfl) rfl
theorem q211 : (Jvm.Cond.methodLink "FactorFreeWordsModel" (20 : Nat) ({ cls := "FactorFreeWordsModel", name := "letters", desc := "(I)I" } : Jvm.MethodName)) ∈ lw_all := lw_g (lw_at lw_m1 190 rfl) rfl
theorem q212 : (Jvm.Cond.privateMethod ({ cls := "FactorFreeWordsModel", name := "letters", desc := "(I)I" } : Jvm.MethodName)) ∈ lw_tbl := lw_at lw_m1 191 rfl
theorem q213 : (Jvm.Cond.instanceMethod ({ cls := "FactorFreeWordsModel", name := "letters", desc := "(I)I" } : Jvm.MethodName)) ∈ lw_all := lw_g (lw_at lw_m1 192 rfl) rfl
theorem q214 : (Jvm.Cond.code ({ cls := "FactorFreeWordsModel", name := "letters", desc := "(I)I" } : Jvm.MethodName) prog_3_method_3_code (2 : Nat) (Option.some Jvm.ClassFile.FieldType.int)) ∈ lw_all := lw_g (lw_at lw_m1 193 rfl) rfl
theorem q216 : (Jvm.Cond.instanceMethod ({ cls := "FactorFreeWordsModel", name := "permit", desc := "(I)I" } : Jvm.MethodName)) ∈ lw_all := lw_g (lw_at lw_m1 195 rfl) rfl
theorem q217 : (Jvm.Cond.selects "FactorFreeWordsModel" ({ cls := "FactorFreeWordsModel", name := "permit", desc := "(I)I" } : Jvm.MethodName) ({ cls := "FactorFreeWordsModel", name := "permit", desc := "(I)I" } : Jvm.MethodName)) ∈ lw_all := lw_g (lw_at lw_m1 196 rfl) rfl
theorem q218 : (Jvm.Cond.code ({ cls := "FactorFreeWordsModel", name := "permit", desc := "(I)I" } : Jvm.MethodName) prog_3_method_5_code (2 : Nat) (Option.some Jvm.ClassFile.FieldType.int)) ∈ lw_all := lw_g (lw_at lw_m1 197 rfl) rfl
theorem q220 : (Jvm.Cond.instanceMethod ({ cls := "FactorFreeWordsModel", name := "pieces", desc := "()I" } : Jvm.MethodName)) ∈ lw_all := lw_g (lw_at lw_m1 199 rfl) rfl
theorem q221 : (Jvm.Cond.selects "FactorFreeWordsModel" ({ cls := "FactorFreeWordsModel", name := "pieces", desc := "()I" } : Jvm.MethodName) ({ cls := "FactorFreeWordsModel", name := "pieces", desc := "()I" } : Jvm.MethodName)) ∈ lw_all := lw_g (lw_at lw_m1 200 rfl) rfl
theorem q222 : (Jvm.Cond.code ({ cls := "FactorFreeWordsModel", name := "pieces", desc := "()I" } : Jvm.MethodName) prog_3_method_6_code (1 : Nat) (Option.some Jvm.ClassFile.FieldType.int)) ∈ lw_all := lw_g (lw_at lw_m1 201 rfl) rfl
theorem q224 : (Jvm.Cond.instanceMethod ({ cls := "FactorFreeWordsModel", name := "allowed", desc := "(II)I" } : Jvm.MethodName)) ∈ lw_all := lw_g (lw_at lw_m1 203 rfl) rfl
theorem q225 : (Jvm.Cond.selects "FactorFreeWordsModel" ({ cls := "FactorFreeWordsModel", name := "allowed", desc := "(II)I" } : Jvm.MethodName) ({ cls := "FactorFreeWordsModel", name := "allowed", desc := "(II)I" } : Jvm.MethodName)) ∈ lw_all := lw_g (lw_at lw_m1 204 rfl) rfl
theorem q226 : (Jvm.Cond.code ({ cls := "FactorFreeWordsModel", name := "allowed", desc := "(II)I" } : Jvm.MethodName) prog_3_method_10_code (3 : Nat) (Option.some Jvm.ClassFile.FieldType.int)) ∈ lw_all := lw_g (lw_at lw_m1 205 rfl) rfl
theorem q227 : (Jvm.Cond.methodLink "FactorFreeWordsModel" (31 : Nat) ({ cls := "FactorFreeWordsModel", name := "badLength", desc := "(I)Z" } : Jvm.MethodName)) ∈ lw_all := lw_g (lw_at lw_m1 206 rfl) rfl
theorem q228 : (Jvm.Cond.privateMethod ({ cls := "FactorFreeWordsModel", name := "badLength", desc := "(I)Z" } : Jvm.MethodName)) ∈ lw_tbl := lw_at lw_m1 207 rfl
theorem q229 : (Jvm.Cond.instanceMethod ({ cls := "FactorFreeWordsModel", name := "badLength", desc := "(I)Z" } : Jvm.MethodName)) ∈ lw_all := lw_g (lw_at lw_m1 208 rfl) rfl
theorem q230 : (Jvm.Cond.code ({ cls := "FactorFreeWordsModel", name := "badLength", desc := "(I)Z" } : Jvm.MethodName) prog_3_method_7_code (2 : Nat) (Option.some Jvm.ClassFile.FieldType.boolean)) ∈ lw_all := lw_g (lw_at lw_m1 209 rfl) rfl
theorem q231 : (Jvm.Cond.methodLink "FactorFreeWordsModel" (35 : Nat) ({ cls := "FactorFreeWordsModel", name := "badCode", desc := "(II)Z" } : Jvm.MethodName)) ∈ lw_all := lw_g (lw_at lw_m1 210 rfl) rfl
theorem q232 : (Jvm.Cond.privateMethod ({ cls := "FactorFreeWordsModel", name := "badCode", desc := "(II)Z" } : Jvm.MethodName)) ∈ lw_tbl := lw_at lw_m1 211 rfl
theorem q233 : (Jvm.Cond.instanceMethod ({ cls := "FactorFreeWordsModel", name := "badCode", desc := "(II)Z" } : Jvm.MethodName)) ∈ lw_all := lw_g (lw_at lw_m1 212 rfl) rfl
theorem q234 : (Jvm.Cond.code ({ cls := "FactorFreeWordsModel", name := "badCode", desc := "(II)Z" } : Jvm.MethodName) prog_3_method_8_code (3 : Nat) (Option.some Jvm.ClassFile.FieldType.boolean)) ∈ lw_all := lw_g (lw_at lw_m1 213 rfl) rfl
theorem q235 : (Jvm.Cond.methodLink "FactorFreeWordsModel" (28 : Nat) ({ cls := "FactorFreeWordsModel", name := "power", desc := "(I)I" } : Jvm.MethodName)) ∈ lw_all := lw_g (lw_at lw_m1 214 rfl) rfl
theorem q236 : (Jvm.Cond.privateMethod ({ cls := "FactorFreeWordsModel", name := "power", desc := "(I)I" } : Jvm.MethodName)) ∈ lw_tbl := lw_at lw_m1 215 rfl
theorem q237 : (Jvm.Cond.instanceMethod ({ cls := "FactorFreeWordsModel", name := "power", desc := "(I)I" } : Jvm.MethodName)) ∈ lw_all := lw_g (lw_at lw_m1 216 rfl) rfl
theorem q238 : (Jvm.Cond.code ({ cls := "FactorFreeWordsModel", name := "power", desc := "(I)I" } : Jvm.MethodName) prog_3_method_2_code (4 : Nat) (Option.some Jvm.ClassFile.FieldType.int)) ∈ lw_all := lw_g (lw_at lw_m1 217 rfl) rfl
theorem q239 : (Jvm.Cond.methodLink "FactorFreeWordsModel" (39 : Nat) ({ cls := "FactorFreeWordsModel", name := "good", desc := "(II)Z" } : Jvm.MethodName)) ∈ lw_all := lw_g (lw_at lw_m1 218 rfl) rfl
theorem q240 : (Jvm.Cond.privateMethod ({ cls := "FactorFreeWordsModel", name := "good", desc := "(II)Z" } : Jvm.MethodName)) ∈ lw_tbl := lw_at lw_m1 219 rfl
theorem q241 : (Jvm.Cond.instanceMethod ({ cls := "FactorFreeWordsModel", name := "good", desc := "(II)Z" } : Jvm.MethodName)) ∈ lw_all := lw_g (lw_at lw_m1 220 rfl) rfl
theorem q242 : (Jvm.Cond.code ({ cls := "FactorFreeWordsModel", name := "good", desc := "(II)Z" } : Jvm.MethodName) prog_3_method_9_code (5 : Nat) (Option.some Jvm.ClassFile.FieldType.boolean)) ∈ lw_all := lw_g (lw_at lw_m1 221 rfl) rfl
theorem q244 : (Jvm.Cond.instanceMethod ({ cls := "FactorFreeWordsModel", name := "count", desc := "(I)J" } : Jvm.MethodName)) ∈ lw_all := lw_g (lw_at lw_m1 223 rfl) rfl
theorem q245 : (Jvm.Cond.selects "FactorFreeWordsModel" ({ cls := "FactorFreeWordsModel", name := "count", desc := "(I)J" } : Jvm.MethodName) ({ cls := "FactorFreeWordsModel", name := "count", desc := "(I)J" } : Jvm.MethodName)) ∈ lw_all := lw_g (lw_at lw_m1 224 rfl) rfl
theorem q246 : (Jvm.Cond.code ({ cls := "FactorFreeWordsModel", name := "count", desc := "(I)J" } : Jvm.MethodName) prog_3_method_13_code (5 : Nat) (Option.some Jvm.ClassFile.FieldType.long)) ∈ lw_all := lw_g (lw_at lw_m1 225 rfl) rfl
theorem q247 : (Jvm.Cond.constantLong "FactorFreeWordsModel" (42 : Nat) (-1 : Int64)) ∈ lw_all := lw_g (lw_at lw_m1 226 rfl) rfl
theorem q248 : (Jvm.Cond.methodLink "FactorFreeWordsModel" (44 : Nat) ({ cls := "FactorFreeWordsModel", name := "plainCount", desc := "(I)I" } : Jvm.MethodName)) ∈ lw_all := lw_g (lw_at lw_m1 227 rfl) rfl
theorem q249 : (Jvm.Cond.privateMethod ({ cls := "FactorFreeWordsModel", name := "plainCount", desc := "(I)I" } : Jvm.MethodName)) ∈ lw_tbl := lw_at lw_m1 228 rfl
theorem q250 : (Jvm.Cond.instanceMethod ({ cls := "FactorFreeWordsModel", name := "plainCount", desc := "(I)I" } : Jvm.MethodName)) ∈ lw_all := lw_g (lw_at lw_m1 229 rfl) rfl
theorem q251 : (Jvm.Cond.code ({ cls := "FactorFreeWordsModel", name := "plainCount", desc := "(I)I" } : Jvm.MethodName) prog_3_method_11_code (5 : Nat) (Option.some Jvm.ClassFile.FieldType.int)) ∈ lw_all := lw_g (lw_at lw_m1 230 rfl) rfl
theorem q252 : (Jvm.Cond.methodLink "FactorFreeWordsModel" (47 : Nat) ({ cls := "FactorFreeWordsModel", name := "grow", desc := "()V" } : Jvm.MethodName)) ∈ lw_all := lw_g (lw_at lw_m1 231 rfl) rfl
theorem q253 : (Jvm.Cond.privateMethod ({ cls := "FactorFreeWordsModel", name := "grow", desc := "()V" } : Jvm.MethodName)) ∈ lw_tbl := lw_at lw_m1 232 rfl
theorem q254 : (Jvm.Cond.instanceMethod ({ cls := "FactorFreeWordsModel", name := "grow", desc := "()V" } : Jvm.MethodName)) ∈ lw_all := lw_g (lw_at lw_m1 233 rfl) rfl
theorem q255 : (Jvm.Cond.code ({ cls := "FactorFreeWordsModel", name := "grow", desc := "()V" } : Jvm.MethodName) prog_3_method_12_code (3 : Nat) (Option.none : Option Jvm.ClassFile.FieldType)) ∈ lw_all := lw_g (lw_at lw_m1 234 rfl) rfl
theorem q257 : (Jvm.Cond.instanceMethod ({ cls := "FactorFreeWordsModel", name := "countWith", desc := "(II)I" } : Jvm.MethodName)) ∈ lw_all := lw_g (lw_at lw_m1 236 rfl) rfl
theorem q258 : (Jvm.Cond.selects "FactorFreeWordsModel" ({ cls := "FactorFreeWordsModel", name := "countWith", desc := "(II)I" } : Jvm.MethodName) ({ cls := "FactorFreeWordsModel", name := "countWith", desc := "(II)I" } : Jvm.MethodName)) ∈ lw_all := lw_g (lw_at lw_m1 237 rfl) rfl
theorem q259 : (Jvm.Cond.code ({ cls := "FactorFreeWordsModel", name := "countWith", desc := "(II)I" } : Jvm.MethodName) prog_3_method_15_code (6 : Nat) (Option.some Jvm.ClassFile.FieldType.int)) ∈ lw_all := lw_g (lw_at lw_m1 238 rfl) rfl
theorem q260 : (Jvm.Cond.methodLink "FactorFreeWordsModel" (50 : Nat) ({ cls := "FactorFreeWordsModel", name := "zeros", desc := "(II)I" } : Jvm.MethodName)) ∈ lw_all := lw_g (lw_at lw_m1 239 rfl) rfl
theorem q261 : (Jvm.Cond.privateMethod ({ cls := "FactorFreeWordsModel", name := "zeros", desc := "(II)I" } : Jvm.MethodName)) ∈ lw_tbl := lw_at lw_m2 0 rfl
theorem q262 : (Jvm.Cond.instanceMethod ({ cls := "FactorFreeWordsModel", name := "zeros", desc := "(II)I" } : Jvm.MethodName)) ∈ lw_all := lw_g (lw_at lw_m2 1 rfl) rfl
theorem q263 : (Jvm.Cond.code ({ cls := "FactorFreeWordsModel", name := "zeros", desc := "(II)I" } : Jvm.MethodName) prog_3_method_14_code (6 : Nat) (Option.some Jvm.ClassFile.FieldType.int)) ∈ lw_all := lw_g (lw_at lw_m2 2 rfl) rfl
theorem q265 : (Jvm.Cond.instanceMethod ({ cls := "FactorFreeWordsModel", name := "rank", desc := "(II)I" } : Jvm.MethodName)) ∈ lw_all := lw_g (lw_at lw_m2 4 rfl) rfl
theorem q266 : (Jvm.Cond.selects "FactorFreeWordsModel" ({ cls := "FactorFreeWordsModel", name := "rank", desc := "(II)I" } : Jvm.MethodName) ({ cls := "FactorFreeWordsModel", name := "rank", desc := "(II)I" } : Jvm.MethodName)) ∈ lw_all := lw_g (lw_at lw_m2 5 rfl) rfl
theorem q267 : (Jvm.Cond.code ({ cls := "FactorFreeWordsModel", name := "rank", desc := "(II)I" } : Jvm.MethodName) prog_3_method_16_code (5 : Nat) (Option.some Jvm.ClassFile.FieldType.int)) ∈ lw_all := lw_g (lw_at lw_m2 6 rfl) rfl
theorem q269 : (Jvm.Cond.instanceMethod ({ cls := "FactorFreeWordsModel", name := "word", desc := "(II)I" } : Jvm.MethodName)) ∈ lw_all := lw_g (lw_at lw_m2 8 rfl) rfl
theorem q270 : (Jvm.Cond.selects "FactorFreeWordsModel" ({ cls := "FactorFreeWordsModel", name := "word", desc := "(II)I" } : Jvm.MethodName) ({ cls := "FactorFreeWordsModel", name := "word", desc := "(II)I" } : Jvm.MethodName)) ∈ lw_all := lw_g (lw_at lw_m2 9 rfl) rfl
theorem q271 : (Jvm.Cond.code ({ cls := "FactorFreeWordsModel", name := "word", desc := "(II)I" } : Jvm.MethodName) prog_3_method_17_code (6 : Nat) (Option.some Jvm.ClassFile.FieldType.int)) ∈ lw_all := lw_g (lw_at lw_m2 10 rfl) rfl
theorem q273 : (Jvm.Cond.instanceMethod ({ cls := "FactorFreeWordsModel", name := "next", desc := "(II)I" } : Jvm.MethodName)) ∈ lw_all := lw_g (lw_at lw_m2 12 rfl) rfl
theorem q274 : (Jvm.Cond.selects "FactorFreeWordsModel" ({ cls := "FactorFreeWordsModel", name := "next", desc := "(II)I" } : Jvm.MethodName) ({ cls := "FactorFreeWordsModel", name := "next", desc := "(II)I" } : Jvm.MethodName)) ∈ lw_all := lw_g (lw_at lw_m2 13 rfl) rfl
theorem q275 : (Jvm.Cond.code ({ cls := "FactorFreeWordsModel", name := "next", desc := "(II)I" } : Jvm.MethodName) prog_3_method_18_code (5 : Nat) (Option.some Jvm.ClassFile.FieldType.int)) ∈ lw_all := lw_g (lw_at lw_m2 14 rfl) rfl
theorem q277 : (Jvm.Cond.instanceMethod ({ cls := "FactorFreeWordsModel", name := "beginning", desc := "(II)I" } : Jvm.MethodName)) ∈ lw_all := lw_g (lw_at lw_m2 16 rfl) rfl
theorem q278 : (Jvm.Cond.selects "FactorFreeWordsModel" ({ cls := "FactorFreeWordsModel", name := "beginning", desc := "(II)I" } : Jvm.MethodName) ({ cls := "FactorFreeWordsModel", name := "beginning", desc := "(II)I" } : Jvm.MethodName)) ∈ lw_all := lw_g (lw_at lw_m2 17 rfl) rfl
theorem q279 : (Jvm.Cond.code ({ cls := "FactorFreeWordsModel", name := "beginning", desc := "(II)I" } : Jvm.MethodName) prog_3_method_19_code (8 : Nat) (Option.some Jvm.ClassFile.FieldType.int)) ∈ lw_all := lw_g (lw_at lw_m2 18 rfl) rfl
theorem q281 : (Jvm.Cond.instanceMethod ({ cls := "FactorFreeWordsModel", name := "ending", desc := "(II)I" } : Jvm.MethodName)) ∈ lw_all := lw_g (lw_at lw_m2 20 rfl) rfl
theorem q282 : (Jvm.Cond.selects "FactorFreeWordsModel" ({ cls := "FactorFreeWordsModel", name := "ending", desc := "(II)I" } : Jvm.MethodName) ({ cls := "FactorFreeWordsModel", name := "ending", desc := "(II)I" } : Jvm.MethodName)) ∈ lw_all := lw_g (lw_at lw_m2 21 rfl) rfl
theorem q283 : (Jvm.Cond.code ({ cls := "FactorFreeWordsModel", name := "ending", desc := "(II)I" } : Jvm.MethodName) prog_3_method_21_code (7 : Nat) (Option.some Jvm.ClassFile.FieldType.int)) ∈ lw_all := lw_g (lw_at lw_m2 22 rfl) rfl
theorem q284 : (Jvm.Cond.methodLink "FactorFreeWordsModel" (54 : Nat) ({ cls := "FactorFreeWordsModel", name := "stands", desc := "(IIII)Z" } : Jvm.MethodName)) ∈ lw_all := lw_g (lw_at lw_m2 23 rfl) rfl
theorem q285 : (Jvm.Cond.privateMethod ({ cls := "FactorFreeWordsModel", name := "stands", desc := "(IIII)Z" } : Jvm.MethodName)) ∈ lw_tbl := lw_at lw_m2 24 rfl
theorem q286 : (Jvm.Cond.instanceMethod ({ cls := "FactorFreeWordsModel", name := "stands", desc := "(IIII)Z" } : Jvm.MethodName)) ∈ lw_all := lw_g (lw_at lw_m2 25 rfl) rfl
theorem q287 : (Jvm.Cond.code ({ cls := "FactorFreeWordsModel", name := "stands", desc := "(IIII)Z" } : Jvm.MethodName) prog_3_method_20_code (6 : Nat) (Option.some Jvm.ClassFile.FieldType.boolean)) ∈ lw_all := lw_g (lw_at lw_m2 26 rfl) rfl
theorem q289 : (Jvm.Cond.instanceMethod ({ cls := "FactorFreeWordsModel", name := "standing", desc := "(II)I" } : Jvm.MethodName)) ∈ lw_all := lw_g (lw_at lw_m2 28 rfl) rfl
theorem q290 : (Jvm.Cond.selects "FactorFreeWordsModel" ({ cls := "FactorFreeWordsModel", name := "standing", desc := "(II)I" } : Jvm.MethodName) ({ cls := "FactorFreeWordsModel", name := "standing", desc := "(II)I" } : Jvm.MethodName)) ∈ lw_all := lw_g (lw_at lw_m2 29 rfl) rfl
theorem q291 : (Jvm.Cond.code ({ cls := "FactorFreeWordsModel", name := "standing", desc := "(II)I" } : Jvm.MethodName) prog_3_method_23_code (7 : Nat) (Option.some Jvm.ClassFile.FieldType.int)) ∈ lw_all := lw_g (lw_at lw_m2 30 rfl) rfl
theorem q292 : (Jvm.Cond.methodLink "FactorFreeWordsModel" (58 : Nat) ({ cls := "FactorFreeWordsModel", name := "places", desc := "(IIII)I" } : Jvm.MethodName)) ∈ lw_all := lw_g (lw_at lw_m2 31 rfl) rfl
theorem q293 : (Jvm.Cond.privateMethod ({ cls := "FactorFreeWordsModel", name := "places", desc := "(IIII)I" } : Jvm.MethodName)) ∈ lw_tbl := lw_at lw_m2 32 rfl
theorem q294 : (Jvm.Cond.instanceMethod ({ cls := "FactorFreeWordsModel", name := "places", desc := "(IIII)I" } : Jvm.MethodName)) ∈ lw_all := lw_g (lw_at lw_m2 33 rfl) rfl
theorem q295 : (Jvm.Cond.code ({ cls := "FactorFreeWordsModel", name := "places", desc := "(IIII)I" } : Jvm.MethodName) prog_3_method_22_code (8 : Nat) (Option.some Jvm.ClassFile.FieldType.int)) ∈ lw_all := lw_g (lw_at lw_m2 34 rfl) rfl
theorem q297 : (Jvm.Cond.instanceMethod ({ cls := "FactorFreeWordsModel", name := "longest", desc := "()I" } : Jvm.MethodName)) ∈ lw_all := lw_g (lw_at lw_m2 36 rfl) rfl
theorem q298 : (Jvm.Cond.selects "FactorFreeWordsModel" ({ cls := "FactorFreeWordsModel", name := "longest", desc := "()I" } : Jvm.MethodName) ({ cls := "FactorFreeWordsModel", name := "longest", desc := "()I" } : Jvm.MethodName)) ∈ lw_all := lw_g (lw_at lw_m2 37 rfl) rfl
theorem q299 : (Jvm.Cond.code ({ cls := "FactorFreeWordsModel", name := "longest", desc := "()I" } : Jvm.MethodName) prog_3_method_24_code (3 : Nat) (Option.some Jvm.ClassFile.FieldType.int)) ∈ lw_all := lw_g (lw_at lw_m2 38 rfl) rfl
theorem q301 : (Jvm.Cond.instanceMethod ({ cls := "FactorFreeWordsModel", name := "choices", desc := "(II)I" } : Jvm.MethodName)) ∈ lw_all := lw_g (lw_at lw_m2 40 rfl) rfl
theorem q302 : (Jvm.Cond.selects "FactorFreeWordsModel" ({ cls := "FactorFreeWordsModel", name := "choices", desc := "(II)I" } : Jvm.MethodName) ({ cls := "FactorFreeWordsModel", name := "choices", desc := "(II)I" } : Jvm.MethodName)) ∈ lw_all := lw_g (lw_at lw_m2 41 rfl) rfl
theorem q303 : (Jvm.Cond.code ({ cls := "FactorFreeWordsModel", name := "choices", desc := "(II)I" } : Jvm.MethodName) prog_3_method_25_code (5 : Nat) (Option.some Jvm.ClassFile.FieldType.int)) ∈ lw_all := lw_g (lw_at lw_m2 42 rfl) rfl
theorem q305 : (Jvm.Cond.instanceMethod ({ cls := "FactorFreeWordsModel", name := "mirrored", desc := "(I)I" } : Jvm.MethodName)) ∈ lw_all := lw_g (lw_at lw_m2 44 rfl) rfl
theorem q306 : (Jvm.Cond.selects "FactorFreeWordsModel" ({ cls := "FactorFreeWordsModel", name := "mirrored", desc := "(I)I" } : Jvm.MethodName) ({ cls := "FactorFreeWordsModel", name := "mirrored", desc := "(I)I" } : Jvm.MethodName)) ∈ lw_all := lw_g (lw_at lw_m2 45 rfl) rfl
theorem q307 : (Jvm.Cond.code ({ cls := "FactorFreeWordsModel", name := "mirrored", desc := "(I)I" } : Jvm.MethodName) prog_3_method_27_code (5 : Nat) (Option.some Jvm.ClassFile.FieldType.int)) ∈ lw_all := lw_g (lw_at lw_m2 46 rfl) rfl
theorem q308 : (Jvm.Cond.methodLink "FactorFreeWordsModel" (62 : Nat) ({ cls := "FactorFreeWordsModel", name := "backward", desc := "(II)I" } : Jvm.MethodName)) ∈ lw_all := lw_g (lw_at lw_m2 47 rfl) rfl
theorem q309 : (Jvm.Cond.privateMethod ({ cls := "FactorFreeWordsModel", name := "backward", desc := "(II)I" } : Jvm.MethodName)) ∈ lw_tbl := lw_at lw_m2 48 rfl
theorem q310 : (Jvm.Cond.instanceMethod ({ cls := "FactorFreeWordsModel", name := "backward", desc := "(II)I" } : Jvm.MethodName)) ∈ lw_all := lw_g (lw_at lw_m2 49 rfl) rfl
theorem q311 : (Jvm.Cond.code ({ cls := "FactorFreeWordsModel", name := "backward", desc := "(II)I" } : Jvm.MethodName) prog_3_method_26_code (6 : Nat) (Option.some Jvm.ClassFile.FieldType.int)) ∈ lw_all := lw_g (lw_at lw_m2 50 rfl) rfl
theorem in_X1 : ∀ w ∈ wsX10, w ∈ lw_all := lw_in wsX10 [197, 199, 201, 203] (by decide +kernel) (by decide +kernel)
def RJ0 : String := "java/lang/Object"
abbrev cJ0_init : ByteArray := object_method_1_code
def yJ0_init : MethodName := ⟨RJ0, "<init>", "()V"⟩
theorem q30 : (Jvm.Cond.instanceMethod ({ cls := "java/lang/Object", name := "<init>", desc := "()V" } : Jvm.MethodName)) ∈ lw_all := lw_g (lw_at lw_m1 9 rfl) rfl
theorem q31 : (Jvm.Cond.code ({ cls := "java/lang/Object", name := "<init>", desc := "()V" } : Jvm.MethodName) object_method_1_code (1 : Nat) (Option.none : Option Jvm.ClassFile.FieldType)) ∈ lw_all := lw_g (lw_at lw_m1 10 rfl) rfl
abbrev cL_law : ByteArray := code
theorem q66 : (Jvm.Cond.arrayClass Jvm.ClassFile.FieldType.int) ∈ lw_all := lw_g (lw_at lw_m1 45 rfl) rfl
theorem q67 : (Jvm.Cond.arrayClass Jvm.ClassFile.FieldType.long) ∈ lw_all := lw_g (lw_at lw_m1 46 rfl) rfl
theorem q206 : (Jvm.Cond.arrayClass Jvm.ClassFile.FieldType.boolean) ∈ lw_all := lw_g (lw_at lw_m1 185 rfl) rfl
theorem q21 : (Jvm.Cond.initialized "FactorFreeWordsLaw") ∈ lw_all := lw_g (lw_at lw_m1 0 rfl) rfl
theorem q24 : (Jvm.Cond.classLink "FactorFreeWordsLaw" (7 : Nat) "FactorFreeWords") ∈ lw_all := lw_g (lw_at lw_m1 3 rfl) rfl
theorem q26 : (Jvm.Cond.methodLink "FactorFreeWordsLaw" (9 : Nat) ({ cls := "FactorFreeWords", name := "<init>", desc := "()V" } : Jvm.MethodName)) ∈ lw_all := lw_g (lw_at lw_m1 5 rfl) rfl
theorem q68 : (Jvm.Cond.methodLink "FactorFreeWordsLaw" (13 : Nat) ({ cls := "FactorFreeWords", name := "forbid", desc := "(I)I" } : Jvm.MethodName)) ∈ lw_all := lw_g (lw_at lw_m1 47 rfl) rfl
theorem q85 : (Jvm.Cond.methodLink "FactorFreeWordsLaw" (18 : Nat) ({ cls := "FactorFreeWords", name := "permit", desc := "(I)I" } : Jvm.MethodName)) ∈ lw_all := lw_g (lw_at lw_m1 64 rfl) rfl
theorem q89 : (Jvm.Cond.methodLink "FactorFreeWordsLaw" (22 : Nat) ({ cls := "FactorFreeWords", name := "pieces", desc := "()I" } : Jvm.MethodName)) ∈ lw_all := lw_g (lw_at lw_m1 68 rfl) rfl
theorem q93 : (Jvm.Cond.methodLink "FactorFreeWordsLaw" (27 : Nat) ({ cls := "FactorFreeWords", name := "allowed", desc := "(II)I" } : Jvm.MethodName)) ∈ lw_all := lw_g (lw_at lw_m1 72 rfl) rfl
theorem q123 : (Jvm.Cond.methodLink "FactorFreeWordsLaw" (32 : Nat) ({ cls := "FactorFreeWords", name := "count", desc := "(I)J" } : Jvm.MethodName)) ∈ lw_all := lw_g (lw_at lw_m1 102 rfl) rfl
theorem q128 : (Jvm.Cond.methodLink "FactorFreeWordsLaw" (37 : Nat) ({ cls := "FactorFreeWords", name := "countWith", desc := "(II)I" } : Jvm.MethodName)) ∈ lw_all := lw_g (lw_at lw_m1 107 rfl) rfl
theorem q136 : (Jvm.Cond.methodLink "FactorFreeWordsLaw" (41 : Nat) ({ cls := "FactorFreeWords", name := "rank", desc := "(II)I" } : Jvm.MethodName)) ∈ lw_all := lw_g (lw_at lw_m1 115 rfl) rfl
theorem q144 : (Jvm.Cond.methodLink "FactorFreeWordsLaw" (45 : Nat) ({ cls := "FactorFreeWords", name := "word", desc := "(II)I" } : Jvm.MethodName)) ∈ lw_all := lw_g (lw_at lw_m1 123 rfl) rfl
theorem q152 : (Jvm.Cond.methodLink "FactorFreeWordsLaw" (49 : Nat) ({ cls := "FactorFreeWords", name := "next", desc := "(II)I" } : Jvm.MethodName)) ∈ lw_all := lw_g (lw_at lw_m1 131 rfl) rfl
theorem q156 : (Jvm.Cond.methodLink "FactorFreeWordsLaw" (53 : Nat) ({ cls := "FactorFreeWords", name := "beginning", desc := "(II)I" } : Jvm.MethodName)) ∈ lw_all := lw_g (lw_at lw_m1 135 rfl) rfl
theorem q160 : (Jvm.Cond.methodLink "FactorFreeWordsLaw" (57 : Nat) ({ cls := "FactorFreeWords", name := "ending", desc := "(II)I" } : Jvm.MethodName)) ∈ lw_all := lw_g (lw_at lw_m1 139 rfl) rfl
theorem q168 : (Jvm.Cond.methodLink "FactorFreeWordsLaw" (61 : Nat) ({ cls := "FactorFreeWords", name := "standing", desc := "(II)I" } : Jvm.MethodName)) ∈ lw_all := lw_g (lw_at lw_m1 147 rfl) rfl
theorem q172 : (Jvm.Cond.methodLink "FactorFreeWordsLaw" (65 : Nat) ({ cls := "FactorFreeWords", name := "longest", desc := "()I" } : Jvm.MethodName)) ∈ lw_all := lw_g (lw_at lw_m1 151 rfl) rfl
theorem q176 : (Jvm.Cond.methodLink "FactorFreeWordsLaw" (69 : Nat) ({ cls := "FactorFreeWords", name := "choices", desc := "(II)I" } : Jvm.MethodName)) ∈ lw_all := lw_g (lw_at lw_m1 155 rfl) rfl
theorem q180 : (Jvm.Cond.methodLink "FactorFreeWordsLaw" (73 : Nat) ({ cls := "FactorFreeWords", name := "mirrored", desc := "(I)I" } : Jvm.MethodName)) ∈ lw_all := lw_g (lw_at lw_m1 159 rfl) rfl
theorem q187 : (Jvm.Cond.classLink "FactorFreeWordsLaw" (10 : Nat) "FactorFreeWordsModel") ∈ lw_all := lw_g (lw_at lw_m1 166 rfl) rfl
theorem q189 : (Jvm.Cond.methodLink "FactorFreeWordsLaw" (12 : Nat) ({ cls := "FactorFreeWordsModel", name := "<init>", desc := "()V" } : Jvm.MethodName)) ∈ lw_all := lw_g (lw_at lw_m1 168 rfl) rfl
theorem q207 : (Jvm.Cond.methodLink "FactorFreeWordsLaw" (17 : Nat) ({ cls := "FactorFreeWordsModel", name := "forbid", desc := "(I)I" } : Jvm.MethodName)) ∈ lw_all := lw_g (lw_at lw_m1 186 rfl) rfl
theorem q215 : (Jvm.Cond.methodLink "FactorFreeWordsLaw" (21 : Nat) ({ cls := "FactorFreeWordsModel", name := "permit", desc := "(I)I" } : Jvm.MethodName)) ∈ lw_all := lw_g (lw_at lw_m1 194 rfl) rfl
theorem q219 : (Jvm.Cond.methodLink "FactorFreeWordsLaw" (26 : Nat) ({ cls := "FactorFreeWordsModel", name := "pieces", desc := "()I" } : Jvm.MethodName)) ∈ lw_all := lw_g (lw_at lw_m1 198 rfl) rfl
theorem q223 : (Jvm.Cond.methodLink "FactorFreeWordsLaw" (31 : Nat) ({ cls := "FactorFreeWordsModel", name := "allowed", desc := "(II)I" } : Jvm.MethodName)) ∈ lw_all := lw_g (lw_at lw_m1 202 rfl) rfl
theorem q243 : (Jvm.Cond.methodLink "FactorFreeWordsLaw" (36 : Nat) ({ cls := "FactorFreeWordsModel", name := "count", desc := "(I)J" } : Jvm.MethodName)) ∈ lw_all := lw_g (lw_at lw_m1 222 rfl) rfl
theorem q256 : (Jvm.Cond.methodLink "FactorFreeWordsLaw" (40 : Nat) ({ cls := "FactorFreeWordsModel", name := "countWith", desc := "(II)I" } : Jvm.MethodName)) ∈ lw_all := lw_g (lw_at lw_m1 235 rfl) rfl
theorem q264 : (Jvm.Cond.methodLink "FactorFreeWordsLaw" (44 : Nat) ({ cls := "FactorFreeWordsModel", name := "rank", desc := "(II)I" } : Jvm.MethodName)) ∈ lw_all := lw_g (lw_at lw_m2 3 rfl) rfl
theorem q268 : (Jvm.Cond.methodLink "FactorFreeWordsLaw" (48 : Nat) ({ cls := "FactorFreeWordsModel", name := "word", desc := "(II)I" } : Jvm.MethodName)) ∈ lw_all := lw_g (lw_at lw_m2 7 rfl) rfl
theorem q272 : (Jvm.Cond.methodLink "FactorFreeWordsLaw" (52 : Nat) ({ cls := "FactorFreeWordsModel", name := "next", desc := "(II)I" } : Jvm.MethodName)) ∈ lw_all := lw_g (lw_at lw_m2 11 rfl) rfl
theorem q276 : (Jvm.Cond.methodLink "FactorFreeWordsLaw" (56 : Nat) ({ cls := "FactorFreeWordsModel", name := "beginning", desc := "(II)I" } : Jvm.MethodName)) ∈ lw_all := lw_g (lw_at lw_m2 15 rfl) rfl
theorem q280 : (Jvm.Cond.methodLink "FactorFreeWordsLaw" (60 : Nat) ({ cls := "FactorFreeWordsModel", name := "ending", desc := "(II)I" } : Jvm.MethodName)) ∈ lw_all := lw_g (lw_at lw_m2 19 rfl) rfl
theorem q288 : (Jvm.Cond.methodLink "FactorFreeWordsLaw" (64 : Nat) ({ cls := "FactorFreeWordsModel", name := "standing", desc := "(II)I" } : Jvm.MethodName)) ∈ lw_all := lw_g (lw_at lw_m2 27 rfl) rfl
theorem q296 : (Jvm.Cond.methodLink "FactorFreeWordsLaw" (68 : Nat) ({ cls := "FactorFreeWordsModel", name := "longest", desc := "()I" } : Jvm.MethodName)) ∈ lw_all := lw_g (lw_at lw_m2 35 rfl) rfl
theorem q300 : (Jvm.Cond.methodLink "FactorFreeWordsLaw" (72 : Nat) ({ cls := "FactorFreeWordsModel", name := "choices", desc := "(II)I" } : Jvm.MethodName)) ∈ lw_all := lw_g (lw_at lw_m2 39 rfl) rfl
theorem q304 : (Jvm.Cond.methodLink "FactorFreeWordsLaw" (76 : Nat) ({ cls := "FactorFreeWordsModel", name := "mirrored", desc := "(I)I" } : Jvm.MethodName)) ∈ lw_all := lw_g (lw_at lw_m2 43 rfl) rfl
end
section
set_option maxRecDepth 100000
theorem dX0_init_0 : decode cX0_init 0 = .ok (.aload_n 0, 1) := by decide +kernel
theorem dX0_init_1 : decode cX0_init 1 = .ok (.invokespecial 1, 3) := by decide +kernel
theorem dX0_init_4 : decode cX0_init 4 = .ok (.aload_n 0, 1) := by decide +kernel
theorem dX0_init_5 : decode cX0_init 5 = .ok (.bipush 6, 2) := by decide +kernel
theorem dX0_init_7 : decode cX0_init 7 = .ok (.newarray .int, 2) := by decide +kernel
theorem dX0_init_9 : decode cX0_init 9 = .ok (.putfield 7, 3) := by decide +kernel
theorem dX0_init_12 : decode cX0_init 12 = .ok (.aload_n 0, 1) := by decide +kernel
theorem dX0_init_13 : decode cX0_init 13 = .ok (.bipush 26, 2) := by decide +kernel
theorem dX0_init_15 : decode cX0_init 15 = .ok (.newarray .int, 2) := by decide +kernel
theorem dX0_init_17 : decode cX0_init 17 = .ok (.putfield 13, 3) := by decide +kernel
theorem dX0_init_20 : decode cX0_init 20 = .ok (.aload_n 0, 1) := by decide +kernel
theorem dX0_init_21 : decode cX0_init 21 = .ok (.bipush 78, 2) := by decide +kernel
theorem dX0_init_23 : decode cX0_init 23 = .ok (.newarray .int, 2) := by decide +kernel
theorem dX0_init_25 : decode cX0_init 25 = .ok (.putfield 16, 3) := by decide +kernel
theorem dX0_init_28 : decode cX0_init 28 = .ok (.aload_n 0, 1) := by decide +kernel
theorem dX0_init_29 : decode cX0_init 29 = .ok (.sipush 806, 3) := by decide +kernel
theorem dX0_init_32 : decode cX0_init 32 = .ok (.newarray .long, 2) := by decide +kernel
theorem dX0_init_34 : decode cX0_init 34 = .ok (.putfield 19, 3) := by decide +kernel
theorem dX0_init_37 : decode cX0_init 37 = .ok (.aload_n 0, 1) := by decide +kernel
theorem dX0_init_38 : decode cX0_init 38 = .ok (.bipush 26, 2) := by decide +kernel
theorem dX0_init_40 : decode cX0_init 40 = .ok (.newarray .long, 2) := by decide +kernel
theorem dX0_init_42 : decode cX0_init 42 = .ok (.putfield 23, 3) := by decide +kernel
theorem dX0_init_45 : decode cX0_init 45 = .ok (.aload_n 0, 1) := by decide +kernel
theorem dX0_init_46 : decode cX0_init 46 = .ok (.bipush 26, 2) := by decide +kernel
theorem dX0_init_48 : decode cX0_init 48 = .ok (.newarray .long, 2) := by decide +kernel
theorem dX0_init_50 : decode cX0_init 50 = .ok (.putfield 26, 3) := by decide +kernel
theorem dX0_init_53 : decode cX0_init 53 = .ok (.aload_n 0, 1) := by decide +kernel
theorem dX0_init_54 : decode cX0_init 54 = .ok (.sipush 260, 3) := by decide +kernel
theorem dX0_init_57 : decode cX0_init 57 = .ok (.newarray .int, 2) := by decide +kernel
theorem dX0_init_59 : decode cX0_init 59 = .ok (.putfield 29, 3) := by decide +kernel
theorem dX0_init_62 : decode cX0_init 62 = .ok (.aload_n 0, 1) := by decide +kernel
theorem dX0_init_63 : decode cX0_init 63 = .ok (.sipush 260, 3) := by decide +kernel
theorem dX0_init_66 : decode cX0_init 66 = .ok (.newarray .int, 2) := by decide +kernel
theorem dX0_init_68 : decode cX0_init 68 = .ok (.putfield 32, 3) := by decide +kernel
theorem dX0_init_71 : decode cX0_init 71 = .ok (.aload_n 0, 1) := by decide +kernel
theorem dX0_init_72 : decode cX0_init 72 = .ok (.iconst 0, 1) := by decide +kernel
theorem dX0_init_73 : decode cX0_init 73 = .ok (.putfield 35, 3) := by decide +kernel
theorem dX0_init_76 : decode cX0_init 76 = .ok (.return_, 1) := by decide +kernel
theorem dX0_forbid_0 : decode cX0_forbid 0 = .ok (.iload_n 1, 1) := by decide +kernel
theorem dX0_forbid_1 : decode cX0_forbid 1 = .ok (.invokestatic 39, 3) := by decide +kernel
theorem dX0_forbid_4 : decode cX0_forbid 4 = .ok (.ifCond .ne 5, 3) := by decide +kernel
theorem dX0_forbid_7 : decode cX0_forbid 7 = .ok (.iconst (-1), 1) := by decide +kernel
theorem dX0_forbid_8 : decode cX0_forbid 8 = .ok (.ireturn, 1) := by decide +kernel
theorem dX0_forbid_9 : decode cX0_forbid 9 = .ok (.aload_n 0, 1) := by decide +kernel
theorem dX0_forbid_10 : decode cX0_forbid 10 = .ok (.iload_n 1, 1) := by decide +kernel
theorem dX0_forbid_11 : decode cX0_forbid 11 = .ok (.invokevirtual 43, 3) := by decide +kernel
theorem dX0_forbid_14 : decode cX0_forbid 14 = .ok (.istore_n 2, 1) := by decide +kernel
theorem dX0_forbid_15 : decode cX0_forbid 15 = .ok (.iload_n 2, 1) := by decide +kernel
theorem dX0_forbid_16 : decode cX0_forbid 16 = .ok (.ifCond .lt 6, 3) := by decide +kernel
theorem dX0_forbid_19 : decode cX0_forbid 19 = .ok (.bipush (-2), 2) := by decide +kernel
theorem dX0_forbid_21 : decode cX0_forbid 21 = .ok (.ireturn, 1) := by decide +kernel
theorem dX0_forbid_22 : decode cX0_forbid 22 = .ok (.aload_n 0, 1) := by decide +kernel
theorem dX0_forbid_23 : decode cX0_forbid 23 = .ok (.getfield 47, 3) := by decide +kernel
theorem dX0_forbid_26 : decode cX0_forbid 26 = .ok (.bipush 6, 2) := by decide +kernel
theorem dX0_forbid_28 : decode cX0_forbid 28 = .ok (.if_icmp .ne 6, 3) := by decide +kernel
theorem dX0_forbid_31 : decode cX0_forbid 31 = .ok (.bipush (-3), 2) := by decide +kernel
theorem dX0_forbid_33 : decode cX0_forbid 33 = .ok (.ireturn, 1) := by decide +kernel
theorem dX0_forbid_34 : decode cX0_forbid 34 = .ok (.aload_n 0, 1) := by decide +kernel
theorem dX0_forbid_35 : decode cX0_forbid 35 = .ok (.getfield 7, 3) := by decide +kernel
theorem dX0_forbid_38 : decode cX0_forbid 38 = .ok (.aload_n 0, 1) := by decide +kernel
theorem dX0_forbid_39 : decode cX0_forbid 39 = .ok (.getfield 47, 3) := by decide +kernel
theorem dX0_forbid_42 : decode cX0_forbid 42 = .ok (.iload_n 1, 1) := by decide +kernel
theorem dX0_forbid_43 : decode cX0_forbid 43 = .ok (.iastore, 1) := by decide +kernel
theorem dX0_forbid_44 : decode cX0_forbid 44 = .ok (.aload_n 0, 1) := by decide +kernel
theorem dX0_forbid_45 : decode cX0_forbid 45 = .ok (.dup, 1) := by decide +kernel
theorem dX0_forbid_46 : decode cX0_forbid 46 = .ok (.getfield 47, 3) := by decide +kernel
theorem dX0_forbid_49 : decode cX0_forbid 49 = .ok (.iconst 1, 1) := by decide +kernel
theorem dX0_forbid_50 : decode cX0_forbid 50 = .ok (.iadd, 1) := by decide +kernel
theorem dX0_forbid_51 : decode cX0_forbid 51 = .ok (.putfield 47, 3) := by decide +kernel
theorem dX0_forbid_54 : decode cX0_forbid 54 = .ok (.aload_n 0, 1) := by decide +kernel
theorem dX0_forbid_55 : decode cX0_forbid 55 = .ok (.iconst 0, 1) := by decide +kernel
theorem dX0_forbid_56 : decode cX0_forbid 56 = .ok (.putfield 35, 3) := by decide +kernel
theorem dX0_forbid_59 : decode cX0_forbid 59 = .ok (.aload_n 0, 1) := by decide +kernel
theorem dX0_forbid_60 : decode cX0_forbid 60 = .ok (.getfield 47, 3) := by decide +kernel
theorem dX0_forbid_63 : decode cX0_forbid 63 = .ok (.ireturn, 1) := by decide +kernel
theorem dX0_isPiece_0 : decode cX0_isPiece 0 = .ok (.iload_n 0, 1) := by decide +kernel
theorem dX0_isPiece_1 : decode cX0_isPiece 1 = .ok (.invokestatic 82, 3) := by decide +kernel
theorem dX0_isPiece_4 : decode cX0_isPiece 4 = .ok (.istore_n 1, 1) := by decide +kernel
theorem dX0_isPiece_5 : decode cX0_isPiece 5 = .ok (.iload_n 0, 1) := by decide +kernel
theorem dX0_isPiece_6 : decode cX0_isPiece 6 = .ok (.iload_n 1, 1) := by decide +kernel
theorem dX0_isPiece_7 : decode cX0_isPiece 7 = .ok (.invokestatic 79, 3) := by decide +kernel
theorem dX0_isPiece_10 : decode cX0_isPiece 10 = .ok (.if_icmp .lt 17, 3) := by decide +kernel
theorem dX0_isPiece_13 : decode cX0_isPiece 13 = .ok (.iload_n 0, 1) := by decide +kernel
theorem dX0_isPiece_14 : decode cX0_isPiece 14 = .ok (.iconst 2, 1) := by decide +kernel
theorem dX0_isPiece_15 : decode cX0_isPiece 15 = .ok (.iload_n 1, 1) := by decide +kernel
theorem dX0_isPiece_16 : decode cX0_isPiece 16 = .ok (.invokestatic 79, 3) := by decide +kernel
theorem dX0_isPiece_19 : decode cX0_isPiece 19 = .ok (.imul, 1) := by decide +kernel
theorem dX0_isPiece_20 : decode cX0_isPiece 20 = .ok (.if_icmp .ge 7, 3) := by decide +kernel
theorem dX0_isPiece_23 : decode cX0_isPiece 23 = .ok (.iconst 1, 1) := by decide +kernel
theorem dX0_isPiece_24 : decode cX0_isPiece 24 = .ok (.goto 4, 3) := by decide +kernel
theorem dX0_isPiece_27 : decode cX0_isPiece 27 = .ok (.iconst 0, 1) := by decide +kernel
theorem dX0_isPiece_28 : decode cX0_isPiece 28 = .ok (.ireturn, 1) := by decide +kernel
theorem dX0_sizeOf_0 : decode cX0_sizeOf 0 = .ok (.iconst 1, 1) := by decide +kernel
theorem dX0_sizeOf_1 : decode cX0_sizeOf 1 = .ok (.istore_n 1, 1) := by decide +kernel
theorem dX0_sizeOf_2 : decode cX0_sizeOf 2 = .ok (.iload_n 1, 1) := by decide +kernel
theorem dX0_sizeOf_3 : decode cX0_sizeOf 3 = .ok (.iconst 4, 1) := by decide +kernel
theorem dX0_sizeOf_4 : decode cX0_sizeOf 4 = .ok (.if_icmp .ge 19, 3) := by decide +kernel
theorem dX0_sizeOf_7 : decode cX0_sizeOf 7 = .ok (.iload_n 0, 1) := by decide +kernel
theorem dX0_sizeOf_8 : decode cX0_sizeOf 8 = .ok (.iconst 2, 1) := by decide +kernel
theorem dX0_sizeOf_9 : decode cX0_sizeOf 9 = .ok (.iload_n 1, 1) := by decide +kernel
theorem dX0_sizeOf_10 : decode cX0_sizeOf 10 = .ok (.invokestatic 79, 3) := by decide +kernel
theorem dX0_sizeOf_13 : decode cX0_sizeOf 13 = .ok (.imul, 1) := by decide +kernel
theorem dX0_sizeOf_14 : decode cX0_sizeOf 14 = .ok (.if_icmp .lt 9, 3) := by decide +kernel
theorem dX0_sizeOf_17 : decode cX0_sizeOf 17 = .ok (.iinc 1 1, 3) := by decide +kernel
theorem dX0_sizeOf_20 : decode cX0_sizeOf 20 = .ok (.goto (-18), 3) := by decide +kernel
theorem dX0_sizeOf_23 : decode cX0_sizeOf 23 = .ok (.iload_n 1, 1) := by decide +kernel
theorem dX0_sizeOf_24 : decode cX0_sizeOf 24 = .ok (.ireturn, 1) := by decide +kernel
theorem dX0_power_0 : decode cX0_power 0 = .ok (.iconst 1, 1) := by decide +kernel
theorem dX0_power_1 : decode cX0_power 1 = .ok (.istore_n 1, 1) := by decide +kernel
theorem dX0_power_2 : decode cX0_power 2 = .ok (.iconst 0, 1) := by decide +kernel
theorem dX0_power_3 : decode cX0_power 3 = .ok (.istore_n 2, 1) := by decide +kernel
theorem dX0_power_4 : decode cX0_power 4 = .ok (.iload_n 2, 1) := by decide +kernel
theorem dX0_power_5 : decode cX0_power 5 = .ok (.iload_n 0, 1) := by decide +kernel
theorem dX0_power_6 : decode cX0_power 6 = .ok (.if_icmp .ge 13, 3) := by decide +kernel
theorem dX0_power_9 : decode cX0_power 9 = .ok (.iload_n 1, 1) := by decide +kernel
theorem dX0_power_10 : decode cX0_power 10 = .ok (.iconst 3, 1) := by decide +kernel
theorem dX0_power_11 : decode cX0_power 11 = .ok (.imul, 1) := by decide +kernel
theorem dX0_power_12 : decode cX0_power 12 = .ok (.istore_n 1, 1) := by decide +kernel
theorem dX0_power_13 : decode cX0_power 13 = .ok (.iinc 2 1, 3) := by decide +kernel
theorem dX0_power_16 : decode cX0_power 16 = .ok (.goto (-12), 3) := by decide +kernel
theorem dX0_power_19 : decode cX0_power 19 = .ok (.iload_n 1, 1) := by decide +kernel
theorem dX0_power_20 : decode cX0_power 20 = .ok (.ireturn, 1) := by decide +kernel
theorem dX0_place_0 : decode cX0_place 0 = .ok (.iconst 0, 1) := by decide +kernel
theorem dX0_place_1 : decode cX0_place 1 = .ok (.istore_n 2, 1) := by decide +kernel
theorem dX0_place_2 : decode cX0_place 2 = .ok (.iload_n 2, 1) := by decide +kernel
theorem dX0_place_3 : decode cX0_place 3 = .ok (.aload_n 0, 1) := by decide +kernel
theorem dX0_place_4 : decode cX0_place 4 = .ok (.getfield 47, 3) := by decide +kernel
theorem dX0_place_7 : decode cX0_place 7 = .ok (.if_icmp .ge 21, 3) := by decide +kernel
theorem dX0_place_10 : decode cX0_place 10 = .ok (.aload_n 0, 1) := by decide +kernel
theorem dX0_place_11 : decode cX0_place 11 = .ok (.getfield 7, 3) := by decide +kernel
theorem dX0_place_14 : decode cX0_place 14 = .ok (.iload_n 2, 1) := by decide +kernel
theorem dX0_place_15 : decode cX0_place 15 = .ok (.iaload, 1) := by decide +kernel
theorem dX0_place_16 : decode cX0_place 16 = .ok (.iload_n 1, 1) := by decide +kernel
theorem dX0_place_17 : decode cX0_place 17 = .ok (.if_icmp .ne 5, 3) := by decide +kernel
theorem dX0_place_20 : decode cX0_place 20 = .ok (.iload_n 2, 1) := by decide +kernel
theorem dX0_place_21 : decode cX0_place 21 = .ok (.ireturn, 1) := by decide +kernel
theorem dX0_place_22 : decode cX0_place 22 = .ok (.iinc 2 1, 3) := by decide +kernel
theorem dX0_place_25 : decode cX0_place 25 = .ok (.goto (-23), 3) := by decide +kernel
theorem dX0_place_28 : decode cX0_place 28 = .ok (.iconst (-1), 1) := by decide +kernel
theorem dX0_place_29 : decode cX0_place 29 = .ok (.ireturn, 1) := by decide +kernel
theorem dX0_permit_0 : decode cX0_permit 0 = .ok (.aload_n 0, 1) := by decide +kernel
theorem dX0_permit_1 : decode cX0_permit 1 = .ok (.iload_n 1, 1) := by decide +kernel
theorem dX0_permit_2 : decode cX0_permit 2 = .ok (.invokevirtual 43, 3) := by decide +kernel
theorem dX0_permit_5 : decode cX0_permit 5 = .ok (.istore_n 2, 1) := by decide +kernel
theorem dX0_permit_6 : decode cX0_permit 6 = .ok (.iload_n 2, 1) := by decide +kernel
theorem dX0_permit_7 : decode cX0_permit 7 = .ok (.ifCond .ge 5, 3) := by decide +kernel
theorem dX0_permit_10 : decode cX0_permit 10 = .ok (.iconst (-1), 1) := by decide +kernel
theorem dX0_permit_11 : decode cX0_permit 11 = .ok (.ireturn, 1) := by decide +kernel
theorem dX0_permit_12 : decode cX0_permit 12 = .ok (.iload_n 2, 1) := by decide +kernel
theorem dX0_permit_13 : decode cX0_permit 13 = .ok (.iconst 1, 1) := by decide +kernel
theorem dX0_permit_14 : decode cX0_permit 14 = .ok (.iadd, 1) := by decide +kernel
theorem dX0_permit_15 : decode cX0_permit 15 = .ok (.istore_n 3, 1) := by decide +kernel
theorem dX0_permit_16 : decode cX0_permit 16 = .ok (.iload_n 3, 1) := by decide +kernel
theorem dX0_permit_17 : decode cX0_permit 17 = .ok (.aload_n 0, 1) := by decide +kernel
theorem dX0_permit_18 : decode cX0_permit 18 = .ok (.getfield 47, 3) := by decide +kernel
theorem dX0_permit_21 : decode cX0_permit 21 = .ok (.if_icmp .ge 23, 3) := by decide +kernel
theorem dX0_permit_24 : decode cX0_permit 24 = .ok (.aload_n 0, 1) := by decide +kernel
theorem dX0_permit_25 : decode cX0_permit 25 = .ok (.getfield 7, 3) := by decide +kernel
theorem dX0_permit_28 : decode cX0_permit 28 = .ok (.iload_n 3, 1) := by decide +kernel
theorem dX0_permit_29 : decode cX0_permit 29 = .ok (.iconst 1, 1) := by decide +kernel
theorem dX0_permit_30 : decode cX0_permit 30 = .ok (.isub, 1) := by decide +kernel
theorem dX0_permit_31 : decode cX0_permit 31 = .ok (.aload_n 0, 1) := by decide +kernel
theorem dX0_permit_32 : decode cX0_permit 32 = .ok (.getfield 7, 3) := by decide +kernel
theorem dX0_permit_35 : decode cX0_permit 35 = .ok (.iload_n 3, 1) := by decide +kernel
theorem dX0_permit_36 : decode cX0_permit 36 = .ok (.iaload, 1) := by decide +kernel
theorem dX0_permit_37 : decode cX0_permit 37 = .ok (.iastore, 1) := by decide +kernel
theorem dX0_permit_38 : decode cX0_permit 38 = .ok (.iinc 3 1, 3) := by decide +kernel
theorem dX0_permit_41 : decode cX0_permit 41 = .ok (.goto (-25), 3) := by decide +kernel
theorem dX0_permit_44 : decode cX0_permit 44 = .ok (.aload_n 0, 1) := by decide +kernel
theorem dX0_permit_45 : decode cX0_permit 45 = .ok (.dup, 1) := by decide +kernel
theorem dX0_permit_46 : decode cX0_permit 46 = .ok (.getfield 47, 3) := by decide +kernel
theorem dX0_permit_49 : decode cX0_permit 49 = .ok (.iconst 1, 1) := by decide +kernel
theorem dX0_permit_50 : decode cX0_permit 50 = .ok (.isub, 1) := by decide +kernel
theorem dX0_permit_51 : decode cX0_permit 51 = .ok (.putfield 47, 3) := by decide +kernel
theorem dX0_permit_54 : decode cX0_permit 54 = .ok (.aload_n 0, 1) := by decide +kernel
theorem dX0_permit_55 : decode cX0_permit 55 = .ok (.iconst 0, 1) := by decide +kernel
theorem dX0_permit_56 : decode cX0_permit 56 = .ok (.putfield 35, 3) := by decide +kernel
theorem dX0_permit_59 : decode cX0_permit 59 = .ok (.aload_n 0, 1) := by decide +kernel
theorem dX0_permit_60 : decode cX0_permit 60 = .ok (.getfield 47, 3) := by decide +kernel
theorem dX0_permit_63 : decode cX0_permit 63 = .ok (.ireturn, 1) := by decide +kernel
theorem dX0_pieces_0 : decode cX0_pieces 0 = .ok (.aload_n 0, 1) := by decide +kernel
theorem dX0_pieces_1 : decode cX0_pieces 1 = .ok (.getfield 47, 3) := by decide +kernel
theorem dX0_pieces_4 : decode cX0_pieces 4 = .ok (.ireturn, 1) := by decide +kernel
theorem dX0_allowed_0 : decode cX0_allowed 0 = .ok (.iload_n 1, 1) := by decide +kernel
theorem dX0_allowed_1 : decode cX0_allowed 1 = .ok (.iload_n 2, 1) := by decide +kernel
theorem dX0_allowed_2 : decode cX0_allowed 2 = .ok (.invokestatic 51, 3) := by decide +kernel
theorem dX0_allowed_5 : decode cX0_allowed 5 = .ok (.istore_n 3, 1) := by decide +kernel
theorem dX0_allowed_6 : decode cX0_allowed 6 = .ok (.iload_n 3, 1) := by decide +kernel
theorem dX0_allowed_7 : decode cX0_allowed 7 = .ok (.ifCond .ge 5, 3) := by decide +kernel
theorem dX0_allowed_10 : decode cX0_allowed 10 = .ok (.iload_n 3, 1) := by decide +kernel
theorem dX0_allowed_11 : decode cX0_allowed 11 = .ok (.ireturn, 1) := by decide +kernel
theorem dX0_allowed_12 : decode cX0_allowed 12 = .ok (.aload_n 0, 1) := by decide +kernel
theorem dX0_allowed_13 : decode cX0_allowed 13 = .ok (.invokevirtual 55, 3) := by decide +kernel
theorem dX0_allowed_16 : decode cX0_allowed 16 = .ok (.aload_n 0, 1) := by decide +kernel
theorem dX0_allowed_17 : decode cX0_allowed 17 = .ok (.iconst 0, 1) := by decide +kernel
theorem dX0_allowed_18 : decode cX0_allowed 18 = .ok (.iload_n 1, 1) := by decide +kernel
theorem dX0_allowed_19 : decode cX0_allowed 19 = .ok (.iload_n 2, 1) := by decide +kernel
theorem dX0_allowed_20 : decode cX0_allowed 20 = .ok (.invokevirtual 58, 3) := by decide +kernel
theorem dX0_allowed_23 : decode cX0_allowed 23 = .ok (.bipush 25, 2) := by decide +kernel
theorem dX0_allowed_25 : decode cX0_allowed 25 = .ok (.if_icmp .ne 7, 3) := by decide +kernel
theorem dX0_allowed_28 : decode cX0_allowed 28 = .ok (.iconst 0, 1) := by decide +kernel
theorem dX0_allowed_29 : decode cX0_allowed 29 = .ok (.goto 4, 3) := by decide +kernel
theorem dX0_allowed_32 : decode cX0_allowed 32 = .ok (.iconst 1, 1) := by decide +kernel
theorem dX0_allowed_33 : decode cX0_allowed 33 = .ok (.ireturn, 1) := by decide +kernel
theorem dX0_refused_0 : decode cX0_refused 0 = .ok (.iload_n 0, 1) := by decide +kernel
theorem dX0_refused_1 : decode cX0_refused 1 = .ok (.invokestatic 64, 3) := by decide +kernel
theorem dX0_refused_4 : decode cX0_refused 4 = .ok (.ifCond .ne 5, 3) := by decide +kernel
theorem dX0_refused_7 : decode cX0_refused 7 = .ok (.iconst (-1), 1) := by decide +kernel
theorem dX0_refused_8 : decode cX0_refused 8 = .ok (.ireturn, 1) := by decide +kernel
theorem dX0_refused_9 : decode cX0_refused 9 = .ok (.iload_n 1, 1) := by decide +kernel
theorem dX0_refused_10 : decode cX0_refused 10 = .ok (.ifCond .lt 11, 3) := by decide +kernel
theorem dX0_refused_13 : decode cX0_refused 13 = .ok (.iload_n 1, 1) := by decide +kernel
theorem dX0_refused_14 : decode cX0_refused 14 = .ok (.iload_n 0, 1) := by decide +kernel
theorem dX0_refused_15 : decode cX0_refused 15 = .ok (.invokestatic 79, 3) := by decide +kernel
theorem dX0_refused_18 : decode cX0_refused 18 = .ok (.if_icmp .lt 8, 3) := by decide +kernel
theorem dX0_refused_21 : decode cX0_refused 21 = .ok (.bipush (-2), 2) := by decide +kernel
theorem dX0_refused_23 : decode cX0_refused 23 = .ok (.goto 4, 3) := by decide +kernel
theorem dX0_refused_26 : decode cX0_refused 26 = .ok (.iconst 0, 1) := by decide +kernel
theorem dX0_refused_27 : decode cX0_refused 27 = .ok (.ireturn, 1) := by decide +kernel
theorem dX0_isLength_0 : decode cX0_isLength 0 = .ok (.iload_n 0, 1) := by decide +kernel
theorem dX0_isLength_1 : decode cX0_isLength 1 = .ok (.ifCond .lt 13, 3) := by decide +kernel
theorem dX0_isLength_4 : decode cX0_isLength 4 = .ok (.iload_n 0, 1) := by decide +kernel
theorem dX0_isLength_5 : decode cX0_isLength 5 = .ok (.bipush 9, 2) := by decide +kernel
theorem dX0_isLength_7 : decode cX0_isLength 7 = .ok (.if_icmp .gt 7, 3) := by decide +kernel
theorem dX0_isLength_10 : decode cX0_isLength 10 = .ok (.iconst 1, 1) := by decide +kernel
theorem dX0_isLength_11 : decode cX0_isLength 11 = .ok (.goto 4, 3) := by decide +kernel
theorem dX0_isLength_14 : decode cX0_isLength 14 = .ok (.iconst 0, 1) := by decide +kernel
theorem dX0_isLength_15 : decode cX0_isLength 15 = .ok (.ireturn, 1) := by decide +kernel
theorem dX0_build_0 : decode cX0_build 0 = .ok (.aload_n 0, 1) := by decide +kernel
theorem dX0_build_1 : decode cX0_build 1 = .ok (.getfield 35, 3) := by decide +kernel
theorem dX0_build_4 : decode cX0_build 4 = .ok (.ifCond .eq 4, 3) := by decide +kernel
theorem dX0_build_7 : decode cX0_build 7 = .ok (.return_, 1) := by decide +kernel
theorem dX0_build_8 : decode cX0_build 8 = .ok (.aload_n 0, 1) := by decide +kernel
theorem dX0_build_9 : decode cX0_build 9 = .ok (.iconst 1, 1) := by decide +kernel
theorem dX0_build_10 : decode cX0_build 10 = .ok (.putfield 35, 3) := by decide +kernel
theorem dX0_build_13 : decode cX0_build 13 = .ok (.aload_n 0, 1) := by decide +kernel
theorem dX0_build_14 : decode cX0_build 14 = .ok (.iconst 1, 1) := by decide +kernel
theorem dX0_build_15 : decode cX0_build 15 = .ok (.putfield 70, 3) := by decide +kernel
theorem dX0_build_18 : decode cX0_build 18 = .ok (.aload_n 0, 1) := by decide +kernel
theorem dX0_build_19 : decode cX0_build 19 = .ok (.getfield 13, 3) := by decide +kernel
theorem dX0_build_22 : decode cX0_build 22 = .ok (.iconst 0, 1) := by decide +kernel
theorem dX0_build_23 : decode cX0_build 23 = .ok (.iconst 1, 1) := by decide +kernel
theorem dX0_build_24 : decode cX0_build 24 = .ok (.iastore, 1) := by decide +kernel
theorem dX0_build_25 : decode cX0_build 25 = .ok (.iconst 0, 1) := by decide +kernel
theorem dX0_build_26 : decode cX0_build 26 = .ok (.istore_n 1, 1) := by decide +kernel
theorem dX0_build_27 : decode cX0_build 27 = .ok (.iload_n 1, 1) := by decide +kernel
theorem dX0_build_28 : decode cX0_build 28 = .ok (.aload_n 0, 1) := by decide +kernel
theorem dX0_build_29 : decode cX0_build 29 = .ok (.getfield 47, 3) := by decide +kernel
theorem dX0_build_32 : decode cX0_build 32 = .ok (.if_icmp .ge 77, 3) := by decide +kernel
theorem dX0_build_35 : decode cX0_build 35 = .ok (.aload_n 0, 1) := by decide +kernel
theorem dX0_build_36 : decode cX0_build 36 = .ok (.getfield 7, 3) := by decide +kernel
theorem dX0_build_39 : decode cX0_build 39 = .ok (.iload_n 1, 1) := by decide +kernel
theorem dX0_build_40 : decode cX0_build 40 = .ok (.iaload, 1) := by decide +kernel
theorem dX0_build_41 : decode cX0_build 41 = .ok (.invokestatic 82, 3) := by decide +kernel
theorem dX0_build_44 : decode cX0_build 44 = .ok (.istore_n 2, 1) := by decide +kernel
theorem dX0_build_45 : decode cX0_build 45 = .ok (.iload_n 2, 1) := by decide +kernel
theorem dX0_build_46 : decode cX0_build 46 = .ok (.iconst 1, 1) := by decide +kernel
theorem dX0_build_47 : decode cX0_build 47 = .ok (.isub, 1) := by decide +kernel
theorem dX0_build_48 : decode cX0_build 48 = .ok (.istore_n 3, 1) := by decide +kernel
theorem dX0_build_49 : decode cX0_build 49 = .ok (.iload_n 3, 1) := by decide +kernel
theorem dX0_build_50 : decode cX0_build 50 = .ok (.iconst 1, 1) := by decide +kernel
theorem dX0_build_51 : decode cX0_build 51 = .ok (.if_icmp .lt 52, 3) := by decide +kernel
theorem dX0_build_54 : decode cX0_build 54 = .ok (.aload_n 0, 1) := by decide +kernel
theorem dX0_build_55 : decode cX0_build 55 = .ok (.getfield 7, 3) := by decide +kernel
theorem dX0_build_58 : decode cX0_build 58 = .ok (.iload_n 1, 1) := by decide +kernel
theorem dX0_build_59 : decode cX0_build 59 = .ok (.iaload, 1) := by decide +kernel
theorem dX0_build_60 : decode cX0_build 60 = .ok (.iload_n 3, 1) := by decide +kernel
theorem dX0_build_61 : decode cX0_build 61 = .ok (.invokestatic 79, 3) := by decide +kernel
theorem dX0_build_64 : decode cX0_build 64 = .ok (.idiv, 1) := by decide +kernel
theorem dX0_build_65 : decode cX0_build 65 = .ok (.istore 4, 2) := by decide +kernel
theorem dX0_build_67 : decode cX0_build 67 = .ok (.aload_n 0, 1) := by decide +kernel
theorem dX0_build_68 : decode cX0_build 68 = .ok (.iload 4, 2) := by decide +kernel
theorem dX0_build_70 : decode cX0_build 70 = .ok (.invokevirtual 92, 3) := by decide +kernel
theorem dX0_build_73 : decode cX0_build 73 = .ok (.ifCond .ge 24, 3) := by decide +kernel
theorem dX0_build_76 : decode cX0_build 76 = .ok (.aload_n 0, 1) := by decide +kernel
theorem dX0_build_77 : decode cX0_build 77 = .ok (.getfield 13, 3) := by decide +kernel
theorem dX0_build_80 : decode cX0_build 80 = .ok (.aload_n 0, 1) := by decide +kernel
theorem dX0_build_81 : decode cX0_build 81 = .ok (.getfield 70, 3) := by decide +kernel
theorem dX0_build_84 : decode cX0_build 84 = .ok (.iload 4, 2) := by decide +kernel
theorem dX0_build_86 : decode cX0_build 86 = .ok (.iastore, 1) := by decide +kernel
theorem dX0_build_87 : decode cX0_build 87 = .ok (.aload_n 0, 1) := by decide +kernel
theorem dX0_build_88 : decode cX0_build 88 = .ok (.dup, 1) := by decide +kernel
theorem dX0_build_89 : decode cX0_build 89 = .ok (.getfield 70, 3) := by decide +kernel
theorem dX0_build_92 : decode cX0_build 92 = .ok (.iconst 1, 1) := by decide +kernel
theorem dX0_build_93 : decode cX0_build 93 = .ok (.iadd, 1) := by decide +kernel
theorem dX0_build_94 : decode cX0_build 94 = .ok (.putfield 70, 3) := by decide +kernel
theorem dX0_build_97 : decode cX0_build 97 = .ok (.iinc 3 (-1), 3) := by decide +kernel
theorem dX0_build_100 : decode cX0_build 100 = .ok (.goto (-51), 3) := by decide +kernel
theorem dX0_build_103 : decode cX0_build 103 = .ok (.iinc 1 1, 3) := by decide +kernel
theorem dX0_build_106 : decode cX0_build 106 = .ok (.goto (-79), 3) := by decide +kernel
theorem dX0_build_109 : decode cX0_build 109 = .ok (.iconst 0, 1) := by decide +kernel
theorem dX0_build_110 : decode cX0_build 110 = .ok (.istore_n 1, 1) := by decide +kernel
theorem dX0_build_111 : decode cX0_build 111 = .ok (.iload_n 1, 1) := by decide +kernel
theorem dX0_build_112 : decode cX0_build 112 = .ok (.iconst 3, 1) := by decide +kernel
theorem dX0_build_113 : decode cX0_build 113 = .ok (.aload_n 0, 1) := by decide +kernel
theorem dX0_build_114 : decode cX0_build 114 = .ok (.getfield 70, 3) := by decide +kernel
theorem dX0_build_117 : decode cX0_build 117 = .ok (.imul, 1) := by decide +kernel
theorem dX0_build_118 : decode cX0_build 118 = .ok (.if_icmp .ge 33, 3) := by decide +kernel
theorem dX0_build_121 : decode cX0_build 121 = .ok (.aload_n 0, 1) := by decide +kernel
theorem dX0_build_122 : decode cX0_build 122 = .ok (.getfield 16, 3) := by decide +kernel
theorem dX0_build_125 : decode cX0_build 125 = .ok (.iload_n 1, 1) := by decide +kernel
theorem dX0_build_126 : decode cX0_build 126 = .ok (.aload_n 0, 1) := by decide +kernel
theorem dX0_build_127 : decode cX0_build 127 = .ok (.iconst 3, 1) := by decide +kernel
theorem dX0_build_128 : decode cX0_build 128 = .ok (.aload_n 0, 1) := by decide +kernel
theorem dX0_build_129 : decode cX0_build 129 = .ok (.getfield 13, 3) := by decide +kernel
theorem dX0_build_132 : decode cX0_build 132 = .ok (.iload_n 1, 1) := by decide +kernel
theorem dX0_build_133 : decode cX0_build 133 = .ok (.iconst 3, 1) := by decide +kernel
theorem dX0_build_134 : decode cX0_build 134 = .ok (.idiv, 1) := by decide +kernel
theorem dX0_build_135 : decode cX0_build 135 = .ok (.iaload, 1) := by decide +kernel
theorem dX0_build_136 : decode cX0_build 136 = .ok (.imul, 1) := by decide +kernel
theorem dX0_build_137 : decode cX0_build 137 = .ok (.iload_n 1, 1) := by decide +kernel
theorem dX0_build_138 : decode cX0_build 138 = .ok (.iconst 3, 1) := by decide +kernel
theorem dX0_build_139 : decode cX0_build 139 = .ok (.irem, 1) := by decide +kernel
theorem dX0_build_140 : decode cX0_build 140 = .ok (.iadd, 1) := by decide +kernel
theorem dX0_build_141 : decode cX0_build 141 = .ok (.invokevirtual 95, 3) := by decide +kernel
theorem dX0_build_144 : decode cX0_build 144 = .ok (.iastore, 1) := by decide +kernel
theorem dX0_build_145 : decode cX0_build 145 = .ok (.iinc 1 1, 3) := by decide +kernel
theorem dX0_build_148 : decode cX0_build 148 = .ok (.goto (-37), 3) := by decide +kernel
theorem dX0_build_151 : decode cX0_build 151 = .ok (.iconst 0, 1) := by decide +kernel
theorem dX0_build_152 : decode cX0_build 152 = .ok (.istore_n 1, 1) := by decide +kernel
theorem dX0_build_153 : decode cX0_build 153 = .ok (.iload_n 1, 1) := by decide +kernel
theorem dX0_build_154 : decode cX0_build 154 = .ok (.iconst 3, 1) := by decide +kernel
theorem dX0_build_155 : decode cX0_build 155 = .ok (.if_icmp .ge 20, 3) := by decide +kernel
theorem dX0_build_158 : decode cX0_build 158 = .ok (.aload_n 0, 1) := by decide +kernel
theorem dX0_build_159 : decode cX0_build 159 = .ok (.getfield 16, 3) := by decide +kernel
theorem dX0_build_162 : decode cX0_build 162 = .ok (.bipush 75, 2) := by decide +kernel
theorem dX0_build_164 : decode cX0_build 164 = .ok (.iload_n 1, 1) := by decide +kernel
theorem dX0_build_165 : decode cX0_build 165 = .ok (.iadd, 1) := by decide +kernel
theorem dX0_build_166 : decode cX0_build 166 = .ok (.bipush 25, 2) := by decide +kernel
theorem dX0_build_168 : decode cX0_build 168 = .ok (.iastore, 1) := by decide +kernel
theorem dX0_build_169 : decode cX0_build 169 = .ok (.iinc 1 1, 3) := by decide +kernel
theorem dX0_build_172 : decode cX0_build 172 = .ok (.goto (-19), 3) := by decide +kernel
theorem dX0_build_175 : decode cX0_build 175 = .ok (.aload_n 0, 1) := by decide +kernel
theorem dX0_build_176 : decode cX0_build 176 = .ok (.invokevirtual 98, 3) := by decide +kernel
theorem dX0_build_179 : decode cX0_build 179 = .ok (.return_, 1) := by decide +kernel
theorem dX0_stateOf_0 : decode cX0_stateOf 0 = .ok (.iconst 0, 1) := by decide +kernel
theorem dX0_stateOf_1 : decode cX0_stateOf 1 = .ok (.istore_n 2, 1) := by decide +kernel
theorem dX0_stateOf_2 : decode cX0_stateOf 2 = .ok (.iload_n 2, 1) := by decide +kernel
theorem dX0_stateOf_3 : decode cX0_stateOf 3 = .ok (.aload_n 0, 1) := by decide +kernel
theorem dX0_stateOf_4 : decode cX0_stateOf 4 = .ok (.getfield 70, 3) := by decide +kernel
theorem dX0_stateOf_7 : decode cX0_stateOf 7 = .ok (.if_icmp .ge 21, 3) := by decide +kernel
theorem dX0_stateOf_10 : decode cX0_stateOf 10 = .ok (.aload_n 0, 1) := by decide +kernel
theorem dX0_stateOf_11 : decode cX0_stateOf 11 = .ok (.getfield 13, 3) := by decide +kernel
theorem dX0_stateOf_14 : decode cX0_stateOf 14 = .ok (.iload_n 2, 1) := by decide +kernel
theorem dX0_stateOf_15 : decode cX0_stateOf 15 = .ok (.iaload, 1) := by decide +kernel
theorem dX0_stateOf_16 : decode cX0_stateOf 16 = .ok (.iload_n 1, 1) := by decide +kernel
theorem dX0_stateOf_17 : decode cX0_stateOf 17 = .ok (.if_icmp .ne 5, 3) := by decide +kernel
theorem dX0_stateOf_20 : decode cX0_stateOf 20 = .ok (.iload_n 2, 1) := by decide +kernel
theorem dX0_stateOf_21 : decode cX0_stateOf 21 = .ok (.ireturn, 1) := by decide +kernel
theorem dX0_stateOf_22 : decode cX0_stateOf 22 = .ok (.iinc 2 1, 3) := by decide +kernel
theorem dX0_stateOf_25 : decode cX0_stateOf 25 = .ok (.goto (-23), 3) := by decide +kernel
theorem dX0_stateOf_28 : decode cX0_stateOf 28 = .ok (.iconst (-1), 1) := by decide +kernel
theorem dX0_stateOf_29 : decode cX0_stateOf 29 = .ok (.ireturn, 1) := by decide +kernel
theorem dX0_target_0 : decode cX0_target 0 = .ok (.iconst 0, 1) := by decide +kernel
theorem dX0_target_1 : decode cX0_target 1 = .ok (.istore_n 2, 1) := by decide +kernel
theorem dX0_target_2 : decode cX0_target 2 = .ok (.iload_n 2, 1) := by decide +kernel
theorem dX0_target_3 : decode cX0_target 3 = .ok (.iconst 5, 1) := by decide +kernel
theorem dX0_target_4 : decode cX0_target 4 = .ok (.if_icmp .ge 19, 3) := by decide +kernel
theorem dX0_target_7 : decode cX0_target 7 = .ok (.iload_n 2, 1) := by decide +kernel
theorem dX0_target_8 : decode cX0_target 8 = .ok (.iconst 1, 1) := by decide +kernel
theorem dX0_target_9 : decode cX0_target 9 = .ok (.iadd, 1) := by decide +kernel
theorem dX0_target_10 : decode cX0_target 10 = .ok (.invokestatic 79, 3) := by decide +kernel
theorem dX0_target_13 : decode cX0_target 13 = .ok (.iload_n 1, 1) := by decide +kernel
theorem dX0_target_14 : decode cX0_target 14 = .ok (.if_icmp .gt 9, 3) := by decide +kernel
theorem dX0_target_17 : decode cX0_target 17 = .ok (.iinc 2 1, 3) := by decide +kernel
theorem dX0_target_20 : decode cX0_target 20 = .ok (.goto (-18), 3) := by decide +kernel
theorem dX0_target_23 : decode cX0_target 23 = .ok (.iload_n 2, 1) := by decide +kernel
theorem dX0_target_24 : decode cX0_target 24 = .ok (.invokestatic 79, 3) := by decide +kernel
theorem dX0_target_27 : decode cX0_target 27 = .ok (.iload_n 1, 1) := by decide +kernel
theorem dX0_target_28 : decode cX0_target 28 = .ok (.if_icmp .le 6, 3) := by decide +kernel
theorem dX0_target_31 : decode cX0_target 31 = .ok (.iinc 2 (-1), 3) := by decide +kernel
theorem dX0_target_34 : decode cX0_target 34 = .ok (.iload_n 1, 1) := by decide +kernel
theorem dX0_target_35 : decode cX0_target 35 = .ok (.iload_n 2, 1) := by decide +kernel
theorem dX0_target_36 : decode cX0_target 36 = .ok (.invokestatic 79, 3) := by decide +kernel
theorem dX0_target_39 : decode cX0_target 39 = .ok (.isub, 1) := by decide +kernel
theorem dX0_target_40 : decode cX0_target 40 = .ok (.istore_n 3, 1) := by decide +kernel
theorem dX0_target_41 : decode cX0_target 41 = .ok (.iconst 0, 1) := by decide +kernel
theorem dX0_target_42 : decode cX0_target 42 = .ok (.istore 4, 2) := by decide +kernel
theorem dX0_target_44 : decode cX0_target 44 = .ok (.iload 4, 2) := by decide +kernel
theorem dX0_target_46 : decode cX0_target 46 = .ok (.iload_n 2, 1) := by decide +kernel
theorem dX0_target_47 : decode cX0_target 47 = .ok (.if_icmp .ge 40, 3) := by decide +kernel
theorem dX0_target_50 : decode cX0_target 50 = .ok (.iload_n 2, 1) := by decide +kernel
theorem dX0_target_51 : decode cX0_target 51 = .ok (.iload 4, 2) := by decide +kernel
theorem dX0_target_53 : decode cX0_target 53 = .ok (.isub, 1) := by decide +kernel
theorem dX0_target_54 : decode cX0_target 54 = .ok (.invokestatic 79, 3) := by decide +kernel
theorem dX0_target_57 : decode cX0_target 57 = .ok (.iload_n 3, 1) := by decide +kernel
theorem dX0_target_58 : decode cX0_target 58 = .ok (.iload_n 2, 1) := by decide +kernel
theorem dX0_target_59 : decode cX0_target 59 = .ok (.iload 4, 2) := by decide +kernel
theorem dX0_target_61 : decode cX0_target 61 = .ok (.isub, 1) := by decide +kernel
theorem dX0_target_62 : decode cX0_target 62 = .ok (.invokestatic 79, 3) := by decide +kernel
theorem dX0_target_65 : decode cX0_target 65 = .ok (.irem, 1) := by decide +kernel
theorem dX0_target_66 : decode cX0_target 66 = .ok (.iadd, 1) := by decide +kernel
theorem dX0_target_67 : decode cX0_target 67 = .ok (.istore 5, 2) := by decide +kernel
theorem dX0_target_69 : decode cX0_target 69 = .ok (.aload_n 0, 1) := by decide +kernel
theorem dX0_target_70 : decode cX0_target 70 = .ok (.iload 5, 2) := by decide +kernel
theorem dX0_target_72 : decode cX0_target 72 = .ok (.invokevirtual 43, 3) := by decide +kernel
theorem dX0_target_75 : decode cX0_target 75 = .ok (.ifCond .lt 6, 3) := by decide +kernel
theorem dX0_target_78 : decode cX0_target 78 = .ok (.bipush 25, 2) := by decide +kernel
theorem dX0_target_80 : decode cX0_target 80 = .ok (.ireturn, 1) := by decide +kernel
theorem dX0_target_81 : decode cX0_target 81 = .ok (.iinc 4 1, 3) := by decide +kernel
theorem dX0_target_84 : decode cX0_target 84 = .ok (.goto (-40), 3) := by decide +kernel
theorem dX0_target_87 : decode cX0_target 87 = .ok (.iconst 0, 1) := by decide +kernel
theorem dX0_target_88 : decode cX0_target 88 = .ok (.istore 4, 2) := by decide +kernel
theorem dX0_target_90 : decode cX0_target 90 = .ok (.iload 4, 2) := by decide +kernel
theorem dX0_target_92 : decode cX0_target 92 = .ok (.iload_n 2, 1) := by decide +kernel
theorem dX0_target_93 : decode cX0_target 93 = .ok (.if_icmp .ge 44, 3) := by decide +kernel
theorem dX0_target_96 : decode cX0_target 96 = .ok (.iload_n 2, 1) := by decide +kernel
theorem dX0_target_97 : decode cX0_target 97 = .ok (.iload 4, 2) := by decide +kernel
theorem dX0_target_99 : decode cX0_target 99 = .ok (.isub, 1) := by decide +kernel
theorem dX0_target_100 : decode cX0_target 100 = .ok (.invokestatic 79, 3) := by decide +kernel
theorem dX0_target_103 : decode cX0_target 103 = .ok (.iload_n 3, 1) := by decide +kernel
theorem dX0_target_104 : decode cX0_target 104 = .ok (.iload_n 2, 1) := by decide +kernel
theorem dX0_target_105 : decode cX0_target 105 = .ok (.iload 4, 2) := by decide +kernel
theorem dX0_target_107 : decode cX0_target 107 = .ok (.isub, 1) := by decide +kernel
theorem dX0_target_108 : decode cX0_target 108 = .ok (.invokestatic 79, 3) := by decide +kernel
theorem dX0_target_111 : decode cX0_target 111 = .ok (.irem, 1) := by decide +kernel
theorem dX0_target_112 : decode cX0_target 112 = .ok (.iadd, 1) := by decide +kernel
theorem dX0_target_113 : decode cX0_target 113 = .ok (.istore 5, 2) := by decide +kernel
theorem dX0_target_115 : decode cX0_target 115 = .ok (.aload_n 0, 1) := by decide +kernel
theorem dX0_target_116 : decode cX0_target 116 = .ok (.iload 5, 2) := by decide +kernel
theorem dX0_target_118 : decode cX0_target 118 = .ok (.invokevirtual 92, 3) := by decide +kernel
theorem dX0_target_121 : decode cX0_target 121 = .ok (.istore 6, 2) := by decide +kernel
theorem dX0_target_123 : decode cX0_target 123 = .ok (.iload 6, 2) := by decide +kernel
theorem dX0_target_125 : decode cX0_target 125 = .ok (.ifCond .lt 6, 3) := by decide +kernel
theorem dX0_target_128 : decode cX0_target 128 = .ok (.iload 6, 2) := by decide +kernel
theorem dX0_target_130 : decode cX0_target 130 = .ok (.ireturn, 1) := by decide +kernel
theorem dX0_target_131 : decode cX0_target 131 = .ok (.iinc 4 1, 3) := by decide +kernel
theorem dX0_target_134 : decode cX0_target 134 = .ok (.goto (-44), 3) := by decide +kernel
theorem dX0_target_137 : decode cX0_target 137 = .ok (.iconst 0, 1) := by decide +kernel
theorem dX0_target_138 : decode cX0_target 138 = .ok (.ireturn, 1) := by decide +kernel
theorem dX0_countWays_0 : decode cX0_countWays 0 = .ok (.iconst 0, 1) := by decide +kernel
theorem dX0_countWays_1 : decode cX0_countWays 1 = .ok (.istore_n 1, 1) := by decide +kernel
theorem dX0_countWays_2 : decode cX0_countWays 2 = .ok (.iload_n 1, 1) := by decide +kernel
theorem dX0_countWays_3 : decode cX0_countWays 3 = .ok (.bipush 26, 2) := by decide +kernel
theorem dX0_countWays_5 : decode cX0_countWays 5 = .ok (.if_icmp .ge 28, 3) := by decide +kernel
theorem dX0_countWays_8 : decode cX0_countWays 8 = .ok (.aload_n 0, 1) := by decide +kernel
theorem dX0_countWays_9 : decode cX0_countWays 9 = .ok (.getfield 19, 3) := by decide +kernel
theorem dX0_countWays_12 : decode cX0_countWays 12 = .ok (.iload_n 1, 1) := by decide +kernel
theorem dX0_countWays_13 : decode cX0_countWays 13 = .ok (.iload_n 1, 1) := by decide +kernel
theorem dX0_countWays_14 : decode cX0_countWays 14 = .ok (.aload_n 0, 1) := by decide +kernel
theorem dX0_countWays_15 : decode cX0_countWays 15 = .ok (.getfield 70, 3) := by decide +kernel
theorem dX0_countWays_18 : decode cX0_countWays 18 = .ok (.if_icmp .ge 7, 3) := by decide +kernel
theorem dX0_countWays_21 : decode cX0_countWays 21 = .ok (.lconst 1, 1) := by decide +kernel
theorem dX0_countWays_22 : decode cX0_countWays 22 = .ok (.goto 4, 3) := by decide +kernel
theorem dX0_countWays_25 : decode cX0_countWays 25 = .ok (.lconst 0, 1) := by decide +kernel
theorem dX0_countWays_26 : decode cX0_countWays 26 = .ok (.lastore, 1) := by decide +kernel
theorem dX0_countWays_27 : decode cX0_countWays 27 = .ok (.iinc 1 1, 3) := by decide +kernel
theorem dX0_countWays_30 : decode cX0_countWays 30 = .ok (.goto (-28), 3) := by decide +kernel
theorem dX0_countWays_33 : decode cX0_countWays 33 = .ok (.iconst 1, 1) := by decide +kernel
theorem dX0_countWays_34 : decode cX0_countWays 34 = .ok (.istore_n 1, 1) := by decide +kernel
theorem dX0_countWays_35 : decode cX0_countWays 35 = .ok (.iload_n 1, 1) := by decide +kernel
theorem dX0_countWays_36 : decode cX0_countWays 36 = .ok (.bipush 30, 2) := by decide +kernel
theorem dX0_countWays_38 : decode cX0_countWays 38 = .ok (.if_icmp .gt 92, 3) := by decide +kernel
theorem dX0_countWays_41 : decode cX0_countWays 41 = .ok (.iconst 0, 1) := by decide +kernel
theorem dX0_countWays_42 : decode cX0_countWays 42 = .ok (.istore_n 2, 1) := by decide +kernel
theorem dX0_countWays_43 : decode cX0_countWays 43 = .ok (.iload_n 2, 1) := by decide +kernel
theorem dX0_countWays_44 : decode cX0_countWays 44 = .ok (.bipush 26, 2) := by decide +kernel
theorem dX0_countWays_46 : decode cX0_countWays 46 = .ok (.if_icmp .ge 78, 3) := by decide +kernel
theorem dX0_countWays_49 : decode cX0_countWays 49 = .ok (.aload_n 0, 1) := by decide +kernel
theorem dX0_countWays_50 : decode cX0_countWays 50 = .ok (.getfield 19, 3) := by decide +kernel
theorem dX0_countWays_53 : decode cX0_countWays 53 = .ok (.bipush 26, 2) := by decide +kernel
theorem dX0_countWays_55 : decode cX0_countWays 55 = .ok (.iload_n 1, 1) := by decide +kernel
theorem dX0_countWays_56 : decode cX0_countWays 56 = .ok (.imul, 1) := by decide +kernel
theorem dX0_countWays_57 : decode cX0_countWays 57 = .ok (.iload_n 2, 1) := by decide +kernel
theorem dX0_countWays_58 : decode cX0_countWays 58 = .ok (.iadd, 1) := by decide +kernel
theorem dX0_countWays_59 : decode cX0_countWays 59 = .ok (.lconst 0, 1) := by decide +kernel
theorem dX0_countWays_60 : decode cX0_countWays 60 = .ok (.lastore, 1) := by decide +kernel
theorem dX0_countWays_61 : decode cX0_countWays 61 = .ok (.iconst 0, 1) := by decide +kernel
theorem dX0_countWays_62 : decode cX0_countWays 62 = .ok (.istore_n 3, 1) := by decide +kernel
theorem dX0_countWays_63 : decode cX0_countWays 63 = .ok (.iload_n 3, 1) := by decide +kernel
theorem dX0_countWays_64 : decode cX0_countWays 64 = .ok (.iconst 3, 1) := by decide +kernel
theorem dX0_countWays_65 : decode cX0_countWays 65 = .ok (.if_icmp .ge 53, 3) := by decide +kernel
theorem dX0_countWays_68 : decode cX0_countWays 68 = .ok (.iload_n 2, 1) := by decide +kernel
theorem dX0_countWays_69 : decode cX0_countWays 69 = .ok (.aload_n 0, 1) := by decide +kernel
theorem dX0_countWays_70 : decode cX0_countWays 70 = .ok (.getfield 70, 3) := by decide +kernel
theorem dX0_countWays_73 : decode cX0_countWays 73 = .ok (.if_icmp .ge 45, 3) := by decide +kernel
theorem dX0_countWays_76 : decode cX0_countWays 76 = .ok (.aload_n 0, 1) := by decide +kernel
theorem dX0_countWays_77 : decode cX0_countWays 77 = .ok (.getfield 19, 3) := by decide +kernel
theorem dX0_countWays_80 : decode cX0_countWays 80 = .ok (.bipush 26, 2) := by decide +kernel
theorem dX0_countWays_82 : decode cX0_countWays 82 = .ok (.iload_n 1, 1) := by decide +kernel
theorem dX0_countWays_83 : decode cX0_countWays 83 = .ok (.imul, 1) := by decide +kernel
theorem dX0_countWays_84 : decode cX0_countWays 84 = .ok (.iload_n 2, 1) := by decide +kernel
theorem dX0_countWays_85 : decode cX0_countWays 85 = .ok (.iadd, 1) := by decide +kernel
theorem dX0_countWays_86 : decode cX0_countWays 86 = .ok (.dup2, 1) := by decide +kernel
theorem dX0_countWays_87 : decode cX0_countWays 87 = .ok (.laload, 1) := by decide +kernel
theorem dX0_countWays_88 : decode cX0_countWays 88 = .ok (.aload_n 0, 1) := by decide +kernel
theorem dX0_countWays_89 : decode cX0_countWays 89 = .ok (.getfield 19, 3) := by decide +kernel
theorem dX0_countWays_92 : decode cX0_countWays 92 = .ok (.bipush 26, 2) := by decide +kernel
theorem dX0_countWays_94 : decode cX0_countWays 94 = .ok (.iload_n 1, 1) := by decide +kernel
theorem dX0_countWays_95 : decode cX0_countWays 95 = .ok (.iconst 1, 1) := by decide +kernel
theorem dX0_countWays_96 : decode cX0_countWays 96 = .ok (.isub, 1) := by decide +kernel
theorem dX0_countWays_97 : decode cX0_countWays 97 = .ok (.imul, 1) := by decide +kernel
theorem dX0_countWays_98 : decode cX0_countWays 98 = .ok (.aload_n 0, 1) := by decide +kernel
theorem dX0_countWays_99 : decode cX0_countWays 99 = .ok (.getfield 16, 3) := by decide +kernel
theorem dX0_countWays_102 : decode cX0_countWays 102 = .ok (.iconst 3, 1) := by decide +kernel
theorem dX0_countWays_103 : decode cX0_countWays 103 = .ok (.iload_n 2, 1) := by decide +kernel
theorem dX0_countWays_104 : decode cX0_countWays 104 = .ok (.imul, 1) := by decide +kernel
theorem dX0_countWays_105 : decode cX0_countWays 105 = .ok (.iload_n 3, 1) := by decide +kernel
theorem dX0_countWays_106 : decode cX0_countWays 106 = .ok (.iadd, 1) := by decide +kernel
theorem dX0_countWays_107 : decode cX0_countWays 107 = .ok (.iaload, 1) := by decide +kernel
theorem dX0_countWays_108 : decode cX0_countWays 108 = .ok (.iadd, 1) := by decide +kernel
theorem dX0_countWays_109 : decode cX0_countWays 109 = .ok (.laload, 1) := by decide +kernel
theorem dX0_countWays_110 : decode cX0_countWays 110 = .ok (.ladd, 1) := by decide +kernel
theorem dX0_countWays_111 : decode cX0_countWays 111 = .ok (.lastore, 1) := by decide +kernel
theorem dX0_countWays_112 : decode cX0_countWays 112 = .ok (.iinc 3 1, 3) := by decide +kernel
theorem dX0_countWays_115 : decode cX0_countWays 115 = .ok (.goto (-52), 3) := by decide +kernel
theorem dX0_countWays_118 : decode cX0_countWays 118 = .ok (.iinc 2 1, 3) := by decide +kernel
theorem dX0_countWays_121 : decode cX0_countWays 121 = .ok (.goto (-78), 3) := by decide +kernel
theorem dX0_countWays_124 : decode cX0_countWays 124 = .ok (.iinc 1 1, 3) := by decide +kernel
theorem dX0_countWays_127 : decode cX0_countWays 127 = .ok (.goto (-92), 3) := by decide +kernel
theorem dX0_countWays_130 : decode cX0_countWays 130 = .ok (.return_, 1) := by decide +kernel
theorem dX0_read_0 : decode cX0_read 0 = .ok (.iload_n 1, 1) := by decide +kernel
theorem dX0_read_1 : decode cX0_read 1 = .ok (.istore 4, 2) := by decide +kernel
theorem dX0_read_3 : decode cX0_read 3 = .ok (.iload_n 2, 1) := by decide +kernel
theorem dX0_read_4 : decode cX0_read 4 = .ok (.iconst 1, 1) := by decide +kernel
theorem dX0_read_5 : decode cX0_read 5 = .ok (.isub, 1) := by decide +kernel
theorem dX0_read_6 : decode cX0_read 6 = .ok (.istore 5, 2) := by decide +kernel
theorem dX0_read_8 : decode cX0_read 8 = .ok (.iload 5, 2) := by decide +kernel
theorem dX0_read_10 : decode cX0_read 10 = .ok (.ifCond .lt 34, 3) := by decide +kernel
theorem dX0_read_13 : decode cX0_read 13 = .ok (.iload_n 3, 1) := by decide +kernel
theorem dX0_read_14 : decode cX0_read 14 = .ok (.iload 5, 2) := by decide +kernel
theorem dX0_read_16 : decode cX0_read 16 = .ok (.invokestatic 79, 3) := by decide +kernel
theorem dX0_read_19 : decode cX0_read 19 = .ok (.idiv, 1) := by decide +kernel
theorem dX0_read_20 : decode cX0_read 20 = .ok (.iconst 3, 1) := by decide +kernel
theorem dX0_read_21 : decode cX0_read 21 = .ok (.irem, 1) := by decide +kernel
theorem dX0_read_22 : decode cX0_read 22 = .ok (.istore 6, 2) := by decide +kernel
theorem dX0_read_24 : decode cX0_read 24 = .ok (.aload_n 0, 1) := by decide +kernel
theorem dX0_read_25 : decode cX0_read 25 = .ok (.getfield 16, 3) := by decide +kernel
theorem dX0_read_28 : decode cX0_read 28 = .ok (.iconst 3, 1) := by decide +kernel
theorem dX0_read_29 : decode cX0_read 29 = .ok (.iload 4, 2) := by decide +kernel
theorem dX0_read_31 : decode cX0_read 31 = .ok (.imul, 1) := by decide +kernel
theorem dX0_read_32 : decode cX0_read 32 = .ok (.iload 6, 2) := by decide +kernel
theorem dX0_read_34 : decode cX0_read 34 = .ok (.iadd, 1) := by decide +kernel
theorem dX0_read_35 : decode cX0_read 35 = .ok (.iaload, 1) := by decide +kernel
theorem dX0_read_36 : decode cX0_read 36 = .ok (.istore 4, 2) := by decide +kernel
theorem dX0_read_38 : decode cX0_read 38 = .ok (.iinc 5 (-1), 3) := by decide +kernel
theorem dX0_read_41 : decode cX0_read 41 = .ok (.goto (-33), 3) := by decide +kernel
theorem dX0_read_44 : decode cX0_read 44 = .ok (.iload 4, 2) := by decide +kernel
theorem dX0_read_46 : decode cX0_read 46 = .ok (.ireturn, 1) := by decide +kernel
theorem dX0_count_0 : decode cX0_count 0 = .ok (.iload_n 1, 1) := by decide +kernel
theorem dX0_count_1 : decode cX0_count 1 = .ok (.ifCond .lt 9, 3) := by decide +kernel
theorem dX0_count_4 : decode cX0_count 4 = .ok (.iload_n 1, 1) := by decide +kernel
theorem dX0_count_5 : decode cX0_count 5 = .ok (.bipush 30, 2) := by decide +kernel
theorem dX0_count_7 : decode cX0_count 7 = .ok (.if_icmp .le 7, 3) := by decide +kernel
theorem dX0_count_10 : decode cX0_count 10 = .ok (.ldc2_w 62, 3) := by decide +kernel
theorem dX0_count_13 : decode cX0_count 13 = .ok (.lreturn, 1) := by decide +kernel
theorem dX0_count_14 : decode cX0_count 14 = .ok (.aload_n 0, 1) := by decide +kernel
theorem dX0_count_15 : decode cX0_count 15 = .ok (.invokevirtual 55, 3) := by decide +kernel
theorem dX0_count_18 : decode cX0_count 18 = .ok (.aload_n 0, 1) := by decide +kernel
theorem dX0_count_19 : decode cX0_count 19 = .ok (.getfield 19, 3) := by decide +kernel
theorem dX0_count_22 : decode cX0_count 22 = .ok (.bipush 26, 2) := by decide +kernel
theorem dX0_count_24 : decode cX0_count 24 = .ok (.iload_n 1, 1) := by decide +kernel
theorem dX0_count_25 : decode cX0_count 25 = .ok (.imul, 1) := by decide +kernel
theorem dX0_count_26 : decode cX0_count 26 = .ok (.laload, 1) := by decide +kernel
theorem dX0_count_27 : decode cX0_count 27 = .ok (.lreturn, 1) := by decide +kernel
theorem dX0_countWith_0 : decode cX0_countWith 0 = .ok (.iload_n 1, 1) := by decide +kernel
theorem dX0_countWith_1 : decode cX0_countWith 1 = .ok (.invokestatic 64, 3) := by decide +kernel
theorem dX0_countWith_4 : decode cX0_countWith 4 = .ok (.ifCond .ne 5, 3) := by decide +kernel
theorem dX0_countWith_7 : decode cX0_countWith 7 = .ok (.iconst (-1), 1) := by decide +kernel
theorem dX0_countWith_8 : decode cX0_countWith 8 = .ok (.ireturn, 1) := by decide +kernel
theorem dX0_countWith_9 : decode cX0_countWith 9 = .ok (.iload_n 2, 1) := by decide +kernel
theorem dX0_countWith_10 : decode cX0_countWith 10 = .ok (.ifCond .lt 9, 3) := by decide +kernel
theorem dX0_countWith_13 : decode cX0_countWith 13 = .ok (.iload_n 2, 1) := by decide +kernel
theorem dX0_countWith_14 : decode cX0_countWith 14 = .ok (.bipush 9, 2) := by decide +kernel
theorem dX0_countWith_16 : decode cX0_countWith 16 = .ok (.if_icmp .le 6, 3) := by decide +kernel
theorem dX0_countWith_19 : decode cX0_countWith 19 = .ok (.bipush (-2), 2) := by decide +kernel
theorem dX0_countWith_21 : decode cX0_countWith 21 = .ok (.ireturn, 1) := by decide +kernel
theorem dX0_countWith_22 : decode cX0_countWith 22 = .ok (.aload_n 0, 1) := by decide +kernel
theorem dX0_countWith_23 : decode cX0_countWith 23 = .ok (.invokevirtual 55, 3) := by decide +kernel
theorem dX0_countWith_26 : decode cX0_countWith 26 = .ok (.iconst 0, 1) := by decide +kernel
theorem dX0_countWith_27 : decode cX0_countWith 27 = .ok (.istore_n 3, 1) := by decide +kernel
theorem dX0_countWith_28 : decode cX0_countWith 28 = .ok (.iload_n 3, 1) := by decide +kernel
theorem dX0_countWith_29 : decode cX0_countWith 29 = .ok (.sipush 260, 3) := by decide +kernel
theorem dX0_countWith_32 : decode cX0_countWith 32 = .ok (.if_icmp .ge 16, 3) := by decide +kernel
theorem dX0_countWith_35 : decode cX0_countWith 35 = .ok (.aload_n 0, 1) := by decide +kernel
theorem dX0_countWith_36 : decode cX0_countWith 36 = .ok (.getfield 29, 3) := by decide +kernel
theorem dX0_countWith_39 : decode cX0_countWith 39 = .ok (.iload_n 3, 1) := by decide +kernel
theorem dX0_countWith_40 : decode cX0_countWith 40 = .ok (.iconst 0, 1) := by decide +kernel
theorem dX0_countWith_41 : decode cX0_countWith 41 = .ok (.iastore, 1) := by decide +kernel
theorem dX0_countWith_42 : decode cX0_countWith 42 = .ok (.iinc 3 1, 3) := by decide +kernel
theorem dX0_countWith_45 : decode cX0_countWith 45 = .ok (.goto (-17), 3) := by decide +kernel
theorem dX0_countWith_48 : decode cX0_countWith 48 = .ok (.aload_n 0, 1) := by decide +kernel
theorem dX0_countWith_49 : decode cX0_countWith 49 = .ok (.getfield 29, 3) := by decide +kernel
theorem dX0_countWith_52 : decode cX0_countWith 52 = .ok (.iconst 0, 1) := by decide +kernel
theorem dX0_countWith_53 : decode cX0_countWith 53 = .ok (.iconst 1, 1) := by decide +kernel
theorem dX0_countWith_54 : decode cX0_countWith 54 = .ok (.iastore, 1) := by decide +kernel
theorem dX0_countWith_55 : decode cX0_countWith 55 = .ok (.iconst 0, 1) := by decide +kernel
theorem dX0_countWith_56 : decode cX0_countWith 56 = .ok (.istore_n 3, 1) := by decide +kernel
theorem dX0_countWith_57 : decode cX0_countWith 57 = .ok (.iload_n 3, 1) := by decide +kernel
theorem dX0_countWith_58 : decode cX0_countWith 58 = .ok (.iload_n 1, 1) := by decide +kernel
theorem dX0_countWith_59 : decode cX0_countWith 59 = .ok (.if_icmp .ge 13, 3) := by decide +kernel
theorem dX0_countWith_62 : decode cX0_countWith 62 = .ok (.aload_n 0, 1) := by decide +kernel
theorem dX0_countWith_63 : decode cX0_countWith 63 = .ok (.invokevirtual 67, 3) := by decide +kernel
theorem dX0_countWith_66 : decode cX0_countWith 66 = .ok (.iinc 3 1, 3) := by decide +kernel
theorem dX0_countWith_69 : decode cX0_countWith 69 = .ok (.goto (-12), 3) := by decide +kernel
theorem dX0_countWith_72 : decode cX0_countWith 72 = .ok (.iconst 0, 1) := by decide +kernel
theorem dX0_countWith_73 : decode cX0_countWith 73 = .ok (.istore_n 3, 1) := by decide +kernel
theorem dX0_countWith_74 : decode cX0_countWith 74 = .ok (.iconst 0, 1) := by decide +kernel
theorem dX0_countWith_75 : decode cX0_countWith 75 = .ok (.istore 4, 2) := by decide +kernel
theorem dX0_countWith_77 : decode cX0_countWith 77 = .ok (.iload 4, 2) := by decide +kernel
theorem dX0_countWith_79 : decode cX0_countWith 79 = .ok (.aload_n 0, 1) := by decide +kernel
theorem dX0_countWith_80 : decode cX0_countWith 80 = .ok (.getfield 70, 3) := by decide +kernel
theorem dX0_countWith_83 : decode cX0_countWith 83 = .ok (.if_icmp .ge 24, 3) := by decide +kernel
theorem dX0_countWith_86 : decode cX0_countWith 86 = .ok (.iload_n 3, 1) := by decide +kernel
theorem dX0_countWith_87 : decode cX0_countWith 87 = .ok (.aload_n 0, 1) := by decide +kernel
theorem dX0_countWith_88 : decode cX0_countWith 88 = .ok (.getfield 29, 3) := by decide +kernel
theorem dX0_countWith_91 : decode cX0_countWith 91 = .ok (.bipush 10, 2) := by decide +kernel
theorem dX0_countWith_93 : decode cX0_countWith 93 = .ok (.iload 4, 2) := by decide +kernel
theorem dX0_countWith_95 : decode cX0_countWith 95 = .ok (.imul, 1) := by decide +kernel
theorem dX0_countWith_96 : decode cX0_countWith 96 = .ok (.iload_n 2, 1) := by decide +kernel
theorem dX0_countWith_97 : decode cX0_countWith 97 = .ok (.iadd, 1) := by decide +kernel
theorem dX0_countWith_98 : decode cX0_countWith 98 = .ok (.iaload, 1) := by decide +kernel
theorem dX0_countWith_99 : decode cX0_countWith 99 = .ok (.iadd, 1) := by decide +kernel
theorem dX0_countWith_100 : decode cX0_countWith 100 = .ok (.istore_n 3, 1) := by decide +kernel
theorem dX0_countWith_101 : decode cX0_countWith 101 = .ok (.iinc 4 1, 3) := by decide +kernel
theorem dX0_countWith_104 : decode cX0_countWith 104 = .ok (.goto (-27), 3) := by decide +kernel
theorem dX0_countWith_107 : decode cX0_countWith 107 = .ok (.iload_n 3, 1) := by decide +kernel
theorem dX0_countWith_108 : decode cX0_countWith 108 = .ok (.ireturn, 1) := by decide +kernel
theorem dX0_spreadTable_0 : decode cX0_spreadTable 0 = .ok (.iconst 0, 1) := by decide +kernel
theorem dX0_spreadTable_1 : decode cX0_spreadTable 1 = .ok (.istore_n 1, 1) := by decide +kernel
theorem dX0_spreadTable_2 : decode cX0_spreadTable 2 = .ok (.iload_n 1, 1) := by decide +kernel
theorem dX0_spreadTable_3 : decode cX0_spreadTable 3 = .ok (.sipush 260, 3) := by decide +kernel
theorem dX0_spreadTable_6 : decode cX0_spreadTable 6 = .ok (.if_icmp .ge 16, 3) := by decide +kernel
theorem dX0_spreadTable_9 : decode cX0_spreadTable 9 = .ok (.aload_n 0, 1) := by decide +kernel
theorem dX0_spreadTable_10 : decode cX0_spreadTable 10 = .ok (.getfield 32, 3) := by decide +kernel
theorem dX0_spreadTable_13 : decode cX0_spreadTable 13 = .ok (.iload_n 1, 1) := by decide +kernel
theorem dX0_spreadTable_14 : decode cX0_spreadTable 14 = .ok (.iconst 0, 1) := by decide +kernel
theorem dX0_spreadTable_15 : decode cX0_spreadTable 15 = .ok (.iastore, 1) := by decide +kernel
theorem dX0_spreadTable_16 : decode cX0_spreadTable 16 = .ok (.iinc 1 1, 3) := by decide +kernel
theorem dX0_spreadTable_19 : decode cX0_spreadTable 19 = .ok (.goto (-17), 3) := by decide +kernel
theorem dX0_spreadTable_22 : decode cX0_spreadTable 22 = .ok (.iconst 0, 1) := by decide +kernel
theorem dX0_spreadTable_23 : decode cX0_spreadTable 23 = .ok (.istore_n 1, 1) := by decide +kernel
theorem dX0_spreadTable_24 : decode cX0_spreadTable 24 = .ok (.iload_n 1, 1) := by decide +kernel
theorem dX0_spreadTable_25 : decode cX0_spreadTable 25 = .ok (.bipush 10, 2) := by decide +kernel
theorem dX0_spreadTable_27 : decode cX0_spreadTable 27 = .ok (.aload_n 0, 1) := by decide +kernel
theorem dX0_spreadTable_28 : decode cX0_spreadTable 28 = .ok (.getfield 70, 3) := by decide +kernel
theorem dX0_spreadTable_31 : decode cX0_spreadTable 31 = .ok (.imul, 1) := by decide +kernel
theorem dX0_spreadTable_32 : decode cX0_spreadTable 32 = .ok (.if_icmp .ge 86, 3) := by decide +kernel
theorem dX0_spreadTable_35 : decode cX0_spreadTable 35 = .ok (.iconst 0, 1) := by decide +kernel
theorem dX0_spreadTable_36 : decode cX0_spreadTable 36 = .ok (.istore_n 2, 1) := by decide +kernel
theorem dX0_spreadTable_37 : decode cX0_spreadTable 37 = .ok (.iload_n 2, 1) := by decide +kernel
theorem dX0_spreadTable_38 : decode cX0_spreadTable 38 = .ok (.iconst 3, 1) := by decide +kernel
theorem dX0_spreadTable_39 : decode cX0_spreadTable 39 = .ok (.if_icmp .ge 73, 3) := by decide +kernel
theorem dX0_spreadTable_42 : decode cX0_spreadTable 42 = .ok (.aload_n 0, 1) := by decide +kernel
theorem dX0_spreadTable_43 : decode cX0_spreadTable 43 = .ok (.getfield 16, 3) := by decide +kernel
theorem dX0_spreadTable_46 : decode cX0_spreadTable 46 = .ok (.iconst 3, 1) := by decide +kernel
theorem dX0_spreadTable_47 : decode cX0_spreadTable 47 = .ok (.iload_n 1, 1) := by decide +kernel
theorem dX0_spreadTable_48 : decode cX0_spreadTable 48 = .ok (.bipush 10, 2) := by decide +kernel
theorem dX0_spreadTable_50 : decode cX0_spreadTable 50 = .ok (.idiv, 1) := by decide +kernel
theorem dX0_spreadTable_51 : decode cX0_spreadTable 51 = .ok (.imul, 1) := by decide +kernel
theorem dX0_spreadTable_52 : decode cX0_spreadTable 52 = .ok (.iload_n 2, 1) := by decide +kernel
theorem dX0_spreadTable_53 : decode cX0_spreadTable 53 = .ok (.iadd, 1) := by decide +kernel
theorem dX0_spreadTable_54 : decode cX0_spreadTable 54 = .ok (.iaload, 1) := by decide +kernel
theorem dX0_spreadTable_55 : decode cX0_spreadTable 55 = .ok (.istore_n 3, 1) := by decide +kernel
theorem dX0_spreadTable_56 : decode cX0_spreadTable 56 = .ok (.iload_n 1, 1) := by decide +kernel
theorem dX0_spreadTable_57 : decode cX0_spreadTable 57 = .ok (.bipush 10, 2) := by decide +kernel
theorem dX0_spreadTable_59 : decode cX0_spreadTable 59 = .ok (.irem, 1) := by decide +kernel
theorem dX0_spreadTable_60 : decode cX0_spreadTable 60 = .ok (.iload_n 2, 1) := by decide +kernel
theorem dX0_spreadTable_61 : decode cX0_spreadTable 61 = .ok (.ifCond .ne 7, 3) := by decide +kernel
theorem dX0_spreadTable_64 : decode cX0_spreadTable 64 = .ok (.iconst 1, 1) := by decide +kernel
theorem dX0_spreadTable_65 : decode cX0_spreadTable 65 = .ok (.goto 4, 3) := by decide +kernel
theorem dX0_spreadTable_68 : decode cX0_spreadTable 68 = .ok (.iconst 0, 1) := by decide +kernel
theorem dX0_spreadTable_69 : decode cX0_spreadTable 69 = .ok (.iadd, 1) := by decide +kernel
theorem dX0_spreadTable_70 : decode cX0_spreadTable 70 = .ok (.istore 4, 2) := by decide +kernel
theorem dX0_spreadTable_72 : decode cX0_spreadTable 72 = .ok (.iload_n 3, 1) := by decide +kernel
theorem dX0_spreadTable_73 : decode cX0_spreadTable 73 = .ok (.bipush 25, 2) := by decide +kernel
theorem dX0_spreadTable_75 : decode cX0_spreadTable 75 = .ok (.if_icmp .eq 31, 3) := by decide +kernel
theorem dX0_spreadTable_78 : decode cX0_spreadTable 78 = .ok (.iload 4, 2) := by decide +kernel
theorem dX0_spreadTable_80 : decode cX0_spreadTable 80 = .ok (.bipush 10, 2) := by decide +kernel
theorem dX0_spreadTable_82 : decode cX0_spreadTable 82 = .ok (.if_icmp .ge 24, 3) := by decide +kernel
theorem dX0_spreadTable_85 : decode cX0_spreadTable 85 = .ok (.aload_n 0, 1) := by decide +kernel
theorem dX0_spreadTable_86 : decode cX0_spreadTable 86 = .ok (.getfield 32, 3) := by decide +kernel
theorem dX0_spreadTable_89 : decode cX0_spreadTable 89 = .ok (.bipush 10, 2) := by decide +kernel
theorem dX0_spreadTable_91 : decode cX0_spreadTable 91 = .ok (.iload_n 3, 1) := by decide +kernel
theorem dX0_spreadTable_92 : decode cX0_spreadTable 92 = .ok (.imul, 1) := by decide +kernel
theorem dX0_spreadTable_93 : decode cX0_spreadTable 93 = .ok (.iload 4, 2) := by decide +kernel
theorem dX0_spreadTable_95 : decode cX0_spreadTable 95 = .ok (.iadd, 1) := by decide +kernel
theorem dX0_spreadTable_96 : decode cX0_spreadTable 96 = .ok (.dup2, 1) := by decide +kernel
theorem dX0_spreadTable_97 : decode cX0_spreadTable 97 = .ok (.iaload, 1) := by decide +kernel
theorem dX0_spreadTable_98 : decode cX0_spreadTable 98 = .ok (.aload_n 0, 1) := by decide +kernel
theorem dX0_spreadTable_99 : decode cX0_spreadTable 99 = .ok (.getfield 29, 3) := by decide +kernel
theorem dX0_spreadTable_102 : decode cX0_spreadTable 102 = .ok (.iload_n 1, 1) := by decide +kernel
theorem dX0_spreadTable_103 : decode cX0_spreadTable 103 = .ok (.iaload, 1) := by decide +kernel
theorem dX0_spreadTable_104 : decode cX0_spreadTable 104 = .ok (.iadd, 1) := by decide +kernel
theorem dX0_spreadTable_105 : decode cX0_spreadTable 105 = .ok (.iastore, 1) := by decide +kernel
theorem dX0_spreadTable_106 : decode cX0_spreadTable 106 = .ok (.iinc 2 1, 3) := by decide +kernel
theorem dX0_spreadTable_109 : decode cX0_spreadTable 109 = .ok (.goto (-72), 3) := by decide +kernel
theorem dX0_spreadTable_112 : decode cX0_spreadTable 112 = .ok (.iinc 1 1, 3) := by decide +kernel
theorem dX0_spreadTable_115 : decode cX0_spreadTable 115 = .ok (.goto (-91), 3) := by decide +kernel
theorem dX0_spreadTable_118 : decode cX0_spreadTable 118 = .ok (.iconst 0, 1) := by decide +kernel
theorem dX0_spreadTable_119 : decode cX0_spreadTable 119 = .ok (.istore_n 1, 1) := by decide +kernel
theorem dX0_spreadTable_120 : decode cX0_spreadTable 120 = .ok (.iload_n 1, 1) := by decide +kernel
theorem dX0_spreadTable_121 : decode cX0_spreadTable 121 = .ok (.sipush 260, 3) := by decide +kernel
theorem dX0_spreadTable_124 : decode cX0_spreadTable 124 = .ok (.if_icmp .ge 21, 3) := by decide +kernel
theorem dX0_spreadTable_127 : decode cX0_spreadTable 127 = .ok (.aload_n 0, 1) := by decide +kernel
theorem dX0_spreadTable_128 : decode cX0_spreadTable 128 = .ok (.getfield 29, 3) := by decide +kernel
theorem dX0_spreadTable_131 : decode cX0_spreadTable 131 = .ok (.iload_n 1, 1) := by decide +kernel
theorem dX0_spreadTable_132 : decode cX0_spreadTable 132 = .ok (.aload_n 0, 1) := by decide +kernel
theorem dX0_spreadTable_133 : decode cX0_spreadTable 133 = .ok (.getfield 32, 3) := by decide +kernel
theorem dX0_spreadTable_136 : decode cX0_spreadTable 136 = .ok (.iload_n 1, 1) := by decide +kernel
theorem dX0_spreadTable_137 : decode cX0_spreadTable 137 = .ok (.iaload, 1) := by decide +kernel
theorem dX0_spreadTable_138 : decode cX0_spreadTable 138 = .ok (.iastore, 1) := by decide +kernel
theorem dX0_spreadTable_139 : decode cX0_spreadTable 139 = .ok (.iinc 1 1, 3) := by decide +kernel
theorem dX0_spreadTable_142 : decode cX0_spreadTable 142 = .ok (.goto (-22), 3) := by decide +kernel
theorem dX0_spreadTable_145 : decode cX0_spreadTable 145 = .ok (.return_, 1) := by decide +kernel
theorem dX0_rank_0 : decode cX0_rank 0 = .ok (.iload_n 1, 1) := by decide +kernel
theorem dX0_rank_1 : decode cX0_rank 1 = .ok (.iload_n 2, 1) := by decide +kernel
theorem dX0_rank_2 : decode cX0_rank 2 = .ok (.invokestatic 51, 3) := by decide +kernel
theorem dX0_rank_5 : decode cX0_rank 5 = .ok (.istore_n 3, 1) := by decide +kernel
theorem dX0_rank_6 : decode cX0_rank 6 = .ok (.iload_n 3, 1) := by decide +kernel
theorem dX0_rank_7 : decode cX0_rank 7 = .ok (.ifCond .ge 5, 3) := by decide +kernel
theorem dX0_rank_10 : decode cX0_rank 10 = .ok (.iload_n 3, 1) := by decide +kernel
theorem dX0_rank_11 : decode cX0_rank 11 = .ok (.ireturn, 1) := by decide +kernel
theorem dX0_rank_12 : decode cX0_rank 12 = .ok (.aload_n 0, 1) := by decide +kernel
theorem dX0_rank_13 : decode cX0_rank 13 = .ok (.invokevirtual 55, 3) := by decide +kernel
theorem dX0_rank_16 : decode cX0_rank 16 = .ok (.aload_n 0, 1) := by decide +kernel
theorem dX0_rank_17 : decode cX0_rank 17 = .ok (.iload_n 1, 1) := by decide +kernel
theorem dX0_rank_18 : decode cX0_rank 18 = .ok (.iload_n 2, 1) := by decide +kernel
theorem dX0_rank_19 : decode cX0_rank 19 = .ok (.invokevirtual 73, 3) := by decide +kernel
theorem dX0_rank_22 : decode cX0_rank 22 = .ok (.ireturn, 1) := by decide +kernel
theorem dX0_below_0 : decode cX0_below 0 = .ok (.iconst 0, 1) := by decide +kernel
theorem dX0_below_1 : decode cX0_below 1 = .ok (.istore_n 3, 1) := by decide +kernel
theorem dX0_below_2 : decode cX0_below 2 = .ok (.lconst 0, 1) := by decide +kernel
theorem dX0_below_3 : decode cX0_below 3 = .ok (.lstore 4, 2) := by decide +kernel
theorem dX0_below_5 : decode cX0_below 5 = .ok (.iload_n 1, 1) := by decide +kernel
theorem dX0_below_6 : decode cX0_below 6 = .ok (.iconst 1, 1) := by decide +kernel
theorem dX0_below_7 : decode cX0_below 7 = .ok (.isub, 1) := by decide +kernel
theorem dX0_below_8 : decode cX0_below 8 = .ok (.istore 6, 2) := by decide +kernel
theorem dX0_below_10 : decode cX0_below 10 = .ok (.iload 6, 2) := by decide +kernel
theorem dX0_below_12 : decode cX0_below 12 = .ok (.ifCond .lt 75, 3) := by decide +kernel
theorem dX0_below_15 : decode cX0_below 15 = .ok (.iload_n 2, 1) := by decide +kernel
theorem dX0_below_16 : decode cX0_below 16 = .ok (.iload 6, 2) := by decide +kernel
theorem dX0_below_18 : decode cX0_below 18 = .ok (.invokestatic 79, 3) := by decide +kernel
theorem dX0_below_21 : decode cX0_below 21 = .ok (.idiv, 1) := by decide +kernel
theorem dX0_below_22 : decode cX0_below 22 = .ok (.iconst 3, 1) := by decide +kernel
theorem dX0_below_23 : decode cX0_below 23 = .ok (.irem, 1) := by decide +kernel
theorem dX0_below_24 : decode cX0_below 24 = .ok (.istore 7, 2) := by decide +kernel
theorem dX0_below_26 : decode cX0_below 26 = .ok (.iconst 0, 1) := by decide +kernel
theorem dX0_below_27 : decode cX0_below 27 = .ok (.istore 8, 2) := by decide +kernel
theorem dX0_below_29 : decode cX0_below 29 = .ok (.iload 8, 2) := by decide +kernel
theorem dX0_below_31 : decode cX0_below 31 = .ok (.iload 7, 2) := by decide +kernel
theorem dX0_below_33 : decode cX0_below 33 = .ok (.if_icmp .ge 36, 3) := by decide +kernel
theorem dX0_below_36 : decode cX0_below 36 = .ok (.lload 4, 2) := by decide +kernel
theorem dX0_below_38 : decode cX0_below 38 = .ok (.aload_n 0, 1) := by decide +kernel
theorem dX0_below_39 : decode cX0_below 39 = .ok (.getfield 19, 3) := by decide +kernel
theorem dX0_below_42 : decode cX0_below 42 = .ok (.bipush 26, 2) := by decide +kernel
theorem dX0_below_44 : decode cX0_below 44 = .ok (.iload 6, 2) := by decide +kernel
theorem dX0_below_46 : decode cX0_below 46 = .ok (.imul, 1) := by decide +kernel
theorem dX0_below_47 : decode cX0_below 47 = .ok (.aload_n 0, 1) := by decide +kernel
theorem dX0_below_48 : decode cX0_below 48 = .ok (.getfield 16, 3) := by decide +kernel
theorem dX0_below_51 : decode cX0_below 51 = .ok (.iconst 3, 1) := by decide +kernel
theorem dX0_below_52 : decode cX0_below 52 = .ok (.iload_n 3, 1) := by decide +kernel
theorem dX0_below_53 : decode cX0_below 53 = .ok (.imul, 1) := by decide +kernel
theorem dX0_below_54 : decode cX0_below 54 = .ok (.iload 8, 2) := by decide +kernel
theorem dX0_below_56 : decode cX0_below 56 = .ok (.iadd, 1) := by decide +kernel
theorem dX0_below_57 : decode cX0_below 57 = .ok (.iaload, 1) := by decide +kernel
theorem dX0_below_58 : decode cX0_below 58 = .ok (.iadd, 1) := by decide +kernel
theorem dX0_below_59 : decode cX0_below 59 = .ok (.laload, 1) := by decide +kernel
theorem dX0_below_60 : decode cX0_below 60 = .ok (.ladd, 1) := by decide +kernel
theorem dX0_below_61 : decode cX0_below 61 = .ok (.lstore 4, 2) := by decide +kernel
theorem dX0_below_63 : decode cX0_below 63 = .ok (.iinc 8 1, 3) := by decide +kernel
theorem dX0_below_66 : decode cX0_below 66 = .ok (.goto (-37), 3) := by decide +kernel
theorem dX0_below_69 : decode cX0_below 69 = .ok (.aload_n 0, 1) := by decide +kernel
theorem dX0_below_70 : decode cX0_below 70 = .ok (.getfield 16, 3) := by decide +kernel
theorem dX0_below_73 : decode cX0_below 73 = .ok (.iconst 3, 1) := by decide +kernel
theorem dX0_below_74 : decode cX0_below 74 = .ok (.iload_n 3, 1) := by decide +kernel
theorem dX0_below_75 : decode cX0_below 75 = .ok (.imul, 1) := by decide +kernel
theorem dX0_below_76 : decode cX0_below 76 = .ok (.iload 7, 2) := by decide +kernel
theorem dX0_below_78 : decode cX0_below 78 = .ok (.iadd, 1) := by decide +kernel
theorem dX0_below_79 : decode cX0_below 79 = .ok (.iaload, 1) := by decide +kernel
theorem dX0_below_80 : decode cX0_below 80 = .ok (.istore_n 3, 1) := by decide +kernel
theorem dX0_below_81 : decode cX0_below 81 = .ok (.iinc 6 (-1), 3) := by decide +kernel
theorem dX0_below_84 : decode cX0_below 84 = .ok (.goto (-74), 3) := by decide +kernel
theorem dX0_below_87 : decode cX0_below 87 = .ok (.lload 4, 2) := by decide +kernel
theorem dX0_below_89 : decode cX0_below 89 = .ok (.l2i, 1) := by decide +kernel
theorem dX0_below_90 : decode cX0_below 90 = .ok (.ireturn, 1) := by decide +kernel
theorem dX0_word_0 : decode cX0_word 0 = .ok (.iload_n 1, 1) := by decide +kernel
theorem dX0_word_1 : decode cX0_word 1 = .ok (.invokestatic 64, 3) := by decide +kernel
theorem dX0_word_4 : decode cX0_word 4 = .ok (.ifCond .ne 5, 3) := by decide +kernel
theorem dX0_word_7 : decode cX0_word 7 = .ok (.iconst (-1), 1) := by decide +kernel
theorem dX0_word_8 : decode cX0_word 8 = .ok (.ireturn, 1) := by decide +kernel
theorem dX0_word_9 : decode cX0_word 9 = .ok (.aload_n 0, 1) := by decide +kernel
theorem dX0_word_10 : decode cX0_word 10 = .ok (.invokevirtual 55, 3) := by decide +kernel
theorem dX0_word_13 : decode cX0_word 13 = .ok (.iload_n 2, 1) := by decide +kernel
theorem dX0_word_14 : decode cX0_word 14 = .ok (.ifCond .lt 18, 3) := by decide +kernel
theorem dX0_word_17 : decode cX0_word 17 = .ok (.iload_n 2, 1) := by decide +kernel
theorem dX0_word_18 : decode cX0_word 18 = .ok (.i2l, 1) := by decide +kernel
theorem dX0_word_19 : decode cX0_word 19 = .ok (.aload_n 0, 1) := by decide +kernel
theorem dX0_word_20 : decode cX0_word 20 = .ok (.getfield 19, 3) := by decide +kernel
theorem dX0_word_23 : decode cX0_word 23 = .ok (.bipush 26, 2) := by decide +kernel
theorem dX0_word_25 : decode cX0_word 25 = .ok (.iload_n 1, 1) := by decide +kernel
theorem dX0_word_26 : decode cX0_word 26 = .ok (.imul, 1) := by decide +kernel
theorem dX0_word_27 : decode cX0_word 27 = .ok (.laload, 1) := by decide +kernel
theorem dX0_word_28 : decode cX0_word 28 = .ok (.lcmp, 1) := by decide +kernel
theorem dX0_word_29 : decode cX0_word 29 = .ok (.ifCond .lt 6, 3) := by decide +kernel
theorem dX0_word_32 : decode cX0_word 32 = .ok (.bipush (-2), 2) := by decide +kernel
theorem dX0_word_34 : decode cX0_word 34 = .ok (.ireturn, 1) := by decide +kernel
theorem dX0_word_35 : decode cX0_word 35 = .ok (.aload_n 0, 1) := by decide +kernel
theorem dX0_word_36 : decode cX0_word 36 = .ok (.iload_n 1, 1) := by decide +kernel
theorem dX0_word_37 : decode cX0_word 37 = .ok (.iload_n 2, 1) := by decide +kernel
theorem dX0_word_38 : decode cX0_word 38 = .ok (.invokevirtual 76, 3) := by decide +kernel
theorem dX0_word_41 : decode cX0_word 41 = .ok (.ireturn, 1) := by decide +kernel
theorem dX0_unrank_0 : decode cX0_unrank 0 = .ok (.iconst 0, 1) := by decide +kernel
theorem dX0_unrank_1 : decode cX0_unrank 1 = .ok (.istore_n 3, 1) := by decide +kernel
theorem dX0_unrank_2 : decode cX0_unrank 2 = .ok (.iload_n 2, 1) := by decide +kernel
theorem dX0_unrank_3 : decode cX0_unrank 3 = .ok (.i2l, 1) := by decide +kernel
theorem dX0_unrank_4 : decode cX0_unrank 4 = .ok (.lstore 4, 2) := by decide +kernel
theorem dX0_unrank_6 : decode cX0_unrank 6 = .ok (.iconst 0, 1) := by decide +kernel
theorem dX0_unrank_7 : decode cX0_unrank 7 = .ok (.istore 6, 2) := by decide +kernel
theorem dX0_unrank_9 : decode cX0_unrank 9 = .ok (.iload_n 1, 1) := by decide +kernel
theorem dX0_unrank_10 : decode cX0_unrank 10 = .ok (.iconst 1, 1) := by decide +kernel
theorem dX0_unrank_11 : decode cX0_unrank 11 = .ok (.isub, 1) := by decide +kernel
theorem dX0_unrank_12 : decode cX0_unrank 12 = .ok (.istore 7, 2) := by decide +kernel
theorem dX0_unrank_14 : decode cX0_unrank 14 = .ok (.iload 7, 2) := by decide +kernel
theorem dX0_unrank_16 : decode cX0_unrank 16 = .ok (.ifCond .lt 100, 3) := by decide +kernel
theorem dX0_unrank_19 : decode cX0_unrank 19 = .ok (.iconst 0, 1) := by decide +kernel
theorem dX0_unrank_20 : decode cX0_unrank 20 = .ok (.istore 8, 2) := by decide +kernel
theorem dX0_unrank_22 : decode cX0_unrank 22 = .ok (.iload 8, 2) := by decide +kernel
theorem dX0_unrank_24 : decode cX0_unrank 24 = .ok (.iconst 2, 1) := by decide +kernel
theorem dX0_unrank_25 : decode cX0_unrank 25 = .ok (.if_icmp .ge 64, 3) := by decide +kernel
theorem dX0_unrank_28 : decode cX0_unrank 28 = .ok (.lload 4, 2) := by decide +kernel
theorem dX0_unrank_30 : decode cX0_unrank 30 = .ok (.aload_n 0, 1) := by decide +kernel
theorem dX0_unrank_31 : decode cX0_unrank 31 = .ok (.getfield 19, 3) := by decide +kernel
theorem dX0_unrank_34 : decode cX0_unrank 34 = .ok (.bipush 26, 2) := by decide +kernel
theorem dX0_unrank_36 : decode cX0_unrank 36 = .ok (.iload 7, 2) := by decide +kernel
theorem dX0_unrank_38 : decode cX0_unrank 38 = .ok (.imul, 1) := by decide +kernel
theorem dX0_unrank_39 : decode cX0_unrank 39 = .ok (.aload_n 0, 1) := by decide +kernel
theorem dX0_unrank_40 : decode cX0_unrank 40 = .ok (.getfield 16, 3) := by decide +kernel
theorem dX0_unrank_43 : decode cX0_unrank 43 = .ok (.iconst 3, 1) := by decide +kernel
theorem dX0_unrank_44 : decode cX0_unrank 44 = .ok (.iload_n 3, 1) := by decide +kernel
theorem dX0_unrank_45 : decode cX0_unrank 45 = .ok (.imul, 1) := by decide +kernel
theorem dX0_unrank_46 : decode cX0_unrank 46 = .ok (.iload 8, 2) := by decide +kernel
theorem dX0_unrank_48 : decode cX0_unrank 48 = .ok (.iadd, 1) := by decide +kernel
theorem dX0_unrank_49 : decode cX0_unrank 49 = .ok (.iaload, 1) := by decide +kernel
theorem dX0_unrank_50 : decode cX0_unrank 50 = .ok (.iadd, 1) := by decide +kernel
theorem dX0_unrank_51 : decode cX0_unrank 51 = .ok (.laload, 1) := by decide +kernel
theorem dX0_unrank_52 : decode cX0_unrank 52 = .ok (.lcmp, 1) := by decide +kernel
theorem dX0_unrank_53 : decode cX0_unrank 53 = .ok (.ifCond .lt 36, 3) := by decide +kernel
theorem dX0_unrank_56 : decode cX0_unrank 56 = .ok (.lload 4, 2) := by decide +kernel
theorem dX0_unrank_58 : decode cX0_unrank 58 = .ok (.aload_n 0, 1) := by decide +kernel
theorem dX0_unrank_59 : decode cX0_unrank 59 = .ok (.getfield 19, 3) := by decide +kernel
theorem dX0_unrank_62 : decode cX0_unrank 62 = .ok (.bipush 26, 2) := by decide +kernel
theorem dX0_unrank_64 : decode cX0_unrank 64 = .ok (.iload 7, 2) := by decide +kernel
theorem dX0_unrank_66 : decode cX0_unrank 66 = .ok (.imul, 1) := by decide +kernel
theorem dX0_unrank_67 : decode cX0_unrank 67 = .ok (.aload_n 0, 1) := by decide +kernel
theorem dX0_unrank_68 : decode cX0_unrank 68 = .ok (.getfield 16, 3) := by decide +kernel
theorem dX0_unrank_71 : decode cX0_unrank 71 = .ok (.iconst 3, 1) := by decide +kernel
theorem dX0_unrank_72 : decode cX0_unrank 72 = .ok (.iload_n 3, 1) := by decide +kernel
theorem dX0_unrank_73 : decode cX0_unrank 73 = .ok (.imul, 1) := by decide +kernel
theorem dX0_unrank_74 : decode cX0_unrank 74 = .ok (.iload 8, 2) := by decide +kernel
theorem dX0_unrank_76 : decode cX0_unrank 76 = .ok (.iadd, 1) := by decide +kernel
theorem dX0_unrank_77 : decode cX0_unrank 77 = .ok (.iaload, 1) := by decide +kernel
theorem dX0_unrank_78 : decode cX0_unrank 78 = .ok (.iadd, 1) := by decide +kernel
theorem dX0_unrank_79 : decode cX0_unrank 79 = .ok (.laload, 1) := by decide +kernel
theorem dX0_unrank_80 : decode cX0_unrank 80 = .ok (.lsub, 1) := by decide +kernel
theorem dX0_unrank_81 : decode cX0_unrank 81 = .ok (.lstore 4, 2) := by decide +kernel
theorem dX0_unrank_83 : decode cX0_unrank 83 = .ok (.iinc 8 1, 3) := by decide +kernel
theorem dX0_unrank_86 : decode cX0_unrank 86 = .ok (.goto (-64), 3) := by decide +kernel
theorem dX0_unrank_89 : decode cX0_unrank 89 = .ok (.iconst 3, 1) := by decide +kernel
theorem dX0_unrank_90 : decode cX0_unrank 90 = .ok (.iload 6, 2) := by decide +kernel
theorem dX0_unrank_92 : decode cX0_unrank 92 = .ok (.imul, 1) := by decide +kernel
theorem dX0_unrank_93 : decode cX0_unrank 93 = .ok (.iload 8, 2) := by decide +kernel
theorem dX0_unrank_95 : decode cX0_unrank 95 = .ok (.iadd, 1) := by decide +kernel
theorem dX0_unrank_96 : decode cX0_unrank 96 = .ok (.istore 6, 2) := by decide +kernel
theorem dX0_unrank_98 : decode cX0_unrank 98 = .ok (.aload_n 0, 1) := by decide +kernel
theorem dX0_unrank_99 : decode cX0_unrank 99 = .ok (.getfield 16, 3) := by decide +kernel
theorem dX0_unrank_102 : decode cX0_unrank 102 = .ok (.iconst 3, 1) := by decide +kernel
theorem dX0_unrank_103 : decode cX0_unrank 103 = .ok (.iload_n 3, 1) := by decide +kernel
theorem dX0_unrank_104 : decode cX0_unrank 104 = .ok (.imul, 1) := by decide +kernel
theorem dX0_unrank_105 : decode cX0_unrank 105 = .ok (.iload 8, 2) := by decide +kernel
theorem dX0_unrank_107 : decode cX0_unrank 107 = .ok (.iadd, 1) := by decide +kernel
theorem dX0_unrank_108 : decode cX0_unrank 108 = .ok (.iaload, 1) := by decide +kernel
theorem dX0_unrank_109 : decode cX0_unrank 109 = .ok (.istore_n 3, 1) := by decide +kernel
theorem dX0_unrank_110 : decode cX0_unrank 110 = .ok (.iinc 7 (-1), 3) := by decide +kernel
theorem dX0_unrank_113 : decode cX0_unrank 113 = .ok (.goto (-99), 3) := by decide +kernel
theorem dX0_unrank_116 : decode cX0_unrank 116 = .ok (.iload 6, 2) := by decide +kernel
theorem dX0_unrank_118 : decode cX0_unrank 118 = .ok (.ireturn, 1) := by decide +kernel
theorem dX0_next_0 : decode cX0_next 0 = .ok (.iload_n 1, 1) := by decide +kernel
theorem dX0_next_1 : decode cX0_next 1 = .ok (.invokestatic 64, 3) := by decide +kernel
theorem dX0_next_4 : decode cX0_next 4 = .ok (.ifCond .ne 5, 3) := by decide +kernel
theorem dX0_next_7 : decode cX0_next 7 = .ok (.iconst (-1), 1) := by decide +kernel
theorem dX0_next_8 : decode cX0_next 8 = .ok (.ireturn, 1) := by decide +kernel
theorem dX0_next_9 : decode cX0_next 9 = .ok (.aload_n 0, 1) := by decide +kernel
theorem dX0_next_10 : decode cX0_next 10 = .ok (.invokevirtual 55, 3) := by decide +kernel
theorem dX0_next_13 : decode cX0_next 13 = .ok (.iload_n 1, 1) := by decide +kernel
theorem dX0_next_14 : decode cX0_next 14 = .ok (.invokestatic 79, 3) := by decide +kernel
theorem dX0_next_17 : decode cX0_next 17 = .ok (.istore_n 3, 1) := by decide +kernel
theorem dX0_next_18 : decode cX0_next 18 = .ok (.iconst 0, 1) := by decide +kernel
theorem dX0_next_19 : decode cX0_next 19 = .ok (.istore 4, 2) := by decide +kernel
theorem dX0_next_21 : decode cX0_next 21 = .ok (.iload_n 2, 1) := by decide +kernel
theorem dX0_next_22 : decode cX0_next 22 = .ok (.iload_n 3, 1) := by decide +kernel
theorem dX0_next_23 : decode cX0_next 23 = .ok (.iconst 1, 1) := by decide +kernel
theorem dX0_next_24 : decode cX0_next 24 = .ok (.isub, 1) := by decide +kernel
theorem dX0_next_25 : decode cX0_next 25 = .ok (.if_icmp .lt 6, 3) := by decide +kernel
theorem dX0_next_28 : decode cX0_next 28 = .ok (.bipush (-2), 2) := by decide +kernel
theorem dX0_next_30 : decode cX0_next 30 = .ok (.ireturn, 1) := by decide +kernel
theorem dX0_next_31 : decode cX0_next 31 = .ok (.iload_n 2, 1) := by decide +kernel
theorem dX0_next_32 : decode cX0_next 32 = .ok (.ifCond .lt 13, 3) := by decide +kernel
theorem dX0_next_35 : decode cX0_next 35 = .ok (.aload_n 0, 1) := by decide +kernel
theorem dX0_next_36 : decode cX0_next 36 = .ok (.iload_n 1, 1) := by decide +kernel
theorem dX0_next_37 : decode cX0_next 37 = .ok (.iload_n 2, 1) := by decide +kernel
theorem dX0_next_38 : decode cX0_next 38 = .ok (.iconst 1, 1) := by decide +kernel
theorem dX0_next_39 : decode cX0_next 39 = .ok (.iadd, 1) := by decide +kernel
theorem dX0_next_40 : decode cX0_next 40 = .ok (.invokevirtual 73, 3) := by decide +kernel
theorem dX0_next_43 : decode cX0_next 43 = .ok (.istore 4, 2) := by decide +kernel
theorem dX0_next_45 : decode cX0_next 45 = .ok (.iload 4, 2) := by decide +kernel
theorem dX0_next_47 : decode cX0_next 47 = .ok (.i2l, 1) := by decide +kernel
theorem dX0_next_48 : decode cX0_next 48 = .ok (.aload_n 0, 1) := by decide +kernel
theorem dX0_next_49 : decode cX0_next 49 = .ok (.getfield 19, 3) := by decide +kernel
theorem dX0_next_52 : decode cX0_next 52 = .ok (.bipush 26, 2) := by decide +kernel
theorem dX0_next_54 : decode cX0_next 54 = .ok (.iload_n 1, 1) := by decide +kernel
theorem dX0_next_55 : decode cX0_next 55 = .ok (.imul, 1) := by decide +kernel
theorem dX0_next_56 : decode cX0_next 56 = .ok (.laload, 1) := by decide +kernel
theorem dX0_next_57 : decode cX0_next 57 = .ok (.lcmp, 1) := by decide +kernel
theorem dX0_next_58 : decode cX0_next 58 = .ok (.ifCond .ge 13, 3) := by decide +kernel
theorem dX0_next_61 : decode cX0_next 61 = .ok (.aload_n 0, 1) := by decide +kernel
theorem dX0_next_62 : decode cX0_next 62 = .ok (.iload_n 1, 1) := by decide +kernel
theorem dX0_next_63 : decode cX0_next 63 = .ok (.iload 4, 2) := by decide +kernel
theorem dX0_next_65 : decode cX0_next 65 = .ok (.invokevirtual 76, 3) := by decide +kernel
theorem dX0_next_68 : decode cX0_next 68 = .ok (.goto 5, 3) := by decide +kernel
theorem dX0_next_71 : decode cX0_next 71 = .ok (.bipush (-2), 2) := by decide +kernel
theorem dX0_next_73 : decode cX0_next 73 = .ok (.ireturn, 1) := by decide +kernel
theorem dX0_beginning_0 : decode cX0_beginning 0 = .ok (.iload_n 1, 1) := by decide +kernel
theorem dX0_beginning_1 : decode cX0_beginning 1 = .ok (.invokestatic 64, 3) := by decide +kernel
theorem dX0_beginning_4 : decode cX0_beginning 4 = .ok (.ifCond .ne 5, 3) := by decide +kernel
theorem dX0_beginning_7 : decode cX0_beginning 7 = .ok (.iconst (-1), 1) := by decide +kernel
theorem dX0_beginning_8 : decode cX0_beginning 8 = .ok (.ireturn, 1) := by decide +kernel
theorem dX0_beginning_9 : decode cX0_beginning 9 = .ok (.iload_n 2, 1) := by decide +kernel
theorem dX0_beginning_10 : decode cX0_beginning 10 = .ok (.invokestatic 39, 3) := by decide +kernel
theorem dX0_beginning_13 : decode cX0_beginning 13 = .ok (.ifCond .ne 6, 3) := by decide +kernel
theorem dX0_beginning_16 : decode cX0_beginning 16 = .ok (.bipush (-2), 2) := by decide +kernel
theorem dX0_beginning_18 : decode cX0_beginning 18 = .ok (.ireturn, 1) := by decide +kernel
theorem dX0_beginning_19 : decode cX0_beginning 19 = .ok (.aload_n 0, 1) := by decide +kernel
theorem dX0_beginning_20 : decode cX0_beginning 20 = .ok (.invokevirtual 55, 3) := by decide +kernel
theorem dX0_beginning_23 : decode cX0_beginning 23 = .ok (.iload_n 2, 1) := by decide +kernel
theorem dX0_beginning_24 : decode cX0_beginning 24 = .ok (.invokestatic 82, 3) := by decide +kernel
theorem dX0_beginning_27 : decode cX0_beginning 27 = .ok (.istore_n 3, 1) := by decide +kernel
theorem dX0_beginning_28 : decode cX0_beginning 28 = .ok (.iload_n 3, 1) := by decide +kernel
theorem dX0_beginning_29 : decode cX0_beginning 29 = .ok (.iload_n 1, 1) := by decide +kernel
theorem dX0_beginning_30 : decode cX0_beginning 30 = .ok (.if_icmp .le 5, 3) := by decide +kernel
theorem dX0_beginning_33 : decode cX0_beginning 33 = .ok (.iconst 0, 1) := by decide +kernel
theorem dX0_beginning_34 : decode cX0_beginning 34 = .ok (.ireturn, 1) := by decide +kernel
theorem dX0_beginning_35 : decode cX0_beginning 35 = .ok (.aload_n 0, 1) := by decide +kernel
theorem dX0_beginning_36 : decode cX0_beginning 36 = .ok (.iconst 0, 1) := by decide +kernel
theorem dX0_beginning_37 : decode cX0_beginning 37 = .ok (.iload_n 3, 1) := by decide +kernel
theorem dX0_beginning_38 : decode cX0_beginning 38 = .ok (.iload_n 2, 1) := by decide +kernel
theorem dX0_beginning_39 : decode cX0_beginning 39 = .ok (.iload_n 3, 1) := by decide +kernel
theorem dX0_beginning_40 : decode cX0_beginning 40 = .ok (.invokestatic 79, 3) := by decide +kernel
theorem dX0_beginning_43 : decode cX0_beginning 43 = .ok (.isub, 1) := by decide +kernel
theorem dX0_beginning_44 : decode cX0_beginning 44 = .ok (.invokevirtual 58, 3) := by decide +kernel
theorem dX0_beginning_47 : decode cX0_beginning 47 = .ok (.istore 4, 2) := by decide +kernel
theorem dX0_beginning_49 : decode cX0_beginning 49 = .ok (.iload 4, 2) := by decide +kernel
theorem dX0_beginning_51 : decode cX0_beginning 51 = .ok (.bipush 25, 2) := by decide +kernel
theorem dX0_beginning_53 : decode cX0_beginning 53 = .ok (.if_icmp .ne 7, 3) := by decide +kernel
theorem dX0_beginning_56 : decode cX0_beginning 56 = .ok (.iconst 0, 1) := by decide +kernel
theorem dX0_beginning_57 : decode cX0_beginning 57 = .ok (.goto 18, 3) := by decide +kernel
theorem dX0_beginning_60 : decode cX0_beginning 60 = .ok (.aload_n 0, 1) := by decide +kernel
theorem dX0_beginning_61 : decode cX0_beginning 61 = .ok (.getfield 19, 3) := by decide +kernel
theorem dX0_beginning_64 : decode cX0_beginning 64 = .ok (.bipush 26, 2) := by decide +kernel
theorem dX0_beginning_66 : decode cX0_beginning 66 = .ok (.iload_n 1, 1) := by decide +kernel
theorem dX0_beginning_67 : decode cX0_beginning 67 = .ok (.iload_n 3, 1) := by decide +kernel
theorem dX0_beginning_68 : decode cX0_beginning 68 = .ok (.isub, 1) := by decide +kernel
theorem dX0_beginning_69 : decode cX0_beginning 69 = .ok (.imul, 1) := by decide +kernel
theorem dX0_beginning_70 : decode cX0_beginning 70 = .ok (.iload 4, 2) := by decide +kernel
theorem dX0_beginning_72 : decode cX0_beginning 72 = .ok (.iadd, 1) := by decide +kernel
theorem dX0_beginning_73 : decode cX0_beginning 73 = .ok (.laload, 1) := by decide +kernel
theorem dX0_beginning_74 : decode cX0_beginning 74 = .ok (.l2i, 1) := by decide +kernel
theorem dX0_beginning_75 : decode cX0_beginning 75 = .ok (.ireturn, 1) := by decide +kernel
theorem dX0_ending_0 : decode cX0_ending 0 = .ok (.iload_n 1, 1) := by decide +kernel
theorem dX0_ending_1 : decode cX0_ending 1 = .ok (.invokestatic 64, 3) := by decide +kernel
theorem dX0_ending_4 : decode cX0_ending 4 = .ok (.ifCond .ne 5, 3) := by decide +kernel
theorem dX0_ending_7 : decode cX0_ending 7 = .ok (.iconst (-1), 1) := by decide +kernel
theorem dX0_ending_8 : decode cX0_ending 8 = .ok (.ireturn, 1) := by decide +kernel
theorem dX0_ending_9 : decode cX0_ending 9 = .ok (.iload_n 2, 1) := by decide +kernel
theorem dX0_ending_10 : decode cX0_ending 10 = .ok (.invokestatic 39, 3) := by decide +kernel
theorem dX0_ending_13 : decode cX0_ending 13 = .ok (.ifCond .ne 6, 3) := by decide +kernel
theorem dX0_ending_16 : decode cX0_ending 16 = .ok (.bipush (-2), 2) := by decide +kernel
theorem dX0_ending_18 : decode cX0_ending 18 = .ok (.ireturn, 1) := by decide +kernel
theorem dX0_ending_19 : decode cX0_ending 19 = .ok (.aload_n 0, 1) := by decide +kernel
theorem dX0_ending_20 : decode cX0_ending 20 = .ok (.invokevirtual 55, 3) := by decide +kernel
theorem dX0_ending_23 : decode cX0_ending 23 = .ok (.iload_n 2, 1) := by decide +kernel
theorem dX0_ending_24 : decode cX0_ending 24 = .ok (.invokestatic 82, 3) := by decide +kernel
theorem dX0_ending_27 : decode cX0_ending 27 = .ok (.istore_n 3, 1) := by decide +kernel
theorem dX0_ending_28 : decode cX0_ending 28 = .ok (.iload_n 3, 1) := by decide +kernel
theorem dX0_ending_29 : decode cX0_ending 29 = .ok (.iload_n 1, 1) := by decide +kernel
theorem dX0_ending_30 : decode cX0_ending 30 = .ok (.if_icmp .le 7, 3) := by decide +kernel
theorem dX0_ending_33 : decode cX0_ending 33 = .ok (.iconst 0, 1) := by decide +kernel
theorem dX0_ending_34 : decode cX0_ending 34 = .ok (.goto 13, 3) := by decide +kernel
theorem dX0_ending_37 : decode cX0_ending 37 = .ok (.aload_n 0, 1) := by decide +kernel
theorem dX0_ending_38 : decode cX0_ending 38 = .ok (.iload_n 1, 1) := by decide +kernel
theorem dX0_ending_39 : decode cX0_ending 39 = .ok (.iload_n 3, 1) := by decide +kernel
theorem dX0_ending_40 : decode cX0_ending 40 = .ok (.isub, 1) := by decide +kernel
theorem dX0_ending_41 : decode cX0_ending 41 = .ok (.iload_n 2, 1) := by decide +kernel
theorem dX0_ending_42 : decode cX0_ending 42 = .ok (.iconst 0, 1) := by decide +kernel
theorem dX0_ending_43 : decode cX0_ending 43 = .ok (.invokevirtual 85, 3) := by decide +kernel
theorem dX0_ending_46 : decode cX0_ending 46 = .ok (.l2i, 1) := by decide +kernel
theorem dX0_ending_47 : decode cX0_ending 47 = .ok (.ireturn, 1) := by decide +kernel
theorem dX0_through_0 : decode cX0_through 0 = .ok (.iconst 0, 1) := by decide +kernel
theorem dX0_through_1 : decode cX0_through 1 = .ok (.istore 4, 2) := by decide +kernel
theorem dX0_through_3 : decode cX0_through 3 = .ok (.iload 4, 2) := by decide +kernel
theorem dX0_through_5 : decode cX0_through 5 = .ok (.bipush 26, 2) := by decide +kernel
theorem dX0_through_7 : decode cX0_through 7 = .ok (.if_icmp .ge 26, 3) := by decide +kernel
theorem dX0_through_10 : decode cX0_through 10 = .ok (.aload_n 0, 1) := by decide +kernel
theorem dX0_through_11 : decode cX0_through 11 = .ok (.getfield 23, 3) := by decide +kernel
theorem dX0_through_14 : decode cX0_through 14 = .ok (.iload 4, 2) := by decide +kernel
theorem dX0_through_16 : decode cX0_through 16 = .ok (.iload 4, 2) := by decide +kernel
theorem dX0_through_18 : decode cX0_through 18 = .ok (.ifCond .ne 7, 3) := by decide +kernel
theorem dX0_through_21 : decode cX0_through 21 = .ok (.lconst 1, 1) := by decide +kernel
theorem dX0_through_22 : decode cX0_through 22 = .ok (.goto 4, 3) := by decide +kernel
theorem dX0_through_25 : decode cX0_through 25 = .ok (.lconst 0, 1) := by decide +kernel
theorem dX0_through_26 : decode cX0_through 26 = .ok (.lastore, 1) := by decide +kernel
theorem dX0_through_27 : decode cX0_through 27 = .ok (.iinc 4 1, 3) := by decide +kernel
theorem dX0_through_30 : decode cX0_through 30 = .ok (.goto (-27), 3) := by decide +kernel
theorem dX0_through_33 : decode cX0_through 33 = .ok (.iconst 0, 1) := by decide +kernel
theorem dX0_through_34 : decode cX0_through 34 = .ok (.istore 4, 2) := by decide +kernel
theorem dX0_through_36 : decode cX0_through 36 = .ok (.iload 4, 2) := by decide +kernel
theorem dX0_through_38 : decode cX0_through 38 = .ok (.iload_n 1, 1) := by decide +kernel
theorem dX0_through_39 : decode cX0_through 39 = .ok (.if_icmp .ge 118, 3) := by decide +kernel
theorem dX0_through_42 : decode cX0_through 42 = .ok (.iconst 0, 1) := by decide +kernel
theorem dX0_through_43 : decode cX0_through 43 = .ok (.istore 5, 2) := by decide +kernel
theorem dX0_through_45 : decode cX0_through 45 = .ok (.iload 5, 2) := by decide +kernel
theorem dX0_through_47 : decode cX0_through 47 = .ok (.bipush 26, 2) := by decide +kernel
theorem dX0_through_49 : decode cX0_through 49 = .ok (.if_icmp .ge 17, 3) := by decide +kernel
theorem dX0_through_52 : decode cX0_through 52 = .ok (.aload_n 0, 1) := by decide +kernel
theorem dX0_through_53 : decode cX0_through 53 = .ok (.getfield 26, 3) := by decide +kernel
theorem dX0_through_56 : decode cX0_through 56 = .ok (.iload 5, 2) := by decide +kernel
theorem dX0_through_58 : decode cX0_through 58 = .ok (.lconst 0, 1) := by decide +kernel
theorem dX0_through_59 : decode cX0_through 59 = .ok (.lastore, 1) := by decide +kernel
theorem dX0_through_60 : decode cX0_through 60 = .ok (.iinc 5 1, 3) := by decide +kernel
theorem dX0_through_63 : decode cX0_through 63 = .ok (.goto (-18), 3) := by decide +kernel
theorem dX0_through_66 : decode cX0_through 66 = .ok (.iconst 0, 1) := by decide +kernel
theorem dX0_through_67 : decode cX0_through 67 = .ok (.istore 5, 2) := by decide +kernel
theorem dX0_through_69 : decode cX0_through 69 = .ok (.iload 5, 2) := by decide +kernel
theorem dX0_through_71 : decode cX0_through 71 = .ok (.iconst 3, 1) := by decide +kernel
theorem dX0_through_72 : decode cX0_through 72 = .ok (.aload_n 0, 1) := by decide +kernel
theorem dX0_through_73 : decode cX0_through 73 = .ok (.getfield 70, 3) := by decide +kernel
theorem dX0_through_76 : decode cX0_through 76 = .ok (.imul, 1) := by decide +kernel
theorem dX0_through_77 : decode cX0_through 77 = .ok (.if_icmp .ge 33, 3) := by decide +kernel
theorem dX0_through_80 : decode cX0_through 80 = .ok (.aload_n 0, 1) := by decide +kernel
theorem dX0_through_81 : decode cX0_through 81 = .ok (.getfield 26, 3) := by decide +kernel
theorem dX0_through_84 : decode cX0_through 84 = .ok (.aload_n 0, 1) := by decide +kernel
theorem dX0_through_85 : decode cX0_through 85 = .ok (.getfield 16, 3) := by decide +kernel
theorem dX0_through_88 : decode cX0_through 88 = .ok (.iload 5, 2) := by decide +kernel
theorem dX0_through_90 : decode cX0_through 90 = .ok (.iaload, 1) := by decide +kernel
theorem dX0_through_91 : decode cX0_through 91 = .ok (.dup2, 1) := by decide +kernel
theorem dX0_through_92 : decode cX0_through 92 = .ok (.laload, 1) := by decide +kernel
theorem dX0_through_93 : decode cX0_through 93 = .ok (.aload_n 0, 1) := by decide +kernel
theorem dX0_through_94 : decode cX0_through 94 = .ok (.getfield 23, 3) := by decide +kernel
theorem dX0_through_97 : decode cX0_through 97 = .ok (.iload 5, 2) := by decide +kernel
theorem dX0_through_99 : decode cX0_through 99 = .ok (.iconst 3, 1) := by decide +kernel
theorem dX0_through_100 : decode cX0_through 100 = .ok (.idiv, 1) := by decide +kernel
theorem dX0_through_101 : decode cX0_through 101 = .ok (.laload, 1) := by decide +kernel
theorem dX0_through_102 : decode cX0_through 102 = .ok (.ladd, 1) := by decide +kernel
theorem dX0_through_103 : decode cX0_through 103 = .ok (.lastore, 1) := by decide +kernel
theorem dX0_through_104 : decode cX0_through 104 = .ok (.iinc 5 1, 3) := by decide +kernel
theorem dX0_through_107 : decode cX0_through 107 = .ok (.goto (-38), 3) := by decide +kernel
theorem dX0_through_110 : decode cX0_through 110 = .ok (.iconst 0, 1) := by decide +kernel
theorem dX0_through_111 : decode cX0_through 111 = .ok (.istore 5, 2) := by decide +kernel
theorem dX0_through_113 : decode cX0_through 113 = .ok (.iload 5, 2) := by decide +kernel
theorem dX0_through_115 : decode cX0_through 115 = .ok (.bipush 26, 2) := by decide +kernel
theorem dX0_through_117 : decode cX0_through 117 = .ok (.if_icmp .ge 34, 3) := by decide +kernel
theorem dX0_through_120 : decode cX0_through 120 = .ok (.aload_n 0, 1) := by decide +kernel
theorem dX0_through_121 : decode cX0_through 121 = .ok (.getfield 23, 3) := by decide +kernel
theorem dX0_through_124 : decode cX0_through 124 = .ok (.iload 5, 2) := by decide +kernel
theorem dX0_through_126 : decode cX0_through 126 = .ok (.iload 5, 2) := by decide +kernel
theorem dX0_through_128 : decode cX0_through 128 = .ok (.bipush 25, 2) := by decide +kernel
theorem dX0_through_130 : decode cX0_through 130 = .ok (.if_icmp .ne 7, 3) := by decide +kernel
theorem dX0_through_133 : decode cX0_through 133 = .ok (.lconst 0, 1) := by decide +kernel
theorem dX0_through_134 : decode cX0_through 134 = .ok (.goto 10, 3) := by decide +kernel
theorem dX0_through_137 : decode cX0_through 137 = .ok (.aload_n 0, 1) := by decide +kernel
theorem dX0_through_138 : decode cX0_through 138 = .ok (.getfield 26, 3) := by decide +kernel
theorem dX0_through_141 : decode cX0_through 141 = .ok (.iload 5, 2) := by decide +kernel
theorem dX0_through_143 : decode cX0_through 143 = .ok (.laload, 1) := by decide +kernel
theorem dX0_through_144 : decode cX0_through 144 = .ok (.lastore, 1) := by decide +kernel
theorem dX0_through_145 : decode cX0_through 145 = .ok (.iinc 5 1, 3) := by decide +kernel
theorem dX0_through_148 : decode cX0_through 148 = .ok (.goto (-35), 3) := by decide +kernel
theorem dX0_through_151 : decode cX0_through 151 = .ok (.iinc 4 1, 3) := by decide +kernel
theorem dX0_through_154 : decode cX0_through 154 = .ok (.goto (-118), 3) := by decide +kernel
theorem dX0_through_157 : decode cX0_through 157 = .ok (.iload_n 2, 1) := by decide +kernel
theorem dX0_through_158 : decode cX0_through 158 = .ok (.invokestatic 82, 3) := by decide +kernel
theorem dX0_through_161 : decode cX0_through 161 = .ok (.istore 4, 2) := by decide +kernel
theorem dX0_through_163 : decode cX0_through 163 = .ok (.lconst 0, 1) := by decide +kernel
theorem dX0_through_164 : decode cX0_through 164 = .ok (.lstore 5, 2) := by decide +kernel
theorem dX0_through_166 : decode cX0_through 166 = .ok (.iconst 0, 1) := by decide +kernel
theorem dX0_through_167 : decode cX0_through 167 = .ok (.istore 7, 2) := by decide +kernel
theorem dX0_through_169 : decode cX0_through 169 = .ok (.iload 7, 2) := by decide +kernel
theorem dX0_through_171 : decode cX0_through 171 = .ok (.aload_n 0, 1) := by decide +kernel
theorem dX0_through_172 : decode cX0_through 172 = .ok (.getfield 70, 3) := by decide +kernel
theorem dX0_through_175 : decode cX0_through 175 = .ok (.if_icmp .ge 51, 3) := by decide +kernel
theorem dX0_through_178 : decode cX0_through 178 = .ok (.aload_n 0, 1) := by decide +kernel
theorem dX0_through_179 : decode cX0_through 179 = .ok (.iload 7, 2) := by decide +kernel
theorem dX0_through_181 : decode cX0_through 181 = .ok (.iload 4, 2) := by decide +kernel
theorem dX0_through_183 : decode cX0_through 183 = .ok (.iload_n 2, 1) := by decide +kernel
theorem dX0_through_184 : decode cX0_through 184 = .ok (.iload 4, 2) := by decide +kernel
theorem dX0_through_186 : decode cX0_through 186 = .ok (.invokestatic 79, 3) := by decide +kernel
theorem dX0_through_189 : decode cX0_through 189 = .ok (.isub, 1) := by decide +kernel
theorem dX0_through_190 : decode cX0_through 190 = .ok (.invokevirtual 58, 3) := by decide +kernel
theorem dX0_through_193 : decode cX0_through 193 = .ok (.istore 8, 2) := by decide +kernel
theorem dX0_through_195 : decode cX0_through 195 = .ok (.lload 5, 2) := by decide +kernel
theorem dX0_through_197 : decode cX0_through 197 = .ok (.aload_n 0, 1) := by decide +kernel
theorem dX0_through_198 : decode cX0_through 198 = .ok (.getfield 23, 3) := by decide +kernel
theorem dX0_through_201 : decode cX0_through 201 = .ok (.iload 7, 2) := by decide +kernel
theorem dX0_through_203 : decode cX0_through 203 = .ok (.laload, 1) := by decide +kernel
theorem dX0_through_204 : decode cX0_through 204 = .ok (.aload_n 0, 1) := by decide +kernel
theorem dX0_through_205 : decode cX0_through 205 = .ok (.getfield 19, 3) := by decide +kernel
theorem dX0_through_208 : decode cX0_through 208 = .ok (.bipush 26, 2) := by decide +kernel
theorem dX0_through_210 : decode cX0_through 210 = .ok (.iload_n 3, 1) := by decide +kernel
theorem dX0_through_211 : decode cX0_through 211 = .ok (.imul, 1) := by decide +kernel
theorem dX0_through_212 : decode cX0_through 212 = .ok (.iload 8, 2) := by decide +kernel
theorem dX0_through_214 : decode cX0_through 214 = .ok (.iadd, 1) := by decide +kernel
theorem dX0_through_215 : decode cX0_through 215 = .ok (.laload, 1) := by decide +kernel
theorem dX0_through_216 : decode cX0_through 216 = .ok (.lmul, 1) := by decide +kernel
theorem dX0_through_217 : decode cX0_through 217 = .ok (.ladd, 1) := by decide +kernel
theorem dX0_through_218 : decode cX0_through 218 = .ok (.lstore 5, 2) := by decide +kernel
theorem dX0_through_220 : decode cX0_through 220 = .ok (.iinc 7 1, 3) := by decide +kernel
theorem dX0_through_223 : decode cX0_through 223 = .ok (.goto (-54), 3) := by decide +kernel
theorem dX0_through_226 : decode cX0_through 226 = .ok (.lload 5, 2) := by decide +kernel
theorem dX0_through_228 : decode cX0_through 228 = .ok (.lreturn, 1) := by decide +kernel
theorem dX0_standing_0 : decode cX0_standing 0 = .ok (.iload_n 1, 1) := by decide +kernel
theorem dX0_standing_1 : decode cX0_standing 1 = .ok (.invokestatic 64, 3) := by decide +kernel
theorem dX0_standing_4 : decode cX0_standing 4 = .ok (.ifCond .ne 5, 3) := by decide +kernel
theorem dX0_standing_7 : decode cX0_standing 7 = .ok (.iconst (-1), 1) := by decide +kernel
theorem dX0_standing_8 : decode cX0_standing 8 = .ok (.ireturn, 1) := by decide +kernel
theorem dX0_standing_9 : decode cX0_standing 9 = .ok (.iload_n 2, 1) := by decide +kernel
theorem dX0_standing_10 : decode cX0_standing 10 = .ok (.invokestatic 39, 3) := by decide +kernel
theorem dX0_standing_13 : decode cX0_standing 13 = .ok (.ifCond .ne 6, 3) := by decide +kernel
theorem dX0_standing_16 : decode cX0_standing 16 = .ok (.bipush (-2), 2) := by decide +kernel
theorem dX0_standing_18 : decode cX0_standing 18 = .ok (.ireturn, 1) := by decide +kernel
theorem dX0_standing_19 : decode cX0_standing 19 = .ok (.aload_n 0, 1) := by decide +kernel
theorem dX0_standing_20 : decode cX0_standing 20 = .ok (.invokevirtual 55, 3) := by decide +kernel
theorem dX0_standing_23 : decode cX0_standing 23 = .ok (.iload_n 2, 1) := by decide +kernel
theorem dX0_standing_24 : decode cX0_standing 24 = .ok (.invokestatic 82, 3) := by decide +kernel
theorem dX0_standing_27 : decode cX0_standing 27 = .ok (.istore_n 3, 1) := by decide +kernel
theorem dX0_standing_28 : decode cX0_standing 28 = .ok (.lconst 0, 1) := by decide +kernel
theorem dX0_standing_29 : decode cX0_standing 29 = .ok (.lstore 4, 2) := by decide +kernel
theorem dX0_standing_31 : decode cX0_standing 31 = .ok (.iconst 0, 1) := by decide +kernel
theorem dX0_standing_32 : decode cX0_standing 32 = .ok (.istore 6, 2) := by decide +kernel
theorem dX0_standing_34 : decode cX0_standing 34 = .ok (.iload 6, 2) := by decide +kernel
theorem dX0_standing_36 : decode cX0_standing 36 = .ok (.iload_n 3, 1) := by decide +kernel
theorem dX0_standing_37 : decode cX0_standing 37 = .ok (.iadd, 1) := by decide +kernel
theorem dX0_standing_38 : decode cX0_standing 38 = .ok (.iload_n 1, 1) := by decide +kernel
theorem dX0_standing_39 : decode cX0_standing 39 = .ok (.if_icmp .gt 27, 3) := by decide +kernel
theorem dX0_standing_42 : decode cX0_standing 42 = .ok (.lload 4, 2) := by decide +kernel
theorem dX0_standing_44 : decode cX0_standing 44 = .ok (.aload_n 0, 1) := by decide +kernel
theorem dX0_standing_45 : decode cX0_standing 45 = .ok (.iload 6, 2) := by decide +kernel
theorem dX0_standing_47 : decode cX0_standing 47 = .ok (.iload_n 2, 1) := by decide +kernel
theorem dX0_standing_48 : decode cX0_standing 48 = .ok (.iload_n 1, 1) := by decide +kernel
theorem dX0_standing_49 : decode cX0_standing 49 = .ok (.iload_n 3, 1) := by decide +kernel
theorem dX0_standing_50 : decode cX0_standing 50 = .ok (.isub, 1) := by decide +kernel
theorem dX0_standing_51 : decode cX0_standing 51 = .ok (.iload 6, 2) := by decide +kernel
theorem dX0_standing_53 : decode cX0_standing 53 = .ok (.isub, 1) := by decide +kernel
theorem dX0_standing_54 : decode cX0_standing 54 = .ok (.invokevirtual 85, 3) := by decide +kernel
theorem dX0_standing_57 : decode cX0_standing 57 = .ok (.ladd, 1) := by decide +kernel
theorem dX0_standing_58 : decode cX0_standing 58 = .ok (.lstore 4, 2) := by decide +kernel
theorem dX0_standing_60 : decode cX0_standing 60 = .ok (.iinc 6 1, 3) := by decide +kernel
theorem dX0_standing_63 : decode cX0_standing 63 = .ok (.goto (-29), 3) := by decide +kernel
theorem dX0_standing_66 : decode cX0_standing 66 = .ok (.lload 4, 2) := by decide +kernel
theorem dX0_standing_68 : decode cX0_standing 68 = .ok (.l2i, 1) := by decide +kernel
theorem dX0_standing_69 : decode cX0_standing 69 = .ok (.ireturn, 1) := by decide +kernel
theorem dX0_longest_0 : decode cX0_longest 0 = .ok (.aload_n 0, 1) := by decide +kernel
theorem dX0_longest_1 : decode cX0_longest 1 = .ok (.invokevirtual 55, 3) := by decide +kernel
theorem dX0_longest_4 : decode cX0_longest 4 = .ok (.bipush 9, 2) := by decide +kernel
theorem dX0_longest_6 : decode cX0_longest 6 = .ok (.istore_n 1, 1) := by decide +kernel
theorem dX0_longest_7 : decode cX0_longest 7 = .ok (.iload_n 1, 1) := by decide +kernel
theorem dX0_longest_8 : decode cX0_longest 8 = .ok (.ifCond .le 23, 3) := by decide +kernel
theorem dX0_longest_11 : decode cX0_longest 11 = .ok (.aload_n 0, 1) := by decide +kernel
theorem dX0_longest_12 : decode cX0_longest 12 = .ok (.getfield 19, 3) := by decide +kernel
theorem dX0_longest_15 : decode cX0_longest 15 = .ok (.bipush 26, 2) := by decide +kernel
theorem dX0_longest_17 : decode cX0_longest 17 = .ok (.iload_n 1, 1) := by decide +kernel
theorem dX0_longest_18 : decode cX0_longest 18 = .ok (.imul, 1) := by decide +kernel
theorem dX0_longest_19 : decode cX0_longest 19 = .ok (.laload, 1) := by decide +kernel
theorem dX0_longest_20 : decode cX0_longest 20 = .ok (.lconst 0, 1) := by decide +kernel
theorem dX0_longest_21 : decode cX0_longest 21 = .ok (.lcmp, 1) := by decide +kernel
theorem dX0_longest_22 : decode cX0_longest 22 = .ok (.ifCond .ne 9, 3) := by decide +kernel
theorem dX0_longest_25 : decode cX0_longest 25 = .ok (.iinc 1 (-1), 3) := by decide +kernel
theorem dX0_longest_28 : decode cX0_longest 28 = .ok (.goto (-21), 3) := by decide +kernel
theorem dX0_longest_31 : decode cX0_longest 31 = .ok (.iload_n 1, 1) := by decide +kernel
theorem dX0_longest_32 : decode cX0_longest 32 = .ok (.ireturn, 1) := by decide +kernel
theorem dX0_choices_0 : decode cX0_choices 0 = .ok (.iload_n 1, 1) := by decide +kernel
theorem dX0_choices_1 : decode cX0_choices 1 = .ok (.iload_n 2, 1) := by decide +kernel
theorem dX0_choices_2 : decode cX0_choices 2 = .ok (.invokestatic 51, 3) := by decide +kernel
theorem dX0_choices_5 : decode cX0_choices 5 = .ok (.istore_n 3, 1) := by decide +kernel
theorem dX0_choices_6 : decode cX0_choices 6 = .ok (.iload_n 3, 1) := by decide +kernel
theorem dX0_choices_7 : decode cX0_choices 7 = .ok (.ifCond .ge 5, 3) := by decide +kernel
theorem dX0_choices_10 : decode cX0_choices 10 = .ok (.iload_n 3, 1) := by decide +kernel
theorem dX0_choices_11 : decode cX0_choices 11 = .ok (.ireturn, 1) := by decide +kernel
theorem dX0_choices_12 : decode cX0_choices 12 = .ok (.aload_n 0, 1) := by decide +kernel
theorem dX0_choices_13 : decode cX0_choices 13 = .ok (.invokevirtual 55, 3) := by decide +kernel
theorem dX0_choices_16 : decode cX0_choices 16 = .ok (.aload_n 0, 1) := by decide +kernel
theorem dX0_choices_17 : decode cX0_choices 17 = .ok (.iconst 0, 1) := by decide +kernel
theorem dX0_choices_18 : decode cX0_choices 18 = .ok (.iload_n 1, 1) := by decide +kernel
theorem dX0_choices_19 : decode cX0_choices 19 = .ok (.iload_n 2, 1) := by decide +kernel
theorem dX0_choices_20 : decode cX0_choices 20 = .ok (.invokevirtual 58, 3) := by decide +kernel
theorem dX0_choices_23 : decode cX0_choices 23 = .ok (.istore 4, 2) := by decide +kernel
theorem dX0_choices_25 : decode cX0_choices 25 = .ok (.iload 4, 2) := by decide +kernel
theorem dX0_choices_27 : decode cX0_choices 27 = .ok (.bipush 25, 2) := by decide +kernel
theorem dX0_choices_29 : decode cX0_choices 29 = .ok (.if_icmp .ne 7, 3) := by decide +kernel
theorem dX0_choices_32 : decode cX0_choices 32 = .ok (.iconst 0, 1) := by decide +kernel
theorem dX0_choices_33 : decode cX0_choices 33 = .ok (.goto 14, 3) := by decide +kernel
theorem dX0_choices_36 : decode cX0_choices 36 = .ok (.aload_n 0, 1) := by decide +kernel
theorem dX0_choices_37 : decode cX0_choices 37 = .ok (.getfield 19, 3) := by decide +kernel
theorem dX0_choices_40 : decode cX0_choices 40 = .ok (.bipush 26, 2) := by decide +kernel
theorem dX0_choices_42 : decode cX0_choices 42 = .ok (.iload 4, 2) := by decide +kernel
theorem dX0_choices_44 : decode cX0_choices 44 = .ok (.iadd, 1) := by decide +kernel
theorem dX0_choices_45 : decode cX0_choices 45 = .ok (.laload, 1) := by decide +kernel
theorem dX0_choices_46 : decode cX0_choices 46 = .ok (.l2i, 1) := by decide +kernel
theorem dX0_choices_47 : decode cX0_choices 47 = .ok (.ireturn, 1) := by decide +kernel
theorem dX0_mirrored_0 : decode cX0_mirrored 0 = .ok (.iload_n 1, 1) := by decide +kernel
theorem dX0_mirrored_1 : decode cX0_mirrored 1 = .ok (.invokestatic 64, 3) := by decide +kernel
theorem dX0_mirrored_4 : decode cX0_mirrored 4 = .ok (.ifCond .ne 5, 3) := by decide +kernel
theorem dX0_mirrored_7 : decode cX0_mirrored 7 = .ok (.iconst (-1), 1) := by decide +kernel
theorem dX0_mirrored_8 : decode cX0_mirrored 8 = .ok (.ireturn, 1) := by decide +kernel
theorem dX0_mirrored_9 : decode cX0_mirrored 9 = .ok (.aload_n 0, 1) := by decide +kernel
theorem dX0_mirrored_10 : decode cX0_mirrored 10 = .ok (.invokevirtual 55, 3) := by decide +kernel
theorem dX0_mirrored_13 : decode cX0_mirrored 13 = .ok (.iload_n 1, 1) := by decide +kernel
theorem dX0_mirrored_14 : decode cX0_mirrored 14 = .ok (.iconst 1, 1) := by decide +kernel
theorem dX0_mirrored_15 : decode cX0_mirrored 15 = .ok (.iadd, 1) := by decide +kernel
theorem dX0_mirrored_16 : decode cX0_mirrored 16 = .ok (.iconst 1, 1) := by decide +kernel
theorem dX0_mirrored_17 : decode cX0_mirrored 17 = .ok (.ishr, 1) := by decide +kernel
theorem dX0_mirrored_18 : decode cX0_mirrored 18 = .ok (.istore_n 2, 1) := by decide +kernel
theorem dX0_mirrored_19 : decode cX0_mirrored 19 = .ok (.aload_n 0, 1) := by decide +kernel
theorem dX0_mirrored_20 : decode cX0_mirrored 20 = .ok (.getfield 19, 3) := by decide +kernel
theorem dX0_mirrored_23 : decode cX0_mirrored 23 = .ok (.bipush 26, 2) := by decide +kernel
theorem dX0_mirrored_25 : decode cX0_mirrored 25 = .ok (.iload_n 2, 1) := by decide +kernel
theorem dX0_mirrored_26 : decode cX0_mirrored 26 = .ok (.imul, 1) := by decide +kernel
theorem dX0_mirrored_27 : decode cX0_mirrored 27 = .ok (.laload, 1) := by decide +kernel
theorem dX0_mirrored_28 : decode cX0_mirrored 28 = .ok (.l2i, 1) := by decide +kernel
theorem dX0_mirrored_29 : decode cX0_mirrored 29 = .ok (.istore_n 3, 1) := by decide +kernel
theorem dX0_mirrored_30 : decode cX0_mirrored 30 = .ok (.iconst 0, 1) := by decide +kernel
theorem dX0_mirrored_31 : decode cX0_mirrored 31 = .ok (.istore 4, 2) := by decide +kernel
theorem dX0_mirrored_33 : decode cX0_mirrored 33 = .ok (.iconst 0, 1) := by decide +kernel
theorem dX0_mirrored_34 : decode cX0_mirrored 34 = .ok (.istore 5, 2) := by decide +kernel
theorem dX0_mirrored_36 : decode cX0_mirrored 36 = .ok (.iload 5, 2) := by decide +kernel
theorem dX0_mirrored_38 : decode cX0_mirrored 38 = .ok (.iload_n 3, 1) := by decide +kernel
theorem dX0_mirrored_39 : decode cX0_mirrored 39 = .ok (.if_icmp .ge 50, 3) := by decide +kernel
theorem dX0_mirrored_42 : decode cX0_mirrored 42 = .ok (.aload_n 0, 1) := by decide +kernel
theorem dX0_mirrored_43 : decode cX0_mirrored 43 = .ok (.iload_n 2, 1) := by decide +kernel
theorem dX0_mirrored_44 : decode cX0_mirrored 44 = .ok (.iload 5, 2) := by decide +kernel
theorem dX0_mirrored_46 : decode cX0_mirrored 46 = .ok (.invokevirtual 76, 3) := by decide +kernel
theorem dX0_mirrored_49 : decode cX0_mirrored 49 = .ok (.istore 6, 2) := by decide +kernel
theorem dX0_mirrored_51 : decode cX0_mirrored 51 = .ok (.iload 6, 2) := by decide +kernel
theorem dX0_mirrored_53 : decode cX0_mirrored 53 = .ok (.iload_n 2, 1) := by decide +kernel
theorem dX0_mirrored_54 : decode cX0_mirrored 54 = .ok (.iload_n 1, 1) := by decide +kernel
theorem dX0_mirrored_55 : decode cX0_mirrored 55 = .ok (.invokestatic 89, 3) := by decide +kernel
theorem dX0_mirrored_58 : decode cX0_mirrored 58 = .ok (.istore 7, 2) := by decide +kernel
theorem dX0_mirrored_60 : decode cX0_mirrored 60 = .ok (.iload 4, 2) := by decide +kernel
theorem dX0_mirrored_62 : decode cX0_mirrored 62 = .ok (.aload_n 0, 1) := by decide +kernel
theorem dX0_mirrored_63 : decode cX0_mirrored 63 = .ok (.iconst 0, 1) := by decide +kernel
theorem dX0_mirrored_64 : decode cX0_mirrored 64 = .ok (.iload_n 1, 1) := by decide +kernel
theorem dX0_mirrored_65 : decode cX0_mirrored 65 = .ok (.iload 7, 2) := by decide +kernel
theorem dX0_mirrored_67 : decode cX0_mirrored 67 = .ok (.invokevirtual 58, 3) := by decide +kernel
theorem dX0_mirrored_70 : decode cX0_mirrored 70 = .ok (.bipush 25, 2) := by decide +kernel
theorem dX0_mirrored_72 : decode cX0_mirrored 72 = .ok (.if_icmp .ne 7, 3) := by decide +kernel
theorem dX0_mirrored_75 : decode cX0_mirrored 75 = .ok (.iconst 0, 1) := by decide +kernel
theorem dX0_mirrored_76 : decode cX0_mirrored 76 = .ok (.goto 4, 3) := by decide +kernel
theorem dX0_mirrored_79 : decode cX0_mirrored 79 = .ok (.iconst 1, 1) := by decide +kernel
theorem dX0_mirrored_80 : decode cX0_mirrored 80 = .ok (.iadd, 1) := by decide +kernel
theorem dX0_mirrored_81 : decode cX0_mirrored 81 = .ok (.istore 4, 2) := by decide +kernel
theorem dX0_mirrored_83 : decode cX0_mirrored 83 = .ok (.iinc 5 1, 3) := by decide +kernel
theorem dX0_mirrored_86 : decode cX0_mirrored 86 = .ok (.goto (-50), 3) := by decide +kernel
theorem dX0_mirrored_89 : decode cX0_mirrored 89 = .ok (.iload 4, 2) := by decide +kernel
theorem dX0_mirrored_91 : decode cX0_mirrored 91 = .ok (.ireturn, 1) := by decide +kernel
theorem dX0_reflect_0 : decode cX0_reflect 0 = .ok (.iload_n 0, 1) := by decide +kernel
theorem dX0_reflect_1 : decode cX0_reflect 1 = .ok (.istore_n 3, 1) := by decide +kernel
theorem dX0_reflect_2 : decode cX0_reflect 2 = .ok (.iload_n 2, 1) := by decide +kernel
theorem dX0_reflect_3 : decode cX0_reflect 3 = .ok (.iconst 1, 1) := by decide +kernel
theorem dX0_reflect_4 : decode cX0_reflect 4 = .ok (.iand, 1) := by decide +kernel
theorem dX0_reflect_5 : decode cX0_reflect 5 = .ok (.iconst 1, 1) := by decide +kernel
theorem dX0_reflect_6 : decode cX0_reflect 6 = .ok (.if_icmp .ne 9, 3) := by decide +kernel
theorem dX0_reflect_9 : decode cX0_reflect 9 = .ok (.iload_n 0, 1) := by decide +kernel
theorem dX0_reflect_10 : decode cX0_reflect 10 = .ok (.iconst 3, 1) := by decide +kernel
theorem dX0_reflect_11 : decode cX0_reflect 11 = .ok (.idiv, 1) := by decide +kernel
theorem dX0_reflect_12 : decode cX0_reflect 12 = .ok (.goto 4, 3) := by decide +kernel
theorem dX0_reflect_15 : decode cX0_reflect 15 = .ok (.iload_n 0, 1) := by decide +kernel
theorem dX0_reflect_16 : decode cX0_reflect 16 = .ok (.istore 4, 2) := by decide +kernel
theorem dX0_reflect_18 : decode cX0_reflect 18 = .ok (.iload_n 2, 1) := by decide +kernel
theorem dX0_reflect_19 : decode cX0_reflect 19 = .ok (.iload_n 1, 1) := by decide +kernel
theorem dX0_reflect_20 : decode cX0_reflect 20 = .ok (.isub, 1) := by decide +kernel
theorem dX0_reflect_21 : decode cX0_reflect 21 = .ok (.istore 5, 2) := by decide +kernel
theorem dX0_reflect_23 : decode cX0_reflect 23 = .ok (.iload 5, 2) := by decide +kernel
theorem dX0_reflect_25 : decode cX0_reflect 25 = .ok (.ifCond .le 24, 3) := by decide +kernel
theorem dX0_reflect_28 : decode cX0_reflect 28 = .ok (.iconst 3, 1) := by decide +kernel
theorem dX0_reflect_29 : decode cX0_reflect 29 = .ok (.iload_n 3, 1) := by decide +kernel
theorem dX0_reflect_30 : decode cX0_reflect 30 = .ok (.imul, 1) := by decide +kernel
theorem dX0_reflect_31 : decode cX0_reflect 31 = .ok (.iload 4, 2) := by decide +kernel
theorem dX0_reflect_33 : decode cX0_reflect 33 = .ok (.iconst 3, 1) := by decide +kernel
theorem dX0_reflect_34 : decode cX0_reflect 34 = .ok (.irem, 1) := by decide +kernel
theorem dX0_reflect_35 : decode cX0_reflect 35 = .ok (.iadd, 1) := by decide +kernel
theorem dX0_reflect_36 : decode cX0_reflect 36 = .ok (.istore_n 3, 1) := by decide +kernel
theorem dX0_reflect_37 : decode cX0_reflect 37 = .ok (.iload 4, 2) := by decide +kernel
theorem dX0_reflect_39 : decode cX0_reflect 39 = .ok (.iconst 3, 1) := by decide +kernel
theorem dX0_reflect_40 : decode cX0_reflect 40 = .ok (.idiv, 1) := by decide +kernel
theorem dX0_reflect_41 : decode cX0_reflect 41 = .ok (.istore 4, 2) := by decide +kernel
theorem dX0_reflect_43 : decode cX0_reflect 43 = .ok (.iinc 5 (-1), 3) := by decide +kernel
theorem dX0_reflect_46 : decode cX0_reflect 46 = .ok (.goto (-23), 3) := by decide +kernel
theorem dX0_reflect_49 : decode cX0_reflect 49 = .ok (.iload_n 3, 1) := by decide +kernel
theorem dX0_reflect_50 : decode cX0_reflect 50 = .ok (.ireturn, 1) := by decide +kernel
end
section
set_option maxRecDepth 100000
theorem dX1_init_0 : decode cX1_init 0 = .ok (.aload_n 0, 1) := by decide +kernel
theorem dX1_init_1 : decode cX1_init 1 = .ok (.invokespecial 1, 3) := by decide +kernel
theorem dX1_init_4 : decode cX1_init 4 = .ok (.aload_n 0, 1) := by decide +kernel
theorem dX1_init_5 : decode cX1_init 5 = .ok (.sipush 162, 3) := by decide +kernel
theorem dX1_init_8 : decode cX1_init 8 = .ok (.newarray .boolean, 2) := by decide +kernel
theorem dX1_init_10 : decode cX1_init 10 = .ok (.putfield 7, 3) := by decide +kernel
theorem dX1_init_13 : decode cX1_init 13 = .ok (.aload_n 0, 1) := by decide +kernel
theorem dX1_init_14 : decode cX1_init 14 = .ok (.bipush 27, 2) := by decide +kernel
theorem dX1_init_16 : decode cX1_init 16 = .ok (.newarray .long, 2) := by decide +kernel
theorem dX1_init_18 : decode cX1_init 18 = .ok (.putfield 13, 3) := by decide +kernel
theorem dX1_init_21 : decode cX1_init 21 = .ok (.aload_n 0, 1) := by decide +kernel
theorem dX1_init_22 : decode cX1_init 22 = .ok (.bipush 27, 2) := by decide +kernel
theorem dX1_init_24 : decode cX1_init 24 = .ok (.newarray .long, 2) := by decide +kernel
theorem dX1_init_26 : decode cX1_init 26 = .ok (.putfield 17, 3) := by decide +kernel
theorem dX1_init_29 : decode cX1_init 29 = .ok (.return_, 1) := by decide +kernel
theorem dX1_forbid_0 : decode cX1_forbid 0 = .ok (.aload_n 0, 1) := by decide +kernel
theorem dX1_forbid_1 : decode cX1_forbid 1 = .ok (.iload_n 1, 1) := by decide +kernel
theorem dX1_forbid_2 : decode cX1_forbid 2 = .ok (.invokevirtual 20, 3) := by decide +kernel
theorem dX1_forbid_5 : decode cX1_forbid 5 = .ok (.ifCond .ne 5, 3) := by decide +kernel
theorem dX1_forbid_8 : decode cX1_forbid 8 = .ok (.iconst (-1), 1) := by decide +kernel
theorem dX1_forbid_9 : decode cX1_forbid 9 = .ok (.ireturn, 1) := by decide +kernel
theorem dX1_forbid_10 : decode cX1_forbid 10 = .ok (.aload_n 0, 1) := by decide +kernel
theorem dX1_forbid_11 : decode cX1_forbid 11 = .ok (.getfield 7, 3) := by decide +kernel
theorem dX1_forbid_14 : decode cX1_forbid 14 = .ok (.iload_n 1, 1) := by decide +kernel
theorem dX1_forbid_15 : decode cX1_forbid 15 = .ok (.baload, 1) := by decide +kernel
theorem dX1_forbid_16 : decode cX1_forbid 16 = .ok (.ifCond .eq 6, 3) := by decide +kernel
theorem dX1_forbid_19 : decode cX1_forbid 19 = .ok (.bipush (-2), 2) := by decide +kernel
theorem dX1_forbid_21 : decode cX1_forbid 21 = .ok (.ireturn, 1) := by decide +kernel
theorem dX1_forbid_22 : decode cX1_forbid 22 = .ok (.aload_n 0, 1) := by decide +kernel
theorem dX1_forbid_23 : decode cX1_forbid 23 = .ok (.getfield 24, 3) := by decide +kernel
theorem dX1_forbid_26 : decode cX1_forbid 26 = .ok (.iconst 5, 1) := by decide +kernel
theorem dX1_forbid_27 : decode cX1_forbid 27 = .ok (.if_icmp .le 6, 3) := by decide +kernel
theorem dX1_forbid_30 : decode cX1_forbid 30 = .ok (.bipush (-3), 2) := by decide +kernel
theorem dX1_forbid_32 : decode cX1_forbid 32 = .ok (.ireturn, 1) := by decide +kernel
theorem dX1_forbid_33 : decode cX1_forbid 33 = .ok (.aload_n 0, 1) := by decide +kernel
theorem dX1_forbid_34 : decode cX1_forbid 34 = .ok (.getfield 7, 3) := by decide +kernel
theorem dX1_forbid_37 : decode cX1_forbid 37 = .ok (.iload_n 1, 1) := by decide +kernel
theorem dX1_forbid_38 : decode cX1_forbid 38 = .ok (.iconst 1, 1) := by decide +kernel
theorem dX1_forbid_39 : decode cX1_forbid 39 = .ok (.bastore, 1) := by decide +kernel
theorem dX1_forbid_40 : decode cX1_forbid 40 = .ok (.aload_n 0, 1) := by decide +kernel
theorem dX1_forbid_41 : decode cX1_forbid 41 = .ok (.dup, 1) := by decide +kernel
theorem dX1_forbid_42 : decode cX1_forbid 42 = .ok (.getfield 24, 3) := by decide +kernel
theorem dX1_forbid_45 : decode cX1_forbid 45 = .ok (.iconst 1, 1) := by decide +kernel
theorem dX1_forbid_46 : decode cX1_forbid 46 = .ok (.iadd, 1) := by decide +kernel
theorem dX1_forbid_47 : decode cX1_forbid 47 = .ok (.putfield 24, 3) := by decide +kernel
theorem dX1_forbid_50 : decode cX1_forbid 50 = .ok (.aload_n 0, 1) := by decide +kernel
theorem dX1_forbid_51 : decode cX1_forbid 51 = .ok (.getfield 24, 3) := by decide +kernel
theorem dX1_forbid_54 : decode cX1_forbid 54 = .ok (.ireturn, 1) := by decide +kernel
theorem dX1_letters_0 : decode cX1_letters 0 = .ok (.iload_n 1, 1) := by decide +kernel
theorem dX1_letters_1 : decode cX1_letters 1 = .ok (.iconst 2, 1) := by decide +kernel
theorem dX1_letters_2 : decode cX1_letters 2 = .ok (.if_icmp .le 11, 3) := by decide +kernel
theorem dX1_letters_5 : decode cX1_letters 5 = .ok (.iload_n 1, 1) := by decide +kernel
theorem dX1_letters_6 : decode cX1_letters 6 = .ok (.bipush 6, 2) := by decide +kernel
theorem dX1_letters_8 : decode cX1_letters 8 = .ok (.if_icmp .ge 5, 3) := by decide +kernel
theorem dX1_letters_11 : decode cX1_letters 11 = .ok (.iconst 1, 1) := by decide +kernel
theorem dX1_letters_12 : decode cX1_letters 12 = .ok (.ireturn, 1) := by decide +kernel
theorem dX1_letters_13 : decode cX1_letters 13 = .ok (.iload_n 1, 1) := by decide +kernel
theorem dX1_letters_14 : decode cX1_letters 14 = .ok (.bipush 8, 2) := by decide +kernel
theorem dX1_letters_16 : decode cX1_letters 16 = .ok (.if_icmp .le 11, 3) := by decide +kernel
theorem dX1_letters_19 : decode cX1_letters 19 = .ok (.iload_n 1, 1) := by decide +kernel
theorem dX1_letters_20 : decode cX1_letters 20 = .ok (.bipush 18, 2) := by decide +kernel
theorem dX1_letters_22 : decode cX1_letters 22 = .ok (.if_icmp .ge 5, 3) := by decide +kernel
theorem dX1_letters_25 : decode cX1_letters 25 = .ok (.iconst 2, 1) := by decide +kernel
theorem dX1_letters_26 : decode cX1_letters 26 = .ok (.ireturn, 1) := by decide +kernel
theorem dX1_letters_27 : decode cX1_letters 27 = .ok (.iload_n 1, 1) := by decide +kernel
theorem dX1_letters_28 : decode cX1_letters 28 = .ok (.bipush 26, 2) := by decide +kernel
theorem dX1_letters_30 : decode cX1_letters 30 = .ok (.if_icmp .le 11, 3) := by decide +kernel
theorem dX1_letters_33 : decode cX1_letters 33 = .ok (.iload_n 1, 1) := by decide +kernel
theorem dX1_letters_34 : decode cX1_letters 34 = .ok (.bipush 54, 2) := by decide +kernel
theorem dX1_letters_36 : decode cX1_letters 36 = .ok (.if_icmp .ge 5, 3) := by decide +kernel
theorem dX1_letters_39 : decode cX1_letters 39 = .ok (.iconst 3, 1) := by decide +kernel
theorem dX1_letters_40 : decode cX1_letters 40 = .ok (.ireturn, 1) := by decide +kernel
theorem dX1_letters_41 : decode cX1_letters 41 = .ok (.iload_n 1, 1) := by decide +kernel
theorem dX1_letters_42 : decode cX1_letters 42 = .ok (.bipush 80, 2) := by decide +kernel
theorem dX1_letters_44 : decode cX1_letters 44 = .ok (.if_icmp .le 14, 3) := by decide +kernel
theorem dX1_letters_47 : decode cX1_letters 47 = .ok (.iload_n 1, 1) := by decide +kernel
theorem dX1_letters_48 : decode cX1_letters 48 = .ok (.sipush 162, 3) := by decide +kernel
theorem dX1_letters_51 : decode cX1_letters 51 = .ok (.if_icmp .ge 7, 3) := by decide +kernel
theorem dX1_letters_54 : decode cX1_letters 54 = .ok (.iconst 4, 1) := by decide +kernel
theorem dX1_letters_55 : decode cX1_letters 55 = .ok (.goto 4, 3) := by decide +kernel
theorem dX1_letters_58 : decode cX1_letters 58 = .ok (.iconst 0, 1) := by decide +kernel
theorem dX1_letters_59 : decode cX1_letters 59 = .ok (.ireturn, 1) := by decide +kernel
theorem dX1_permit_0 : decode cX1_permit 0 = .ok (.aload_n 0, 1) := by decide +kernel
theorem dX1_permit_1 : decode cX1_permit 1 = .ok (.iload_n 1, 1) := by decide +kernel
theorem dX1_permit_2 : decode cX1_permit 2 = .ok (.invokevirtual 20, 3) := by decide +kernel
theorem dX1_permit_5 : decode cX1_permit 5 = .ok (.ifCond .eq 12, 3) := by decide +kernel
theorem dX1_permit_8 : decode cX1_permit 8 = .ok (.aload_n 0, 1) := by decide +kernel
theorem dX1_permit_9 : decode cX1_permit 9 = .ok (.getfield 7, 3) := by decide +kernel
theorem dX1_permit_12 : decode cX1_permit 12 = .ok (.iload_n 1, 1) := by decide +kernel
theorem dX1_permit_13 : decode cX1_permit 13 = .ok (.baload, 1) := by decide +kernel
theorem dX1_permit_14 : decode cX1_permit 14 = .ok (.ifCond .ne 5, 3) := by decide +kernel
theorem dX1_permit_17 : decode cX1_permit 17 = .ok (.iconst (-1), 1) := by decide +kernel
theorem dX1_permit_18 : decode cX1_permit 18 = .ok (.ireturn, 1) := by decide +kernel
theorem dX1_permit_19 : decode cX1_permit 19 = .ok (.aload_n 0, 1) := by decide +kernel
theorem dX1_permit_20 : decode cX1_permit 20 = .ok (.getfield 7, 3) := by decide +kernel
theorem dX1_permit_23 : decode cX1_permit 23 = .ok (.iload_n 1, 1) := by decide +kernel
theorem dX1_permit_24 : decode cX1_permit 24 = .ok (.iconst 0, 1) := by decide +kernel
theorem dX1_permit_25 : decode cX1_permit 25 = .ok (.bastore, 1) := by decide +kernel
theorem dX1_permit_26 : decode cX1_permit 26 = .ok (.aload_n 0, 1) := by decide +kernel
theorem dX1_permit_27 : decode cX1_permit 27 = .ok (.dup, 1) := by decide +kernel
theorem dX1_permit_28 : decode cX1_permit 28 = .ok (.getfield 24, 3) := by decide +kernel
theorem dX1_permit_31 : decode cX1_permit 31 = .ok (.iconst 1, 1) := by decide +kernel
theorem dX1_permit_32 : decode cX1_permit 32 = .ok (.isub, 1) := by decide +kernel
theorem dX1_permit_33 : decode cX1_permit 33 = .ok (.putfield 24, 3) := by decide +kernel
theorem dX1_permit_36 : decode cX1_permit 36 = .ok (.aload_n 0, 1) := by decide +kernel
theorem dX1_permit_37 : decode cX1_permit 37 = .ok (.getfield 24, 3) := by decide +kernel
theorem dX1_permit_40 : decode cX1_permit 40 = .ok (.ireturn, 1) := by decide +kernel
theorem dX1_pieces_0 : decode cX1_pieces 0 = .ok (.aload_n 0, 1) := by decide +kernel
theorem dX1_pieces_1 : decode cX1_pieces 1 = .ok (.getfield 24, 3) := by decide +kernel
theorem dX1_pieces_4 : decode cX1_pieces 4 = .ok (.ireturn, 1) := by decide +kernel
theorem dX1_allowed_0 : decode cX1_allowed 0 = .ok (.aload_n 0, 1) := by decide +kernel
theorem dX1_allowed_1 : decode cX1_allowed 1 = .ok (.iload_n 1, 1) := by decide +kernel
theorem dX1_allowed_2 : decode cX1_allowed 2 = .ok (.invokevirtual 31, 3) := by decide +kernel
theorem dX1_allowed_5 : decode cX1_allowed 5 = .ok (.ifCond .eq 5, 3) := by decide +kernel
theorem dX1_allowed_8 : decode cX1_allowed 8 = .ok (.iconst (-1), 1) := by decide +kernel
theorem dX1_allowed_9 : decode cX1_allowed 9 = .ok (.ireturn, 1) := by decide +kernel
theorem dX1_allowed_10 : decode cX1_allowed 10 = .ok (.aload_n 0, 1) := by decide +kernel
theorem dX1_allowed_11 : decode cX1_allowed 11 = .ok (.iload_n 1, 1) := by decide +kernel
theorem dX1_allowed_12 : decode cX1_allowed 12 = .ok (.iload_n 2, 1) := by decide +kernel
theorem dX1_allowed_13 : decode cX1_allowed 13 = .ok (.invokevirtual 35, 3) := by decide +kernel
theorem dX1_allowed_16 : decode cX1_allowed 16 = .ok (.ifCond .eq 6, 3) := by decide +kernel
theorem dX1_allowed_19 : decode cX1_allowed 19 = .ok (.bipush (-2), 2) := by decide +kernel
theorem dX1_allowed_21 : decode cX1_allowed 21 = .ok (.ireturn, 1) := by decide +kernel
theorem dX1_allowed_22 : decode cX1_allowed 22 = .ok (.aload_n 0, 1) := by decide +kernel
theorem dX1_allowed_23 : decode cX1_allowed 23 = .ok (.iload_n 1, 1) := by decide +kernel
theorem dX1_allowed_24 : decode cX1_allowed 24 = .ok (.iload_n 2, 1) := by decide +kernel
theorem dX1_allowed_25 : decode cX1_allowed 25 = .ok (.invokevirtual 39, 3) := by decide +kernel
theorem dX1_allowed_28 : decode cX1_allowed 28 = .ok (.ifCond .eq 7, 3) := by decide +kernel
theorem dX1_allowed_31 : decode cX1_allowed 31 = .ok (.iconst 1, 1) := by decide +kernel
theorem dX1_allowed_32 : decode cX1_allowed 32 = .ok (.goto 4, 3) := by decide +kernel
theorem dX1_allowed_35 : decode cX1_allowed 35 = .ok (.iconst 0, 1) := by decide +kernel
theorem dX1_allowed_36 : decode cX1_allowed 36 = .ok (.ireturn, 1) := by decide +kernel
theorem dX1_badLength_0 : decode cX1_badLength 0 = .ok (.iload_n 1, 1) := by decide +kernel
theorem dX1_badLength_1 : decode cX1_badLength 1 = .ok (.ifCond .lt 9, 3) := by decide +kernel
theorem dX1_badLength_4 : decode cX1_badLength 4 = .ok (.iload_n 1, 1) := by decide +kernel
theorem dX1_badLength_5 : decode cX1_badLength 5 = .ok (.bipush 9, 2) := by decide +kernel
theorem dX1_badLength_7 : decode cX1_badLength 7 = .ok (.if_icmp .le 7, 3) := by decide +kernel
theorem dX1_badLength_10 : decode cX1_badLength 10 = .ok (.iconst 1, 1) := by decide +kernel
theorem dX1_badLength_11 : decode cX1_badLength 11 = .ok (.goto 4, 3) := by decide +kernel
theorem dX1_badLength_14 : decode cX1_badLength 14 = .ok (.iconst 0, 1) := by decide +kernel
theorem dX1_badLength_15 : decode cX1_badLength 15 = .ok (.ireturn, 1) := by decide +kernel
theorem dX1_badCode_0 : decode cX1_badCode 0 = .ok (.iload_n 2, 1) := by decide +kernel
theorem dX1_badCode_1 : decode cX1_badCode 1 = .ok (.ifCond .lt 12, 3) := by decide +kernel
theorem dX1_badCode_4 : decode cX1_badCode 4 = .ok (.iload_n 2, 1) := by decide +kernel
theorem dX1_badCode_5 : decode cX1_badCode 5 = .ok (.aload_n 0, 1) := by decide +kernel
theorem dX1_badCode_6 : decode cX1_badCode 6 = .ok (.iload_n 1, 1) := by decide +kernel
theorem dX1_badCode_7 : decode cX1_badCode 7 = .ok (.invokevirtual 28, 3) := by decide +kernel
theorem dX1_badCode_10 : decode cX1_badCode 10 = .ok (.if_icmp .lt 7, 3) := by decide +kernel
theorem dX1_badCode_13 : decode cX1_badCode 13 = .ok (.iconst 1, 1) := by decide +kernel
theorem dX1_badCode_14 : decode cX1_badCode 14 = .ok (.goto 4, 3) := by decide +kernel
theorem dX1_badCode_17 : decode cX1_badCode 17 = .ok (.iconst 0, 1) := by decide +kernel
theorem dX1_badCode_18 : decode cX1_badCode 18 = .ok (.ireturn, 1) := by decide +kernel
theorem dX1_power_0 : decode cX1_power 0 = .ok (.iconst 1, 1) := by decide +kernel
theorem dX1_power_1 : decode cX1_power 1 = .ok (.istore_n 2, 1) := by decide +kernel
theorem dX1_power_2 : decode cX1_power 2 = .ok (.iconst 0, 1) := by decide +kernel
theorem dX1_power_3 : decode cX1_power 3 = .ok (.istore_n 3, 1) := by decide +kernel
theorem dX1_power_4 : decode cX1_power 4 = .ok (.iload_n 3, 1) := by decide +kernel
theorem dX1_power_5 : decode cX1_power 5 = .ok (.iload_n 1, 1) := by decide +kernel
theorem dX1_power_6 : decode cX1_power 6 = .ok (.if_icmp .ge 13, 3) := by decide +kernel
theorem dX1_power_9 : decode cX1_power 9 = .ok (.iconst 3, 1) := by decide +kernel
theorem dX1_power_10 : decode cX1_power 10 = .ok (.iload_n 2, 1) := by decide +kernel
theorem dX1_power_11 : decode cX1_power 11 = .ok (.imul, 1) := by decide +kernel
theorem dX1_power_12 : decode cX1_power 12 = .ok (.istore_n 2, 1) := by decide +kernel
theorem dX1_power_13 : decode cX1_power 13 = .ok (.iinc 3 1, 3) := by decide +kernel
theorem dX1_power_16 : decode cX1_power 16 = .ok (.goto (-12), 3) := by decide +kernel
theorem dX1_power_19 : decode cX1_power 19 = .ok (.iload_n 2, 1) := by decide +kernel
theorem dX1_power_20 : decode cX1_power 20 = .ok (.ireturn, 1) := by decide +kernel
theorem dX1_good_0 : decode cX1_good 0 = .ok (.iload_n 2, 1) := by decide +kernel
theorem dX1_good_1 : decode cX1_good 1 = .ok (.istore_n 3, 1) := by decide +kernel
theorem dX1_good_2 : decode cX1_good 2 = .ok (.iload_n 1, 1) := by decide +kernel
theorem dX1_good_3 : decode cX1_good 3 = .ok (.istore 4, 2) := by decide +kernel
theorem dX1_good_5 : decode cX1_good 5 = .ok (.iload 4, 2) := by decide +kernel
theorem dX1_good_7 : decode cX1_good 7 = .ok (.ifCond .le 97, 3) := by decide +kernel
theorem dX1_good_10 : decode cX1_good 10 = .ok (.aload_n 0, 1) := by decide +kernel
theorem dX1_good_11 : decode cX1_good 11 = .ok (.getfield 7, 3) := by decide +kernel
theorem dX1_good_14 : decode cX1_good 14 = .ok (.iconst 3, 1) := by decide +kernel
theorem dX1_good_15 : decode cX1_good 15 = .ok (.iload_n 3, 1) := by decide +kernel
theorem dX1_good_16 : decode cX1_good 16 = .ok (.iconst 3, 1) := by decide +kernel
theorem dX1_good_17 : decode cX1_good 17 = .ok (.irem, 1) := by decide +kernel
theorem dX1_good_18 : decode cX1_good 18 = .ok (.iadd, 1) := by decide +kernel
theorem dX1_good_19 : decode cX1_good 19 = .ok (.baload, 1) := by decide +kernel
theorem dX1_good_20 : decode cX1_good 20 = .ok (.ifCond .eq 5, 3) := by decide +kernel
theorem dX1_good_23 : decode cX1_good 23 = .ok (.iconst 0, 1) := by decide +kernel
theorem dX1_good_24 : decode cX1_good 24 = .ok (.ireturn, 1) := by decide +kernel
theorem dX1_good_25 : decode cX1_good 25 = .ok (.iload 4, 2) := by decide +kernel
theorem dX1_good_27 : decode cX1_good 27 = .ok (.iconst 1, 1) := by decide +kernel
theorem dX1_good_28 : decode cX1_good 28 = .ok (.if_icmp .le 20, 3) := by decide +kernel
theorem dX1_good_31 : decode cX1_good 31 = .ok (.aload_n 0, 1) := by decide +kernel
theorem dX1_good_32 : decode cX1_good 32 = .ok (.getfield 7, 3) := by decide +kernel
theorem dX1_good_35 : decode cX1_good 35 = .ok (.bipush 9, 2) := by decide +kernel
theorem dX1_good_37 : decode cX1_good 37 = .ok (.iload_n 3, 1) := by decide +kernel
theorem dX1_good_38 : decode cX1_good 38 = .ok (.bipush 9, 2) := by decide +kernel
theorem dX1_good_40 : decode cX1_good 40 = .ok (.irem, 1) := by decide +kernel
theorem dX1_good_41 : decode cX1_good 41 = .ok (.iadd, 1) := by decide +kernel
theorem dX1_good_42 : decode cX1_good 42 = .ok (.baload, 1) := by decide +kernel
theorem dX1_good_43 : decode cX1_good 43 = .ok (.ifCond .eq 5, 3) := by decide +kernel
theorem dX1_good_46 : decode cX1_good 46 = .ok (.iconst 0, 1) := by decide +kernel
theorem dX1_good_47 : decode cX1_good 47 = .ok (.ireturn, 1) := by decide +kernel
theorem dX1_good_48 : decode cX1_good 48 = .ok (.iload 4, 2) := by decide +kernel
theorem dX1_good_50 : decode cX1_good 50 = .ok (.iconst 2, 1) := by decide +kernel
theorem dX1_good_51 : decode cX1_good 51 = .ok (.if_icmp .le 20, 3) := by decide +kernel
theorem dX1_good_54 : decode cX1_good 54 = .ok (.aload_n 0, 1) := by decide +kernel
theorem dX1_good_55 : decode cX1_good 55 = .ok (.getfield 7, 3) := by decide +kernel
theorem dX1_good_58 : decode cX1_good 58 = .ok (.bipush 27, 2) := by decide +kernel
theorem dX1_good_60 : decode cX1_good 60 = .ok (.iload_n 3, 1) := by decide +kernel
theorem dX1_good_61 : decode cX1_good 61 = .ok (.bipush 27, 2) := by decide +kernel
theorem dX1_good_63 : decode cX1_good 63 = .ok (.irem, 1) := by decide +kernel
theorem dX1_good_64 : decode cX1_good 64 = .ok (.iadd, 1) := by decide +kernel
theorem dX1_good_65 : decode cX1_good 65 = .ok (.baload, 1) := by decide +kernel
theorem dX1_good_66 : decode cX1_good 66 = .ok (.ifCond .eq 5, 3) := by decide +kernel
theorem dX1_good_69 : decode cX1_good 69 = .ok (.iconst 0, 1) := by decide +kernel
theorem dX1_good_70 : decode cX1_good 70 = .ok (.ireturn, 1) := by decide +kernel
theorem dX1_good_71 : decode cX1_good 71 = .ok (.iload 4, 2) := by decide +kernel
theorem dX1_good_73 : decode cX1_good 73 = .ok (.iconst 3, 1) := by decide +kernel
theorem dX1_good_74 : decode cX1_good 74 = .ok (.if_icmp .le 20, 3) := by decide +kernel
theorem dX1_good_77 : decode cX1_good 77 = .ok (.aload_n 0, 1) := by decide +kernel
theorem dX1_good_78 : decode cX1_good 78 = .ok (.getfield 7, 3) := by decide +kernel
theorem dX1_good_81 : decode cX1_good 81 = .ok (.bipush 81, 2) := by decide +kernel
theorem dX1_good_83 : decode cX1_good 83 = .ok (.iload_n 3, 1) := by decide +kernel
theorem dX1_good_84 : decode cX1_good 84 = .ok (.bipush 81, 2) := by decide +kernel
theorem dX1_good_86 : decode cX1_good 86 = .ok (.irem, 1) := by decide +kernel
theorem dX1_good_87 : decode cX1_good 87 = .ok (.iadd, 1) := by decide +kernel
theorem dX1_good_88 : decode cX1_good 88 = .ok (.baload, 1) := by decide +kernel
theorem dX1_good_89 : decode cX1_good 89 = .ok (.ifCond .eq 5, 3) := by decide +kernel
theorem dX1_good_92 : decode cX1_good 92 = .ok (.iconst 0, 1) := by decide +kernel
theorem dX1_good_93 : decode cX1_good 93 = .ok (.ireturn, 1) := by decide +kernel
theorem dX1_good_94 : decode cX1_good 94 = .ok (.iload_n 3, 1) := by decide +kernel
theorem dX1_good_95 : decode cX1_good 95 = .ok (.iconst 3, 1) := by decide +kernel
theorem dX1_good_96 : decode cX1_good 96 = .ok (.idiv, 1) := by decide +kernel
theorem dX1_good_97 : decode cX1_good 97 = .ok (.istore_n 3, 1) := by decide +kernel
theorem dX1_good_98 : decode cX1_good 98 = .ok (.iinc 4 (-1), 3) := by decide +kernel
theorem dX1_good_101 : decode cX1_good 101 = .ok (.goto (-96), 3) := by decide +kernel
theorem dX1_good_104 : decode cX1_good 104 = .ok (.iconst 1, 1) := by decide +kernel
theorem dX1_good_105 : decode cX1_good 105 = .ok (.ireturn, 1) := by decide +kernel
theorem dX1_count_0 : decode cX1_count 0 = .ok (.iload_n 1, 1) := by decide +kernel
theorem dX1_count_1 : decode cX1_count 1 = .ok (.ifCond .lt 9, 3) := by decide +kernel
theorem dX1_count_4 : decode cX1_count 4 = .ok (.iload_n 1, 1) := by decide +kernel
theorem dX1_count_5 : decode cX1_count 5 = .ok (.bipush 30, 2) := by decide +kernel
theorem dX1_count_7 : decode cX1_count 7 = .ok (.if_icmp .le 7, 3) := by decide +kernel
theorem dX1_count_10 : decode cX1_count 10 = .ok (.ldc2_w 42, 3) := by decide +kernel
theorem dX1_count_13 : decode cX1_count 13 = .ok (.lreturn, 1) := by decide +kernel
theorem dX1_count_14 : decode cX1_count 14 = .ok (.iload_n 1, 1) := by decide +kernel
theorem dX1_count_15 : decode cX1_count 15 = .ok (.iconst 4, 1) := by decide +kernel
theorem dX1_count_16 : decode cX1_count 16 = .ok (.if_icmp .ge 10, 3) := by decide +kernel
theorem dX1_count_19 : decode cX1_count 19 = .ok (.aload_n 0, 1) := by decide +kernel
theorem dX1_count_20 : decode cX1_count 20 = .ok (.iload_n 1, 1) := by decide +kernel
theorem dX1_count_21 : decode cX1_count 21 = .ok (.invokevirtual 44, 3) := by decide +kernel
theorem dX1_count_24 : decode cX1_count 24 = .ok (.i2l, 1) := by decide +kernel
theorem dX1_count_25 : decode cX1_count 25 = .ok (.lreturn, 1) := by decide +kernel
theorem dX1_count_26 : decode cX1_count 26 = .ok (.iconst 0, 1) := by decide +kernel
theorem dX1_count_27 : decode cX1_count 27 = .ok (.istore_n 2, 1) := by decide +kernel
theorem dX1_count_28 : decode cX1_count 28 = .ok (.iload_n 2, 1) := by decide +kernel
theorem dX1_count_29 : decode cX1_count 29 = .ok (.bipush 27, 2) := by decide +kernel
theorem dX1_count_31 : decode cX1_count 31 = .ok (.if_icmp .ge 29, 3) := by decide +kernel
theorem dX1_count_34 : decode cX1_count 34 = .ok (.aload_n 0, 1) := by decide +kernel
theorem dX1_count_35 : decode cX1_count 35 = .ok (.getfield 13, 3) := by decide +kernel
theorem dX1_count_38 : decode cX1_count 38 = .ok (.iload_n 2, 1) := by decide +kernel
theorem dX1_count_39 : decode cX1_count 39 = .ok (.aload_n 0, 1) := by decide +kernel
theorem dX1_count_40 : decode cX1_count 40 = .ok (.iconst 3, 1) := by decide +kernel
theorem dX1_count_41 : decode cX1_count 41 = .ok (.iload_n 2, 1) := by decide +kernel
theorem dX1_count_42 : decode cX1_count 42 = .ok (.invokevirtual 39, 3) := by decide +kernel
theorem dX1_count_45 : decode cX1_count 45 = .ok (.ifCond .eq 7, 3) := by decide +kernel
theorem dX1_count_48 : decode cX1_count 48 = .ok (.lconst 1, 1) := by decide +kernel
theorem dX1_count_49 : decode cX1_count 49 = .ok (.goto 4, 3) := by decide +kernel
theorem dX1_count_52 : decode cX1_count 52 = .ok (.lconst 0, 1) := by decide +kernel
theorem dX1_count_53 : decode cX1_count 53 = .ok (.lastore, 1) := by decide +kernel
theorem dX1_count_54 : decode cX1_count 54 = .ok (.iinc 2 1, 3) := by decide +kernel
theorem dX1_count_57 : decode cX1_count 57 = .ok (.goto (-29), 3) := by decide +kernel
theorem dX1_count_60 : decode cX1_count 60 = .ok (.iconst 3, 1) := by decide +kernel
theorem dX1_count_61 : decode cX1_count 61 = .ok (.istore_n 2, 1) := by decide +kernel
theorem dX1_count_62 : decode cX1_count 62 = .ok (.iload_n 2, 1) := by decide +kernel
theorem dX1_count_63 : decode cX1_count 63 = .ok (.iload_n 1, 1) := by decide +kernel
theorem dX1_count_64 : decode cX1_count 64 = .ok (.if_icmp .ge 13, 3) := by decide +kernel
theorem dX1_count_67 : decode cX1_count 67 = .ok (.aload_n 0, 1) := by decide +kernel
theorem dX1_count_68 : decode cX1_count 68 = .ok (.invokevirtual 47, 3) := by decide +kernel
theorem dX1_count_71 : decode cX1_count 71 = .ok (.iinc 2 1, 3) := by decide +kernel
theorem dX1_count_74 : decode cX1_count 74 = .ok (.goto (-12), 3) := by decide +kernel
theorem dX1_count_77 : decode cX1_count 77 = .ok (.lconst 0, 1) := by decide +kernel
theorem dX1_count_78 : decode cX1_count 78 = .ok (.lstore_n 2, 1) := by decide +kernel
theorem dX1_count_79 : decode cX1_count 79 = .ok (.iconst 0, 1) := by decide +kernel
theorem dX1_count_80 : decode cX1_count 80 = .ok (.istore 4, 2) := by decide +kernel
theorem dX1_count_82 : decode cX1_count 82 = .ok (.iload 4, 2) := by decide +kernel
theorem dX1_count_84 : decode cX1_count 84 = .ok (.bipush 27, 2) := by decide +kernel
theorem dX1_count_86 : decode cX1_count 86 = .ok (.if_icmp .ge 19, 3) := by decide +kernel
theorem dX1_count_89 : decode cX1_count 89 = .ok (.lload_n 2, 1) := by decide +kernel
theorem dX1_count_90 : decode cX1_count 90 = .ok (.aload_n 0, 1) := by decide +kernel
theorem dX1_count_91 : decode cX1_count 91 = .ok (.getfield 13, 3) := by decide +kernel
theorem dX1_count_94 : decode cX1_count 94 = .ok (.iload 4, 2) := by decide +kernel
theorem dX1_count_96 : decode cX1_count 96 = .ok (.laload, 1) := by decide +kernel
theorem dX1_count_97 : decode cX1_count 97 = .ok (.ladd, 1) := by decide +kernel
theorem dX1_count_98 : decode cX1_count 98 = .ok (.lstore_n 2, 1) := by decide +kernel
theorem dX1_count_99 : decode cX1_count 99 = .ok (.iinc 4 1, 3) := by decide +kernel
theorem dX1_count_102 : decode cX1_count 102 = .ok (.goto (-20), 3) := by decide +kernel
theorem dX1_count_105 : decode cX1_count 105 = .ok (.lload_n 2, 1) := by decide +kernel
theorem dX1_count_106 : decode cX1_count 106 = .ok (.lreturn, 1) := by decide +kernel
theorem dX1_plainCount_0 : decode cX1_plainCount 0 = .ok (.aload_n 0, 1) := by decide +kernel
theorem dX1_plainCount_1 : decode cX1_plainCount 1 = .ok (.iload_n 1, 1) := by decide +kernel
theorem dX1_plainCount_2 : decode cX1_plainCount 2 = .ok (.invokevirtual 28, 3) := by decide +kernel
theorem dX1_plainCount_5 : decode cX1_plainCount 5 = .ok (.istore_n 2, 1) := by decide +kernel
theorem dX1_plainCount_6 : decode cX1_plainCount 6 = .ok (.iconst 0, 1) := by decide +kernel
theorem dX1_plainCount_7 : decode cX1_plainCount 7 = .ok (.istore_n 3, 1) := by decide +kernel
theorem dX1_plainCount_8 : decode cX1_plainCount 8 = .ok (.iconst 0, 1) := by decide +kernel
theorem dX1_plainCount_9 : decode cX1_plainCount 9 = .ok (.istore 4, 2) := by decide +kernel
theorem dX1_plainCount_11 : decode cX1_plainCount 11 = .ok (.iload 4, 2) := by decide +kernel
theorem dX1_plainCount_13 : decode cX1_plainCount 13 = .ok (.iload_n 2, 1) := by decide +kernel
theorem dX1_plainCount_14 : decode cX1_plainCount 14 = .ok (.if_icmp .ge 22, 3) := by decide +kernel
theorem dX1_plainCount_17 : decode cX1_plainCount 17 = .ok (.aload_n 0, 1) := by decide +kernel
theorem dX1_plainCount_18 : decode cX1_plainCount 18 = .ok (.iload_n 1, 1) := by decide +kernel
theorem dX1_plainCount_19 : decode cX1_plainCount 19 = .ok (.iload 4, 2) := by decide +kernel
theorem dX1_plainCount_21 : decode cX1_plainCount 21 = .ok (.invokevirtual 39, 3) := by decide +kernel
theorem dX1_plainCount_24 : decode cX1_plainCount 24 = .ok (.ifCond .eq 6, 3) := by decide +kernel
theorem dX1_plainCount_27 : decode cX1_plainCount 27 = .ok (.iinc 3 1, 3) := by decide +kernel
theorem dX1_plainCount_30 : decode cX1_plainCount 30 = .ok (.iinc 4 1, 3) := by decide +kernel
theorem dX1_plainCount_33 : decode cX1_plainCount 33 = .ok (.goto (-22), 3) := by decide +kernel
theorem dX1_plainCount_36 : decode cX1_plainCount 36 = .ok (.iload_n 3, 1) := by decide +kernel
theorem dX1_plainCount_37 : decode cX1_plainCount 37 = .ok (.ireturn, 1) := by decide +kernel
theorem dX1_grow_0 : decode cX1_grow 0 = .ok (.iconst 0, 1) := by decide +kernel
theorem dX1_grow_1 : decode cX1_grow 1 = .ok (.istore_n 1, 1) := by decide +kernel
theorem dX1_grow_2 : decode cX1_grow 2 = .ok (.iload_n 1, 1) := by decide +kernel
theorem dX1_grow_3 : decode cX1_grow 3 = .ok (.bipush 27, 2) := by decide +kernel
theorem dX1_grow_5 : decode cX1_grow 5 = .ok (.if_icmp .ge 16, 3) := by decide +kernel
theorem dX1_grow_8 : decode cX1_grow 8 = .ok (.aload_n 0, 1) := by decide +kernel
theorem dX1_grow_9 : decode cX1_grow 9 = .ok (.getfield 17, 3) := by decide +kernel
theorem dX1_grow_12 : decode cX1_grow 12 = .ok (.iload_n 1, 1) := by decide +kernel
theorem dX1_grow_13 : decode cX1_grow 13 = .ok (.lconst 0, 1) := by decide +kernel
theorem dX1_grow_14 : decode cX1_grow 14 = .ok (.lastore, 1) := by decide +kernel
theorem dX1_grow_15 : decode cX1_grow 15 = .ok (.iinc 1 1, 3) := by decide +kernel
theorem dX1_grow_18 : decode cX1_grow 18 = .ok (.goto (-16), 3) := by decide +kernel
theorem dX1_grow_21 : decode cX1_grow 21 = .ok (.iconst 0, 1) := by decide +kernel
theorem dX1_grow_22 : decode cX1_grow 22 = .ok (.istore_n 1, 1) := by decide +kernel
theorem dX1_grow_23 : decode cX1_grow 23 = .ok (.iload_n 1, 1) := by decide +kernel
theorem dX1_grow_24 : decode cX1_grow 24 = .ok (.bipush 27, 2) := by decide +kernel
theorem dX1_grow_26 : decode cX1_grow 26 = .ok (.if_icmp .ge 57, 3) := by decide +kernel
theorem dX1_grow_29 : decode cX1_grow 29 = .ok (.iconst 0, 1) := by decide +kernel
theorem dX1_grow_30 : decode cX1_grow 30 = .ok (.istore_n 2, 1) := by decide +kernel
theorem dX1_grow_31 : decode cX1_grow 31 = .ok (.iload_n 2, 1) := by decide +kernel
theorem dX1_grow_32 : decode cX1_grow 32 = .ok (.iconst 3, 1) := by decide +kernel
theorem dX1_grow_33 : decode cX1_grow 33 = .ok (.if_icmp .ge 44, 3) := by decide +kernel
theorem dX1_grow_36 : decode cX1_grow 36 = .ok (.aload_n 0, 1) := by decide +kernel
theorem dX1_grow_37 : decode cX1_grow 37 = .ok (.iconst 4, 1) := by decide +kernel
theorem dX1_grow_38 : decode cX1_grow 38 = .ok (.iconst 3, 1) := by decide +kernel
theorem dX1_grow_39 : decode cX1_grow 39 = .ok (.iload_n 1, 1) := by decide +kernel
theorem dX1_grow_40 : decode cX1_grow 40 = .ok (.imul, 1) := by decide +kernel
theorem dX1_grow_41 : decode cX1_grow 41 = .ok (.iload_n 2, 1) := by decide +kernel
theorem dX1_grow_42 : decode cX1_grow 42 = .ok (.iadd, 1) := by decide +kernel
theorem dX1_grow_43 : decode cX1_grow 43 = .ok (.invokevirtual 39, 3) := by decide +kernel
theorem dX1_grow_46 : decode cX1_grow 46 = .ok (.ifCond .eq 25, 3) := by decide +kernel
theorem dX1_grow_49 : decode cX1_grow 49 = .ok (.aload_n 0, 1) := by decide +kernel
theorem dX1_grow_50 : decode cX1_grow 50 = .ok (.getfield 17, 3) := by decide +kernel
theorem dX1_grow_53 : decode cX1_grow 53 = .ok (.iconst 3, 1) := by decide +kernel
theorem dX1_grow_54 : decode cX1_grow 54 = .ok (.iload_n 1, 1) := by decide +kernel
theorem dX1_grow_55 : decode cX1_grow 55 = .ok (.imul, 1) := by decide +kernel
theorem dX1_grow_56 : decode cX1_grow 56 = .ok (.iload_n 2, 1) := by decide +kernel
theorem dX1_grow_57 : decode cX1_grow 57 = .ok (.iadd, 1) := by decide +kernel
theorem dX1_grow_58 : decode cX1_grow 58 = .ok (.bipush 27, 2) := by decide +kernel
theorem dX1_grow_60 : decode cX1_grow 60 = .ok (.irem, 1) := by decide +kernel
theorem dX1_grow_61 : decode cX1_grow 61 = .ok (.dup2, 1) := by decide +kernel
theorem dX1_grow_62 : decode cX1_grow 62 = .ok (.laload, 1) := by decide +kernel
theorem dX1_grow_63 : decode cX1_grow 63 = .ok (.aload_n 0, 1) := by decide +kernel
theorem dX1_grow_64 : decode cX1_grow 64 = .ok (.getfield 13, 3) := by decide +kernel
theorem dX1_grow_67 : decode cX1_grow 67 = .ok (.iload_n 1, 1) := by decide +kernel
theorem dX1_grow_68 : decode cX1_grow 68 = .ok (.laload, 1) := by decide +kernel
theorem dX1_grow_69 : decode cX1_grow 69 = .ok (.ladd, 1) := by decide +kernel
theorem dX1_grow_70 : decode cX1_grow 70 = .ok (.lastore, 1) := by decide +kernel
theorem dX1_grow_71 : decode cX1_grow 71 = .ok (.iinc 2 1, 3) := by decide +kernel
theorem dX1_grow_74 : decode cX1_grow 74 = .ok (.goto (-43), 3) := by decide +kernel
theorem dX1_grow_77 : decode cX1_grow 77 = .ok (.iinc 1 1, 3) := by decide +kernel
theorem dX1_grow_80 : decode cX1_grow 80 = .ok (.goto (-57), 3) := by decide +kernel
theorem dX1_grow_83 : decode cX1_grow 83 = .ok (.iconst 0, 1) := by decide +kernel
theorem dX1_grow_84 : decode cX1_grow 84 = .ok (.istore_n 1, 1) := by decide +kernel
theorem dX1_grow_85 : decode cX1_grow 85 = .ok (.iload_n 1, 1) := by decide +kernel
theorem dX1_grow_86 : decode cX1_grow 86 = .ok (.bipush 27, 2) := by decide +kernel
theorem dX1_grow_88 : decode cX1_grow 88 = .ok (.if_icmp .ge 21, 3) := by decide +kernel
theorem dX1_grow_91 : decode cX1_grow 91 = .ok (.aload_n 0, 1) := by decide +kernel
theorem dX1_grow_92 : decode cX1_grow 92 = .ok (.getfield 13, 3) := by decide +kernel
theorem dX1_grow_95 : decode cX1_grow 95 = .ok (.iload_n 1, 1) := by decide +kernel
theorem dX1_grow_96 : decode cX1_grow 96 = .ok (.aload_n 0, 1) := by decide +kernel
theorem dX1_grow_97 : decode cX1_grow 97 = .ok (.getfield 17, 3) := by decide +kernel
theorem dX1_grow_100 : decode cX1_grow 100 = .ok (.iload_n 1, 1) := by decide +kernel
theorem dX1_grow_101 : decode cX1_grow 101 = .ok (.laload, 1) := by decide +kernel
theorem dX1_grow_102 : decode cX1_grow 102 = .ok (.lastore, 1) := by decide +kernel
theorem dX1_grow_103 : decode cX1_grow 103 = .ok (.iinc 1 1, 3) := by decide +kernel
theorem dX1_grow_106 : decode cX1_grow 106 = .ok (.goto (-21), 3) := by decide +kernel
theorem dX1_grow_109 : decode cX1_grow 109 = .ok (.return_, 1) := by decide +kernel
theorem dX1_countWith_0 : decode cX1_countWith 0 = .ok (.aload_n 0, 1) := by decide +kernel
theorem dX1_countWith_1 : decode cX1_countWith 1 = .ok (.iload_n 1, 1) := by decide +kernel
theorem dX1_countWith_2 : decode cX1_countWith 2 = .ok (.invokevirtual 31, 3) := by decide +kernel
theorem dX1_countWith_5 : decode cX1_countWith 5 = .ok (.ifCond .eq 5, 3) := by decide +kernel
theorem dX1_countWith_8 : decode cX1_countWith 8 = .ok (.iconst (-1), 1) := by decide +kernel
theorem dX1_countWith_9 : decode cX1_countWith 9 = .ok (.ireturn, 1) := by decide +kernel
theorem dX1_countWith_10 : decode cX1_countWith 10 = .ok (.iload_n 2, 1) := by decide +kernel
theorem dX1_countWith_11 : decode cX1_countWith 11 = .ok (.ifCond .lt 9, 3) := by decide +kernel
theorem dX1_countWith_14 : decode cX1_countWith 14 = .ok (.iload_n 2, 1) := by decide +kernel
theorem dX1_countWith_15 : decode cX1_countWith 15 = .ok (.bipush 9, 2) := by decide +kernel
theorem dX1_countWith_17 : decode cX1_countWith 17 = .ok (.if_icmp .le 6, 3) := by decide +kernel
theorem dX1_countWith_20 : decode cX1_countWith 20 = .ok (.bipush (-2), 2) := by decide +kernel
theorem dX1_countWith_22 : decode cX1_countWith 22 = .ok (.ireturn, 1) := by decide +kernel
theorem dX1_countWith_23 : decode cX1_countWith 23 = .ok (.aload_n 0, 1) := by decide +kernel
theorem dX1_countWith_24 : decode cX1_countWith 24 = .ok (.iload_n 1, 1) := by decide +kernel
theorem dX1_countWith_25 : decode cX1_countWith 25 = .ok (.invokevirtual 28, 3) := by decide +kernel
theorem dX1_countWith_28 : decode cX1_countWith 28 = .ok (.istore_n 3, 1) := by decide +kernel
theorem dX1_countWith_29 : decode cX1_countWith 29 = .ok (.iconst 0, 1) := by decide +kernel
theorem dX1_countWith_30 : decode cX1_countWith 30 = .ok (.istore 4, 2) := by decide +kernel
theorem dX1_countWith_32 : decode cX1_countWith 32 = .ok (.iconst 0, 1) := by decide +kernel
theorem dX1_countWith_33 : decode cX1_countWith 33 = .ok (.istore 5, 2) := by decide +kernel
theorem dX1_countWith_35 : decode cX1_countWith 35 = .ok (.iload 5, 2) := by decide +kernel
theorem dX1_countWith_37 : decode cX1_countWith 37 = .ok (.iload_n 3, 1) := by decide +kernel
theorem dX1_countWith_38 : decode cX1_countWith 38 = .ok (.if_icmp .ge 33, 3) := by decide +kernel
theorem dX1_countWith_41 : decode cX1_countWith 41 = .ok (.aload_n 0, 1) := by decide +kernel
theorem dX1_countWith_42 : decode cX1_countWith 42 = .ok (.iload_n 1, 1) := by decide +kernel
theorem dX1_countWith_43 : decode cX1_countWith 43 = .ok (.iload 5, 2) := by decide +kernel
theorem dX1_countWith_45 : decode cX1_countWith 45 = .ok (.invokevirtual 50, 3) := by decide +kernel
theorem dX1_countWith_48 : decode cX1_countWith 48 = .ok (.iload_n 2, 1) := by decide +kernel
theorem dX1_countWith_49 : decode cX1_countWith 49 = .ok (.if_icmp .ne 16, 3) := by decide +kernel
theorem dX1_countWith_52 : decode cX1_countWith 52 = .ok (.aload_n 0, 1) := by decide +kernel
theorem dX1_countWith_53 : decode cX1_countWith 53 = .ok (.iload_n 1, 1) := by decide +kernel
theorem dX1_countWith_54 : decode cX1_countWith 54 = .ok (.iload 5, 2) := by decide +kernel
theorem dX1_countWith_56 : decode cX1_countWith 56 = .ok (.invokevirtual 39, 3) := by decide +kernel
theorem dX1_countWith_59 : decode cX1_countWith 59 = .ok (.ifCond .eq 6, 3) := by decide +kernel
theorem dX1_countWith_62 : decode cX1_countWith 62 = .ok (.iinc 4 1, 3) := by decide +kernel
theorem dX1_countWith_65 : decode cX1_countWith 65 = .ok (.iinc 5 1, 3) := by decide +kernel
theorem dX1_countWith_68 : decode cX1_countWith 68 = .ok (.goto (-33), 3) := by decide +kernel
theorem dX1_countWith_71 : decode cX1_countWith 71 = .ok (.iload 4, 2) := by decide +kernel
theorem dX1_countWith_73 : decode cX1_countWith 73 = .ok (.ireturn, 1) := by decide +kernel
theorem dX1_zeros_0 : decode cX1_zeros 0 = .ok (.iload_n 2, 1) := by decide +kernel
theorem dX1_zeros_1 : decode cX1_zeros 1 = .ok (.istore_n 3, 1) := by decide +kernel
theorem dX1_zeros_2 : decode cX1_zeros 2 = .ok (.iconst 0, 1) := by decide +kernel
theorem dX1_zeros_3 : decode cX1_zeros 3 = .ok (.istore 4, 2) := by decide +kernel
theorem dX1_zeros_5 : decode cX1_zeros 5 = .ok (.iconst 0, 1) := by decide +kernel
theorem dX1_zeros_6 : decode cX1_zeros 6 = .ok (.istore 5, 2) := by decide +kernel
theorem dX1_zeros_8 : decode cX1_zeros 8 = .ok (.iload 5, 2) := by decide +kernel
theorem dX1_zeros_10 : decode cX1_zeros 10 = .ok (.iload_n 1, 1) := by decide +kernel
theorem dX1_zeros_11 : decode cX1_zeros 11 = .ok (.if_icmp .ge 22, 3) := by decide +kernel
theorem dX1_zeros_14 : decode cX1_zeros 14 = .ok (.iload_n 3, 1) := by decide +kernel
theorem dX1_zeros_15 : decode cX1_zeros 15 = .ok (.iconst 3, 1) := by decide +kernel
theorem dX1_zeros_16 : decode cX1_zeros 16 = .ok (.irem, 1) := by decide +kernel
theorem dX1_zeros_17 : decode cX1_zeros 17 = .ok (.ifCond .ne 6, 3) := by decide +kernel
theorem dX1_zeros_20 : decode cX1_zeros 20 = .ok (.iinc 4 1, 3) := by decide +kernel
theorem dX1_zeros_23 : decode cX1_zeros 23 = .ok (.iload_n 3, 1) := by decide +kernel
theorem dX1_zeros_24 : decode cX1_zeros 24 = .ok (.iconst 3, 1) := by decide +kernel
theorem dX1_zeros_25 : decode cX1_zeros 25 = .ok (.idiv, 1) := by decide +kernel
theorem dX1_zeros_26 : decode cX1_zeros 26 = .ok (.istore_n 3, 1) := by decide +kernel
theorem dX1_zeros_27 : decode cX1_zeros 27 = .ok (.iinc 5 1, 3) := by decide +kernel
theorem dX1_zeros_30 : decode cX1_zeros 30 = .ok (.goto (-22), 3) := by decide +kernel
theorem dX1_zeros_33 : decode cX1_zeros 33 = .ok (.iload 4, 2) := by decide +kernel
theorem dX1_zeros_35 : decode cX1_zeros 35 = .ok (.ireturn, 1) := by decide +kernel
theorem dX1_rank_0 : decode cX1_rank 0 = .ok (.aload_n 0, 1) := by decide +kernel
theorem dX1_rank_1 : decode cX1_rank 1 = .ok (.iload_n 1, 1) := by decide +kernel
theorem dX1_rank_2 : decode cX1_rank 2 = .ok (.invokevirtual 31, 3) := by decide +kernel
theorem dX1_rank_5 : decode cX1_rank 5 = .ok (.ifCond .eq 5, 3) := by decide +kernel
theorem dX1_rank_8 : decode cX1_rank 8 = .ok (.iconst (-1), 1) := by decide +kernel
theorem dX1_rank_9 : decode cX1_rank 9 = .ok (.ireturn, 1) := by decide +kernel
theorem dX1_rank_10 : decode cX1_rank 10 = .ok (.aload_n 0, 1) := by decide +kernel
theorem dX1_rank_11 : decode cX1_rank 11 = .ok (.iload_n 1, 1) := by decide +kernel
theorem dX1_rank_12 : decode cX1_rank 12 = .ok (.iload_n 2, 1) := by decide +kernel
theorem dX1_rank_13 : decode cX1_rank 13 = .ok (.invokevirtual 35, 3) := by decide +kernel
theorem dX1_rank_16 : decode cX1_rank 16 = .ok (.ifCond .eq 6, 3) := by decide +kernel
theorem dX1_rank_19 : decode cX1_rank 19 = .ok (.bipush (-2), 2) := by decide +kernel
theorem dX1_rank_21 : decode cX1_rank 21 = .ok (.ireturn, 1) := by decide +kernel
theorem dX1_rank_22 : decode cX1_rank 22 = .ok (.iconst 0, 1) := by decide +kernel
theorem dX1_rank_23 : decode cX1_rank 23 = .ok (.istore_n 3, 1) := by decide +kernel
theorem dX1_rank_24 : decode cX1_rank 24 = .ok (.iconst 0, 1) := by decide +kernel
theorem dX1_rank_25 : decode cX1_rank 25 = .ok (.istore 4, 2) := by decide +kernel
theorem dX1_rank_27 : decode cX1_rank 27 = .ok (.iload 4, 2) := by decide +kernel
theorem dX1_rank_29 : decode cX1_rank 29 = .ok (.iload_n 2, 1) := by decide +kernel
theorem dX1_rank_30 : decode cX1_rank 30 = .ok (.if_icmp .ge 22, 3) := by decide +kernel
theorem dX1_rank_33 : decode cX1_rank 33 = .ok (.aload_n 0, 1) := by decide +kernel
theorem dX1_rank_34 : decode cX1_rank 34 = .ok (.iload_n 1, 1) := by decide +kernel
theorem dX1_rank_35 : decode cX1_rank 35 = .ok (.iload 4, 2) := by decide +kernel
theorem dX1_rank_37 : decode cX1_rank 37 = .ok (.invokevirtual 39, 3) := by decide +kernel
theorem dX1_rank_40 : decode cX1_rank 40 = .ok (.ifCond .eq 6, 3) := by decide +kernel
theorem dX1_rank_43 : decode cX1_rank 43 = .ok (.iinc 3 1, 3) := by decide +kernel
theorem dX1_rank_46 : decode cX1_rank 46 = .ok (.iinc 4 1, 3) := by decide +kernel
theorem dX1_rank_49 : decode cX1_rank 49 = .ok (.goto (-22), 3) := by decide +kernel
theorem dX1_rank_52 : decode cX1_rank 52 = .ok (.iload_n 3, 1) := by decide +kernel
theorem dX1_rank_53 : decode cX1_rank 53 = .ok (.ireturn, 1) := by decide +kernel
theorem dX1_word_0 : decode cX1_word 0 = .ok (.aload_n 0, 1) := by decide +kernel
theorem dX1_word_1 : decode cX1_word 1 = .ok (.iload_n 1, 1) := by decide +kernel
theorem dX1_word_2 : decode cX1_word 2 = .ok (.invokevirtual 31, 3) := by decide +kernel
theorem dX1_word_5 : decode cX1_word 5 = .ok (.ifCond .eq 5, 3) := by decide +kernel
theorem dX1_word_8 : decode cX1_word 8 = .ok (.iconst (-1), 1) := by decide +kernel
theorem dX1_word_9 : decode cX1_word 9 = .ok (.ireturn, 1) := by decide +kernel
theorem dX1_word_10 : decode cX1_word 10 = .ok (.aload_n 0, 1) := by decide +kernel
theorem dX1_word_11 : decode cX1_word 11 = .ok (.iload_n 1, 1) := by decide +kernel
theorem dX1_word_12 : decode cX1_word 12 = .ok (.invokevirtual 28, 3) := by decide +kernel
theorem dX1_word_15 : decode cX1_word 15 = .ok (.istore_n 3, 1) := by decide +kernel
theorem dX1_word_16 : decode cX1_word 16 = .ok (.iconst 0, 1) := by decide +kernel
theorem dX1_word_17 : decode cX1_word 17 = .ok (.istore 4, 2) := by decide +kernel
theorem dX1_word_19 : decode cX1_word 19 = .ok (.iconst 0, 1) := by decide +kernel
theorem dX1_word_20 : decode cX1_word 20 = .ok (.istore 5, 2) := by decide +kernel
theorem dX1_word_22 : decode cX1_word 22 = .ok (.iload 5, 2) := by decide +kernel
theorem dX1_word_24 : decode cX1_word 24 = .ok (.iload_n 3, 1) := by decide +kernel
theorem dX1_word_25 : decode cX1_word 25 = .ok (.if_icmp .ge 31, 3) := by decide +kernel
theorem dX1_word_28 : decode cX1_word 28 = .ok (.aload_n 0, 1) := by decide +kernel
theorem dX1_word_29 : decode cX1_word 29 = .ok (.iload_n 1, 1) := by decide +kernel
theorem dX1_word_30 : decode cX1_word 30 = .ok (.iload 5, 2) := by decide +kernel
theorem dX1_word_32 : decode cX1_word 32 = .ok (.invokevirtual 39, 3) := by decide +kernel
theorem dX1_word_35 : decode cX1_word 35 = .ok (.ifCond .eq 15, 3) := by decide +kernel
theorem dX1_word_38 : decode cX1_word 38 = .ok (.iload 4, 2) := by decide +kernel
theorem dX1_word_40 : decode cX1_word 40 = .ok (.iload_n 2, 1) := by decide +kernel
theorem dX1_word_41 : decode cX1_word 41 = .ok (.if_icmp .ne 6, 3) := by decide +kernel
theorem dX1_word_44 : decode cX1_word 44 = .ok (.iload 5, 2) := by decide +kernel
theorem dX1_word_46 : decode cX1_word 46 = .ok (.ireturn, 1) := by decide +kernel
theorem dX1_word_47 : decode cX1_word 47 = .ok (.iinc 4 1, 3) := by decide +kernel
theorem dX1_word_50 : decode cX1_word 50 = .ok (.iinc 5 1, 3) := by decide +kernel
theorem dX1_word_53 : decode cX1_word 53 = .ok (.goto (-31), 3) := by decide +kernel
theorem dX1_word_56 : decode cX1_word 56 = .ok (.bipush (-2), 2) := by decide +kernel
theorem dX1_word_58 : decode cX1_word 58 = .ok (.ireturn, 1) := by decide +kernel
theorem dX1_next_0 : decode cX1_next 0 = .ok (.aload_n 0, 1) := by decide +kernel
theorem dX1_next_1 : decode cX1_next 1 = .ok (.iload_n 1, 1) := by decide +kernel
theorem dX1_next_2 : decode cX1_next 2 = .ok (.invokevirtual 31, 3) := by decide +kernel
theorem dX1_next_5 : decode cX1_next 5 = .ok (.ifCond .eq 5, 3) := by decide +kernel
theorem dX1_next_8 : decode cX1_next 8 = .ok (.iconst (-1), 1) := by decide +kernel
theorem dX1_next_9 : decode cX1_next 9 = .ok (.ireturn, 1) := by decide +kernel
theorem dX1_next_10 : decode cX1_next 10 = .ok (.aload_n 0, 1) := by decide +kernel
theorem dX1_next_11 : decode cX1_next 11 = .ok (.iload_n 1, 1) := by decide +kernel
theorem dX1_next_12 : decode cX1_next 12 = .ok (.invokevirtual 28, 3) := by decide +kernel
theorem dX1_next_15 : decode cX1_next 15 = .ok (.istore_n 3, 1) := by decide +kernel
theorem dX1_next_16 : decode cX1_next 16 = .ok (.iconst 0, 1) := by decide +kernel
theorem dX1_next_17 : decode cX1_next 17 = .ok (.istore 4, 2) := by decide +kernel
theorem dX1_next_19 : decode cX1_next 19 = .ok (.iload 4, 2) := by decide +kernel
theorem dX1_next_21 : decode cX1_next 21 = .ok (.iload_n 3, 1) := by decide +kernel
theorem dX1_next_22 : decode cX1_next 22 = .ok (.if_icmp .ge 28, 3) := by decide +kernel
theorem dX1_next_25 : decode cX1_next 25 = .ok (.iload 4, 2) := by decide +kernel
theorem dX1_next_27 : decode cX1_next 27 = .ok (.iload_n 2, 1) := by decide +kernel
theorem dX1_next_28 : decode cX1_next 28 = .ok (.if_icmp .le 16, 3) := by decide +kernel
theorem dX1_next_31 : decode cX1_next 31 = .ok (.aload_n 0, 1) := by decide +kernel
theorem dX1_next_32 : decode cX1_next 32 = .ok (.iload_n 1, 1) := by decide +kernel
theorem dX1_next_33 : decode cX1_next 33 = .ok (.iload 4, 2) := by decide +kernel
theorem dX1_next_35 : decode cX1_next 35 = .ok (.invokevirtual 39, 3) := by decide +kernel
theorem dX1_next_38 : decode cX1_next 38 = .ok (.ifCond .eq 6, 3) := by decide +kernel
theorem dX1_next_41 : decode cX1_next 41 = .ok (.iload 4, 2) := by decide +kernel
theorem dX1_next_43 : decode cX1_next 43 = .ok (.ireturn, 1) := by decide +kernel
theorem dX1_next_44 : decode cX1_next 44 = .ok (.iinc 4 1, 3) := by decide +kernel
theorem dX1_next_47 : decode cX1_next 47 = .ok (.goto (-28), 3) := by decide +kernel
theorem dX1_next_50 : decode cX1_next 50 = .ok (.bipush (-2), 2) := by decide +kernel
theorem dX1_next_52 : decode cX1_next 52 = .ok (.ireturn, 1) := by decide +kernel
theorem dX1_beginning_0 : decode cX1_beginning 0 = .ok (.aload_n 0, 1) := by decide +kernel
theorem dX1_beginning_1 : decode cX1_beginning 1 = .ok (.iload_n 1, 1) := by decide +kernel
theorem dX1_beginning_2 : decode cX1_beginning 2 = .ok (.invokevirtual 31, 3) := by decide +kernel
theorem dX1_beginning_5 : decode cX1_beginning 5 = .ok (.ifCond .eq 5, 3) := by decide +kernel
theorem dX1_beginning_8 : decode cX1_beginning 8 = .ok (.iconst (-1), 1) := by decide +kernel
theorem dX1_beginning_9 : decode cX1_beginning 9 = .ok (.ireturn, 1) := by decide +kernel
theorem dX1_beginning_10 : decode cX1_beginning 10 = .ok (.aload_n 0, 1) := by decide +kernel
theorem dX1_beginning_11 : decode cX1_beginning 11 = .ok (.iload_n 2, 1) := by decide +kernel
theorem dX1_beginning_12 : decode cX1_beginning 12 = .ok (.invokevirtual 20, 3) := by decide +kernel
theorem dX1_beginning_15 : decode cX1_beginning 15 = .ok (.istore_n 3, 1) := by decide +kernel
theorem dX1_beginning_16 : decode cX1_beginning 16 = .ok (.iload_n 3, 1) := by decide +kernel
theorem dX1_beginning_17 : decode cX1_beginning 17 = .ok (.ifCond .ne 6, 3) := by decide +kernel
theorem dX1_beginning_20 : decode cX1_beginning 20 = .ok (.bipush (-2), 2) := by decide +kernel
theorem dX1_beginning_22 : decode cX1_beginning 22 = .ok (.ireturn, 1) := by decide +kernel
theorem dX1_beginning_23 : decode cX1_beginning 23 = .ok (.iload_n 1, 1) := by decide +kernel
theorem dX1_beginning_24 : decode cX1_beginning 24 = .ok (.iload_n 3, 1) := by decide +kernel
theorem dX1_beginning_25 : decode cX1_beginning 25 = .ok (.if_icmp .ge 5, 3) := by decide +kernel
theorem dX1_beginning_28 : decode cX1_beginning 28 = .ok (.iconst 0, 1) := by decide +kernel
theorem dX1_beginning_29 : decode cX1_beginning 29 = .ok (.ireturn, 1) := by decide +kernel
theorem dX1_beginning_30 : decode cX1_beginning 30 = .ok (.aload_n 0, 1) := by decide +kernel
theorem dX1_beginning_31 : decode cX1_beginning 31 = .ok (.iload_n 1, 1) := by decide +kernel
theorem dX1_beginning_32 : decode cX1_beginning 32 = .ok (.iload_n 3, 1) := by decide +kernel
theorem dX1_beginning_33 : decode cX1_beginning 33 = .ok (.isub, 1) := by decide +kernel
theorem dX1_beginning_34 : decode cX1_beginning 34 = .ok (.invokevirtual 28, 3) := by decide +kernel
theorem dX1_beginning_37 : decode cX1_beginning 37 = .ok (.istore 4, 2) := by decide +kernel
theorem dX1_beginning_39 : decode cX1_beginning 39 = .ok (.iload_n 2, 1) := by decide +kernel
theorem dX1_beginning_40 : decode cX1_beginning 40 = .ok (.aload_n 0, 1) := by decide +kernel
theorem dX1_beginning_41 : decode cX1_beginning 41 = .ok (.iload_n 3, 1) := by decide +kernel
theorem dX1_beginning_42 : decode cX1_beginning 42 = .ok (.invokevirtual 28, 3) := by decide +kernel
theorem dX1_beginning_45 : decode cX1_beginning 45 = .ok (.isub, 1) := by decide +kernel
theorem dX1_beginning_46 : decode cX1_beginning 46 = .ok (.istore 5, 2) := by decide +kernel
theorem dX1_beginning_48 : decode cX1_beginning 48 = .ok (.iconst 0, 1) := by decide +kernel
theorem dX1_beginning_49 : decode cX1_beginning 49 = .ok (.istore 6, 2) := by decide +kernel
theorem dX1_beginning_51 : decode cX1_beginning 51 = .ok (.iload 5, 2) := by decide +kernel
theorem dX1_beginning_53 : decode cX1_beginning 53 = .ok (.iload 4, 2) := by decide +kernel
theorem dX1_beginning_55 : decode cX1_beginning 55 = .ok (.imul, 1) := by decide +kernel
theorem dX1_beginning_56 : decode cX1_beginning 56 = .ok (.istore 7, 2) := by decide +kernel
theorem dX1_beginning_58 : decode cX1_beginning 58 = .ok (.iload 7, 2) := by decide +kernel
theorem dX1_beginning_60 : decode cX1_beginning 60 = .ok (.iload 5, 2) := by decide +kernel
theorem dX1_beginning_62 : decode cX1_beginning 62 = .ok (.iconst 1, 1) := by decide +kernel
theorem dX1_beginning_63 : decode cX1_beginning 63 = .ok (.iadd, 1) := by decide +kernel
theorem dX1_beginning_64 : decode cX1_beginning 64 = .ok (.iload 4, 2) := by decide +kernel
theorem dX1_beginning_66 : decode cX1_beginning 66 = .ok (.imul, 1) := by decide +kernel
theorem dX1_beginning_67 : decode cX1_beginning 67 = .ok (.if_icmp .ge 22, 3) := by decide +kernel
theorem dX1_beginning_70 : decode cX1_beginning 70 = .ok (.aload_n 0, 1) := by decide +kernel
theorem dX1_beginning_71 : decode cX1_beginning 71 = .ok (.iload_n 1, 1) := by decide +kernel
theorem dX1_beginning_72 : decode cX1_beginning 72 = .ok (.iload 7, 2) := by decide +kernel
theorem dX1_beginning_74 : decode cX1_beginning 74 = .ok (.invokevirtual 39, 3) := by decide +kernel
theorem dX1_beginning_77 : decode cX1_beginning 77 = .ok (.ifCond .eq 6, 3) := by decide +kernel
theorem dX1_beginning_80 : decode cX1_beginning 80 = .ok (.iinc 6 1, 3) := by decide +kernel
theorem dX1_beginning_83 : decode cX1_beginning 83 = .ok (.iinc 7 1, 3) := by decide +kernel
theorem dX1_beginning_86 : decode cX1_beginning 86 = .ok (.goto (-28), 3) := by decide +kernel
theorem dX1_beginning_89 : decode cX1_beginning 89 = .ok (.iload 6, 2) := by decide +kernel
theorem dX1_beginning_91 : decode cX1_beginning 91 = .ok (.ireturn, 1) := by decide +kernel
theorem dX1_ending_0 : decode cX1_ending 0 = .ok (.aload_n 0, 1) := by decide +kernel
theorem dX1_ending_1 : decode cX1_ending 1 = .ok (.iload_n 1, 1) := by decide +kernel
theorem dX1_ending_2 : decode cX1_ending 2 = .ok (.invokevirtual 31, 3) := by decide +kernel
theorem dX1_ending_5 : decode cX1_ending 5 = .ok (.ifCond .eq 5, 3) := by decide +kernel
theorem dX1_ending_8 : decode cX1_ending 8 = .ok (.iconst (-1), 1) := by decide +kernel
theorem dX1_ending_9 : decode cX1_ending 9 = .ok (.ireturn, 1) := by decide +kernel
theorem dX1_ending_10 : decode cX1_ending 10 = .ok (.aload_n 0, 1) := by decide +kernel
theorem dX1_ending_11 : decode cX1_ending 11 = .ok (.iload_n 2, 1) := by decide +kernel
theorem dX1_ending_12 : decode cX1_ending 12 = .ok (.invokevirtual 20, 3) := by decide +kernel
theorem dX1_ending_15 : decode cX1_ending 15 = .ok (.istore_n 3, 1) := by decide +kernel
theorem dX1_ending_16 : decode cX1_ending 16 = .ok (.iload_n 3, 1) := by decide +kernel
theorem dX1_ending_17 : decode cX1_ending 17 = .ok (.ifCond .ne 6, 3) := by decide +kernel
theorem dX1_ending_20 : decode cX1_ending 20 = .ok (.bipush (-2), 2) := by decide +kernel
theorem dX1_ending_22 : decode cX1_ending 22 = .ok (.ireturn, 1) := by decide +kernel
theorem dX1_ending_23 : decode cX1_ending 23 = .ok (.aload_n 0, 1) := by decide +kernel
theorem dX1_ending_24 : decode cX1_ending 24 = .ok (.iload_n 1, 1) := by decide +kernel
theorem dX1_ending_25 : decode cX1_ending 25 = .ok (.invokevirtual 28, 3) := by decide +kernel
theorem dX1_ending_28 : decode cX1_ending 28 = .ok (.istore 4, 2) := by decide +kernel
theorem dX1_ending_30 : decode cX1_ending 30 = .ok (.iconst 0, 1) := by decide +kernel
theorem dX1_ending_31 : decode cX1_ending 31 = .ok (.istore 5, 2) := by decide +kernel
theorem dX1_ending_33 : decode cX1_ending 33 = .ok (.iconst 0, 1) := by decide +kernel
theorem dX1_ending_34 : decode cX1_ending 34 = .ok (.istore 6, 2) := by decide +kernel
theorem dX1_ending_36 : decode cX1_ending 36 = .ok (.iload 6, 2) := by decide +kernel
theorem dX1_ending_38 : decode cX1_ending 38 = .ok (.iload 4, 2) := by decide +kernel
theorem dX1_ending_40 : decode cX1_ending 40 = .ok (.if_icmp .ge 34, 3) := by decide +kernel
theorem dX1_ending_43 : decode cX1_ending 43 = .ok (.aload_n 0, 1) := by decide +kernel
theorem dX1_ending_44 : decode cX1_ending 44 = .ok (.iload_n 1, 1) := by decide +kernel
theorem dX1_ending_45 : decode cX1_ending 45 = .ok (.iload 6, 2) := by decide +kernel
theorem dX1_ending_47 : decode cX1_ending 47 = .ok (.iload_n 2, 1) := by decide +kernel
theorem dX1_ending_48 : decode cX1_ending 48 = .ok (.iload_n 3, 1) := by decide +kernel
theorem dX1_ending_49 : decode cX1_ending 49 = .ok (.invokevirtual 54, 3) := by decide +kernel
theorem dX1_ending_52 : decode cX1_ending 52 = .ok (.ifCond .eq 16, 3) := by decide +kernel
theorem dX1_ending_55 : decode cX1_ending 55 = .ok (.aload_n 0, 1) := by decide +kernel
theorem dX1_ending_56 : decode cX1_ending 56 = .ok (.iload_n 1, 1) := by decide +kernel
theorem dX1_ending_57 : decode cX1_ending 57 = .ok (.iload 6, 2) := by decide +kernel
theorem dX1_ending_59 : decode cX1_ending 59 = .ok (.invokevirtual 39, 3) := by decide +kernel
theorem dX1_ending_62 : decode cX1_ending 62 = .ok (.ifCond .eq 6, 3) := by decide +kernel
theorem dX1_ending_65 : decode cX1_ending 65 = .ok (.iinc 5 1, 3) := by decide +kernel
theorem dX1_ending_68 : decode cX1_ending 68 = .ok (.iinc 6 1, 3) := by decide +kernel
theorem dX1_ending_71 : decode cX1_ending 71 = .ok (.goto (-35), 3) := by decide +kernel
theorem dX1_ending_74 : decode cX1_ending 74 = .ok (.iload 5, 2) := by decide +kernel
theorem dX1_ending_76 : decode cX1_ending 76 = .ok (.ireturn, 1) := by decide +kernel
theorem dX1_stands_0 : decode cX1_stands 0 = .ok (.aload_n 0, 1) := by decide +kernel
theorem dX1_stands_1 : decode cX1_stands 1 = .ok (.iload 4, 2) := by decide +kernel
theorem dX1_stands_3 : decode cX1_stands 3 = .ok (.invokevirtual 28, 3) := by decide +kernel
theorem dX1_stands_6 : decode cX1_stands 6 = .ok (.istore 5, 2) := by decide +kernel
theorem dX1_stands_8 : decode cX1_stands 8 = .ok (.iload_n 1, 1) := by decide +kernel
theorem dX1_stands_9 : decode cX1_stands 9 = .ok (.iload 4, 2) := by decide +kernel
theorem dX1_stands_11 : decode cX1_stands 11 = .ok (.if_icmp .lt 23, 3) := by decide +kernel
theorem dX1_stands_14 : decode cX1_stands 14 = .ok (.iload 5, 2) := by decide +kernel
theorem dX1_stands_16 : decode cX1_stands 16 = .ok (.ifCond .le 18, 3) := by decide +kernel
theorem dX1_stands_19 : decode cX1_stands 19 = .ok (.iload_n 2, 1) := by decide +kernel
theorem dX1_stands_20 : decode cX1_stands 20 = .ok (.iload 5, 2) := by decide +kernel
theorem dX1_stands_22 : decode cX1_stands 22 = .ok (.irem, 1) := by decide +kernel
theorem dX1_stands_23 : decode cX1_stands 23 = .ok (.iload_n 3, 1) := by decide +kernel
theorem dX1_stands_24 : decode cX1_stands 24 = .ok (.iload 5, 2) := by decide +kernel
theorem dX1_stands_26 : decode cX1_stands 26 = .ok (.isub, 1) := by decide +kernel
theorem dX1_stands_27 : decode cX1_stands 27 = .ok (.if_icmp .ne 7, 3) := by decide +kernel
theorem dX1_stands_30 : decode cX1_stands 30 = .ok (.iconst 1, 1) := by decide +kernel
theorem dX1_stands_31 : decode cX1_stands 31 = .ok (.goto 4, 3) := by decide +kernel
theorem dX1_stands_34 : decode cX1_stands 34 = .ok (.iconst 0, 1) := by decide +kernel
theorem dX1_stands_35 : decode cX1_stands 35 = .ok (.ireturn, 1) := by decide +kernel
theorem dX1_standing_0 : decode cX1_standing 0 = .ok (.aload_n 0, 1) := by decide +kernel
theorem dX1_standing_1 : decode cX1_standing 1 = .ok (.iload_n 1, 1) := by decide +kernel
theorem dX1_standing_2 : decode cX1_standing 2 = .ok (.invokevirtual 31, 3) := by decide +kernel
theorem dX1_standing_5 : decode cX1_standing 5 = .ok (.ifCond .eq 5, 3) := by decide +kernel
theorem dX1_standing_8 : decode cX1_standing 8 = .ok (.iconst (-1), 1) := by decide +kernel
theorem dX1_standing_9 : decode cX1_standing 9 = .ok (.ireturn, 1) := by decide +kernel
theorem dX1_standing_10 : decode cX1_standing 10 = .ok (.aload_n 0, 1) := by decide +kernel
theorem dX1_standing_11 : decode cX1_standing 11 = .ok (.iload_n 2, 1) := by decide +kernel
theorem dX1_standing_12 : decode cX1_standing 12 = .ok (.invokevirtual 20, 3) := by decide +kernel
theorem dX1_standing_15 : decode cX1_standing 15 = .ok (.istore_n 3, 1) := by decide +kernel
theorem dX1_standing_16 : decode cX1_standing 16 = .ok (.iload_n 3, 1) := by decide +kernel
theorem dX1_standing_17 : decode cX1_standing 17 = .ok (.ifCond .ne 6, 3) := by decide +kernel
theorem dX1_standing_20 : decode cX1_standing 20 = .ok (.bipush (-2), 2) := by decide +kernel
theorem dX1_standing_22 : decode cX1_standing 22 = .ok (.ireturn, 1) := by decide +kernel
theorem dX1_standing_23 : decode cX1_standing 23 = .ok (.aload_n 0, 1) := by decide +kernel
theorem dX1_standing_24 : decode cX1_standing 24 = .ok (.iload_n 1, 1) := by decide +kernel
theorem dX1_standing_25 : decode cX1_standing 25 = .ok (.invokevirtual 28, 3) := by decide +kernel
theorem dX1_standing_28 : decode cX1_standing 28 = .ok (.istore 4, 2) := by decide +kernel
theorem dX1_standing_30 : decode cX1_standing 30 = .ok (.iconst 0, 1) := by decide +kernel
theorem dX1_standing_31 : decode cX1_standing 31 = .ok (.istore 5, 2) := by decide +kernel
theorem dX1_standing_33 : decode cX1_standing 33 = .ok (.iconst 0, 1) := by decide +kernel
theorem dX1_standing_34 : decode cX1_standing 34 = .ok (.istore 6, 2) := by decide +kernel
theorem dX1_standing_36 : decode cX1_standing 36 = .ok (.iload 6, 2) := by decide +kernel
theorem dX1_standing_38 : decode cX1_standing 38 = .ok (.iload 4, 2) := by decide +kernel
theorem dX1_standing_40 : decode cX1_standing 40 = .ok (.if_icmp .ge 33, 3) := by decide +kernel
theorem dX1_standing_43 : decode cX1_standing 43 = .ok (.aload_n 0, 1) := by decide +kernel
theorem dX1_standing_44 : decode cX1_standing 44 = .ok (.iload_n 1, 1) := by decide +kernel
theorem dX1_standing_45 : decode cX1_standing 45 = .ok (.iload 6, 2) := by decide +kernel
theorem dX1_standing_47 : decode cX1_standing 47 = .ok (.invokevirtual 39, 3) := by decide +kernel
theorem dX1_standing_50 : decode cX1_standing 50 = .ok (.ifCond .eq 17, 3) := by decide +kernel
theorem dX1_standing_53 : decode cX1_standing 53 = .ok (.iload 5, 2) := by decide +kernel
theorem dX1_standing_55 : decode cX1_standing 55 = .ok (.aload_n 0, 1) := by decide +kernel
theorem dX1_standing_56 : decode cX1_standing 56 = .ok (.iload_n 1, 1) := by decide +kernel
theorem dX1_standing_57 : decode cX1_standing 57 = .ok (.iload 6, 2) := by decide +kernel
theorem dX1_standing_59 : decode cX1_standing 59 = .ok (.iload_n 2, 1) := by decide +kernel
theorem dX1_standing_60 : decode cX1_standing 60 = .ok (.iload_n 3, 1) := by decide +kernel
theorem dX1_standing_61 : decode cX1_standing 61 = .ok (.invokevirtual 58, 3) := by decide +kernel
theorem dX1_standing_64 : decode cX1_standing 64 = .ok (.iadd, 1) := by decide +kernel
theorem dX1_standing_65 : decode cX1_standing 65 = .ok (.istore 5, 2) := by decide +kernel
theorem dX1_standing_67 : decode cX1_standing 67 = .ok (.iinc 6 1, 3) := by decide +kernel
theorem dX1_standing_70 : decode cX1_standing 70 = .ok (.goto (-34), 3) := by decide +kernel
theorem dX1_standing_73 : decode cX1_standing 73 = .ok (.iload 5, 2) := by decide +kernel
theorem dX1_standing_75 : decode cX1_standing 75 = .ok (.ireturn, 1) := by decide +kernel
theorem dX1_places_0 : decode cX1_places 0 = .ok (.iload_n 2, 1) := by decide +kernel
theorem dX1_places_1 : decode cX1_places 1 = .ok (.istore 5, 2) := by decide +kernel
theorem dX1_places_3 : decode cX1_places 3 = .ok (.iconst 0, 1) := by decide +kernel
theorem dX1_places_4 : decode cX1_places 4 = .ok (.istore 6, 2) := by decide +kernel
theorem dX1_places_6 : decode cX1_places 6 = .ok (.iload_n 1, 1) := by decide +kernel
theorem dX1_places_7 : decode cX1_places 7 = .ok (.istore 7, 2) := by decide +kernel
theorem dX1_places_9 : decode cX1_places 9 = .ok (.iload 7, 2) := by decide +kernel
theorem dX1_places_11 : decode cX1_places 11 = .ok (.ifCond .le 32, 3) := by decide +kernel
theorem dX1_places_14 : decode cX1_places 14 = .ok (.aload_n 0, 1) := by decide +kernel
theorem dX1_places_15 : decode cX1_places 15 = .ok (.iload 7, 2) := by decide +kernel
theorem dX1_places_17 : decode cX1_places 17 = .ok (.iload 5, 2) := by decide +kernel
theorem dX1_places_19 : decode cX1_places 19 = .ok (.iload_n 3, 1) := by decide +kernel
theorem dX1_places_20 : decode cX1_places 20 = .ok (.iload 4, 2) := by decide +kernel
theorem dX1_places_22 : decode cX1_places 22 = .ok (.invokevirtual 54, 3) := by decide +kernel
theorem dX1_places_25 : decode cX1_places 25 = .ok (.ifCond .eq 6, 3) := by decide +kernel
theorem dX1_places_28 : decode cX1_places 28 = .ok (.iinc 6 1, 3) := by decide +kernel
theorem dX1_places_31 : decode cX1_places 31 = .ok (.iload 5, 2) := by decide +kernel
theorem dX1_places_33 : decode cX1_places 33 = .ok (.iconst 3, 1) := by decide +kernel
theorem dX1_places_34 : decode cX1_places 34 = .ok (.idiv, 1) := by decide +kernel
theorem dX1_places_35 : decode cX1_places 35 = .ok (.istore 5, 2) := by decide +kernel
theorem dX1_places_37 : decode cX1_places 37 = .ok (.iinc 7 (-1), 3) := by decide +kernel
theorem dX1_places_40 : decode cX1_places 40 = .ok (.goto (-31), 3) := by decide +kernel
theorem dX1_places_43 : decode cX1_places 43 = .ok (.iload 6, 2) := by decide +kernel
theorem dX1_places_45 : decode cX1_places 45 = .ok (.ireturn, 1) := by decide +kernel
theorem dX1_longest_0 : decode cX1_longest 0 = .ok (.iconst 0, 1) := by decide +kernel
theorem dX1_longest_1 : decode cX1_longest 1 = .ok (.istore_n 1, 1) := by decide +kernel
theorem dX1_longest_2 : decode cX1_longest 2 = .ok (.iconst 1, 1) := by decide +kernel
theorem dX1_longest_3 : decode cX1_longest 3 = .ok (.istore_n 2, 1) := by decide +kernel
theorem dX1_longest_4 : decode cX1_longest 4 = .ok (.iload_n 2, 1) := by decide +kernel
theorem dX1_longest_5 : decode cX1_longest 5 = .ok (.bipush 10, 2) := by decide +kernel
theorem dX1_longest_7 : decode cX1_longest 7 = .ok (.if_icmp .ge 19, 3) := by decide +kernel
theorem dX1_longest_10 : decode cX1_longest 10 = .ok (.aload_n 0, 1) := by decide +kernel
theorem dX1_longest_11 : decode cX1_longest 11 = .ok (.iload_n 2, 1) := by decide +kernel
theorem dX1_longest_12 : decode cX1_longest 12 = .ok (.invokevirtual 44, 3) := by decide +kernel
theorem dX1_longest_15 : decode cX1_longest 15 = .ok (.ifCond .le 5, 3) := by decide +kernel
theorem dX1_longest_18 : decode cX1_longest 18 = .ok (.iload_n 2, 1) := by decide +kernel
theorem dX1_longest_19 : decode cX1_longest 19 = .ok (.istore_n 1, 1) := by decide +kernel
theorem dX1_longest_20 : decode cX1_longest 20 = .ok (.iinc 2 1, 3) := by decide +kernel
theorem dX1_longest_23 : decode cX1_longest 23 = .ok (.goto (-19), 3) := by decide +kernel
theorem dX1_longest_26 : decode cX1_longest 26 = .ok (.iload_n 1, 1) := by decide +kernel
theorem dX1_longest_27 : decode cX1_longest 27 = .ok (.ireturn, 1) := by decide +kernel
theorem dX1_choices_0 : decode cX1_choices 0 = .ok (.aload_n 0, 1) := by decide +kernel
theorem dX1_choices_1 : decode cX1_choices 1 = .ok (.iload_n 1, 1) := by decide +kernel
theorem dX1_choices_2 : decode cX1_choices 2 = .ok (.invokevirtual 31, 3) := by decide +kernel
theorem dX1_choices_5 : decode cX1_choices 5 = .ok (.ifCond .eq 5, 3) := by decide +kernel
theorem dX1_choices_8 : decode cX1_choices 8 = .ok (.iconst (-1), 1) := by decide +kernel
theorem dX1_choices_9 : decode cX1_choices 9 = .ok (.ireturn, 1) := by decide +kernel
theorem dX1_choices_10 : decode cX1_choices 10 = .ok (.aload_n 0, 1) := by decide +kernel
theorem dX1_choices_11 : decode cX1_choices 11 = .ok (.iload_n 1, 1) := by decide +kernel
theorem dX1_choices_12 : decode cX1_choices 12 = .ok (.iload_n 2, 1) := by decide +kernel
theorem dX1_choices_13 : decode cX1_choices 13 = .ok (.invokevirtual 35, 3) := by decide +kernel
theorem dX1_choices_16 : decode cX1_choices 16 = .ok (.ifCond .eq 6, 3) := by decide +kernel
theorem dX1_choices_19 : decode cX1_choices 19 = .ok (.bipush (-2), 2) := by decide +kernel
theorem dX1_choices_21 : decode cX1_choices 21 = .ok (.ireturn, 1) := by decide +kernel
theorem dX1_choices_22 : decode cX1_choices 22 = .ok (.iconst 0, 1) := by decide +kernel
theorem dX1_choices_23 : decode cX1_choices 23 = .ok (.istore_n 3, 1) := by decide +kernel
theorem dX1_choices_24 : decode cX1_choices 24 = .ok (.iconst 0, 1) := by decide +kernel
theorem dX1_choices_25 : decode cX1_choices 25 = .ok (.istore 4, 2) := by decide +kernel
theorem dX1_choices_27 : decode cX1_choices 27 = .ok (.iload 4, 2) := by decide +kernel
theorem dX1_choices_29 : decode cX1_choices 29 = .ok (.iconst 3, 1) := by decide +kernel
theorem dX1_choices_30 : decode cX1_choices 30 = .ok (.if_icmp .ge 37, 3) := by decide +kernel
theorem dX1_choices_33 : decode cX1_choices 33 = .ok (.aload_n 0, 1) := by decide +kernel
theorem dX1_choices_34 : decode cX1_choices 34 = .ok (.iload_n 1, 1) := by decide +kernel
theorem dX1_choices_35 : decode cX1_choices 35 = .ok (.iload_n 2, 1) := by decide +kernel
theorem dX1_choices_36 : decode cX1_choices 36 = .ok (.invokevirtual 39, 3) := by decide +kernel
theorem dX1_choices_39 : decode cX1_choices 39 = .ok (.ifCond .eq 22, 3) := by decide +kernel
theorem dX1_choices_42 : decode cX1_choices 42 = .ok (.aload_n 0, 1) := by decide +kernel
theorem dX1_choices_43 : decode cX1_choices 43 = .ok (.iload_n 1, 1) := by decide +kernel
theorem dX1_choices_44 : decode cX1_choices 44 = .ok (.iconst 1, 1) := by decide +kernel
theorem dX1_choices_45 : decode cX1_choices 45 = .ok (.iadd, 1) := by decide +kernel
theorem dX1_choices_46 : decode cX1_choices 46 = .ok (.iconst 3, 1) := by decide +kernel
theorem dX1_choices_47 : decode cX1_choices 47 = .ok (.iload_n 2, 1) := by decide +kernel
theorem dX1_choices_48 : decode cX1_choices 48 = .ok (.imul, 1) := by decide +kernel
theorem dX1_choices_49 : decode cX1_choices 49 = .ok (.iload 4, 2) := by decide +kernel
theorem dX1_choices_51 : decode cX1_choices 51 = .ok (.iadd, 1) := by decide +kernel
theorem dX1_choices_52 : decode cX1_choices 52 = .ok (.invokevirtual 39, 3) := by decide +kernel
theorem dX1_choices_55 : decode cX1_choices 55 = .ok (.ifCond .eq 6, 3) := by decide +kernel
theorem dX1_choices_58 : decode cX1_choices 58 = .ok (.iinc 3 1, 3) := by decide +kernel
theorem dX1_choices_61 : decode cX1_choices 61 = .ok (.iinc 4 1, 3) := by decide +kernel
theorem dX1_choices_64 : decode cX1_choices 64 = .ok (.goto (-37), 3) := by decide +kernel
theorem dX1_choices_67 : decode cX1_choices 67 = .ok (.iload_n 3, 1) := by decide +kernel
theorem dX1_choices_68 : decode cX1_choices 68 = .ok (.ireturn, 1) := by decide +kernel
theorem dX1_mirrored_0 : decode cX1_mirrored 0 = .ok (.aload_n 0, 1) := by decide +kernel
theorem dX1_mirrored_1 : decode cX1_mirrored 1 = .ok (.iload_n 1, 1) := by decide +kernel
theorem dX1_mirrored_2 : decode cX1_mirrored 2 = .ok (.invokevirtual 31, 3) := by decide +kernel
theorem dX1_mirrored_5 : decode cX1_mirrored 5 = .ok (.ifCond .eq 5, 3) := by decide +kernel
theorem dX1_mirrored_8 : decode cX1_mirrored 8 = .ok (.iconst (-1), 1) := by decide +kernel
theorem dX1_mirrored_9 : decode cX1_mirrored 9 = .ok (.ireturn, 1) := by decide +kernel
theorem dX1_mirrored_10 : decode cX1_mirrored 10 = .ok (.aload_n 0, 1) := by decide +kernel
theorem dX1_mirrored_11 : decode cX1_mirrored 11 = .ok (.iload_n 1, 1) := by decide +kernel
theorem dX1_mirrored_12 : decode cX1_mirrored 12 = .ok (.invokevirtual 28, 3) := by decide +kernel
theorem dX1_mirrored_15 : decode cX1_mirrored 15 = .ok (.istore_n 2, 1) := by decide +kernel
theorem dX1_mirrored_16 : decode cX1_mirrored 16 = .ok (.iconst 0, 1) := by decide +kernel
theorem dX1_mirrored_17 : decode cX1_mirrored 17 = .ok (.istore_n 3, 1) := by decide +kernel
theorem dX1_mirrored_18 : decode cX1_mirrored 18 = .ok (.iconst 0, 1) := by decide +kernel
theorem dX1_mirrored_19 : decode cX1_mirrored 19 = .ok (.istore 4, 2) := by decide +kernel
theorem dX1_mirrored_21 : decode cX1_mirrored 21 = .ok (.iload 4, 2) := by decide +kernel
theorem dX1_mirrored_23 : decode cX1_mirrored 23 = .ok (.iload_n 2, 1) := by decide +kernel
theorem dX1_mirrored_24 : decode cX1_mirrored 24 = .ok (.if_icmp .ge 34, 3) := by decide +kernel
theorem dX1_mirrored_27 : decode cX1_mirrored 27 = .ok (.aload_n 0, 1) := by decide +kernel
theorem dX1_mirrored_28 : decode cX1_mirrored 28 = .ok (.iload_n 1, 1) := by decide +kernel
theorem dX1_mirrored_29 : decode cX1_mirrored 29 = .ok (.iload 4, 2) := by decide +kernel
theorem dX1_mirrored_31 : decode cX1_mirrored 31 = .ok (.invokevirtual 62, 3) := by decide +kernel
theorem dX1_mirrored_34 : decode cX1_mirrored 34 = .ok (.iload 4, 2) := by decide +kernel
theorem dX1_mirrored_36 : decode cX1_mirrored 36 = .ok (.if_icmp .ne 16, 3) := by decide +kernel
theorem dX1_mirrored_39 : decode cX1_mirrored 39 = .ok (.aload_n 0, 1) := by decide +kernel
theorem dX1_mirrored_40 : decode cX1_mirrored 40 = .ok (.iload_n 1, 1) := by decide +kernel
theorem dX1_mirrored_41 : decode cX1_mirrored 41 = .ok (.iload 4, 2) := by decide +kernel
theorem dX1_mirrored_43 : decode cX1_mirrored 43 = .ok (.invokevirtual 39, 3) := by decide +kernel
theorem dX1_mirrored_46 : decode cX1_mirrored 46 = .ok (.ifCond .eq 6, 3) := by decide +kernel
theorem dX1_mirrored_49 : decode cX1_mirrored 49 = .ok (.iinc 3 1, 3) := by decide +kernel
theorem dX1_mirrored_52 : decode cX1_mirrored 52 = .ok (.iinc 4 1, 3) := by decide +kernel
theorem dX1_mirrored_55 : decode cX1_mirrored 55 = .ok (.goto (-34), 3) := by decide +kernel
theorem dX1_mirrored_58 : decode cX1_mirrored 58 = .ok (.iload_n 3, 1) := by decide +kernel
theorem dX1_mirrored_59 : decode cX1_mirrored 59 = .ok (.ireturn, 1) := by decide +kernel
theorem dX1_backward_0 : decode cX1_backward 0 = .ok (.iload_n 2, 1) := by decide +kernel
theorem dX1_backward_1 : decode cX1_backward 1 = .ok (.istore_n 3, 1) := by decide +kernel
theorem dX1_backward_2 : decode cX1_backward 2 = .ok (.iconst 0, 1) := by decide +kernel
theorem dX1_backward_3 : decode cX1_backward 3 = .ok (.istore 4, 2) := by decide +kernel
theorem dX1_backward_5 : decode cX1_backward 5 = .ok (.iconst 0, 1) := by decide +kernel
theorem dX1_backward_6 : decode cX1_backward 6 = .ok (.istore 5, 2) := by decide +kernel
theorem dX1_backward_8 : decode cX1_backward 8 = .ok (.iload 5, 2) := by decide +kernel
theorem dX1_backward_10 : decode cX1_backward 10 = .ok (.iload_n 1, 1) := by decide +kernel
theorem dX1_backward_11 : decode cX1_backward 11 = .ok (.if_icmp .ge 23, 3) := by decide +kernel
theorem dX1_backward_14 : decode cX1_backward 14 = .ok (.iconst 3, 1) := by decide +kernel
theorem dX1_backward_15 : decode cX1_backward 15 = .ok (.iload 4, 2) := by decide +kernel
theorem dX1_backward_17 : decode cX1_backward 17 = .ok (.imul, 1) := by decide +kernel
theorem dX1_backward_18 : decode cX1_backward 18 = .ok (.iload_n 3, 1) := by decide +kernel
theorem dX1_backward_19 : decode cX1_backward 19 = .ok (.iconst 3, 1) := by decide +kernel
theorem dX1_backward_20 : decode cX1_backward 20 = .ok (.irem, 1) := by decide +kernel
theorem dX1_backward_21 : decode cX1_backward 21 = .ok (.iadd, 1) := by decide +kernel
theorem dX1_backward_22 : decode cX1_backward 22 = .ok (.istore 4, 2) := by decide +kernel
theorem dX1_backward_24 : decode cX1_backward 24 = .ok (.iload_n 3, 1) := by decide +kernel
theorem dX1_backward_25 : decode cX1_backward 25 = .ok (.iconst 3, 1) := by decide +kernel
theorem dX1_backward_26 : decode cX1_backward 26 = .ok (.idiv, 1) := by decide +kernel
theorem dX1_backward_27 : decode cX1_backward 27 = .ok (.istore_n 3, 1) := by decide +kernel
theorem dX1_backward_28 : decode cX1_backward 28 = .ok (.iinc 5 1, 3) := by decide +kernel
theorem dX1_backward_31 : decode cX1_backward 31 = .ok (.goto (-23), 3) := by decide +kernel
theorem dX1_backward_34 : decode cX1_backward 34 = .ok (.iload 4, 2) := by decide +kernel
theorem dX1_backward_36 : decode cX1_backward 36 = .ok (.ireturn, 1) := by decide +kernel
theorem dJ0_init_0 : decode cJ0_init 0 = .ok (.return_, 1) := by decide +kernel
theorem dL_law_0 : decode cL_law 0 = .ok (.new 7, 3) := by decide +kernel
theorem dL_law_3 : decode cL_law 3 = .ok (.dup, 1) := by decide +kernel
theorem dL_law_4 : decode cL_law 4 = .ok (.invokespecial 9, 3) := by decide +kernel
theorem dL_law_7 : decode cL_law 7 = .ok (.astore_n 1, 1) := by decide +kernel
theorem dL_law_8 : decode cL_law 8 = .ok (.new 10, 3) := by decide +kernel
theorem dL_law_11 : decode cL_law 11 = .ok (.dup, 1) := by decide +kernel
theorem dL_law_12 : decode cL_law 12 = .ok (.invokespecial 12, 3) := by decide +kernel
theorem dL_law_15 : decode cL_law 15 = .ok (.astore_n 2, 1) := by decide +kernel
theorem dL_law_16 : decode cL_law 16 = .ok (.iconst 0, 1) := by decide +kernel
theorem dL_law_17 : decode cL_law 17 = .ok (.istore_n 3, 1) := by decide +kernel
theorem dL_law_18 : decode cL_law 18 = .ok (.iload_n 3, 1) := by decide +kernel
theorem dL_law_19 : decode cL_law 19 = .ok (.aload_n 0, 1) := by decide +kernel
theorem dL_law_20 : decode cL_law 20 = .ok (.arraylength, 1) := by decide +kernel
theorem dL_law_21 : decode cL_law 21 = .ok (.iconst 3, 1) := by decide +kernel
theorem dL_law_22 : decode cL_law 22 = .ok (.isub, 1) := by decide +kernel
theorem dL_law_23 : decode cL_law 23 = .ok (.if_icmp .gt 507, 3) := by decide +kernel
theorem dL_law_26 : decode cL_law 26 = .ok (.aload_n 0, 1) := by decide +kernel
theorem dL_law_27 : decode cL_law 27 = .ok (.iload_n 3, 1) := by decide +kernel
theorem dL_law_28 : decode cL_law 28 = .ok (.iaload, 1) := by decide +kernel
theorem dL_law_29 : decode cL_law 29 = .ok (.bipush 15, 2) := by decide +kernel
theorem dL_law_31 : decode cL_law 31 = .ok (.iand, 1) := by decide +kernel
theorem dL_law_32 : decode cL_law 32 = .ok (.tableswitch 492 0 14 #[76, 99, 122, 135, 168, 192, 225, 258, 291, 324, 357, 390, 423, 436, 469], 76) := by decide +kernel
theorem dL_law_108 : decode cL_law 108 = .ok (.aload_n 1, 1) := by decide +kernel
theorem dL_law_109 : decode cL_law 109 = .ok (.aload_n 0, 1) := by decide +kernel
theorem dL_law_110 : decode cL_law 110 = .ok (.iload_n 3, 1) := by decide +kernel
theorem dL_law_111 : decode cL_law 111 = .ok (.iconst 1, 1) := by decide +kernel
theorem dL_law_112 : decode cL_law 112 = .ok (.iadd, 1) := by decide +kernel
theorem dL_law_113 : decode cL_law 113 = .ok (.iaload, 1) := by decide +kernel
theorem dL_law_114 : decode cL_law 114 = .ok (.invokevirtual 13, 3) := by decide +kernel
theorem dL_law_117 : decode cL_law 117 = .ok (.aload_n 2, 1) := by decide +kernel
theorem dL_law_118 : decode cL_law 118 = .ok (.aload_n 0, 1) := by decide +kernel
theorem dL_law_119 : decode cL_law 119 = .ok (.iload_n 3, 1) := by decide +kernel
theorem dL_law_120 : decode cL_law 120 = .ok (.iconst 1, 1) := by decide +kernel
theorem dL_law_121 : decode cL_law 121 = .ok (.iadd, 1) := by decide +kernel
theorem dL_law_122 : decode cL_law 122 = .ok (.iaload, 1) := by decide +kernel
theorem dL_law_123 : decode cL_law 123 = .ok (.invokevirtual 17, 3) := by decide +kernel
theorem dL_law_126 : decode cL_law 126 = .ok (.if_icmp .eq 398, 3) := by decide +kernel
theorem dL_law_129 : decode cL_law 129 = .ok (.iconst 0, 1) := by decide +kernel
theorem dL_law_130 : decode cL_law 130 = .ok (.ireturn, 1) := by decide +kernel
theorem dL_law_131 : decode cL_law 131 = .ok (.aload_n 1, 1) := by decide +kernel
theorem dL_law_132 : decode cL_law 132 = .ok (.aload_n 0, 1) := by decide +kernel
theorem dL_law_133 : decode cL_law 133 = .ok (.iload_n 3, 1) := by decide +kernel
theorem dL_law_134 : decode cL_law 134 = .ok (.iconst 1, 1) := by decide +kernel
theorem dL_law_135 : decode cL_law 135 = .ok (.iadd, 1) := by decide +kernel
theorem dL_law_136 : decode cL_law 136 = .ok (.iaload, 1) := by decide +kernel
theorem dL_law_137 : decode cL_law 137 = .ok (.invokevirtual 18, 3) := by decide +kernel
theorem dL_law_140 : decode cL_law 140 = .ok (.aload_n 2, 1) := by decide +kernel
theorem dL_law_141 : decode cL_law 141 = .ok (.aload_n 0, 1) := by decide +kernel
theorem dL_law_142 : decode cL_law 142 = .ok (.iload_n 3, 1) := by decide +kernel
theorem dL_law_143 : decode cL_law 143 = .ok (.iconst 1, 1) := by decide +kernel
theorem dL_law_144 : decode cL_law 144 = .ok (.iadd, 1) := by decide +kernel
theorem dL_law_145 : decode cL_law 145 = .ok (.iaload, 1) := by decide +kernel
theorem dL_law_146 : decode cL_law 146 = .ok (.invokevirtual 21, 3) := by decide +kernel
theorem dL_law_149 : decode cL_law 149 = .ok (.if_icmp .eq 375, 3) := by decide +kernel
theorem dL_law_152 : decode cL_law 152 = .ok (.iconst 0, 1) := by decide +kernel
theorem dL_law_153 : decode cL_law 153 = .ok (.ireturn, 1) := by decide +kernel
theorem dL_law_154 : decode cL_law 154 = .ok (.aload_n 1, 1) := by decide +kernel
theorem dL_law_155 : decode cL_law 155 = .ok (.invokevirtual 22, 3) := by decide +kernel
theorem dL_law_158 : decode cL_law 158 = .ok (.aload_n 2, 1) := by decide +kernel
theorem dL_law_159 : decode cL_law 159 = .ok (.invokevirtual 26, 3) := by decide +kernel
theorem dL_law_162 : decode cL_law 162 = .ok (.if_icmp .eq 362, 3) := by decide +kernel
theorem dL_law_165 : decode cL_law 165 = .ok (.iconst 0, 1) := by decide +kernel
theorem dL_law_166 : decode cL_law 166 = .ok (.ireturn, 1) := by decide +kernel
theorem dL_law_167 : decode cL_law 167 = .ok (.aload_n 1, 1) := by decide +kernel
theorem dL_law_168 : decode cL_law 168 = .ok (.aload_n 0, 1) := by decide +kernel
theorem dL_law_169 : decode cL_law 169 = .ok (.iload_n 3, 1) := by decide +kernel
theorem dL_law_170 : decode cL_law 170 = .ok (.iconst 1, 1) := by decide +kernel
theorem dL_law_171 : decode cL_law 171 = .ok (.iadd, 1) := by decide +kernel
theorem dL_law_172 : decode cL_law 172 = .ok (.iaload, 1) := by decide +kernel
theorem dL_law_173 : decode cL_law 173 = .ok (.aload_n 0, 1) := by decide +kernel
theorem dL_law_174 : decode cL_law 174 = .ok (.iload_n 3, 1) := by decide +kernel
theorem dL_law_175 : decode cL_law 175 = .ok (.iconst 2, 1) := by decide +kernel
theorem dL_law_176 : decode cL_law 176 = .ok (.iadd, 1) := by decide +kernel
theorem dL_law_177 : decode cL_law 177 = .ok (.iaload, 1) := by decide +kernel
theorem dL_law_178 : decode cL_law 178 = .ok (.invokevirtual 27, 3) := by decide +kernel
theorem dL_law_181 : decode cL_law 181 = .ok (.aload_n 2, 1) := by decide +kernel
theorem dL_law_182 : decode cL_law 182 = .ok (.aload_n 0, 1) := by decide +kernel
theorem dL_law_183 : decode cL_law 183 = .ok (.iload_n 3, 1) := by decide +kernel
theorem dL_law_184 : decode cL_law 184 = .ok (.iconst 1, 1) := by decide +kernel
theorem dL_law_185 : decode cL_law 185 = .ok (.iadd, 1) := by decide +kernel
theorem dL_law_186 : decode cL_law 186 = .ok (.iaload, 1) := by decide +kernel
theorem dL_law_187 : decode cL_law 187 = .ok (.aload_n 0, 1) := by decide +kernel
theorem dL_law_188 : decode cL_law 188 = .ok (.iload_n 3, 1) := by decide +kernel
theorem dL_law_189 : decode cL_law 189 = .ok (.iconst 2, 1) := by decide +kernel
theorem dL_law_190 : decode cL_law 190 = .ok (.iadd, 1) := by decide +kernel
theorem dL_law_191 : decode cL_law 191 = .ok (.iaload, 1) := by decide +kernel
theorem dL_law_192 : decode cL_law 192 = .ok (.invokevirtual 31, 3) := by decide +kernel
theorem dL_law_195 : decode cL_law 195 = .ok (.if_icmp .eq 329, 3) := by decide +kernel
theorem dL_law_198 : decode cL_law 198 = .ok (.iconst 0, 1) := by decide +kernel
theorem dL_law_199 : decode cL_law 199 = .ok (.ireturn, 1) := by decide +kernel
theorem dL_law_200 : decode cL_law 200 = .ok (.aload_n 1, 1) := by decide +kernel
theorem dL_law_201 : decode cL_law 201 = .ok (.aload_n 0, 1) := by decide +kernel
theorem dL_law_202 : decode cL_law 202 = .ok (.iload_n 3, 1) := by decide +kernel
theorem dL_law_203 : decode cL_law 203 = .ok (.iconst 1, 1) := by decide +kernel
theorem dL_law_204 : decode cL_law 204 = .ok (.iadd, 1) := by decide +kernel
theorem dL_law_205 : decode cL_law 205 = .ok (.iaload, 1) := by decide +kernel
theorem dL_law_206 : decode cL_law 206 = .ok (.invokevirtual 32, 3) := by decide +kernel
theorem dL_law_209 : decode cL_law 209 = .ok (.aload_n 2, 1) := by decide +kernel
theorem dL_law_210 : decode cL_law 210 = .ok (.aload_n 0, 1) := by decide +kernel
theorem dL_law_211 : decode cL_law 211 = .ok (.iload_n 3, 1) := by decide +kernel
theorem dL_law_212 : decode cL_law 212 = .ok (.iconst 1, 1) := by decide +kernel
theorem dL_law_213 : decode cL_law 213 = .ok (.iadd, 1) := by decide +kernel
theorem dL_law_214 : decode cL_law 214 = .ok (.iaload, 1) := by decide +kernel
theorem dL_law_215 : decode cL_law 215 = .ok (.invokevirtual 36, 3) := by decide +kernel
theorem dL_law_218 : decode cL_law 218 = .ok (.lcmp, 1) := by decide +kernel
theorem dL_law_219 : decode cL_law 219 = .ok (.ifCond .eq 305, 3) := by decide +kernel
theorem dL_law_222 : decode cL_law 222 = .ok (.iconst 0, 1) := by decide +kernel
theorem dL_law_223 : decode cL_law 223 = .ok (.ireturn, 1) := by decide +kernel
theorem dL_law_224 : decode cL_law 224 = .ok (.aload_n 1, 1) := by decide +kernel
theorem dL_law_225 : decode cL_law 225 = .ok (.aload_n 0, 1) := by decide +kernel
theorem dL_law_226 : decode cL_law 226 = .ok (.iload_n 3, 1) := by decide +kernel
theorem dL_law_227 : decode cL_law 227 = .ok (.iconst 1, 1) := by decide +kernel
theorem dL_law_228 : decode cL_law 228 = .ok (.iadd, 1) := by decide +kernel
theorem dL_law_229 : decode cL_law 229 = .ok (.iaload, 1) := by decide +kernel
theorem dL_law_230 : decode cL_law 230 = .ok (.aload_n 0, 1) := by decide +kernel
theorem dL_law_231 : decode cL_law 231 = .ok (.iload_n 3, 1) := by decide +kernel
theorem dL_law_232 : decode cL_law 232 = .ok (.iconst 2, 1) := by decide +kernel
theorem dL_law_233 : decode cL_law 233 = .ok (.iadd, 1) := by decide +kernel
theorem dL_law_234 : decode cL_law 234 = .ok (.iaload, 1) := by decide +kernel
theorem dL_law_235 : decode cL_law 235 = .ok (.invokevirtual 37, 3) := by decide +kernel
theorem dL_law_238 : decode cL_law 238 = .ok (.aload_n 2, 1) := by decide +kernel
theorem dL_law_239 : decode cL_law 239 = .ok (.aload_n 0, 1) := by decide +kernel
theorem dL_law_240 : decode cL_law 240 = .ok (.iload_n 3, 1) := by decide +kernel
theorem dL_law_241 : decode cL_law 241 = .ok (.iconst 1, 1) := by decide +kernel
theorem dL_law_242 : decode cL_law 242 = .ok (.iadd, 1) := by decide +kernel
theorem dL_law_243 : decode cL_law 243 = .ok (.iaload, 1) := by decide +kernel
theorem dL_law_244 : decode cL_law 244 = .ok (.aload_n 0, 1) := by decide +kernel
theorem dL_law_245 : decode cL_law 245 = .ok (.iload_n 3, 1) := by decide +kernel
theorem dL_law_246 : decode cL_law 246 = .ok (.iconst 2, 1) := by decide +kernel
theorem dL_law_247 : decode cL_law 247 = .ok (.iadd, 1) := by decide +kernel
theorem dL_law_248 : decode cL_law 248 = .ok (.iaload, 1) := by decide +kernel
theorem dL_law_249 : decode cL_law 249 = .ok (.invokevirtual 40, 3) := by decide +kernel
theorem dL_law_252 : decode cL_law 252 = .ok (.if_icmp .eq 272, 3) := by decide +kernel
theorem dL_law_255 : decode cL_law 255 = .ok (.iconst 0, 1) := by decide +kernel
theorem dL_law_256 : decode cL_law 256 = .ok (.ireturn, 1) := by decide +kernel
theorem dL_law_257 : decode cL_law 257 = .ok (.aload_n 1, 1) := by decide +kernel
theorem dL_law_258 : decode cL_law 258 = .ok (.aload_n 0, 1) := by decide +kernel
theorem dL_law_259 : decode cL_law 259 = .ok (.iload_n 3, 1) := by decide +kernel
theorem dL_law_260 : decode cL_law 260 = .ok (.iconst 1, 1) := by decide +kernel
theorem dL_law_261 : decode cL_law 261 = .ok (.iadd, 1) := by decide +kernel
theorem dL_law_262 : decode cL_law 262 = .ok (.iaload, 1) := by decide +kernel
theorem dL_law_263 : decode cL_law 263 = .ok (.aload_n 0, 1) := by decide +kernel
theorem dL_law_264 : decode cL_law 264 = .ok (.iload_n 3, 1) := by decide +kernel
theorem dL_law_265 : decode cL_law 265 = .ok (.iconst 2, 1) := by decide +kernel
theorem dL_law_266 : decode cL_law 266 = .ok (.iadd, 1) := by decide +kernel
theorem dL_law_267 : decode cL_law 267 = .ok (.iaload, 1) := by decide +kernel
theorem dL_law_268 : decode cL_law 268 = .ok (.invokevirtual 41, 3) := by decide +kernel
theorem dL_law_271 : decode cL_law 271 = .ok (.aload_n 2, 1) := by decide +kernel
theorem dL_law_272 : decode cL_law 272 = .ok (.aload_n 0, 1) := by decide +kernel
theorem dL_law_273 : decode cL_law 273 = .ok (.iload_n 3, 1) := by decide +kernel
theorem dL_law_274 : decode cL_law 274 = .ok (.iconst 1, 1) := by decide +kernel
theorem dL_law_275 : decode cL_law 275 = .ok (.iadd, 1) := by decide +kernel
theorem dL_law_276 : decode cL_law 276 = .ok (.iaload, 1) := by decide +kernel
theorem dL_law_277 : decode cL_law 277 = .ok (.aload_n 0, 1) := by decide +kernel
theorem dL_law_278 : decode cL_law 278 = .ok (.iload_n 3, 1) := by decide +kernel
theorem dL_law_279 : decode cL_law 279 = .ok (.iconst 2, 1) := by decide +kernel
theorem dL_law_280 : decode cL_law 280 = .ok (.iadd, 1) := by decide +kernel
theorem dL_law_281 : decode cL_law 281 = .ok (.iaload, 1) := by decide +kernel
theorem dL_law_282 : decode cL_law 282 = .ok (.invokevirtual 44, 3) := by decide +kernel
theorem dL_law_285 : decode cL_law 285 = .ok (.if_icmp .eq 239, 3) := by decide +kernel
theorem dL_law_288 : decode cL_law 288 = .ok (.iconst 0, 1) := by decide +kernel
theorem dL_law_289 : decode cL_law 289 = .ok (.ireturn, 1) := by decide +kernel
theorem dL_law_290 : decode cL_law 290 = .ok (.aload_n 1, 1) := by decide +kernel
theorem dL_law_291 : decode cL_law 291 = .ok (.aload_n 0, 1) := by decide +kernel
theorem dL_law_292 : decode cL_law 292 = .ok (.iload_n 3, 1) := by decide +kernel
theorem dL_law_293 : decode cL_law 293 = .ok (.iconst 1, 1) := by decide +kernel
theorem dL_law_294 : decode cL_law 294 = .ok (.iadd, 1) := by decide +kernel
theorem dL_law_295 : decode cL_law 295 = .ok (.iaload, 1) := by decide +kernel
theorem dL_law_296 : decode cL_law 296 = .ok (.aload_n 0, 1) := by decide +kernel
theorem dL_law_297 : decode cL_law 297 = .ok (.iload_n 3, 1) := by decide +kernel
theorem dL_law_298 : decode cL_law 298 = .ok (.iconst 2, 1) := by decide +kernel
theorem dL_law_299 : decode cL_law 299 = .ok (.iadd, 1) := by decide +kernel
theorem dL_law_300 : decode cL_law 300 = .ok (.iaload, 1) := by decide +kernel
theorem dL_law_301 : decode cL_law 301 = .ok (.invokevirtual 45, 3) := by decide +kernel
theorem dL_law_304 : decode cL_law 304 = .ok (.aload_n 2, 1) := by decide +kernel
theorem dL_law_305 : decode cL_law 305 = .ok (.aload_n 0, 1) := by decide +kernel
theorem dL_law_306 : decode cL_law 306 = .ok (.iload_n 3, 1) := by decide +kernel
theorem dL_law_307 : decode cL_law 307 = .ok (.iconst 1, 1) := by decide +kernel
theorem dL_law_308 : decode cL_law 308 = .ok (.iadd, 1) := by decide +kernel
theorem dL_law_309 : decode cL_law 309 = .ok (.iaload, 1) := by decide +kernel
theorem dL_law_310 : decode cL_law 310 = .ok (.aload_n 0, 1) := by decide +kernel
theorem dL_law_311 : decode cL_law 311 = .ok (.iload_n 3, 1) := by decide +kernel
theorem dL_law_312 : decode cL_law 312 = .ok (.iconst 2, 1) := by decide +kernel
theorem dL_law_313 : decode cL_law 313 = .ok (.iadd, 1) := by decide +kernel
theorem dL_law_314 : decode cL_law 314 = .ok (.iaload, 1) := by decide +kernel
theorem dL_law_315 : decode cL_law 315 = .ok (.invokevirtual 48, 3) := by decide +kernel
theorem dL_law_318 : decode cL_law 318 = .ok (.if_icmp .eq 206, 3) := by decide +kernel
theorem dL_law_321 : decode cL_law 321 = .ok (.iconst 0, 1) := by decide +kernel
theorem dL_law_322 : decode cL_law 322 = .ok (.ireturn, 1) := by decide +kernel
theorem dL_law_323 : decode cL_law 323 = .ok (.aload_n 1, 1) := by decide +kernel
theorem dL_law_324 : decode cL_law 324 = .ok (.aload_n 0, 1) := by decide +kernel
theorem dL_law_325 : decode cL_law 325 = .ok (.iload_n 3, 1) := by decide +kernel
theorem dL_law_326 : decode cL_law 326 = .ok (.iconst 1, 1) := by decide +kernel
theorem dL_law_327 : decode cL_law 327 = .ok (.iadd, 1) := by decide +kernel
theorem dL_law_328 : decode cL_law 328 = .ok (.iaload, 1) := by decide +kernel
theorem dL_law_329 : decode cL_law 329 = .ok (.aload_n 0, 1) := by decide +kernel
theorem dL_law_330 : decode cL_law 330 = .ok (.iload_n 3, 1) := by decide +kernel
theorem dL_law_331 : decode cL_law 331 = .ok (.iconst 2, 1) := by decide +kernel
theorem dL_law_332 : decode cL_law 332 = .ok (.iadd, 1) := by decide +kernel
theorem dL_law_333 : decode cL_law 333 = .ok (.iaload, 1) := by decide +kernel
theorem dL_law_334 : decode cL_law 334 = .ok (.invokevirtual 49, 3) := by decide +kernel
theorem dL_law_337 : decode cL_law 337 = .ok (.aload_n 2, 1) := by decide +kernel
theorem dL_law_338 : decode cL_law 338 = .ok (.aload_n 0, 1) := by decide +kernel
theorem dL_law_339 : decode cL_law 339 = .ok (.iload_n 3, 1) := by decide +kernel
theorem dL_law_340 : decode cL_law 340 = .ok (.iconst 1, 1) := by decide +kernel
theorem dL_law_341 : decode cL_law 341 = .ok (.iadd, 1) := by decide +kernel
theorem dL_law_342 : decode cL_law 342 = .ok (.iaload, 1) := by decide +kernel
theorem dL_law_343 : decode cL_law 343 = .ok (.aload_n 0, 1) := by decide +kernel
theorem dL_law_344 : decode cL_law 344 = .ok (.iload_n 3, 1) := by decide +kernel
theorem dL_law_345 : decode cL_law 345 = .ok (.iconst 2, 1) := by decide +kernel
theorem dL_law_346 : decode cL_law 346 = .ok (.iadd, 1) := by decide +kernel
theorem dL_law_347 : decode cL_law 347 = .ok (.iaload, 1) := by decide +kernel
theorem dL_law_348 : decode cL_law 348 = .ok (.invokevirtual 52, 3) := by decide +kernel
theorem dL_law_351 : decode cL_law 351 = .ok (.if_icmp .eq 173, 3) := by decide +kernel
theorem dL_law_354 : decode cL_law 354 = .ok (.iconst 0, 1) := by decide +kernel
theorem dL_law_355 : decode cL_law 355 = .ok (.ireturn, 1) := by decide +kernel
theorem dL_law_356 : decode cL_law 356 = .ok (.aload_n 1, 1) := by decide +kernel
theorem dL_law_357 : decode cL_law 357 = .ok (.aload_n 0, 1) := by decide +kernel
theorem dL_law_358 : decode cL_law 358 = .ok (.iload_n 3, 1) := by decide +kernel
theorem dL_law_359 : decode cL_law 359 = .ok (.iconst 1, 1) := by decide +kernel
theorem dL_law_360 : decode cL_law 360 = .ok (.iadd, 1) := by decide +kernel
theorem dL_law_361 : decode cL_law 361 = .ok (.iaload, 1) := by decide +kernel
theorem dL_law_362 : decode cL_law 362 = .ok (.aload_n 0, 1) := by decide +kernel
theorem dL_law_363 : decode cL_law 363 = .ok (.iload_n 3, 1) := by decide +kernel
theorem dL_law_364 : decode cL_law 364 = .ok (.iconst 2, 1) := by decide +kernel
theorem dL_law_365 : decode cL_law 365 = .ok (.iadd, 1) := by decide +kernel
theorem dL_law_366 : decode cL_law 366 = .ok (.iaload, 1) := by decide +kernel
theorem dL_law_367 : decode cL_law 367 = .ok (.invokevirtual 53, 3) := by decide +kernel
theorem dL_law_370 : decode cL_law 370 = .ok (.aload_n 2, 1) := by decide +kernel
theorem dL_law_371 : decode cL_law 371 = .ok (.aload_n 0, 1) := by decide +kernel
theorem dL_law_372 : decode cL_law 372 = .ok (.iload_n 3, 1) := by decide +kernel
theorem dL_law_373 : decode cL_law 373 = .ok (.iconst 1, 1) := by decide +kernel
theorem dL_law_374 : decode cL_law 374 = .ok (.iadd, 1) := by decide +kernel
theorem dL_law_375 : decode cL_law 375 = .ok (.iaload, 1) := by decide +kernel
theorem dL_law_376 : decode cL_law 376 = .ok (.aload_n 0, 1) := by decide +kernel
theorem dL_law_377 : decode cL_law 377 = .ok (.iload_n 3, 1) := by decide +kernel
theorem dL_law_378 : decode cL_law 378 = .ok (.iconst 2, 1) := by decide +kernel
theorem dL_law_379 : decode cL_law 379 = .ok (.iadd, 1) := by decide +kernel
theorem dL_law_380 : decode cL_law 380 = .ok (.iaload, 1) := by decide +kernel
theorem dL_law_381 : decode cL_law 381 = .ok (.invokevirtual 56, 3) := by decide +kernel
theorem dL_law_384 : decode cL_law 384 = .ok (.if_icmp .eq 140, 3) := by decide +kernel
theorem dL_law_387 : decode cL_law 387 = .ok (.iconst 0, 1) := by decide +kernel
theorem dL_law_388 : decode cL_law 388 = .ok (.ireturn, 1) := by decide +kernel
theorem dL_law_389 : decode cL_law 389 = .ok (.aload_n 1, 1) := by decide +kernel
theorem dL_law_390 : decode cL_law 390 = .ok (.aload_n 0, 1) := by decide +kernel
theorem dL_law_391 : decode cL_law 391 = .ok (.iload_n 3, 1) := by decide +kernel
theorem dL_law_392 : decode cL_law 392 = .ok (.iconst 1, 1) := by decide +kernel
theorem dL_law_393 : decode cL_law 393 = .ok (.iadd, 1) := by decide +kernel
theorem dL_law_394 : decode cL_law 394 = .ok (.iaload, 1) := by decide +kernel
theorem dL_law_395 : decode cL_law 395 = .ok (.aload_n 0, 1) := by decide +kernel
theorem dL_law_396 : decode cL_law 396 = .ok (.iload_n 3, 1) := by decide +kernel
theorem dL_law_397 : decode cL_law 397 = .ok (.iconst 2, 1) := by decide +kernel
theorem dL_law_398 : decode cL_law 398 = .ok (.iadd, 1) := by decide +kernel
theorem dL_law_399 : decode cL_law 399 = .ok (.iaload, 1) := by decide +kernel
theorem dL_law_400 : decode cL_law 400 = .ok (.invokevirtual 57, 3) := by decide +kernel
theorem dL_law_403 : decode cL_law 403 = .ok (.aload_n 2, 1) := by decide +kernel
theorem dL_law_404 : decode cL_law 404 = .ok (.aload_n 0, 1) := by decide +kernel
theorem dL_law_405 : decode cL_law 405 = .ok (.iload_n 3, 1) := by decide +kernel
theorem dL_law_406 : decode cL_law 406 = .ok (.iconst 1, 1) := by decide +kernel
theorem dL_law_407 : decode cL_law 407 = .ok (.iadd, 1) := by decide +kernel
theorem dL_law_408 : decode cL_law 408 = .ok (.iaload, 1) := by decide +kernel
theorem dL_law_409 : decode cL_law 409 = .ok (.aload_n 0, 1) := by decide +kernel
theorem dL_law_410 : decode cL_law 410 = .ok (.iload_n 3, 1) := by decide +kernel
theorem dL_law_411 : decode cL_law 411 = .ok (.iconst 2, 1) := by decide +kernel
theorem dL_law_412 : decode cL_law 412 = .ok (.iadd, 1) := by decide +kernel
theorem dL_law_413 : decode cL_law 413 = .ok (.iaload, 1) := by decide +kernel
theorem dL_law_414 : decode cL_law 414 = .ok (.invokevirtual 60, 3) := by decide +kernel
theorem dL_law_417 : decode cL_law 417 = .ok (.if_icmp .eq 107, 3) := by decide +kernel
theorem dL_law_420 : decode cL_law 420 = .ok (.iconst 0, 1) := by decide +kernel
theorem dL_law_421 : decode cL_law 421 = .ok (.ireturn, 1) := by decide +kernel
theorem dL_law_422 : decode cL_law 422 = .ok (.aload_n 1, 1) := by decide +kernel
theorem dL_law_423 : decode cL_law 423 = .ok (.aload_n 0, 1) := by decide +kernel
theorem dL_law_424 : decode cL_law 424 = .ok (.iload_n 3, 1) := by decide +kernel
theorem dL_law_425 : decode cL_law 425 = .ok (.iconst 1, 1) := by decide +kernel
theorem dL_law_426 : decode cL_law 426 = .ok (.iadd, 1) := by decide +kernel
theorem dL_law_427 : decode cL_law 427 = .ok (.iaload, 1) := by decide +kernel
theorem dL_law_428 : decode cL_law 428 = .ok (.aload_n 0, 1) := by decide +kernel
theorem dL_law_429 : decode cL_law 429 = .ok (.iload_n 3, 1) := by decide +kernel
theorem dL_law_430 : decode cL_law 430 = .ok (.iconst 2, 1) := by decide +kernel
theorem dL_law_431 : decode cL_law 431 = .ok (.iadd, 1) := by decide +kernel
theorem dL_law_432 : decode cL_law 432 = .ok (.iaload, 1) := by decide +kernel
theorem dL_law_433 : decode cL_law 433 = .ok (.invokevirtual 61, 3) := by decide +kernel
theorem dL_law_436 : decode cL_law 436 = .ok (.aload_n 2, 1) := by decide +kernel
theorem dL_law_437 : decode cL_law 437 = .ok (.aload_n 0, 1) := by decide +kernel
theorem dL_law_438 : decode cL_law 438 = .ok (.iload_n 3, 1) := by decide +kernel
theorem dL_law_439 : decode cL_law 439 = .ok (.iconst 1, 1) := by decide +kernel
theorem dL_law_440 : decode cL_law 440 = .ok (.iadd, 1) := by decide +kernel
theorem dL_law_441 : decode cL_law 441 = .ok (.iaload, 1) := by decide +kernel
theorem dL_law_442 : decode cL_law 442 = .ok (.aload_n 0, 1) := by decide +kernel
theorem dL_law_443 : decode cL_law 443 = .ok (.iload_n 3, 1) := by decide +kernel
theorem dL_law_444 : decode cL_law 444 = .ok (.iconst 2, 1) := by decide +kernel
theorem dL_law_445 : decode cL_law 445 = .ok (.iadd, 1) := by decide +kernel
theorem dL_law_446 : decode cL_law 446 = .ok (.iaload, 1) := by decide +kernel
theorem dL_law_447 : decode cL_law 447 = .ok (.invokevirtual 64, 3) := by decide +kernel
theorem dL_law_450 : decode cL_law 450 = .ok (.if_icmp .eq 74, 3) := by decide +kernel
theorem dL_law_453 : decode cL_law 453 = .ok (.iconst 0, 1) := by decide +kernel
theorem dL_law_454 : decode cL_law 454 = .ok (.ireturn, 1) := by decide +kernel
theorem dL_law_455 : decode cL_law 455 = .ok (.aload_n 1, 1) := by decide +kernel
theorem dL_law_456 : decode cL_law 456 = .ok (.invokevirtual 65, 3) := by decide +kernel
theorem dL_law_459 : decode cL_law 459 = .ok (.aload_n 2, 1) := by decide +kernel
theorem dL_law_460 : decode cL_law 460 = .ok (.invokevirtual 68, 3) := by decide +kernel
theorem dL_law_463 : decode cL_law 463 = .ok (.if_icmp .eq 61, 3) := by decide +kernel
theorem dL_law_466 : decode cL_law 466 = .ok (.iconst 0, 1) := by decide +kernel
theorem dL_law_467 : decode cL_law 467 = .ok (.ireturn, 1) := by decide +kernel
theorem dL_law_468 : decode cL_law 468 = .ok (.aload_n 1, 1) := by decide +kernel
theorem dL_law_469 : decode cL_law 469 = .ok (.aload_n 0, 1) := by decide +kernel
theorem dL_law_470 : decode cL_law 470 = .ok (.iload_n 3, 1) := by decide +kernel
theorem dL_law_471 : decode cL_law 471 = .ok (.iconst 1, 1) := by decide +kernel
theorem dL_law_472 : decode cL_law 472 = .ok (.iadd, 1) := by decide +kernel
theorem dL_law_473 : decode cL_law 473 = .ok (.iaload, 1) := by decide +kernel
theorem dL_law_474 : decode cL_law 474 = .ok (.aload_n 0, 1) := by decide +kernel
theorem dL_law_475 : decode cL_law 475 = .ok (.iload_n 3, 1) := by decide +kernel
theorem dL_law_476 : decode cL_law 476 = .ok (.iconst 2, 1) := by decide +kernel
theorem dL_law_477 : decode cL_law 477 = .ok (.iadd, 1) := by decide +kernel
theorem dL_law_478 : decode cL_law 478 = .ok (.iaload, 1) := by decide +kernel
theorem dL_law_479 : decode cL_law 479 = .ok (.invokevirtual 69, 3) := by decide +kernel
theorem dL_law_482 : decode cL_law 482 = .ok (.aload_n 2, 1) := by decide +kernel
theorem dL_law_483 : decode cL_law 483 = .ok (.aload_n 0, 1) := by decide +kernel
theorem dL_law_484 : decode cL_law 484 = .ok (.iload_n 3, 1) := by decide +kernel
theorem dL_law_485 : decode cL_law 485 = .ok (.iconst 1, 1) := by decide +kernel
theorem dL_law_486 : decode cL_law 486 = .ok (.iadd, 1) := by decide +kernel
theorem dL_law_487 : decode cL_law 487 = .ok (.iaload, 1) := by decide +kernel
theorem dL_law_488 : decode cL_law 488 = .ok (.aload_n 0, 1) := by decide +kernel
theorem dL_law_489 : decode cL_law 489 = .ok (.iload_n 3, 1) := by decide +kernel
theorem dL_law_490 : decode cL_law 490 = .ok (.iconst 2, 1) := by decide +kernel
theorem dL_law_491 : decode cL_law 491 = .ok (.iadd, 1) := by decide +kernel
theorem dL_law_492 : decode cL_law 492 = .ok (.iaload, 1) := by decide +kernel
theorem dL_law_493 : decode cL_law 493 = .ok (.invokevirtual 72, 3) := by decide +kernel
theorem dL_law_496 : decode cL_law 496 = .ok (.if_icmp .eq 28, 3) := by decide +kernel
theorem dL_law_499 : decode cL_law 499 = .ok (.iconst 0, 1) := by decide +kernel
theorem dL_law_500 : decode cL_law 500 = .ok (.ireturn, 1) := by decide +kernel
theorem dL_law_501 : decode cL_law 501 = .ok (.aload_n 1, 1) := by decide +kernel
theorem dL_law_502 : decode cL_law 502 = .ok (.aload_n 0, 1) := by decide +kernel
theorem dL_law_503 : decode cL_law 503 = .ok (.iload_n 3, 1) := by decide +kernel
theorem dL_law_504 : decode cL_law 504 = .ok (.iconst 1, 1) := by decide +kernel
theorem dL_law_505 : decode cL_law 505 = .ok (.iadd, 1) := by decide +kernel
theorem dL_law_506 : decode cL_law 506 = .ok (.iaload, 1) := by decide +kernel
theorem dL_law_507 : decode cL_law 507 = .ok (.invokevirtual 73, 3) := by decide +kernel
theorem dL_law_510 : decode cL_law 510 = .ok (.aload_n 2, 1) := by decide +kernel
theorem dL_law_511 : decode cL_law 511 = .ok (.aload_n 0, 1) := by decide +kernel
theorem dL_law_512 : decode cL_law 512 = .ok (.iload_n 3, 1) := by decide +kernel
theorem dL_law_513 : decode cL_law 513 = .ok (.iconst 1, 1) := by decide +kernel
theorem dL_law_514 : decode cL_law 514 = .ok (.iadd, 1) := by decide +kernel
theorem dL_law_515 : decode cL_law 515 = .ok (.iaload, 1) := by decide +kernel
theorem dL_law_516 : decode cL_law 516 = .ok (.invokevirtual 76, 3) := by decide +kernel
theorem dL_law_519 : decode cL_law 519 = .ok (.if_icmp .eq 5, 3) := by decide +kernel
theorem dL_law_522 : decode cL_law 522 = .ok (.iconst 0, 1) := by decide +kernel
theorem dL_law_523 : decode cL_law 523 = .ok (.ireturn, 1) := by decide +kernel
theorem dL_law_524 : decode cL_law 524 = .ok (.iinc 3 3, 3) := by decide +kernel
theorem dL_law_527 : decode cL_law 527 = .ok (.goto (-509), 3) := by decide +kernel
theorem dL_law_530 : decode cL_law 530 = .ok (.iconst 1, 1) := by decide +kernel
theorem dL_law_531 : decode cL_law 531 = .ok (.ireturn, 1) := by decide +kernel
end
section
set_option maxRecDepth 100000
abbrev vwCl : List vw_C := [(RX0, TX0, 11), (RX1, TX1, 4)]
def nA (f : Nat → Nat) : Nat → Int32 := fun k => nI (f k)
def lA (f : Nat → Nat) : Nat → Int64 := fun k => lN (f k)
def zA (f : Nat → Bool) : Nat → Int32 := fun k => nI (f k).toNat
theorem nA_up (f : Nat → Nat) (e v : Nat) : upd (nA f) e (nI v) = nA (va_up f e v) := by
  funext j
  by_cases h : j = e <;> simp [upd, nA, va_up, h]
theorem lA_up (f : Nat → Nat) (e v : Nat) : vp_updL (lA f) e (lN v) = lA (va_up f e v) := by
  funext j
  by_cases h : j = e <;> simp [vp_updL, lA, va_up, h]
theorem zA_up (f : Nat → Bool) (e : Nat) (v : Bool) : upd (zA f) e (nI v.toNat) = zA (va_up f e v) := by
  funext j
  by_cases h : j = e <;> simp [upd, zA, va_up, h]
theorem zA_nar (v : Bool) : vp_nar .boolean (nI v.toNat) = nI v.toNat := by cases v <;> rfl
/-- a walk's fixed things: program, launch, env, room, start, method, args, below, meth, code, locals, classes, which cells are the world's, what holds of the heap, cells and slots made, the goal -/
abbrev fwX : Type := Program × Launch × Env × Room × State × MethodId × Array Value × List Frame × Method × Code × Nat × va_G × (Nat → Prop) × (Heap → List Loc → Prop) × Nat × Nat × (State → Prop)
/-- from every heap that holds the world ws, with the locals lv and the stack st at pc, the machine comes to the goal -/
def fwG (X : fwX) (ws : va_W) (pc : Nat) (lv : List (Nat × Value)) (st : List Value) : Prop :=
  match X with
  | (p, l, e, R, s, m, args, below, meth, c, nL, D, A, V, cells, slots, Q) => ∀ (H : Heap) (locs : List Loc) (ls : Array Slot), va_P D vwCl ws H → va_D A ws → V H locs → lv_has ls nL lv → W p l e R s m args below meth c H locs cells slots Q (F0 m pc ls st)
/-- what a walk stands on: the code, the words, the classes -/
def fwC (X : fwX) (cc : ByteArray) (own : String) (tys : List (ClassId × FieldType)) : Prop :=
  match X with
  | (p, _, _, R, s, m, args, _, _, c, nL, D, _, _, cells, slots, _) => CallFix p m c cc nL s args lw_all own ∧ va_K D vwCl tys s ∧ cells ≤ R.cells ∧ slots ≤ R.slots
def fwN (X : fwX) : Nat := match X with
  | (_, _, _, _, _, _, _, _, _, _, nL, _, _, _, _, _, _) => nL
def fwRm (X : fwX) : Room := match X with
  | (_, _, _, R, _, _, _, _, _, _, _, _, _, _, _, _, _) => R
def fwLa (X : fwX) : Launch := match X with
  | (_, l, _, _, _, _, _, _, _, _, _, _, _, _, _, _, _) => l
def fwDD (X : fwX) : va_G := match X with
  | (_, _, _, _, _, _, _, _, _, _, _, D, _, _, _, _, _) => D
def fwA (X : fwX) : Nat → Prop := match X with
  | (_, _, _, _, _, _, _, _, _, _, _, _, A, _, _, _, _) => A
/-- the heap may be written: V is va_S of the world's cells -/
def fwMu (X : fwX) : Prop := match X with
  | (_, _, _, _, s, _, _, _, _, _, _, _, A, V, _, _, _) => V = va_S A s.heap ∧ ∀ q, s.heap.size ≤ q → A q
section FG
variable {X : fwX} {cc : ByteArray} {own : String} {tys : List (ClassId × FieldType)} {ws : va_W} {pc : Nat} {lv : List (Nat × Value)} {st : List Value}
theorem fg_ic (S : fwC X cc own tys) {n : Int} {v : Int32} (hdg : decode cc pc = .ok (.iconst n, 1)) (hv : Int32.ofInt n = v) (k : fwG X ws (pc + 1) lv (.int v :: st)) : fwG X ws pc lv st := by
  obtain ⟨p, l, e, R, s, m, args, below, meth, c, nL, D, A, V, cells, slots, Q⟩ := X
  obtain ⟨⟨hx, hb, hml, hown, hts⟩, hK, hcs⟩ := S
  intro H locs ls hP hD hV hl
  exact lv_iconst hx hb hdg hv (k H locs ls hP hD hV hl)
theorem fg_bi (S : fwC X cc own tys) {n : Int} {v : Int32} (hdg : decode cc pc = .ok (.bipush n, 2)) (hv : (Int8.ofInt n).toInt32 = v) (k : fwG X ws (pc + 2) lv (.int v :: st)) : fwG X ws pc lv st := by
  obtain ⟨p, l, e, R, s, m, args, below, meth, c, nL, D, A, V, cells, slots, Q⟩ := X
  obtain ⟨⟨hx, hb, hml, hown, hts⟩, hK, hcs⟩ := S
  intro H locs ls hP hD hV hl
  exact lv_bipush hx hb hdg hv (k H locs ls hP hD hV hl)
theorem fg_si (S : fwC X cc own tys) {n : Int} {v : Int32} (hdg : decode cc pc = .ok (.sipush n, 3)) (hv : (Int16.ofInt n).toInt32 = v) (k : fwG X ws (pc + 3) lv (.int v :: st)) : fwG X ws pc lv st := by
  obtain ⟨p, l, e, R, s, m, args, below, meth, c, nL, D, A, V, cells, slots, Q⟩ := X
  obtain ⟨⟨hx, hb, hml, hown, hts⟩, hK, hcs⟩ := S
  intro H locs ls hP hD hV hl
  exact lv_sipush hx hb hdg hv (k H locs ls hP hD hV hl)
theorem fg_lc (S : fwC X cc own tys) {n : Fin 2} {v : Int64} (hdg : decode cc pc = .ok (.lconst n, 1)) (hv : Int64.ofNat (n : Nat) = v) (k : fwG X ws (pc + 1) lv (.long v :: st)) : fwG X ws pc lv st := by
  obtain ⟨p, l, e, R, s, m, args, below, meth, c, nL, D, A, V, cells, slots, Q⟩ := X
  obtain ⟨⟨hx, hb, hml, hown, hts⟩, hK, hcs⟩ := S
  intro H locs ls hP hD hV hl
  exact lv_lconst hx hb hdg hv (k H locs ls hP hD hV hl)
theorem fg_ldc2 (S : fwC X cc own tys) {index : Nat} {v : Int64} (hdg : decode cc pc = .ok (.ldc2_w index, 3)) (hc : Cond.constantLong own index v ∈ lw_all) (k : fwG X ws (pc + 3) lv (.long v :: st)) : fwG X ws pc lv st := by
  obtain ⟨p, l, e, R, s, m, args, below, meth, c, nL, D, A, V, cells, slots, Q⟩ := X
  obtain ⟨⟨hx, hb, hml, hown, hts⟩, hK, hcs⟩ := S
  intro H locs ls hP hD hV hl
  exact lv_ldc2 hx hb hown (hts _ hc) hdg (k H locs ls hP hD hV hl)
theorem fg_iload_n (S : fwC X cc own tys) {kk : Fin 4} {x : Int32} (i j : Nat) (hdg : decode cc pc = .ok (.iload_n kk, 1)) (hi : (kk : Nat) = i) (hj : lv[j]? = some (i, .int x)) (k : fwG X ws (pc + 1) lv (.int x :: st)) : fwG X ws pc lv st := by
  obtain ⟨p, l, e, R, s, m, args, below, meth, c, nL, D, A, V, cells, slots, Q⟩ := X
  obtain ⟨⟨hx, hb, hml, hown, hts⟩, hK, hcs⟩ := S
  intro H locs ls hP hD hV hl
  exact lv_iload_n hx hb hdg hi (lv_at hl j hj) (k H locs ls hP hD hV hl)
theorem fg_iload (S : fwC X cc own tys) {i : Nat} {x : Int32} (j : Nat) (hdg : decode cc pc = .ok (.iload i, 2)) (hj : lv[j]? = some (i, .int x)) (k : fwG X ws (pc + 2) lv (.int x :: st)) : fwG X ws pc lv st := by
  obtain ⟨p, l, e, R, s, m, args, below, meth, c, nL, D, A, V, cells, slots, Q⟩ := X
  obtain ⟨⟨hx, hb, hml, hown, hts⟩, hK, hcs⟩ := S
  intro H locs ls hP hD hV hl
  exact lv_iload hx hb hdg (lv_at hl j hj) (k H locs ls hP hD hV hl)
theorem fg_lload_n (S : fwC X cc own tys) {kk : Fin 4} {x : Int64} (i j : Nat) (hdg : decode cc pc = .ok (.lload_n kk, 1)) (hi : (kk : Nat) = i) (hj : lv[j]? = some (i, .long x)) (k : fwG X ws (pc + 1) lv (.long x :: st)) : fwG X ws pc lv st := by
  obtain ⟨p, l, e, R, s, m, args, below, meth, c, nL, D, A, V, cells, slots, Q⟩ := X
  obtain ⟨⟨hx, hb, hml, hown, hts⟩, hK, hcs⟩ := S
  intro H locs ls hP hD hV hl
  exact lv_lload_n hx hb hdg hi (lv_at hl j hj) (k H locs ls hP hD hV hl)
theorem fg_lload (S : fwC X cc own tys) {i : Nat} {x : Int64} (j : Nat) (hdg : decode cc pc = .ok (.lload i, 2)) (hj : lv[j]? = some (i, .long x)) (k : fwG X ws (pc + 2) lv (.long x :: st)) : fwG X ws pc lv st := by
  obtain ⟨p, l, e, R, s, m, args, below, meth, c, nL, D, A, V, cells, slots, Q⟩ := X
  obtain ⟨⟨hx, hb, hml, hown, hts⟩, hK, hcs⟩ := S
  intro H locs ls hP hD hV hl
  exact lv_lload hx hb hdg (lv_at hl j hj) (k H locs ls hP hD hV hl)
theorem fg_aload_n (S : fwC X cc own tys) {kk : Fin 4} {x : Nat} (i j : Nat) (hdg : decode cc pc = .ok (.aload_n kk, 1)) (hi : (kk : Nat) = i) (hj : lv[j]? = some (i, .ref x)) (k : fwG X ws (pc + 1) lv (.ref x :: st)) : fwG X ws pc lv st := by
  obtain ⟨p, l, e, R, s, m, args, below, meth, c, nL, D, A, V, cells, slots, Q⟩ := X
  obtain ⟨⟨hx, hb, hml, hown, hts⟩, hK, hcs⟩ := S
  intro H locs ls hP hD hV hl
  exact lv_aload_n hx hb hdg hi (lv_at hl j hj) (k H locs ls hP hD hV hl)
theorem fg_istore_n (S : fwC X cc own tys) {kk : Fin 4} {i N : Nat} {x : Int32} {lv' : List (Nat × Value)} (ks : List Nat) (hdg : decode cc pc = .ok (.istore_n kk, 1)) (hi : (kk : Nat) = i) (hn : fwN X = N) (hi2 : i < N) (hl2 : lv_pick ((i, Value.int x) :: lv.filter (fun q => !(q.1 == i) && !(q.1 + 1 == i && q.2.category == 2))) ks = lv') (k : fwG X ws (pc + 1) lv' st) : fwG X ws pc lv (.int x :: st) := by
  obtain ⟨p, l, e, R, s, m, args, below, meth, c, nL, D, A, V, cells, slots, Q⟩ := X
  obtain ⟨⟨hx, hb, hml, hown, hts⟩, hK, hcs⟩ := S
  intro H locs ls hP hD hV hl
  have hn : nL = N := hn
  subst hn
  exact lv_istore_n hx hb hdg hi hl hi2 rfl (fun ls hl => k H locs ls hP hD hV (lv_sub hl ks hl2))
theorem fg_istore (S : fwC X cc own tys) {i N : Nat} {x : Int32} {lv' : List (Nat × Value)} (ks : List Nat) (hdg : decode cc pc = .ok (.istore i, 2))  (hn : fwN X = N) (hi2 : i < N) (hl2 : lv_pick ((i, Value.int x) :: lv.filter (fun q => !(q.1 == i) && !(q.1 + 1 == i && q.2.category == 2))) ks = lv') (k : fwG X ws (pc + 2) lv' st) : fwG X ws pc lv (.int x :: st) := by
  obtain ⟨p, l, e, R, s, m, args, below, meth, c, nL, D, A, V, cells, slots, Q⟩ := X
  obtain ⟨⟨hx, hb, hml, hown, hts⟩, hK, hcs⟩ := S
  intro H locs ls hP hD hV hl
  have hn : nL = N := hn
  subst hn
  exact lv_istore hx hb hdg hl hi2 rfl (fun ls hl => k H locs ls hP hD hV (lv_sub hl ks hl2))
theorem fg_lstore_n (S : fwC X cc own tys) {kk : Fin 4} {i N : Nat} {x : Int64} {lv' : List (Nat × Value)} (ks : List Nat) (hdg : decode cc pc = .ok (.lstore_n kk, 1)) (hi : (kk : Nat) = i) (hn : fwN X = N) (hi2 : i + 1 < N) (hl2 : lv_pick ((i, Value.long x) :: lv.filter (fun q => !(q.1 == i) && (!(q.1 == i + 1) && !(q.1 + 1 == i && q.2.category == 2)))) ks = lv') (k : fwG X ws (pc + 1) lv' st) : fwG X ws pc lv (.long x :: st) := by
  obtain ⟨p, l, e, R, s, m, args, below, meth, c, nL, D, A, V, cells, slots, Q⟩ := X
  obtain ⟨⟨hx, hb, hml, hown, hts⟩, hK, hcs⟩ := S
  intro H locs ls hP hD hV hl
  have hn : nL = N := hn
  subst hn
  exact lv_lstore_n hx hb hdg hi hl hi2 rfl (fun ls hl => k H locs ls hP hD hV (lv_sub hl ks hl2))
theorem fg_lstore (S : fwC X cc own tys) {i N : Nat} {x : Int64} {lv' : List (Nat × Value)} (ks : List Nat) (hdg : decode cc pc = .ok (.lstore i, 2))  (hn : fwN X = N) (hi2 : i + 1 < N) (hl2 : lv_pick ((i, Value.long x) :: lv.filter (fun q => !(q.1 == i) && (!(q.1 == i + 1) && !(q.1 + 1 == i && q.2.category == 2)))) ks = lv') (k : fwG X ws (pc + 2) lv' st) : fwG X ws pc lv (.long x :: st) := by
  obtain ⟨p, l, e, R, s, m, args, below, meth, c, nL, D, A, V, cells, slots, Q⟩ := X
  obtain ⟨⟨hx, hb, hml, hown, hts⟩, hK, hcs⟩ := S
  intro H locs ls hP hD hV hl
  have hn : nL = N := hn
  subst hn
  exact lv_lstore hx hb hdg hl hi2 rfl (fun ls hl => k H locs ls hP hD hV (lv_sub hl ks hl2))
theorem fg_astore_n (S : fwC X cc own tys) {kk : Fin 4} {i N : Nat} {x : Nat} {lv' : List (Nat × Value)} (ks : List Nat) (hdg : decode cc pc = .ok (.astore_n kk, 1)) (hi : (kk : Nat) = i) (hn : fwN X = N) (hi2 : i < N) (hl2 : lv_pick ((i, Value.ref x) :: lv.filter (fun q => !(q.1 == i) && !(q.1 + 1 == i && q.2.category == 2))) ks = lv') (k : fwG X ws (pc + 1) lv' st) : fwG X ws pc lv (.ref x :: st) := by
  obtain ⟨p, l, e, R, s, m, args, below, meth, c, nL, D, A, V, cells, slots, Q⟩ := X
  obtain ⟨⟨hx, hb, hml, hown, hts⟩, hK, hcs⟩ := S
  intro H locs ls hP hD hV hl
  have hn : nL = N := hn
  subst hn
  exact lv_astore_n hx hb hdg hi hl hi2 rfl (fun ls hl => k H locs ls hP hD hV (lv_sub hl ks hl2))
theorem fg_astore (S : fwC X cc own tys) {i N : Nat} {x : Nat} {lv' : List (Nat × Value)} (ks : List Nat) (hdg : decode cc pc = .ok (.astore i, 2))  (hn : fwN X = N) (hi2 : i < N) (hl2 : lv_pick ((i, Value.ref x) :: lv.filter (fun q => !(q.1 == i) && !(q.1 + 1 == i && q.2.category == 2))) ks = lv') (k : fwG X ws (pc + 2) lv' st) : fwG X ws pc lv (.ref x :: st) := by
  obtain ⟨p, l, e, R, s, m, args, below, meth, c, nL, D, A, V, cells, slots, Q⟩ := X
  obtain ⟨⟨hx, hb, hml, hown, hts⟩, hK, hcs⟩ := S
  intro H locs ls hP hD hV hl
  have hn : nL = N := hn
  subst hn
  exact lv_astore hx hb hdg hl hi2 rfl (fun ls hl => k H locs ls hP hD hV (lv_sub hl ks hl2))
theorem fg_iinc (S : fwC X cc own tys) {i N : Nat} {n : Int} {x v : Int32} {lv' : List (Nat × Value)} (j : Nat) (ks : List Nat) (hdg : decode cc pc = .ok (.iinc i n, 3)) (hj : lv[j]? = some (i, .int x)) (hv : x + Int32.ofInt n = v) (hn : fwN X = N) (hi2 : i < N) (hl2 : lv_pick ((i, Value.int v) :: lv.filter (fun q => !(q.1 == i) && !(q.1 + 1 == i && q.2.category == 2))) ks = lv') (k : fwG X ws (pc + 3) lv' st) : fwG X ws pc lv st := by
  obtain ⟨p, l, e, R, s, m, args, below, meth, c, nL, D, A, V, cells, slots, Q⟩ := X
  obtain ⟨⟨hx, hb, hml, hown, hts⟩, hK, hcs⟩ := S
  intro H locs ls hP hD hV hl
  have hn : nL = N := hn
  subst hn
  exact lv_iinc hx hb hdg hl hj hv hi2 rfl (fun ls hl => k H locs ls hP hD hV (lv_sub hl ks hl2))
/-- the locals in another order, or fewer -/
theorem fg_perm {lv' : List (Nat × Value)} (ks : List Nat) (hl2 : lv_pick lv ks = lv') (k : fwG X ws pc lv' st) : fwG X ws pc lv st := by
  obtain ⟨p, l, e, R, s, m, args, below, meth, c, nL, D, A, V, cells, slots, Q⟩ := X
  intro H locs ls hP hD hV hl
  exact k H locs ls hP hD hV (lv_sub hl ks hl2)
theorem fg_topi {x y : Int32} (h : x = y) (k : fwG X ws pc lv (.int y :: st)) : fwG X ws pc lv (.int x :: st) := by rw [h]; exact k
theorem fg_topn {a b : Nat} (h : a = b) (k : fwG X ws pc lv (.int (nI b) :: st)) : fwG X ws pc lv (.int (nI a) :: st) := by rw [h]; exact k
theorem fg_topl {a b : Nat} (h : a = b) (k : fwG X ws pc lv (.long (lN b) :: st)) : fwG X ws pc lv (.long (lN a) :: st) := by rw [h]; exact k
theorem fg_wld {ws' : va_W} (h : ws = ws') (k : fwG X ws' pc lv st) : fwG X ws pc lv st := by rw [h]; exact k
theorem fg_iaddR (S : fwC X cc own tys) {x y v : Int32} (hdg : decode cc pc = .ok (.iadd, 1))  (hv : x + y = v) (k : fwG X ws (pc + 1) lv (.int v :: st)) : fwG X ws pc lv (.int y :: .int x :: st) := by
  obtain ⟨p, l, e, R, s, m, args, below, meth, c, nL, D, A, V, cells, slots, Q⟩ := X
  obtain ⟨⟨hx, hb, hml, hown, hts⟩, hK, hcs⟩ := S
  intro H locs ls hP hD hV hl
  subst hv
  exact lv_iadd hx hb hdg  (k H locs ls hP hD hV hl)
theorem fg_isubR (S : fwC X cc own tys) {x y v : Int32} (hdg : decode cc pc = .ok (.isub, 1))  (hv : x - y = v) (k : fwG X ws (pc + 1) lv (.int v :: st)) : fwG X ws pc lv (.int y :: .int x :: st) := by
  obtain ⟨p, l, e, R, s, m, args, below, meth, c, nL, D, A, V, cells, slots, Q⟩ := X
  obtain ⟨⟨hx, hb, hml, hown, hts⟩, hK, hcs⟩ := S
  intro H locs ls hP hD hV hl
  subst hv
  exact lv_isub hx hb hdg  (k H locs ls hP hD hV hl)
theorem fg_imulR (S : fwC X cc own tys) {x y v : Int32} (hdg : decode cc pc = .ok (.imul, 1))  (hv : x * y = v) (k : fwG X ws (pc + 1) lv (.int v :: st)) : fwG X ws pc lv (.int y :: .int x :: st) := by
  obtain ⟨p, l, e, R, s, m, args, below, meth, c, nL, D, A, V, cells, slots, Q⟩ := X
  obtain ⟨⟨hx, hb, hml, hown, hts⟩, hK, hcs⟩ := S
  intro H locs ls hP hD hV hl
  subst hv
  exact lv_imul hx hb hdg  (k H locs ls hP hD hV hl)
theorem fg_iandR (S : fwC X cc own tys) {x y v : Int32} (hdg : decode cc pc = .ok (.iand, 1))  (hv : x &&& y = v) (k : fwG X ws (pc + 1) lv (.int v :: st)) : fwG X ws pc lv (.int y :: .int x :: st) := by
  obtain ⟨p, l, e, R, s, m, args, below, meth, c, nL, D, A, V, cells, slots, Q⟩ := X
  obtain ⟨⟨hx, hb, hml, hown, hts⟩, hK, hcs⟩ := S
  intro H locs ls hP hD hV hl
  subst hv
  exact lv_iand hx hb hdg  (k H locs ls hP hD hV hl)
theorem fg_ishrR (S : fwC X cc own tys) {x y v : Int32} (hdg : decode cc pc = .ok (.ishr, 1))  (hv : x >>> (y &&& 31) = v) (k : fwG X ws (pc + 1) lv (.int v :: st)) : fwG X ws pc lv (.int y :: .int x :: st) := by
  obtain ⟨p, l, e, R, s, m, args, below, meth, c, nL, D, A, V, cells, slots, Q⟩ := X
  obtain ⟨⟨hx, hb, hml, hown, hts⟩, hK, hcs⟩ := S
  intro H locs ls hP hD hV hl
  subst hv
  exact lv_ishr hx hb hdg  (k H locs ls hP hD hV hl)
theorem fg_idivR (S : fwC X cc own tys) {x y v : Int32} (hdg : decode cc pc = .ok (.idiv, 1)) (hne : ¬ y = 0) (hv : x / y = v) (k : fwG X ws (pc + 1) lv (.int v :: st)) : fwG X ws pc lv (.int y :: .int x :: st) := by
  obtain ⟨p, l, e, R, s, m, args, below, meth, c, nL, D, A, V, cells, slots, Q⟩ := X
  obtain ⟨⟨hx, hb, hml, hown, hts⟩, hK, hcs⟩ := S
  intro H locs ls hP hD hV hl
  subst hv
  exact lv_idiv hx hb hdg hne (k H locs ls hP hD hV hl)
theorem fg_iremR (S : fwC X cc own tys) {x y v : Int32} (hdg : decode cc pc = .ok (.irem, 1)) (hne : ¬ y = 0) (hv : x - x / y * y = v) (k : fwG X ws (pc + 1) lv (.int v :: st)) : fwG X ws pc lv (.int y :: .int x :: st) := by
  obtain ⟨p, l, e, R, s, m, args, below, meth, c, nL, D, A, V, cells, slots, Q⟩ := X
  obtain ⟨⟨hx, hb, hml, hown, hts⟩, hK, hcs⟩ := S
  intro H locs ls hP hD hV hl
  subst hv
  exact lv_irem hx hb hdg hne (k H locs ls hP hD hV hl)
theorem fg_laddR (S : fwC X cc own tys) {x y v : Int64} (hdg : decode cc pc = .ok (.ladd, 1))  (hv : x + y = v) (k : fwG X ws (pc + 1) lv (.long v :: st)) : fwG X ws pc lv (.long y :: .long x :: st) := by
  obtain ⟨p, l, e, R, s, m, args, below, meth, c, nL, D, A, V, cells, slots, Q⟩ := X
  obtain ⟨⟨hx, hb, hml, hown, hts⟩, hK, hcs⟩ := S
  intro H locs ls hP hD hV hl
  subst hv
  exact lv_ladd hx hb hdg  (k H locs ls hP hD hV hl)
theorem fg_lsubR (S : fwC X cc own tys) {x y v : Int64} (hdg : decode cc pc = .ok (.lsub, 1))  (hv : x - y = v) (k : fwG X ws (pc + 1) lv (.long v :: st)) : fwG X ws pc lv (.long y :: .long x :: st) := by
  obtain ⟨p, l, e, R, s, m, args, below, meth, c, nL, D, A, V, cells, slots, Q⟩ := X
  obtain ⟨⟨hx, hb, hml, hown, hts⟩, hK, hcs⟩ := S
  intro H locs ls hP hD hV hl
  subst hv
  exact lv_lsub hx hb hdg  (k H locs ls hP hD hV hl)
theorem fg_lmulR (S : fwC X cc own tys) {x y v : Int64} (hdg : decode cc pc = .ok (.lmul, 1))  (hv : x * y = v) (k : fwG X ws (pc + 1) lv (.long v :: st)) : fwG X ws pc lv (.long y :: .long x :: st) := by
  obtain ⟨p, l, e, R, s, m, args, below, meth, c, nL, D, A, V, cells, slots, Q⟩ := X
  obtain ⟨⟨hx, hb, hml, hown, hts⟩, hK, hcs⟩ := S
  intro H locs ls hP hD hV hl
  subst hv
  exact lv_lmul hx hb hdg  (k H locs ls hP hD hV hl)
theorem fg_iadd (S : fwC X cc own tys) {a b : Nat} (hdg : decode cc pc = .ok (.iadd, 1))  (k : fwG X ws (pc + 1) lv (.int (nI (a + b)) :: st)) : fwG X ws pc lv (.int (nI b) :: .int (nI a) :: st) := fg_iaddR S hdg  (nI_add a b) k
theorem fg_isub (S : fwC X cc own tys) {a b : Nat} (hdg : decode cc pc = .ok (.isub, 1)) (h : b ≤ a) (k : fwG X ws (pc + 1) lv (.int (nI (a - b)) :: st)) : fwG X ws pc lv (.int (nI b) :: .int (nI a) :: st) := fg_isubR S hdg  (pk_sub h) k
theorem fg_imul (S : fwC X cc own tys) {a b : Nat} (hdg : decode cc pc = .ok (.imul, 1))  (k : fwG X ws (pc + 1) lv (.int (nI (a * b)) :: st)) : fwG X ws pc lv (.int (nI b) :: .int (nI a) :: st) := fg_imulR S hdg  (pk_mul a b) k
theorem fg_idiv (S : fwC X cc own tys) {a b : Nat} (hdg : decode cc pc = .ok (.idiv, 1)) (ha : a < 2 ^ 31) (h0 : 0 < b) (hb : b < 2 ^ 31) (k : fwG X ws (pc + 1) lv (.int (nI (a / b)) :: st)) : fwG X ws pc lv (.int (nI b) :: .int (nI a) :: st) := fg_idivR S hdg (nI_ne0 h0 hb) (pk_div ha h0 hb) k
theorem fg_irem (S : fwC X cc own tys) {a b : Nat} (hdg : decode cc pc = .ok (.irem, 1)) (ha : a < 2 ^ 31) (h0 : 0 < b) (hb : b < 2 ^ 31) (k : fwG X ws (pc + 1) lv (.int (nI (a % b)) :: st)) : fwG X ws pc lv (.int (nI b) :: .int (nI a) :: st) := fg_iremR S hdg (nI_ne0 h0 hb) (pk_rem ha h0 hb) k
theorem fg_ladd (S : fwC X cc own tys) {a b : Nat} (hdg : decode cc pc = .ok (.ladd, 1))  (k : fwG X ws (pc + 1) lv (.long (lN (a + b)) :: st)) : fwG X ws pc lv (.long (lN b) :: .long (lN a) :: st) := fg_laddR S hdg  (lN_add a b) k
theorem fg_lsub (S : fwC X cc own tys) {a b : Nat} (hdg : decode cc pc = .ok (.lsub, 1)) (h : b ≤ a) (k : fwG X ws (pc + 1) lv (.long (lN (a - b)) :: st)) : fwG X ws pc lv (.long (lN b) :: .long (lN a) :: st) := fg_lsubR S hdg  (lN_sub h) k
theorem fg_lmul (S : fwC X cc own tys) {a b : Nat} (hdg : decode cc pc = .ok (.lmul, 1))  (k : fwG X ws (pc + 1) lv (.long (lN (a * b)) :: st)) : fwG X ws pc lv (.long (lN b) :: .long (lN a) :: st) := fg_lmulR S hdg  (lN_mul a b) k
theorem fg_i2lR (S : fwC X cc own tys) {x : Int32} {v : Int64} (hdg : decode cc pc = .ok (.i2l, 1)) (hv : x.toInt64 = v) (k : fwG X ws (pc + 1) lv (.long v :: st)) : fwG X ws pc lv (.int x :: st) := by
  obtain ⟨p, l, e, R, s, m, args, below, meth, c, nL, D, A, V, cells, slots, Q⟩ := X
  obtain ⟨⟨hx, hb, hml, hown, hts⟩, hK, hcs⟩ := S
  intro H locs ls hP hD hV hl
  exact lv_i2l hx hb hdg hv (k H locs ls hP hD hV hl)
theorem fg_l2iR (S : fwC X cc own tys) {x : Int64} {v : Int32} (hdg : decode cc pc = .ok (.l2i, 1)) (hv : x.toInt32 = v) (k : fwG X ws (pc + 1) lv (.int v :: st)) : fwG X ws pc lv (.long x :: st) := by
  obtain ⟨p, l, e, R, s, m, args, below, meth, c, nL, D, A, V, cells, slots, Q⟩ := X
  obtain ⟨⟨hx, hb, hml, hown, hts⟩, hK, hcs⟩ := S
  intro H locs ls hP hD hV hl
  exact lv_l2i hx hb hdg hv (k H locs ls hP hD hV hl)
theorem fg_i2l (S : fwC X cc own tys) {a : Nat} (hdg : decode cc pc = .ok (.i2l, 1)) (h : a < 2 ^ 31) (k : fwG X ws (pc + 1) lv (.long (lN a) :: st)) : fwG X ws pc lv (.int (nI a) :: st) := fg_i2lR S hdg (nI_l h) k
theorem fg_l2i (S : fwC X cc own tys) {a : Nat} (hdg : decode cc pc = .ok (.l2i, 1)) (k : fwG X ws (pc + 1) lv (.int (nI a) :: st)) : fwG X ws pc lv (.long (lN a) :: st) := fg_l2iR S hdg (lN_i a) k
theorem fg_dup (S : fwC X cc own tys) {va : Value} (hdg : decode cc pc = .ok (.dup, 1)) (hva : va.category = 1) (k : fwG X ws (pc + 1) lv (va :: va :: st)) : fwG X ws pc lv (va :: st) := by
  obtain ⟨p, l, e, R, s, m, args, below, meth, c, nL, D, A, V, cells, slots, Q⟩ := X
  obtain ⟨⟨hx, hb, hml, hown, hts⟩, hK, hcs⟩ := S
  intro H locs ls hP hD hV hl
  exact lv_dup hx hb hdg hva (k H locs ls hP hD hV hl)
theorem fg_dup2 (S : fwC X cc own tys) {va vb : Value} (hdg : decode cc pc = .ok (.dup2, 1)) (hva : va.category = 1) (hvb : vb.category = 1) (k : fwG X ws (pc + 1) lv (va :: vb :: va :: vb :: st)) : fwG X ws pc lv (va :: vb :: st) := by
  obtain ⟨p, l, e, R, s, m, args, below, meth, c, nL, D, A, V, cells, slots, Q⟩ := X
  obtain ⟨⟨hx, hb, hml, hown, hts⟩, hK, hcs⟩ := S
  intro H locs ls hP hD hV hl
  exact lv_dup2_11 hx hb hdg hva hvb (k H locs ls hP hD hV hl)
theorem fg_goto (S : fwC X cc own tys) {off : Int} (tgt : Nat) (hdg : decode cc pc = .ok (.goto off, 3)) (ht : (pc : Int) + off = (tgt : Int)) (k : fwG X ws tgt lv st) : fwG X ws pc lv st := by
  obtain ⟨p, l, e, R, s, m, args, below, meth, c, nL, D, A, V, cells, slots, Q⟩ := X
  obtain ⟨⟨hx, hb, hml, hown, hts⟩, hK, hcs⟩ := S
  intro H locs ls hP hD hV hl
  exact lv_goto hx hb hdg ht (k H locs ls hP hD hV hl)
theorem fg_icmpR_eq (S : fwC X cc own tys) {x y : Int32} {off : Int} (tgt : Nat) (hdg : decode cc pc = .ok (.if_icmp .eq off, 3)) (ht : (pc : Int) + off = (tgt : Int)) (kt : x = y → fwG X ws tgt lv st) (kf : ¬ x = y → fwG X ws (pc + 3) lv st) : fwG X ws pc lv (.int y :: .int x :: st) := by
  obtain ⟨p, l, e, R, s, m, args, below, meth, c, nL, D, A, V, cells, slots, Q⟩ := X
  obtain ⟨⟨hx, hb, hml, hown, hts⟩, hK, hcs⟩ := S
  intro H locs ls hP hD hV hl
  exact lv_icmp_eq hx hb hdg ht (fun h => kt h H locs ls hP hD hV hl) (fun h => kf h H locs ls hP hD hV hl)
theorem fg_ifR_eq (S : fwC X cc own tys) {x : Int32} {off : Int} (tgt : Nat) (hdg : decode cc pc = .ok (.ifCond .eq off, 3)) (ht : (pc : Int) + off = (tgt : Int)) (kt : x = 0 → fwG X ws tgt lv st) (kf : ¬ x = 0 → fwG X ws (pc + 3) lv st) : fwG X ws pc lv (.int x :: st) := by
  obtain ⟨p, l, e, R, s, m, args, below, meth, c, nL, D, A, V, cells, slots, Q⟩ := X
  obtain ⟨⟨hx, hb, hml, hown, hts⟩, hK, hcs⟩ := S
  intro H locs ls hP hD hV hl
  exact lv_if_eq hx hb hdg ht (fun h => kt h H locs ls hP hD hV hl) (fun h => kf h H locs ls hP hD hV hl)
theorem fg_icmp_eq (S : fwC X cc own tys) {a b : Nat} {off : Int} (tgt : Nat) (hdg : decode cc pc = .ok (.if_icmp .eq off, 3)) (ht : (pc : Int) + off = (tgt : Int)) (ha : a < 2 ^ 31) (hb : b < 2 ^ 31) (kt : a = b → fwG X ws tgt lv st) (kf : a ≠ b → fwG X ws (pc + 3) lv st) : fwG X ws pc lv (.int (nI b) :: .int (nI a) :: st) := fg_icmpR_eq S tgt hdg ht (fun h => kt ((nI_eq ha hb).mp h)) (fun h => kf (fun q => h ((nI_eq ha hb).mpr q)))
theorem fg_if_eq (S : fwC X cc own tys) {a : Nat} {off : Int} (tgt : Nat) (hdg : decode cc pc = .ok (.ifCond .eq off, 3)) (ht : (pc : Int) + off = (tgt : Int)) (ha : a < 2 ^ 31) (kt : a = 0 → fwG X ws tgt lv st) (kf : a ≠ 0 → fwG X ws (pc + 3) lv st) : fwG X ws pc lv (.int (nI a) :: st) := by
  have e0 : (nI a).toInt = (a : Int) := nI_toInt ha
  have e1 : (0 : Int32).toInt = 0 := Int32.toInt_zero
  refine fg_ifR_eq S tgt hdg ht (fun h => kt ?_) (fun h => kf ?_) <;> simp only [Int32.le_iff_toInt_le, Int32.lt_iff_toInt_lt, ← Int32.toInt_inj, e0, e1] at h <;> omega
theorem fg_icmpR_ne (S : fwC X cc own tys) {x y : Int32} {off : Int} (tgt : Nat) (hdg : decode cc pc = .ok (.if_icmp .ne off, 3)) (ht : (pc : Int) + off = (tgt : Int)) (kt : ¬ x = y → fwG X ws tgt lv st) (kf : x = y → fwG X ws (pc + 3) lv st) : fwG X ws pc lv (.int y :: .int x :: st) := by
  obtain ⟨p, l, e, R, s, m, args, below, meth, c, nL, D, A, V, cells, slots, Q⟩ := X
  obtain ⟨⟨hx, hb, hml, hown, hts⟩, hK, hcs⟩ := S
  intro H locs ls hP hD hV hl
  exact lv_icmp_ne hx hb hdg ht (fun h => kt h H locs ls hP hD hV hl) (fun h => kf h H locs ls hP hD hV hl)
theorem fg_ifR_ne (S : fwC X cc own tys) {x : Int32} {off : Int} (tgt : Nat) (hdg : decode cc pc = .ok (.ifCond .ne off, 3)) (ht : (pc : Int) + off = (tgt : Int)) (kt : ¬ x = 0 → fwG X ws tgt lv st) (kf : x = 0 → fwG X ws (pc + 3) lv st) : fwG X ws pc lv (.int x :: st) := by
  obtain ⟨p, l, e, R, s, m, args, below, meth, c, nL, D, A, V, cells, slots, Q⟩ := X
  obtain ⟨⟨hx, hb, hml, hown, hts⟩, hK, hcs⟩ := S
  intro H locs ls hP hD hV hl
  exact lv_if_ne hx hb hdg ht (fun h => kt h H locs ls hP hD hV hl) (fun h => kf h H locs ls hP hD hV hl)
theorem fg_icmp_ne (S : fwC X cc own tys) {a b : Nat} {off : Int} (tgt : Nat) (hdg : decode cc pc = .ok (.if_icmp .ne off, 3)) (ht : (pc : Int) + off = (tgt : Int)) (ha : a < 2 ^ 31) (hb : b < 2 ^ 31) (kt : a ≠ b → fwG X ws tgt lv st) (kf : a = b → fwG X ws (pc + 3) lv st) : fwG X ws pc lv (.int (nI b) :: .int (nI a) :: st) := fg_icmpR_ne S tgt hdg ht (fun h => kt (fun q => h ((nI_eq ha hb).mpr q))) (fun h => kf ((nI_eq ha hb).mp h))
theorem fg_if_ne (S : fwC X cc own tys) {a : Nat} {off : Int} (tgt : Nat) (hdg : decode cc pc = .ok (.ifCond .ne off, 3)) (ht : (pc : Int) + off = (tgt : Int)) (ha : a < 2 ^ 31) (kt : a ≠ 0 → fwG X ws tgt lv st) (kf : a = 0 → fwG X ws (pc + 3) lv st) : fwG X ws pc lv (.int (nI a) :: st) := by
  have e0 : (nI a).toInt = (a : Int) := nI_toInt ha
  have e1 : (0 : Int32).toInt = 0 := Int32.toInt_zero
  refine fg_ifR_ne S tgt hdg ht (fun h => kt ?_) (fun h => kf ?_) <;> simp only [Int32.le_iff_toInt_le, Int32.lt_iff_toInt_lt, ← Int32.toInt_inj, e0, e1] at h <;> omega
theorem fg_icmpR_lt (S : fwC X cc own tys) {x y : Int32} {off : Int} (tgt : Nat) (hdg : decode cc pc = .ok (.if_icmp .lt off, 3)) (ht : (pc : Int) + off = (tgt : Int)) (kt : x < y → fwG X ws tgt lv st) (kf : ¬ x < y → fwG X ws (pc + 3) lv st) : fwG X ws pc lv (.int y :: .int x :: st) := by
  obtain ⟨p, l, e, R, s, m, args, below, meth, c, nL, D, A, V, cells, slots, Q⟩ := X
  obtain ⟨⟨hx, hb, hml, hown, hts⟩, hK, hcs⟩ := S
  intro H locs ls hP hD hV hl
  exact lv_icmp_lt hx hb hdg ht (fun h => kt h H locs ls hP hD hV hl) (fun h => kf h H locs ls hP hD hV hl)
theorem fg_ifR_lt (S : fwC X cc own tys) {x : Int32} {off : Int} (tgt : Nat) (hdg : decode cc pc = .ok (.ifCond .lt off, 3)) (ht : (pc : Int) + off = (tgt : Int)) (kt : x < 0 → fwG X ws tgt lv st) (kf : ¬ x < 0 → fwG X ws (pc + 3) lv st) : fwG X ws pc lv (.int x :: st) := by
  obtain ⟨p, l, e, R, s, m, args, below, meth, c, nL, D, A, V, cells, slots, Q⟩ := X
  obtain ⟨⟨hx, hb, hml, hown, hts⟩, hK, hcs⟩ := S
  intro H locs ls hP hD hV hl
  exact lv_if_lt hx hb hdg ht (fun h => kt h H locs ls hP hD hV hl) (fun h => kf h H locs ls hP hD hV hl)
theorem fg_icmp_lt (S : fwC X cc own tys) {a b : Nat} {off : Int} (tgt : Nat) (hdg : decode cc pc = .ok (.if_icmp .lt off, 3)) (ht : (pc : Int) + off = (tgt : Int)) (ha : a < 2 ^ 31) (hb : b < 2 ^ 31) (kt : a < b → fwG X ws tgt lv st) (kf : b ≤ a → fwG X ws (pc + 3) lv st) : fwG X ws pc lv (.int (nI b) :: .int (nI a) :: st) := fg_icmpR_lt S tgt hdg ht (fun h => kt ((nI_ltI ha hb).mp h)) (fun h => kf (by have q := mt ((nI_ltI ha hb).mpr) h; omega))
theorem fg_if_lt (S : fwC X cc own tys) {a : Nat} {off : Int} (tgt : Nat) (hdg : decode cc pc = .ok (.ifCond .lt off, 3)) (ht : (pc : Int) + off = (tgt : Int)) (ha : a < 2 ^ 31) (kf : fwG X ws (pc + 3) lv st) : fwG X ws pc lv (.int (nI a) :: st) := fg_ifR_lt S tgt hdg ht (fun h => absurd h (nI_pos ha)) (fun _ => kf)
theorem fg_icmpR_ge (S : fwC X cc own tys) {x y : Int32} {off : Int} (tgt : Nat) (hdg : decode cc pc = .ok (.if_icmp .ge off, 3)) (ht : (pc : Int) + off = (tgt : Int)) (kt : y ≤ x → fwG X ws tgt lv st) (kf : ¬ y ≤ x → fwG X ws (pc + 3) lv st) : fwG X ws pc lv (.int y :: .int x :: st) := by
  obtain ⟨p, l, e, R, s, m, args, below, meth, c, nL, D, A, V, cells, slots, Q⟩ := X
  obtain ⟨⟨hx, hb, hml, hown, hts⟩, hK, hcs⟩ := S
  intro H locs ls hP hD hV hl
  exact lv_icmp_ge hx hb hdg ht (fun h => kt h H locs ls hP hD hV hl) (fun h => kf h H locs ls hP hD hV hl)
theorem fg_ifR_ge (S : fwC X cc own tys) {x : Int32} {off : Int} (tgt : Nat) (hdg : decode cc pc = .ok (.ifCond .ge off, 3)) (ht : (pc : Int) + off = (tgt : Int)) (kt : 0 ≤ x → fwG X ws tgt lv st) (kf : ¬ 0 ≤ x → fwG X ws (pc + 3) lv st) : fwG X ws pc lv (.int x :: st) := by
  obtain ⟨p, l, e, R, s, m, args, below, meth, c, nL, D, A, V, cells, slots, Q⟩ := X
  obtain ⟨⟨hx, hb, hml, hown, hts⟩, hK, hcs⟩ := S
  intro H locs ls hP hD hV hl
  exact lv_if_ge hx hb hdg ht (fun h => kt h H locs ls hP hD hV hl) (fun h => kf h H locs ls hP hD hV hl)
theorem fg_icmp_ge (S : fwC X cc own tys) {a b : Nat} {off : Int} (tgt : Nat) (hdg : decode cc pc = .ok (.if_icmp .ge off, 3)) (ht : (pc : Int) + off = (tgt : Int)) (ha : a < 2 ^ 31) (hb : b < 2 ^ 31) (kt : b ≤ a → fwG X ws tgt lv st) (kf : a < b → fwG X ws (pc + 3) lv st) : fwG X ws pc lv (.int (nI b) :: .int (nI a) :: st) := fg_icmpR_ge S tgt hdg ht (fun h => kt ((nI_leI hb ha).mp h)) (fun h => kf (by have q := mt ((nI_leI hb ha).mpr) h; omega))
theorem fg_if_ge (S : fwC X cc own tys) {a : Nat} {off : Int} (tgt : Nat) (hdg : decode cc pc = .ok (.ifCond .ge off, 3)) (ht : (pc : Int) + off = (tgt : Int)) (ha : a < 2 ^ 31) (kt : fwG X ws tgt lv st) : fwG X ws pc lv (.int (nI a) :: st) := fg_ifR_ge S tgt hdg ht (fun _ => kt) (fun h => absurd (nI_pos' ha) h)
theorem fg_icmpR_gt (S : fwC X cc own tys) {x y : Int32} {off : Int} (tgt : Nat) (hdg : decode cc pc = .ok (.if_icmp .gt off, 3)) (ht : (pc : Int) + off = (tgt : Int)) (kt : y < x → fwG X ws tgt lv st) (kf : ¬ y < x → fwG X ws (pc + 3) lv st) : fwG X ws pc lv (.int y :: .int x :: st) := by
  obtain ⟨p, l, e, R, s, m, args, below, meth, c, nL, D, A, V, cells, slots, Q⟩ := X
  obtain ⟨⟨hx, hb, hml, hown, hts⟩, hK, hcs⟩ := S
  intro H locs ls hP hD hV hl
  exact lv_icmp_gt hx hb hdg ht (fun h => kt h H locs ls hP hD hV hl) (fun h => kf h H locs ls hP hD hV hl)
theorem fg_ifR_gt (S : fwC X cc own tys) {x : Int32} {off : Int} (tgt : Nat) (hdg : decode cc pc = .ok (.ifCond .gt off, 3)) (ht : (pc : Int) + off = (tgt : Int)) (kt : 0 < x → fwG X ws tgt lv st) (kf : ¬ 0 < x → fwG X ws (pc + 3) lv st) : fwG X ws pc lv (.int x :: st) := by
  obtain ⟨p, l, e, R, s, m, args, below, meth, c, nL, D, A, V, cells, slots, Q⟩ := X
  obtain ⟨⟨hx, hb, hml, hown, hts⟩, hK, hcs⟩ := S
  intro H locs ls hP hD hV hl
  exact lv_if_gt hx hb hdg ht (fun h => kt h H locs ls hP hD hV hl) (fun h => kf h H locs ls hP hD hV hl)
theorem fg_icmp_gt (S : fwC X cc own tys) {a b : Nat} {off : Int} (tgt : Nat) (hdg : decode cc pc = .ok (.if_icmp .gt off, 3)) (ht : (pc : Int) + off = (tgt : Int)) (ha : a < 2 ^ 31) (hb : b < 2 ^ 31) (kt : b < a → fwG X ws tgt lv st) (kf : a ≤ b → fwG X ws (pc + 3) lv st) : fwG X ws pc lv (.int (nI b) :: .int (nI a) :: st) := fg_icmpR_gt S tgt hdg ht (fun h => kt ((nI_ltI hb ha).mp h)) (fun h => kf (by have q := mt ((nI_ltI hb ha).mpr) h; omega))
theorem fg_if_gt (S : fwC X cc own tys) {a : Nat} {off : Int} (tgt : Nat) (hdg : decode cc pc = .ok (.ifCond .gt off, 3)) (ht : (pc : Int) + off = (tgt : Int)) (ha : a < 2 ^ 31) (kt : 0 < a → fwG X ws tgt lv st) (kf : a = 0 → fwG X ws (pc + 3) lv st) : fwG X ws pc lv (.int (nI a) :: st) := by
  have e0 : (nI a).toInt = (a : Int) := nI_toInt ha
  have e1 : (0 : Int32).toInt = 0 := Int32.toInt_zero
  refine fg_ifR_gt S tgt hdg ht (fun h => kt ?_) (fun h => kf ?_) <;> simp only [Int32.le_iff_toInt_le, Int32.lt_iff_toInt_lt, ← Int32.toInt_inj, e0, e1] at h <;> omega
theorem fg_icmpR_le (S : fwC X cc own tys) {x y : Int32} {off : Int} (tgt : Nat) (hdg : decode cc pc = .ok (.if_icmp .le off, 3)) (ht : (pc : Int) + off = (tgt : Int)) (kt : x ≤ y → fwG X ws tgt lv st) (kf : ¬ x ≤ y → fwG X ws (pc + 3) lv st) : fwG X ws pc lv (.int y :: .int x :: st) := by
  obtain ⟨p, l, e, R, s, m, args, below, meth, c, nL, D, A, V, cells, slots, Q⟩ := X
  obtain ⟨⟨hx, hb, hml, hown, hts⟩, hK, hcs⟩ := S
  intro H locs ls hP hD hV hl
  exact lv_icmp_le hx hb hdg ht (fun h => kt h H locs ls hP hD hV hl) (fun h => kf h H locs ls hP hD hV hl)
theorem fg_ifR_le (S : fwC X cc own tys) {x : Int32} {off : Int} (tgt : Nat) (hdg : decode cc pc = .ok (.ifCond .le off, 3)) (ht : (pc : Int) + off = (tgt : Int)) (kt : x ≤ 0 → fwG X ws tgt lv st) (kf : ¬ x ≤ 0 → fwG X ws (pc + 3) lv st) : fwG X ws pc lv (.int x :: st) := by
  obtain ⟨p, l, e, R, s, m, args, below, meth, c, nL, D, A, V, cells, slots, Q⟩ := X
  obtain ⟨⟨hx, hb, hml, hown, hts⟩, hK, hcs⟩ := S
  intro H locs ls hP hD hV hl
  exact lv_if_le hx hb hdg ht (fun h => kt h H locs ls hP hD hV hl) (fun h => kf h H locs ls hP hD hV hl)
theorem fg_icmp_le (S : fwC X cc own tys) {a b : Nat} {off : Int} (tgt : Nat) (hdg : decode cc pc = .ok (.if_icmp .le off, 3)) (ht : (pc : Int) + off = (tgt : Int)) (ha : a < 2 ^ 31) (hb : b < 2 ^ 31) (kt : a ≤ b → fwG X ws tgt lv st) (kf : b < a → fwG X ws (pc + 3) lv st) : fwG X ws pc lv (.int (nI b) :: .int (nI a) :: st) := fg_icmpR_le S tgt hdg ht (fun h => kt ((nI_leI ha hb).mp h)) (fun h => kf (by have q := mt ((nI_leI ha hb).mpr) h; omega))
theorem fg_if_le (S : fwC X cc own tys) {a : Nat} {off : Int} (tgt : Nat) (hdg : decode cc pc = .ok (.ifCond .le off, 3)) (ht : (pc : Int) + off = (tgt : Int)) (ha : a < 2 ^ 31) (kt : a = 0 → fwG X ws tgt lv st) (kf : 0 < a → fwG X ws (pc + 3) lv st) : fwG X ws pc lv (.int (nI a) :: st) := by
  have e0 : (nI a).toInt = (a : Int) := nI_toInt ha
  have e1 : (0 : Int32).toInt = 0 := Int32.toInt_zero
  refine fg_ifR_le S tgt hdg ht (fun h => kt ?_) (fun h => kf ?_) <;> simp only [Int32.le_iff_toInt_le, Int32.lt_iff_toInt_lt, ← Int32.toInt_inj, e0, e1] at h <;> omega
theorem fg_lcmpR (S : fwC X cc own tys) {x y : Int64} (hdg : decode cc pc = .ok (.lcmp, 1)) (k : fwG X ws (pc + 1) lv (.int (lg_cmp x y) :: st)) : fwG X ws pc lv (.long y :: .long x :: st) := by
  obtain ⟨p, l, e, R, s, m, args, below, meth, c, nL, D, A, V, cells, slots, Q⟩ := X
  obtain ⟨⟨hx, hb, hml, hown, hts⟩, hK, hcs⟩ := S
  intro H locs ls hP hD hV hl
  exact W.lcmp hx hb hdg (k H locs ls hP hD hV hl)
theorem fg_lcmp_eq (S : fwC X cc own tys) {a b : Nat} {off : Int} (tgt : Nat) (hdg : decode cc pc = .ok (.lcmp, 1)) (hdg2 : decode cc (pc + 1) = .ok (.ifCond .eq off, 3)) (ht : ((pc + 1 : Nat) : Int) + off = (tgt : Int)) (ha : a < 2 ^ 63) (hb : b < 2 ^ 63) (kt : a = b → fwG X ws tgt lv st) (kf : a ≠ b → fwG X ws (pc + 4) lv st) : fwG X ws pc lv (.long (lN b) :: .long (lN a) :: st) := fg_lcmpR S hdg (fg_ifR_eq S tgt hdg2 ht (fun h => kt (((lg_cmp_eq (lN a) (lN b)).trans (pk_lEQ ha hb)).mp h)) (fun h => kf (fun q => h (((lg_cmp_eq (lN a) (lN b)).trans (pk_lEQ ha hb)).mpr q))))
theorem fg_lcmp_ne (S : fwC X cc own tys) {a b : Nat} {off : Int} (tgt : Nat) (hdg : decode cc pc = .ok (.lcmp, 1)) (hdg2 : decode cc (pc + 1) = .ok (.ifCond .ne off, 3)) (ht : ((pc + 1 : Nat) : Int) + off = (tgt : Int)) (ha : a < 2 ^ 63) (hb : b < 2 ^ 63) (kt : a ≠ b → fwG X ws tgt lv st) (kf : a = b → fwG X ws (pc + 4) lv st) : fwG X ws pc lv (.long (lN b) :: .long (lN a) :: st) := fg_lcmpR S hdg (fg_ifR_ne S tgt hdg2 ht (fun h => kt (fun q => h (((lg_cmp_eq (lN a) (lN b)).trans (pk_lEQ ha hb)).mpr q))) (fun h => kf (((lg_cmp_eq (lN a) (lN b)).trans (pk_lEQ ha hb)).mp h)))
theorem fg_lcmp_lt (S : fwC X cc own tys) {a b : Nat} {off : Int} (tgt : Nat) (hdg : decode cc pc = .ok (.lcmp, 1)) (hdg2 : decode cc (pc + 1) = .ok (.ifCond .lt off, 3)) (ht : ((pc + 1 : Nat) : Int) + off = (tgt : Int)) (ha : a < 2 ^ 63) (hb : b < 2 ^ 63) (kt : a < b → fwG X ws tgt lv st) (kf : b ≤ a → fwG X ws (pc + 4) lv st) : fwG X ws pc lv (.long (lN b) :: .long (lN a) :: st) := fg_lcmpR S hdg (fg_ifR_lt S tgt hdg2 ht (fun h => kt (((lg_cmp_lt (lN a) (lN b)).trans (pk_lLT ha hb)).mp h)) (fun h => kf (by have q := mt (((lg_cmp_lt (lN a) (lN b)).trans (pk_lLT ha hb)).mpr) h; omega)))
theorem fg_lcmp_ge (S : fwC X cc own tys) {a b : Nat} {off : Int} (tgt : Nat) (hdg : decode cc pc = .ok (.lcmp, 1)) (hdg2 : decode cc (pc + 1) = .ok (.ifCond .ge off, 3)) (ht : ((pc + 1 : Nat) : Int) + off = (tgt : Int)) (ha : a < 2 ^ 63) (hb : b < 2 ^ 63) (kt : b ≤ a → fwG X ws tgt lv st) (kf : a < b → fwG X ws (pc + 4) lv st) : fwG X ws pc lv (.long (lN b) :: .long (lN a) :: st) := fg_lcmpR S hdg (fg_ifR_ge S tgt hdg2 ht (fun h => kt (((lg_cmp_ge (lN a) (lN b)).trans (pk_lLE hb ha)).mp h)) (fun h => kf (by have q := mt (((lg_cmp_ge (lN a) (lN b)).trans (pk_lLE hb ha)).mpr) h; omega)))
theorem fg_lcmp_gt (S : fwC X cc own tys) {a b : Nat} {off : Int} (tgt : Nat) (hdg : decode cc pc = .ok (.lcmp, 1)) (hdg2 : decode cc (pc + 1) = .ok (.ifCond .gt off, 3)) (ht : ((pc + 1 : Nat) : Int) + off = (tgt : Int)) (ha : a < 2 ^ 63) (hb : b < 2 ^ 63) (kt : b < a → fwG X ws tgt lv st) (kf : a ≤ b → fwG X ws (pc + 4) lv st) : fwG X ws pc lv (.long (lN b) :: .long (lN a) :: st) := fg_lcmpR S hdg (fg_ifR_gt S tgt hdg2 ht (fun h => kt (((lg_cmp_gt (lN a) (lN b)).trans (pk_lLT hb ha)).mp h)) (fun h => kf (by have q := mt (((lg_cmp_gt (lN a) (lN b)).trans (pk_lLT hb ha)).mpr) h; omega)))
theorem fg_lcmp_le (S : fwC X cc own tys) {a b : Nat} {off : Int} (tgt : Nat) (hdg : decode cc pc = .ok (.lcmp, 1)) (hdg2 : decode cc (pc + 1) = .ok (.ifCond .le off, 3)) (ht : ((pc + 1 : Nat) : Int) + off = (tgt : Int)) (ha : a < 2 ^ 63) (hb : b < 2 ^ 63) (kt : a ≤ b → fwG X ws tgt lv st) (kf : b < a → fwG X ws (pc + 4) lv st) : fwG X ws pc lv (.long (lN b) :: .long (lN a) :: st) := fg_lcmpR S hdg (fg_ifR_le S tgt hdg2 ht (fun h => kt (((lg_cmp_le (lN a) (lN b)).trans (pk_lLE ha hb)).mp h)) (fun h => kf (by have q := mt (((lg_cmp_le (lN a) (lN b)).trans (pk_lLE ha hb)).mpr) h; omega)))
theorem fg_get (S : fwC X cc own tys) {ref C : String} {T : u_T} {N ci index a : Nat} {fs : List Value} {v : Value} (hin : ∀ w ∈ u_ws C T N, w ∈ lw_all) (q0 : Nat) (he : ws[q0]? = some (a, .inr (ci, fs))) (hc : vwCl[ci]? = some (C, T, N)) (kf : Nat) (hk : kf < N) (hlink : Cond.fieldLink own index ref (T kf).2.1 (T kf).2.2.1 ∈ lw_all) (hsame : (T kf).1 = ref) (hv : fs[kf]? = some v) (hdg : decode cc pc = .ok (.getfield index, 3)) (k : fwG X ws (pc + 3) lv (v :: st)) : fwG X ws pc lv (.ref a :: st) := by
  obtain ⟨p, l, e, R, s, m, args, below, meth, c, nL, D, A, V, cells, slots, Q⟩ := X
  obtain ⟨⟨hx, hb, hml, hown, hts⟩, hK, hcs⟩ := S
  intro H locs ls hP hD hV hl
  exact va_get (D := D) hx hb hts hin hown hK hP q0 he hc kf hk (hts _ hlink) (fun _ h => by rw [← hsame]; exact h) hv hdg (k H locs ls hP hD hV hl)
theorem fg_put (S : fwC X cc own tys) (M : fwMu X) {ref C : String} {T : u_T} {N ci index a : Nat} {fs : List Value} {v : Value} {ws' : va_W} (hin : ∀ w ∈ u_ws C T N, w ∈ lw_all) (ty0 : Nat → FieldType) (hty : ∀ k, k < N → parseFieldDescriptor (T k).2.2.1 = some (ty0 k)) (hnm : ∀ a, a < N → ∀ b, b < N → a ≠ b → (T a).2.1 ≠ (T b).2.1) (q0 : Nat) (he : ws[q0]? = some (a, .inr (ci, fs))) (hc : vwCl[ci]? = some (C, T, N)) (kf : Nat) (hk : kf < N) (hlink : Cond.fieldLink own index ref (T kf).2.1 (T kf).2.2.1 ∈ lw_all) (hsame : (T kf).1 = ref) (hfin : (T kf).2.2.2 = false) {ty : FieldType} (hd : parseFieldDescriptor (T kf).2.2.1 = some ty) (hn : narrow ty v = v) (hfit : fits ty v = true) (hlen : kf < fs.length) (hw : ws.set q0 (a, .inr (ci, fs.set kf v)) = ws') (hdg : decode cc pc = .ok (.putfield index, 3)) (k : fwG X ws' (pc + 3) lv st) : fwG X ws pc lv (v :: .ref a :: st) := by
  obtain ⟨p, l, e, R, s, m, args, below, meth, c, nL, D, A, V, cells, slots, Q⟩ := X
  obtain ⟨⟨hx, hb, hml, hown, hts⟩, hK, hcs⟩ := S
  obtain ⟨rfl, hA⟩ := M
  intro H locs ls hP hD hV hl
  subst hw
  exact va_put (D := D) hx hb hts hin ty0 hty hnm hown hK hP hD hV q0 he hc kf hk (hts _ hlink) (fun _ h => by rw [← hsame]; exact h) hfin hd hn hfit hlen hdg (fun H1 locs1 hP hD hS => k H1 locs1 ls hP hD hS hl)
theorem fg_iald (S : fwC X cc own tys) {a n i : Nat} {cA : ClassId} {f : Nat → Nat} (q0 t0 : Nat) (ha : ws[q0]? = some (a, .inl (cA, n, .inl (nA f)))) (ht : tys[t0]? = some (cA, .int)) (hn : n < 2 ^ 31) (hi : i < n) (hdg : decode cc pc = .ok (.iaload, 1)) (k : fwG X ws (pc + 1) lv (.int (nI (f i)) :: st)) : fwG X ws pc lv (.int (nI i) :: .ref a :: st) := by
  obtain ⟨p, l, e, R, s, m, args, below, meth, c, nL, D, A, V, cells, slots, Q⟩ := X
  obtain ⟨⟨hx, hb, hml, hown, hts⟩, hK, hcs⟩ := S
  intro H locs ls hP hD hV hl
  refine va_iald hx hb hK hP q0 t0 ha ht (vp_in_nI hi hn) hdg ?_
  rw [nI_clamp (by omega)]
  exact k H locs ls hP hD hV hl
theorem fg_zald (S : fwC X cc own tys) {a n i : Nat} {cA : ClassId} {f : Nat → Bool} (q0 t0 : Nat) (ha : ws[q0]? = some (a, .inl (cA, n, .inl (zA f)))) (ht : tys[t0]? = some (cA, .boolean)) (hn : n < 2 ^ 31) (hi : i < n) (hdg : decode cc pc = .ok (.baload, 1)) (k : fwG X ws (pc + 1) lv (.int (nI (f i).toNat) :: st)) : fwG X ws pc lv (.int (nI i) :: .ref a :: st) := by
  obtain ⟨p, l, e, R, s, m, args, below, meth, c, nL, D, A, V, cells, slots, Q⟩ := X
  obtain ⟨⟨hx, hb, hml, hown, hts⟩, hK, hcs⟩ := S
  intro H locs ls hP hD hV hl
  refine va_zald hx hb hK hP q0 t0 ha ht (vp_in_nI hi hn) hdg ?_
  rw [nI_clamp (by omega)]
  exact k H locs ls hP hD hV hl
theorem fg_lald (S : fwC X cc own tys) {a n i : Nat} {cA : ClassId} {f : Nat → Nat} (q0 t0 : Nat) (ha : ws[q0]? = some (a, .inl (cA, n, .inr (.inl (lA f))))) (ht : tys[t0]? = some (cA, .long)) (hn : n < 2 ^ 31) (hi : i < n) (hdg : decode cc pc = .ok (.laload, 1)) (k : fwG X ws (pc + 1) lv (.long (lN (f i)) :: st)) : fwG X ws pc lv (.int (nI i) :: .ref a :: st) := by
  obtain ⟨p, l, e, R, s, m, args, below, meth, c, nL, D, A, V, cells, slots, Q⟩ := X
  obtain ⟨⟨hx, hb, hml, hown, hts⟩, hK, hcs⟩ := S
  intro H locs ls hP hD hV hl
  refine va_lald hx hb hK hP q0 t0 ha ht (vp_in_nI hi hn) hdg ?_
  rw [nI_clamp (by omega)]
  exact k H locs ls hP hD hV hl
theorem fg_iast (S : fwC X cc own tys) (M : fwMu X) {a n i : Nat} {v : Nat} {cA : ClassId} {f : Nat → Nat} {ws' : va_W} (q0 t0 : Nat) (ha : ws[q0]? = some (a, .inl (cA, n, .inl (nA f)))) (ht : tys[t0]? = some (cA, .int)) (hn : n < 2 ^ 31) (hi : i < n) (hw : ws.set q0 (a, .inl (cA, n, .inl (nA (va_up f i v)))) = ws') (hdg : decode cc pc = .ok (.iastore, 1)) (k : fwG X ws' (pc + 1) lv st) : fwG X ws pc lv (.int (nI v) :: .int (nI i) :: .ref a :: st) := by
  obtain ⟨p, l, e, R, s, m, args, below, meth, c, nL, D, A, V, cells, slots, Q⟩ := X
  obtain ⟨⟨hx, hb, hml, hown, hts⟩, hK, hcs⟩ := S
  obtain ⟨rfl, hA⟩ := M
  intro H locs ls hP hD hV hl
  subst hw
  refine va_iast hx hb hK hP hD hV q0 t0 ha ht (vp_in_nI hi hn) hdg (fun H1 locs1 hP hD hS => ?_)
  rw [nI_clamp (by omega), nA_up] at hP hD
  exact k H1 locs1 ls hP hD hS hl
theorem fg_zast (S : fwC X cc own tys) (M : fwMu X) {a n i : Nat} {v : Bool} {cA : ClassId} {f : Nat → Bool} {ws' : va_W} (q0 t0 : Nat) (ha : ws[q0]? = some (a, .inl (cA, n, .inl (zA f)))) (ht : tys[t0]? = some (cA, .boolean)) (hn : n < 2 ^ 31) (hi : i < n) (hw : ws.set q0 (a, .inl (cA, n, .inl (zA (va_up f i v)))) = ws') (hdg : decode cc pc = .ok (.bastore, 1)) (k : fwG X ws' (pc + 1) lv st) : fwG X ws pc lv (.int (nI v.toNat) :: .int (nI i) :: .ref a :: st) := by
  obtain ⟨p, l, e, R, s, m, args, below, meth, c, nL, D, A, V, cells, slots, Q⟩ := X
  obtain ⟨⟨hx, hb, hml, hown, hts⟩, hK, hcs⟩ := S
  obtain ⟨rfl, hA⟩ := M
  intro H locs ls hP hD hV hl
  subst hw
  refine va_zast hx hb hK hP hD hV q0 t0 ha ht (vp_in_nI hi hn) hdg (fun H1 locs1 hP hD hS => ?_)
  rw [nI_clamp (by omega), zA_nar, zA_up] at hP hD
  exact k H1 locs1 ls hP hD hS hl
theorem fg_last (S : fwC X cc own tys) (M : fwMu X) {a n i : Nat} {v : Nat} {cA : ClassId} {f : Nat → Nat} {ws' : va_W} (q0 t0 : Nat) (ha : ws[q0]? = some (a, .inl (cA, n, .inr (.inl (lA f))))) (ht : tys[t0]? = some (cA, .long)) (hn : n < 2 ^ 31) (hi : i < n) (hw : ws.set q0 (a, .inl (cA, n, .inr (.inl (lA (va_up f i v))))) = ws') (hdg : decode cc pc = .ok (.lastore, 1)) (k : fwG X ws' (pc + 1) lv st) : fwG X ws pc lv (.long (lN v) :: .int (nI i) :: .ref a :: st) := by
  obtain ⟨p, l, e, R, s, m, args, below, meth, c, nL, D, A, V, cells, slots, Q⟩ := X
  obtain ⟨⟨hx, hb, hml, hown, hts⟩, hK, hcs⟩ := S
  obtain ⟨rfl, hA⟩ := M
  intro H locs ls hP hD hV hl
  subst hw
  refine va_last hx hb hK hP hD hV q0 t0 ha ht (vp_in_nI hi hn) hdg (fun H1 locs1 hP hD hS => ?_)
  rw [nI_clamp (by omega), lA_up] at hP hD
  exact k H1 locs1 ls hP hD hS hl
end FG
end
section
set_option maxRecDepth 100000
/-- the room of a method that calls d deep -/
def rmL (d : Nat) : Room := { frames := d, cells := 0, slots := 0, locals := 40 * d }
/-- a start: the world, the classes -/
def roP (D : va_G) (tys : List (ClassId × FieldType)) (ws : va_W) (av : List Value) : Array Value → State → Prop := va_Pc av (fun U => va_P D vwCl ws U.heap ∧ va_K D vwCl tys U ∧ va_D (fun _ => True) ws)
/-- an end that leaves the heap as it was -/
def roQ (v : Value) : Array Value → State → Outcome → State → Prop := fun _ st oc t => oc = .returned (some v) ∧ t.heap = st.heap
def muP (D : va_G) (tys : List (ClassId × FieldType)) (ws : va_W) (av : List Value) (sz : Nat) : Array Value → State → Prop := va_Pc av (fun U => U.heap.size = sz ∧ va_P D vwCl ws U.heap ∧ va_K D vwCl tys U ∧ va_D (fun _ => True) ws)
/-- an end that leaves another world -/
def muQ (D : va_G) (post : Option Value → va_W → Prop) (A : Nat → Prop) : Array Value → State → Outcome → State → Prop := fun _ st oc t => ∃ (v : Option Value) (w : va_W), oc = .returned v ∧ post v w ∧ va_P D vwCl w t.heap ∧ va_D A w ∧ va_F A st t
theorem roP_blind {D : va_G} {tys : List (ClassId × FieldType)} {ws : va_W} {av : List Value} : FrameBlind (roP D tys ws av) := by
  intro a U g mk q
  obtain ⟨q0, qP, qK, qD⟩ := q
  exact ⟨q0, qP, va_K.moved (u := U) (U := U.calling g mk a) (Vm.Alike.refl U.vm) qK, qD⟩
theorem muP_blind {D : va_G} {tys : List (ClassId × FieldType)} {ws : va_W} {av : List Value} {sz : Nat} : FrameBlind (muP D tys ws av sz) := by
  intro a U g mk q
  obtain ⟨q0, q1, qP, qK, qD⟩ := q
  exact ⟨q0, q1, qP, va_K.moved (u := U) (U := U.calling g mk a) (Vm.Alike.refl U.vm) qK, qD⟩
section CW
variable {p : Program} {l : Launch} {e : Env} {R : Room} {s : State} {m : MethodId} {args : Array Value} {below : List Frame} {meth : Method} {c : Code} {H : Heap} {locs : List Loc} {cells slots : Nat} {Q : State → Prop}
variable {pc : Nat} {ls : Array Slot} {rest st0 : List Value} {a : Array Value} {A0 A1 : Nat → Prop} {H0 : Heap}
theorem fw_roW {v : Value} (hr : va_Run p l e R s m args below meth c H locs cells slots 0 0 (F0 m pc ls st0) rest (roQ v a) (fun _ => False)) (kk : W p l e R s m args below meth c H locs cells slots Q (F0 m (pc + 3) ls (v :: rest))) : W p l e R s m args below meth c H locs cells slots Q (F0 m pc ls st0) := by
  intro T hT X
  obtain ⟨v', st₀, t, T', L, h0, X', hL, e1, e2, ⟨hv, hh⟩, st⟩ := hr T hT X
  cases hv
  obtain ⟨t2, a1, b1⟩ := kk T' (by rw [e1, hh, h0]) (Stand.forget X' (fun q h => (hL q h).elim))
  exact ⟨t2, st t2 a1, b1⟩
theorem fw_muW {D : va_G} {post : Option Value → va_W → Prop} (hr : va_Run p l e R s m args below meth c H locs cells slots 0 0 (F0 m pc ls st0) rest (muQ D post A1 a) A1) (hS : va_S A0 H0 H locs) (hA : ∀ q, A1 q → A0 q)
    (kk : ∀ (v : Option Value) (w : va_W) (H1 : Heap) (locs1 : List Loc), post v w → va_P D vwCl w H1 → va_D A1 w → H.size ≤ H1.size → (∀ q : Nat, q < H.size → ¬ A1 q → H1[q]? = H[q]?) → va_S A0 H0 H1 locs1 → W p l e R s m args below meth c H1 locs1 cells slots Q (F0 m (pc + 3) ls (v.toList ++ rest))) : W p l e R s m args below meth c H locs cells slots Q (F0 m pc ls st0) := by
  intro T hT X
  obtain ⟨v', st₀, t, T', L, h0, X', hL, e1, e2, ⟨v, w, hv, hp, hP1, hD1, hz, hk⟩, st⟩ := hr T hT X
  cases hv
  rw [h0] at hz hk
  obtain ⟨t2, a1, b1⟩ := kk v' w T'.heap (locs ++ L) hp (by rw [e1]; exact hP1) hD1 (by rw [e1]; exact hz) (fun q h1 h2 => by rw [e1]; exact hk q h1 h2)
    ⟨Nat.le_trans hS.1 (by rw [e1]; exact hz), fun q h1 h2 => by rw [e1, hk q (Nat.lt_of_lt_of_le h1 hS.1) (fun z => h2 (hA q z))]; exact hS.2.1 q h1 h2, fun q hq => by
      rcases List.mem_append.mp hq with h | h
      · exact hS.2.2 q h
      · exact hA _ (hL q h)⟩ T' rfl X'
  exact ⟨t2, st t2 a1, b1⟩
end CW
section CG
variable {X : fwX} {cc : ByteArray} {own : String} {tys : List (ClassId × FieldType)} {ws : va_W} {pc : Nat} {lv : List (Nat × Value)} {st st0 : List Value}
variable {index maxL : Nat} {y : MethodName} {bytes : ByteArray} {ret : Option FieldType} {rm : Room} {wc : va_W} {av As : List Value} {v : Value}
/-- what every call asks of the method's name, the room and the stack -/
def fwY (X : fwX) (y : MethodName) (maxL n : Nat) (rm : Room) (st : List Value) : Prop := (y.cls ≠ "java/lang/invoke/MethodHandle" ∧ y.cls ≠ "java/lang/invoke/VarHandle" ∧ (parseMethodDescriptor y.desc).map (fun d => d.parameters.length) = some n) ∧ (rm.frames + 1 ≤ (fwRm X).frames ∧ 8 + (maxL + 11) + rm.locals ≤ (fwRm X).locals) ∧ (rm.cells = 0 ∧ rm.slots = 0) ∧ (st.map fun v => v.category).sum ≤ 8
/-- a static method that leaves the heap -/
theorem fg_roS (S : fwC X cc own tys) (n : Nat) (hM : Met (fwLa X) y (ws_ y bytes maxL ret) rm (roP (fwDD X) tys wc av) (roQ v) 0 0 (fun _ => False))
    (q1 : Cond.methodLink own index y ∈ lw_all) (q2 : Cond.static y ∈ lw_all) (q3 : Cond.initialized y.cls ∈ lw_all) (q4 : Cond.code y bytes maxL ret ∈ lw_all) (hY : fwY X y maxL n rm st)
    (is : List Nat) (hs : is.filterMap (fun i => ws[i]?) = wc) (hs2 : is.map (fun i => ws[i]?) = wc.map some) (hnd : va_nd is = true) (hn : av.length = n) (hst : st0 = av.reverse ++ st) (hdg : decode cc pc = .ok (.invokestatic index, 3))
    (k : fwG X ws (pc + 3) lv (v :: st)) : fwG X ws pc lv st0 := by
  obtain ⟨p, l, e, R, s, m, args, below, meth, c, nL, D, A, V, cells, slots, Q⟩ := X
  obtain ⟨⟨hx, hb, hml, hown, hts⟩, hK, hcs⟩ := S
  obtain ⟨hd, hR, ⟨hrc, hrs⟩, hW⟩ := hY
  intro H locs ls hP hD hV hl
  have hPc : va_P D vwCl wc H := hP.sub is hs
  have hDc : va_D A wc := hD.sub is hnd hs2
  refine fw_roW (va_runS (As := av) (rest := st) ⟨hx, hb, hml, hown, hts⟩ hM (va_cwS n hts (lw_S q1 q2 q3 q4) rfl hrc hrs hd hR) ⟨roP_blind, fun U hU hW => ⟨rfl, by rw [hU]; exact hPc, va_K.moved hW.alike hK, hDc.weaken (fun _ _ _ _ => trivial)⟩⟩ rfl hn hl.1 hst (lv_room hW) hdg hcs) ?_
  exact k H locs ls hP hD hV hl
/-- a method of an object that leaves the heap -/
theorem fg_roV (S : fwC X cc own tys) (n : Nat) {b ci q0 : Nat} {C : String} {T : u_T} {N : Nat} {fs : List Value} (hM : Met (fwLa X) y (ws_ y bytes maxL ret) rm (roP (fwDD X) tys wc (.ref b :: As)) (roQ v) 0 0 (fun _ => False)) (hy : y.cls = C) (hc : vwCl[ci]? = some (C, T, N)) (he : wc[q0]? = some (b, .inr (ci, fs)))
    (q1 : Cond.methodLink own index y ∈ lw_all) (q2 : Cond.instanceMethod y ∈ lw_all) (q3 : Cond.selects C y y ∈ lw_all) (q4 : Cond.initialized C ∈ lw_all) (q5 : Cond.code y bytes maxL ret ∈ lw_all) (hY : fwY X y maxL n rm st)
    (is : List Nat) (hs : is.filterMap (fun i => ws[i]?) = wc) (hs2 : is.map (fun i => ws[i]?) = wc.map some) (hnd : va_nd is = true) (hn : As.length = n) (hst : st0 = As.reverse ++ .ref b :: st) (hdg : decode cc pc = .ok (.invokevirtual index, 3))
    (k : fwG X ws (pc + 3) lv (v :: st)) : fwG X ws pc lv st0 := by
  obtain ⟨p, l, e, R, s, m, args, below, meth, c, nL, D, A, V, cells, slots, Q⟩ := X
  obtain ⟨⟨hx, hb, hml, hown, hts⟩, hK, hcs⟩ := S
  obtain ⟨hd, hR, ⟨hrc, hrs⟩, hW⟩ := hY
  intro H locs ls hP hD hV hl
  have hPc : va_P D vwCl wc H := hP.sub is hs
  have hDc : va_D A wc := hD.sub is hnd hs2
  refine fw_roW (va_runV (As := As) (rest := st) ⟨hx, hb, hml, hown, hts⟩ hM (cwV n hts (lw_V q1 q2 q3 q4 q5) rfl hrc hrs ⟨hy, hd⟩ hR) ⟨roP_blind, va_recv hK hPc hc he, fun U hU hW => ⟨rfl, by rw [hU]; exact hPc, va_K.moved hW.alike hK, hDc.weaken (fun _ _ _ _ => trivial)⟩⟩ rfl hn hl.1 hst (lv_room hW) hdg hcs) ?_
  exact k H locs ls hP hD hV hl
/-- a method of an object that changes the whole world of its caller -/
theorem fg_muV (S : fwC X cc own tys) (M : fwMu X) (n : Nat) {b ci q0 : Nat} {C : String} {T : u_T} {N : Nat} {fs : List Value} {post : Option Value → va_W → Prop} (hM : ∀ sz, Met (fwLa X) y (ws_ y bytes maxL ret) rm (muP (fwDD X) tys ws (.ref b :: As) sz) (muQ (fwDD X) post (va_A ws sz)) 0 0 (va_A ws sz)) (hy : y.cls = C) (hc : vwCl[ci]? = some (C, T, N)) (he : ws[q0]? = some (b, .inr (ci, fs)))
    (q1 : Cond.methodLink own index y ∈ lw_all) (q2 : Cond.instanceMethod y ∈ lw_all) (q3 : Cond.selects C y y ∈ lw_all) (q4 : Cond.initialized C ∈ lw_all) (q5 : Cond.code y bytes maxL ret ∈ lw_all) (hY : fwY X y maxL n rm st)
    (hn : As.length = n) (hst : st0 = As.reverse ++ .ref b :: st) (hdg : decode cc pc = .ok (.invokevirtual index, 3))
    (k : ∀ (v : Option Value) (w : va_W), post v w → fwG X w (pc + 3) lv (v.toList ++ st)) : fwG X ws pc lv st0 := by
  obtain ⟨p, l, e, R, s, m, args, below, meth, c, nL, D, A, V, cells, slots, Q⟩ := X
  obtain ⟨⟨hx, hb, hml, hown, hts⟩, hK, hcs⟩ := S
  obtain ⟨hd, hR, ⟨hrc, hrs⟩, hW⟩ := hY
  obtain ⟨rfl, hA⟩ := M
  intro H locs ls hP hD hV hl
  have hF : ∀ q, va_A ws H.size q → A q := by
    intro q h
    rcases h with ⟨k, e, h⟩ | h
    · exact hD.2 k _ h
    · exact hA q (Nat.le_trans hV.1 h)
  refine fw_muW (va_runV (As := As) (rest := st) ⟨hx, hb, hml, hown, hts⟩ (hM H.size) (cwV n hts (lw_V q1 q2 q3 q4 q5) rfl hrc hrs ⟨hy, hd⟩ hR) ⟨muP_blind, va_recv hK hP hc he, fun U hU hW => ⟨rfl, by rw [hU], by rw [hU]; exact hP, va_K.moved hW.alike hK, hD.weaken (fun _ _ _ _ => trivial)⟩⟩ rfl hn hl.1 hst (lv_room hW) hdg hcs) hV hF (fun v w H1 locs1 hp hP1 hD1 hz hk hS => ?_)
  exact k v w hp H1 locs1 ls hP1 (hD1.weaken (fun k q _ h => hF q.1 h)) hS hl
end CG
section CM
variable {l : Launch} {y : MethodName} {cc : ByteArray} {maxL : Nat} {rm : Room} {D : va_G} {tys : List (ClassId × FieldType)} {ws : va_W} {av : List Value} {lv0 : List (Nat × Value)}
/-- what a method's walk is given -/
def fwB (X : fwX) (l : Launch) (cc : ByteArray) (own : String) (tys : List (ClassId × FieldType)) (maxL : Nat) (rm : Room) (D : va_G) : Prop := fwC X cc own tys ∧ fwN X = maxL ∧ fwRm X = rm ∧ fwLa X = l ∧ fwDD X = D
/-- a contract out of a walk: it answers an int, and leaves the heap -/
theorem ro_i {v : Int32} (hy : plainName y.cls = true) (hav : (lg_sl av).length ≤ maxL) (hlv : lv_args 0 av = lv0)
    (walk : ∀ X : fwX, fwB X l cc y.cls tys maxL rm D → (∀ pc lv, decode cc pc = .ok (.ireturn, 1) → fwG X ws pc lv [.int v]) → fwG X ws 0 lv0 []) : Met l y (ws_ y cc maxL (some .int)) rm (roP D tys ws av) (roQ (.int v)) 0 0 (fun _ => False) := by
  refine Met.ofW (cc := cc) (maxL := maxL) (ret := some .int) hy rfl ?_
  intro p e s m args below meth c s₁ B hml hv
  obtain ⟨rfl, hP, hK, hD⟩ := hv
  have hx := B.exec
  have hb := B.bytes
  have hr := B.returns
  have hts := atoms_spec (ws := ws_ y cc maxL (some .int)) B.pre
  have hts : ∀ w ∈ lw_all, w.before _ s = true := fun w h => hts w (List.mem_cons_of_mem _ h)
  have hown : s.vm.findClass y.cls = some m.cls := findClass_of_methodNamed B.named
  have hlocks := B.notSynchronized
  have hl := lv_entry av (n := maxL) hav
  rw [lg_entry_eq]
  generalize (lg_sl av ++ List.replicate (maxL - (lg_sl av).length) Slot.unset).toArray = ls at hl ⊢
  subst hlv
  refine walk (p, l, e, rm, s, m, av.toArray, below, meth, c, maxL, D, fun _ => True, fun H locs => H = s.heap ∧ locs = [], 0, 0, MQ below (roQ (.int v)) av.toArray s 0 0 (fun _ => False)) ⟨⟨⟨hx, hb, hml, hown, hts⟩, hK, Nat.zero_le _, Nat.zero_le _⟩, rfl, rfl, rfl, rfl⟩ ?_ s.heap [] ls hP hD ⟨rfl, rfl⟩ hl
  intro pc lv hd H locs ls hP hD hV hl
  obtain ⟨rfl, rfl⟩ := hV
  exact W.iret hx hb hr (fun t ht hW => ⟨rfl, ht⟩) (fun q h => by cases h) hd
/-- the same for a boolean -/
theorem ro_z {v : Bool} (hy : plainName y.cls = true) (hav : (lg_sl av).length ≤ maxL) (hlv : lv_args 0 av = lv0)
    (walk : ∀ X : fwX, fwB X l cc y.cls tys maxL rm D → (∀ pc lv, decode cc pc = .ok (.ireturn, 1) → fwG X ws pc lv [.int (nI v.toNat)]) → fwG X ws 0 lv0 []) : Met l y (ws_ y cc maxL (some .boolean)) rm (roP D tys ws av) (roQ (.int (nI v.toNat))) 0 0 (fun _ => False) := by
  refine Met.ofW (cc := cc) (maxL := maxL) (ret := some .boolean) hy rfl ?_
  intro p e s m args below meth c s₁ B hml hv
  obtain ⟨rfl, hP, hK, hD⟩ := hv
  have hx := B.exec
  have hb := B.bytes
  have hr := B.returns
  have hts := atoms_spec (ws := ws_ y cc maxL (some .boolean)) B.pre
  have hts : ∀ w ∈ lw_all, w.before _ s = true := fun w h => hts w (List.mem_cons_of_mem _ h)
  have hown : s.vm.findClass y.cls = some m.cls := findClass_of_methodNamed B.named
  have hlocks := B.notSynchronized
  have hl := lv_entry av (n := maxL) hav
  rw [lg_entry_eq]
  generalize (lg_sl av ++ List.replicate (maxL - (lg_sl av).length) Slot.unset).toArray = ls at hl ⊢
  subst hlv
  refine walk (p, l, e, rm, s, m, av.toArray, below, meth, c, maxL, D, fun _ => True, fun H locs => H = s.heap ∧ locs = [], 0, 0, MQ below (roQ (.int (nI v.toNat))) av.toArray s 0 0 (fun _ => False)) ⟨⟨⟨hx, hb, hml, hown, hts⟩, hK, Nat.zero_le _, Nat.zero_le _⟩, rfl, rfl, rfl, rfl⟩ ?_ s.heap [] ls hP hD ⟨rfl, rfl⟩ hl
  intro pc lv hd H locs ls hP hD hV hl
  obtain ⟨rfl, rfl⟩ := hV
  exact W.zret hx hb hr (by cases v <;> rfl) (fun t ht hW => ⟨rfl, ht⟩) (fun q h => by cases h) hd
/-- a contract out of a walk: it answers an int, and leaves another world -/
theorem mu_i {post : Option Value → va_W → Prop} (hy : plainName y.cls = true) (hav : (lg_sl av).length ≤ maxL) (hlv : lv_args 0 av = lv0)
    (walk : ∀ X : fwX, fwB X l cc y.cls tys maxL rm D → fwMu X → (∀ pc lv r w, decode cc pc = .ok (.ireturn, 1) → post (some (.int r)) w → fwG X w pc lv [.int r]) → fwG X ws 0 lv0 []) (sz : Nat) : Met l y (ws_ y cc maxL (some .int)) rm (muP D tys ws av sz) (muQ D post (va_A ws sz)) 0 0 (va_A ws sz) := by
  refine Met.ofW (cc := cc) (maxL := maxL) (ret := some .int) hy rfl ?_
  intro p e s m args below meth c s₁ B hml hv
  obtain ⟨rfl, rfl, hP, hK, hD⟩ := hv
  have hx := B.exec
  have hb := B.bytes
  have hr := B.returns
  have hts := atoms_spec (ws := ws_ y cc maxL (some .int)) B.pre
  have hts : ∀ w ∈ lw_all, w.before _ s = true := fun w h => hts w (List.mem_cons_of_mem _ h)
  have hown : s.vm.findClass y.cls = some m.cls := findClass_of_methodNamed B.named
  have hlocks := B.notSynchronized
  have hl := lv_entry av (n := maxL) hav
  rw [lg_entry_eq]
  generalize (lg_sl av ++ List.replicate (maxL - (lg_sl av).length) Slot.unset).toArray = ls at hl ⊢
  subst hlv
  refine walk (p, l, e, rm, s, m, av.toArray, below, meth, c, maxL, D, va_A ws s.heap.size, va_S (va_A ws s.heap.size) s.heap, 0, 0, MQ below (muQ D post (va_A ws s.heap.size)) av.toArray s 0 0 (va_A ws s.heap.size)) ⟨⟨⟨hx, hb, hml, hown, hts⟩, hK, Nat.zero_le _, Nat.zero_le _⟩, rfl, rfl, rfl, rfl⟩ ⟨rfl, fun q h => Or.inr h⟩ ?_ s.heap [] ls hP (hD.self (sz := s.heap.size)) va_S.rf hl
  intro pc lv r w hd hp H locs ls hP hD hV hl
  exact W.iret hx hb hr (fun t ht hW => ⟨_, w, rfl, hp, by rw [ht]; exact hP, hD, hV.F ht⟩) hV.2.2 hd
/-- the same for a long -/
theorem mu_l {post : Option Value → va_W → Prop} (hy : plainName y.cls = true) (hav : (lg_sl av).length ≤ maxL) (hlv : lv_args 0 av = lv0)
    (walk : ∀ X : fwX, fwB X l cc y.cls tys maxL rm D → fwMu X → (∀ pc lv r w, decode cc pc = .ok (.lreturn, 1) → post (some (.long r)) w → fwG X w pc lv [.long r]) → fwG X ws 0 lv0 []) (sz : Nat) : Met l y (ws_ y cc maxL (some .long)) rm (muP D tys ws av sz) (muQ D post (va_A ws sz)) 0 0 (va_A ws sz) := by
  refine Met.ofW (cc := cc) (maxL := maxL) (ret := some .long) hy rfl ?_
  intro p e s m args below meth c s₁ B hml hv
  obtain ⟨rfl, rfl, hP, hK, hD⟩ := hv
  have hx := B.exec
  have hb := B.bytes
  have hr := B.returns
  have hts := atoms_spec (ws := ws_ y cc maxL (some .long)) B.pre
  have hts : ∀ w ∈ lw_all, w.before _ s = true := fun w h => hts w (List.mem_cons_of_mem _ h)
  have hown : s.vm.findClass y.cls = some m.cls := findClass_of_methodNamed B.named
  have hlocks := B.notSynchronized
  have hl := lv_entry av (n := maxL) hav
  rw [lg_entry_eq]
  generalize (lg_sl av ++ List.replicate (maxL - (lg_sl av).length) Slot.unset).toArray = ls at hl ⊢
  subst hlv
  refine walk (p, l, e, rm, s, m, av.toArray, below, meth, c, maxL, D, va_A ws s.heap.size, va_S (va_A ws s.heap.size) s.heap, 0, 0, MQ below (muQ D post (va_A ws s.heap.size)) av.toArray s 0 0 (va_A ws s.heap.size)) ⟨⟨⟨hx, hb, hml, hown, hts⟩, hK, Nat.zero_le _, Nat.zero_le _⟩, rfl, rfl, rfl, rfl⟩ ⟨rfl, fun q h => Or.inr h⟩ ?_ s.heap [] ls hP (hD.self (sz := s.heap.size)) va_S.rf hl
  intro pc lv r w hd hp H locs ls hP hD hV hl
  exact W.lret hx hb hr (fun t ht hW => ⟨_, w, rfl, hp, by rw [ht]; exact hP, hD, hV.F ht⟩) hV.2.2 hd
/-- the same for a void method -/
theorem mu_v {post : Option Value → va_W → Prop} (hy : plainName y.cls = true) (hav : (lg_sl av).length ≤ maxL) (hlv : lv_args 0 av = lv0)
    (walk : ∀ X : fwX, fwB X l cc y.cls tys maxL rm D → fwMu X → (∀ pc lv w, decode cc pc = .ok (.return_, 1) → post none w → fwG X w pc lv []) → fwG X ws 0 lv0 []) (sz : Nat) : Met l y (ws_ y cc maxL none) rm (muP D tys ws av sz) (muQ D post (va_A ws sz)) 0 0 (va_A ws sz) := by
  refine Met.ofW (cc := cc) (maxL := maxL) (ret := none) hy rfl ?_
  intro p e s m args below meth c s₁ B hml hv
  obtain ⟨rfl, rfl, hP, hK, hD⟩ := hv
  have hx := B.exec
  have hb := B.bytes
  have hr := B.returns
  have hts := atoms_spec (ws := ws_ y cc maxL none) B.pre
  have hts : ∀ w ∈ lw_all, w.before _ s = true := fun w h => hts w (List.mem_cons_of_mem _ h)
  have hown : s.vm.findClass y.cls = some m.cls := findClass_of_methodNamed B.named
  have hlocks := B.notSynchronized
  have hl := lv_entry av (n := maxL) hav
  rw [lg_entry_eq]
  generalize (lg_sl av ++ List.replicate (maxL - (lg_sl av).length) Slot.unset).toArray = ls at hl ⊢
  subst hlv
  refine walk (p, l, e, rm, s, m, av.toArray, below, meth, c, maxL, D, va_A ws s.heap.size, va_S (va_A ws s.heap.size) s.heap, 0, 0, MQ below (muQ D post (va_A ws s.heap.size)) av.toArray s 0 0 (va_A ws s.heap.size)) ⟨⟨⟨hx, hb, hml, hown, hts⟩, hK, Nat.zero_le _, Nat.zero_le _⟩, rfl, rfl, rfl, rfl⟩ ⟨rfl, fun q h => Or.inr h⟩ ?_ s.heap [] ls hP (hD.self (sz := s.heap.size)) va_S.rf hl
  intro pc lv w hd hp H locs ls hP hD hV hl
  exact W.vret hx hb hr (fun t ht hW => ⟨_, w, rfl, hp, by rw [ht]; exact hP, hD, hV.F ht⟩) hV.2.2 hd
end CM
end
section
set_option maxRecDepth 100000
/-- the world of a FactorFreeWords: the object at ad 0, its arrays list known step ways now then table fresh at ad 1 .. ad 8 -/
def XW (ad : Nat → Nat) (ck : Nat → ClassId) (li kn dl wa no th ta fr : Nat → Nat) (co ss bu : Nat) : va_W := [(ad 0, .inr (0, [.ref (ad 1), .ref (ad 2), .ref (ad 3), .ref (ad 4), .ref (ad 5), .ref (ad 6), .ref (ad 7), .ref (ad 8), .int (nI co), .int (nI ss), .int (nI bu)])), (ad 1, .inl (ck 0, 6, .inl (nA li))), (ad 2, .inl (ck 1, 26, .inl (nA kn))), (ad 3, .inl (ck 2, 78, .inl (nA dl))), (ad 4, .inl (ck 3, 806, .inr (.inl (lA wa)))), (ad 5, .inl (ck 4, 26, .inr (.inl (lA no)))), (ad 6, .inl (ck 5, 26, .inr (.inl (lA th)))), (ad 7, .inl (ck 6, 260, .inl (nA ta))), (ad 8, .inl (ck 7, 260, .inl (nA fr)))]
/-- the world of a FactorFreeWordsModel: the object at bd 0, barred now later at bd 1 .. bd 3 -/
def MW (bd : Nat → Nat) (ck : Nat → ClassId) (ba : Nat → Bool) (nw lt : Nat → Nat) (hd : Nat) : va_W := [(bd 0, .inr (1, [.int (nI hd), .ref (bd 1), .ref (bd 2), .ref (bd 3)])), (bd 1, .inl (ck 8, 162, .inl (zA ba))), (bd 2, .inl (ck 9, 27, .inr (.inl (lA nw)))), (bd 3, .inl (ck 10, 27, .inr (.inl (lA lt))))]
def tysX (ck : Nat → ClassId) : List (ClassId × FieldType) := [(ck 0, .int), (ck 1, .int), (ck 2, .int), (ck 3, .long), (ck 4, .long), (ck 5, .long), (ck 6, .int), (ck 7, .int), (ck 8, .boolean), (ck 9, .long), (ck 10, .long)]
section XR
variable {X : fwX} {cc : ByteArray} {pc : Nat} {lv : List (Nat × Value)} {st : List Value} {ad bd : Nat → Nat} {ck : Nat → ClassId} {li kn dl wa no th ta fr nw lt : Nat → Nat} {co ss bu hd : Nat} {ba : Nat → Bool}
theorem xg_li (S : fwC X cc RX0 (tysX ck)) (hdg : decode cc pc = .ok (.getfield 7, 3)) (k : fwG X (XW ad ck li kn dl wa no th ta fr co ss bu) (pc + 3) lv (.ref (ad 1) :: st)) : fwG X (XW ad ck li kn dl wa no th ta fr co ss bu) pc lv (.ref (ad 0) :: st) := fg_get S in_X0 0 rfl rfl 0 (by decide) q32 rfl rfl hdg k
theorem xg_kn (S : fwC X cc RX0 (tysX ck)) (hdg : decode cc pc = .ok (.getfield 13, 3)) (k : fwG X (XW ad ck li kn dl wa no th ta fr co ss bu) (pc + 3) lv (.ref (ad 2) :: st)) : fwG X (XW ad ck li kn dl wa no th ta fr co ss bu) pc lv (.ref (ad 0) :: st) := fg_get S in_X0 0 rfl rfl 1 (by decide) q33 rfl rfl hdg k
theorem xg_dl (S : fwC X cc RX0 (tysX ck)) (hdg : decode cc pc = .ok (.getfield 16, 3)) (k : fwG X (XW ad ck li kn dl wa no th ta fr co ss bu) (pc + 3) lv (.ref (ad 3) :: st)) : fwG X (XW ad ck li kn dl wa no th ta fr co ss bu) pc lv (.ref (ad 0) :: st) := fg_get S in_X0 0 rfl rfl 2 (by decide) q34 rfl rfl hdg k
theorem xg_wa (S : fwC X cc RX0 (tysX ck)) (hdg : decode cc pc = .ok (.getfield 19, 3)) (k : fwG X (XW ad ck li kn dl wa no th ta fr co ss bu) (pc + 3) lv (.ref (ad 4) :: st)) : fwG X (XW ad ck li kn dl wa no th ta fr co ss bu) pc lv (.ref (ad 0) :: st) := fg_get S in_X0 0 rfl rfl 3 (by decide) q35 rfl rfl hdg k
theorem xg_no (S : fwC X cc RX0 (tysX ck)) (hdg : decode cc pc = .ok (.getfield 23, 3)) (k : fwG X (XW ad ck li kn dl wa no th ta fr co ss bu) (pc + 3) lv (.ref (ad 5) :: st)) : fwG X (XW ad ck li kn dl wa no th ta fr co ss bu) pc lv (.ref (ad 0) :: st) := fg_get S in_X0 0 rfl rfl 4 (by decide) q36 rfl rfl hdg k
theorem xg_th (S : fwC X cc RX0 (tysX ck)) (hdg : decode cc pc = .ok (.getfield 26, 3)) (k : fwG X (XW ad ck li kn dl wa no th ta fr co ss bu) (pc + 3) lv (.ref (ad 6) :: st)) : fwG X (XW ad ck li kn dl wa no th ta fr co ss bu) pc lv (.ref (ad 0) :: st) := fg_get S in_X0 0 rfl rfl 5 (by decide) q37 rfl rfl hdg k
theorem xg_ta (S : fwC X cc RX0 (tysX ck)) (hdg : decode cc pc = .ok (.getfield 29, 3)) (k : fwG X (XW ad ck li kn dl wa no th ta fr co ss bu) (pc + 3) lv (.ref (ad 7) :: st)) : fwG X (XW ad ck li kn dl wa no th ta fr co ss bu) pc lv (.ref (ad 0) :: st) := fg_get S in_X0 0 rfl rfl 6 (by decide) q38 rfl rfl hdg k
theorem xg_fr (S : fwC X cc RX0 (tysX ck)) (hdg : decode cc pc = .ok (.getfield 32, 3)) (k : fwG X (XW ad ck li kn dl wa no th ta fr co ss bu) (pc + 3) lv (.ref (ad 8) :: st)) : fwG X (XW ad ck li kn dl wa no th ta fr co ss bu) pc lv (.ref (ad 0) :: st) := fg_get S in_X0 0 rfl rfl 7 (by decide) q39 rfl rfl hdg k
theorem xg_co (S : fwC X cc RX0 (tysX ck)) (hdg : decode cc pc = .ok (.getfield 47, 3)) (k : fwG X (XW ad ck li kn dl wa no th ta fr co ss bu) (pc + 3) lv (.int (nI co) :: st)) : fwG X (XW ad ck li kn dl wa no th ta fr co ss bu) pc lv (.ref (ad 0) :: st) := fg_get S in_X0 0 rfl rfl 8 (by decide) q40 rfl rfl hdg k
theorem xg_ss (S : fwC X cc RX0 (tysX ck)) (hdg : decode cc pc = .ok (.getfield 70, 3)) (k : fwG X (XW ad ck li kn dl wa no th ta fr co ss bu) (pc + 3) lv (.int (nI ss) :: st)) : fwG X (XW ad ck li kn dl wa no th ta fr co ss bu) pc lv (.ref (ad 0) :: st) := fg_get S in_X0 0 rfl rfl 9 (by decide) q41 rfl rfl hdg k
theorem xg_bu (S : fwC X cc RX0 (tysX ck)) (hdg : decode cc pc = .ok (.getfield 35, 3)) (k : fwG X (XW ad ck li kn dl wa no th ta fr co ss bu) (pc + 3) lv (.int (nI bu) :: st)) : fwG X (XW ad ck li kn dl wa no th ta fr co ss bu) pc lv (.ref (ad 0) :: st) := fg_get S in_X0 0 rfl rfl 10 (by decide) q42 rfl rfl hdg k
theorem xl_li (S : fwC X cc RX0 (tysX ck)) {i : Nat} (hdg : decode cc pc = .ok (.iaload, 1)) (hi : i < 6) (k : fwG X (XW ad ck li kn dl wa no th ta fr co ss bu) (pc + 1) lv (.int (nI (li i)) :: st)) : fwG X (XW ad ck li kn dl wa no th ta fr co ss bu) pc lv (.int (nI i) :: .ref (ad 1) :: st) := fg_iald S 1 0 rfl rfl (by decide) hi hdg k
theorem xs_li (S : fwC X cc RX0 (tysX ck)) (M : fwMu X) {i v : Nat} (hdg : decode cc pc = .ok (.iastore, 1)) (hi : i < 6) (k : fwG X (XW ad ck (va_up li i v) kn dl wa no th ta fr co ss bu) (pc + 1) lv st) : fwG X (XW ad ck li kn dl wa no th ta fr co ss bu) pc lv (.int (nI v) :: .int (nI i) :: .ref (ad 1) :: st) := fg_iast S M 1 0 rfl rfl (by decide) hi rfl hdg k
theorem xl_kn (S : fwC X cc RX0 (tysX ck)) {i : Nat} (hdg : decode cc pc = .ok (.iaload, 1)) (hi : i < 26) (k : fwG X (XW ad ck li kn dl wa no th ta fr co ss bu) (pc + 1) lv (.int (nI (kn i)) :: st)) : fwG X (XW ad ck li kn dl wa no th ta fr co ss bu) pc lv (.int (nI i) :: .ref (ad 2) :: st) := fg_iald S 2 1 rfl rfl (by decide) hi hdg k
theorem xs_kn (S : fwC X cc RX0 (tysX ck)) (M : fwMu X) {i v : Nat} (hdg : decode cc pc = .ok (.iastore, 1)) (hi : i < 26) (k : fwG X (XW ad ck li (va_up kn i v) dl wa no th ta fr co ss bu) (pc + 1) lv st) : fwG X (XW ad ck li kn dl wa no th ta fr co ss bu) pc lv (.int (nI v) :: .int (nI i) :: .ref (ad 2) :: st) := fg_iast S M 2 1 rfl rfl (by decide) hi rfl hdg k
theorem xl_dl (S : fwC X cc RX0 (tysX ck)) {i : Nat} (hdg : decode cc pc = .ok (.iaload, 1)) (hi : i < 78) (k : fwG X (XW ad ck li kn dl wa no th ta fr co ss bu) (pc + 1) lv (.int (nI (dl i)) :: st)) : fwG X (XW ad ck li kn dl wa no th ta fr co ss bu) pc lv (.int (nI i) :: .ref (ad 3) :: st) := fg_iald S 3 2 rfl rfl (by decide) hi hdg k
theorem xs_dl (S : fwC X cc RX0 (tysX ck)) (M : fwMu X) {i v : Nat} (hdg : decode cc pc = .ok (.iastore, 1)) (hi : i < 78) (k : fwG X (XW ad ck li kn (va_up dl i v) wa no th ta fr co ss bu) (pc + 1) lv st) : fwG X (XW ad ck li kn dl wa no th ta fr co ss bu) pc lv (.int (nI v) :: .int (nI i) :: .ref (ad 3) :: st) := fg_iast S M 3 2 rfl rfl (by decide) hi rfl hdg k
theorem xl_wa (S : fwC X cc RX0 (tysX ck)) {i : Nat} (hdg : decode cc pc = .ok (.laload, 1)) (hi : i < 806) (k : fwG X (XW ad ck li kn dl wa no th ta fr co ss bu) (pc + 1) lv (.long (lN (wa i)) :: st)) : fwG X (XW ad ck li kn dl wa no th ta fr co ss bu) pc lv (.int (nI i) :: .ref (ad 4) :: st) := fg_lald S 4 3 rfl rfl (by decide) hi hdg k
theorem xs_wa (S : fwC X cc RX0 (tysX ck)) (M : fwMu X) {i v : Nat} (hdg : decode cc pc = .ok (.lastore, 1)) (hi : i < 806) (k : fwG X (XW ad ck li kn dl (va_up wa i v) no th ta fr co ss bu) (pc + 1) lv st) : fwG X (XW ad ck li kn dl wa no th ta fr co ss bu) pc lv (.long (lN v) :: .int (nI i) :: .ref (ad 4) :: st) := fg_last S M 4 3 rfl rfl (by decide) hi rfl hdg k
theorem xl_no (S : fwC X cc RX0 (tysX ck)) {i : Nat} (hdg : decode cc pc = .ok (.laload, 1)) (hi : i < 26) (k : fwG X (XW ad ck li kn dl wa no th ta fr co ss bu) (pc + 1) lv (.long (lN (no i)) :: st)) : fwG X (XW ad ck li kn dl wa no th ta fr co ss bu) pc lv (.int (nI i) :: .ref (ad 5) :: st) := fg_lald S 5 4 rfl rfl (by decide) hi hdg k
theorem xs_no (S : fwC X cc RX0 (tysX ck)) (M : fwMu X) {i v : Nat} (hdg : decode cc pc = .ok (.lastore, 1)) (hi : i < 26) (k : fwG X (XW ad ck li kn dl wa (va_up no i v) th ta fr co ss bu) (pc + 1) lv st) : fwG X (XW ad ck li kn dl wa no th ta fr co ss bu) pc lv (.long (lN v) :: .int (nI i) :: .ref (ad 5) :: st) := fg_last S M 5 4 rfl rfl (by decide) hi rfl hdg k
theorem xl_th (S : fwC X cc RX0 (tysX ck)) {i : Nat} (hdg : decode cc pc = .ok (.laload, 1)) (hi : i < 26) (k : fwG X (XW ad ck li kn dl wa no th ta fr co ss bu) (pc + 1) lv (.long (lN (th i)) :: st)) : fwG X (XW ad ck li kn dl wa no th ta fr co ss bu) pc lv (.int (nI i) :: .ref (ad 6) :: st) := fg_lald S 6 5 rfl rfl (by decide) hi hdg k
theorem xs_th (S : fwC X cc RX0 (tysX ck)) (M : fwMu X) {i v : Nat} (hdg : decode cc pc = .ok (.lastore, 1)) (hi : i < 26) (k : fwG X (XW ad ck li kn dl wa no (va_up th i v) ta fr co ss bu) (pc + 1) lv st) : fwG X (XW ad ck li kn dl wa no th ta fr co ss bu) pc lv (.long (lN v) :: .int (nI i) :: .ref (ad 6) :: st) := fg_last S M 6 5 rfl rfl (by decide) hi rfl hdg k
theorem xl_ta (S : fwC X cc RX0 (tysX ck)) {i : Nat} (hdg : decode cc pc = .ok (.iaload, 1)) (hi : i < 260) (k : fwG X (XW ad ck li kn dl wa no th ta fr co ss bu) (pc + 1) lv (.int (nI (ta i)) :: st)) : fwG X (XW ad ck li kn dl wa no th ta fr co ss bu) pc lv (.int (nI i) :: .ref (ad 7) :: st) := fg_iald S 7 6 rfl rfl (by decide) hi hdg k
theorem xs_ta (S : fwC X cc RX0 (tysX ck)) (M : fwMu X) {i v : Nat} (hdg : decode cc pc = .ok (.iastore, 1)) (hi : i < 260) (k : fwG X (XW ad ck li kn dl wa no th (va_up ta i v) fr co ss bu) (pc + 1) lv st) : fwG X (XW ad ck li kn dl wa no th ta fr co ss bu) pc lv (.int (nI v) :: .int (nI i) :: .ref (ad 7) :: st) := fg_iast S M 7 6 rfl rfl (by decide) hi rfl hdg k
theorem xl_fr (S : fwC X cc RX0 (tysX ck)) {i : Nat} (hdg : decode cc pc = .ok (.iaload, 1)) (hi : i < 260) (k : fwG X (XW ad ck li kn dl wa no th ta fr co ss bu) (pc + 1) lv (.int (nI (fr i)) :: st)) : fwG X (XW ad ck li kn dl wa no th ta fr co ss bu) pc lv (.int (nI i) :: .ref (ad 8) :: st) := fg_iald S 8 7 rfl rfl (by decide) hi hdg k
theorem xs_fr (S : fwC X cc RX0 (tysX ck)) (M : fwMu X) {i v : Nat} (hdg : decode cc pc = .ok (.iastore, 1)) (hi : i < 260) (k : fwG X (XW ad ck li kn dl wa no th ta (va_up fr i v) co ss bu) (pc + 1) lv st) : fwG X (XW ad ck li kn dl wa no th ta fr co ss bu) pc lv (.int (nI v) :: .int (nI i) :: .ref (ad 8) :: st) := fg_iast S M 8 7 rfl rfl (by decide) hi rfl hdg k
theorem xp_co (S : fwC X cc RX0 (tysX ck)) (M : fwMu X) {v : Nat} (hdg : decode cc pc = .ok (.putfield 47, 3)) (k : fwG X (XW ad ck li kn dl wa no th ta fr v ss bu) (pc + 3) lv st) : fwG X (XW ad ck li kn dl wa no th ta fr co ss bu) pc lv (.int (nI v) :: .ref (ad 0) :: st) := fg_put S M in_X0 tyX0 tyX0_ok nmX0 0 rfl rfl 8 (by decide) q40 rfl rfl (ty := .int) (by decide +kernel) rfl rfl (Nat.le_of_ble_eq_true rfl) rfl hdg k
theorem xp_ss (S : fwC X cc RX0 (tysX ck)) (M : fwMu X) {v : Nat} (hdg : decode cc pc = .ok (.putfield 70, 3)) (k : fwG X (XW ad ck li kn dl wa no th ta fr co v bu) (pc + 3) lv st) : fwG X (XW ad ck li kn dl wa no th ta fr co ss bu) pc lv (.int (nI v) :: .ref (ad 0) :: st) := fg_put S M in_X0 tyX0 tyX0_ok nmX0 0 rfl rfl 9 (by decide) q41 rfl rfl (ty := .int) (by decide +kernel) rfl rfl (Nat.le_of_ble_eq_true rfl) rfl hdg k
theorem xp_bu0 (S : fwC X cc RX0 (tysX ck)) (M : fwMu X) (hdg : decode cc pc = .ok (.putfield 35, 3)) (k : fwG X (XW ad ck li kn dl wa no th ta fr co ss 0) (pc + 3) lv st) : fwG X (XW ad ck li kn dl wa no th ta fr co ss bu) pc lv (.int (nI 0) :: .ref (ad 0) :: st) := fg_put S M in_X0 tyX0 tyX0_ok nmX0 0 rfl rfl 10 (by decide) q42 rfl rfl (ty := .boolean) (by decide +kernel) rfl rfl (Nat.le_of_ble_eq_true rfl) rfl hdg k
theorem xp_bu1 (S : fwC X cc RX0 (tysX ck)) (M : fwMu X) (hdg : decode cc pc = .ok (.putfield 35, 3)) (k : fwG X (XW ad ck li kn dl wa no th ta fr co ss 1) (pc + 3) lv st) : fwG X (XW ad ck li kn dl wa no th ta fr co ss bu) pc lv (.int (nI 1) :: .ref (ad 0) :: st) := fg_put S M in_X0 tyX0 tyX0_ok nmX0 0 rfl rfl 10 (by decide) q42 rfl rfl (ty := .boolean) (by decide +kernel) rfl rfl (Nat.le_of_ble_eq_true rfl) rfl hdg k
theorem mg_hd (S : fwC X cc RX1 (tysX ck)) (hdg : decode cc pc = .ok (.getfield 24, 3)) (k : fwG X (MW bd ck ba nw lt hd) (pc + 3) lv (.int (nI hd) :: st)) : fwG X (MW bd ck ba nw lt hd) pc lv (.ref (bd 0) :: st) := fg_get S in_X1 0 rfl rfl 0 (by decide) q193 rfl rfl hdg k
theorem mg_ba (S : fwC X cc RX1 (tysX ck)) (hdg : decode cc pc = .ok (.getfield 7, 3)) (k : fwG X (MW bd ck ba nw lt hd) (pc + 3) lv (.ref (bd 1) :: st)) : fwG X (MW bd ck ba nw lt hd) pc lv (.ref (bd 0) :: st) := fg_get S in_X1 0 rfl rfl 1 (by decide) q194 rfl rfl hdg k
theorem mg_nw (S : fwC X cc RX1 (tysX ck)) (hdg : decode cc pc = .ok (.getfield 13, 3)) (k : fwG X (MW bd ck ba nw lt hd) (pc + 3) lv (.ref (bd 2) :: st)) : fwG X (MW bd ck ba nw lt hd) pc lv (.ref (bd 0) :: st) := fg_get S in_X1 0 rfl rfl 2 (by decide) q195 rfl rfl hdg k
theorem mg_lt (S : fwC X cc RX1 (tysX ck)) (hdg : decode cc pc = .ok (.getfield 17, 3)) (k : fwG X (MW bd ck ba nw lt hd) (pc + 3) lv (.ref (bd 3) :: st)) : fwG X (MW bd ck ba nw lt hd) pc lv (.ref (bd 0) :: st) := fg_get S in_X1 0 rfl rfl 3 (by decide) q196 rfl rfl hdg k
theorem ml_ba (S : fwC X cc RX1 (tysX ck)) {i : Nat} (hdg : decode cc pc = .ok (.baload, 1)) (hi : i < 162) (k : fwG X (MW bd ck ba nw lt hd) (pc + 1) lv (.int (nI (ba i).toNat) :: st)) : fwG X (MW bd ck ba nw lt hd) pc lv (.int (nI i) :: .ref (bd 1) :: st) := fg_zald S 1 8 rfl rfl (by decide) hi hdg k
theorem ms_ba (S : fwC X cc RX1 (tysX ck)) (M : fwMu X) {i : Nat} (v : Bool) (hdg : decode cc pc = .ok (.bastore, 1)) (hi : i < 162) (k : fwG X (MW bd ck (va_up ba i v) nw lt hd) (pc + 1) lv st) : fwG X (MW bd ck ba nw lt hd) pc lv (.int (nI v.toNat) :: .int (nI i) :: .ref (bd 1) :: st) := fg_zast S M 1 8 rfl rfl (by decide) hi rfl hdg k
theorem ml_nw (S : fwC X cc RX1 (tysX ck)) {i : Nat} (hdg : decode cc pc = .ok (.laload, 1)) (hi : i < 27) (k : fwG X (MW bd ck ba nw lt hd) (pc + 1) lv (.long (lN (nw i)) :: st)) : fwG X (MW bd ck ba nw lt hd) pc lv (.int (nI i) :: .ref (bd 2) :: st) := fg_lald S 2 9 rfl rfl (by decide) hi hdg k
theorem ms_nw (S : fwC X cc RX1 (tysX ck)) (M : fwMu X) {i v : Nat} (hdg : decode cc pc = .ok (.lastore, 1)) (hi : i < 27) (k : fwG X (MW bd ck ba (va_up nw i v) lt hd) (pc + 1) lv st) : fwG X (MW bd ck ba nw lt hd) pc lv (.long (lN v) :: .int (nI i) :: .ref (bd 2) :: st) := fg_last S M 2 9 rfl rfl (by decide) hi rfl hdg k
theorem ml_lt (S : fwC X cc RX1 (tysX ck)) {i : Nat} (hdg : decode cc pc = .ok (.laload, 1)) (hi : i < 27) (k : fwG X (MW bd ck ba nw lt hd) (pc + 1) lv (.long (lN (lt i)) :: st)) : fwG X (MW bd ck ba nw lt hd) pc lv (.int (nI i) :: .ref (bd 3) :: st) := fg_lald S 3 10 rfl rfl (by decide) hi hdg k
theorem ms_lt (S : fwC X cc RX1 (tysX ck)) (M : fwMu X) {i v : Nat} (hdg : decode cc pc = .ok (.lastore, 1)) (hi : i < 27) (k : fwG X (MW bd ck ba nw (va_up lt i v) hd) (pc + 1) lv st) : fwG X (MW bd ck ba nw lt hd) pc lv (.long (lN v) :: .int (nI i) :: .ref (bd 3) :: st) := fg_last S M 3 10 rfl rfl (by decide) hi rfl hdg k
theorem mp_hd (S : fwC X cc RX1 (tysX ck)) (M : fwMu X) {v : Nat} (hdg : decode cc pc = .ok (.putfield 24, 3)) (k : fwG X (MW bd ck ba nw lt v) (pc + 3) lv st) : fwG X (MW bd ck ba nw lt hd) pc lv (.int (nI v) :: .ref (bd 0) :: st) := fg_put S M in_X1 tyX1 tyX1_ok nmX1 0 rfl rfl 0 (by decide) q193 rfl rfl (ty := .int) (by decide +kernel) rfl rfl (Nat.le_of_ble_eq_true rfl) rfl hdg k
variable {st0 : List Value} {index maxL d d2 : Nat} {y : MethodName} {bytes : ByteArray} {ret : Option FieldType} {av As : List Value} {v : Value} {ws : va_W} {own : String} {tys : List (ClassId × FieldType)}
def yOk (y : MethodName) (n : Nat) : Prop := y.cls ≠ "java/lang/invoke/MethodHandle" ∧ y.cls ≠ "java/lang/invoke/VarHandle" ∧ (parseMethodDescriptor y.desc).map (fun d => d.parameters.length) = some n
theorem fwY_of {n : Nat} (hRm : fwRm X = rmL d) (hk : yOk y n) (h : d2 + 1 ≤ d ∧ 8 + (maxL + 11) + 40 * d2 ≤ 40 * d) (h3 : (st.map fun v => v.category).sum ≤ 8) : fwY X y maxL n (rmL d2) st := ⟨hk, by rw [hRm]; exact h, ⟨rfl, rfl⟩, h3⟩
/-- a static method without a world -/
theorem cs_ (S : fwC X cc own tys) (hRm : fwRm X = rmL d) (n : Nat) (hM : Met (fwLa X) y (ws_ y bytes maxL ret) (rmL d2) (roP (fwDD X) tys [] av) (roQ v) 0 0 (fun _ => False)) (q1 : Cond.methodLink own index y ∈ lw_all) (q2 : Cond.static y ∈ lw_all) (q3 : Cond.initialized y.cls ∈ lw_all) (q4 : Cond.code y bytes maxL ret ∈ lw_all) (hk : yOk y n) (h : d2 + 1 ≤ d ∧ 8 + (maxL + 11) + 40 * d2 ≤ 40 * d) (hn : av.length = n) (hst : st0 = av.reverse ++ st) (h3 : (st.map fun v => v.category).sum ≤ 8) (hdg : decode cc pc = .ok (.invokestatic index, 3)) (k : fwG X ws (pc + 3) lv (v :: st)) : fwG X ws pc lv st0 := fg_roS S n hM q1 q2 q3 q4 (fwY_of hRm hk h h3) [] rfl rfl rfl hn hst hdg k
/-- a method of the object that leaves the heap -/
theorem cx_ro (S : fwC X cc RX0 (tysX ck)) (hRm : fwRm X = rmL d) (n : Nat) (hM : Met (fwLa X) y (ws_ y bytes maxL ret) (rmL d2) (roP (fwDD X) (tysX ck) (XW ad ck li kn dl wa no th ta fr co ss bu) (.ref (ad 0) :: As)) (roQ v) 0 0 (fun _ => False)) (hy : y.cls = RX0) (q1 : Cond.methodLink RX0 index y ∈ lw_all) (q2 : Cond.instanceMethod y ∈ lw_all) (q3 : Cond.selects RX0 y y ∈ lw_all) (q4 : Cond.initialized RX0 ∈ lw_all) (q5 : Cond.code y bytes maxL ret ∈ lw_all) (hk : yOk y n) (h : d2 + 1 ≤ d ∧ 8 + (maxL + 11) + 40 * d2 ≤ 40 * d) (hn : As.length = n) (hst : st0 = As.reverse ++ .ref (ad 0) :: st) (h3 : (st.map fun v => v.category).sum ≤ 8) (hdg : decode cc pc = .ok (.invokevirtual index, 3)) (k : fwG X (XW ad ck li kn dl wa no th ta fr co ss bu) (pc + 3) lv (v :: st)) : fwG X (XW ad ck li kn dl wa no th ta fr co ss bu) pc lv st0 := fg_roV (ci := 0) (q0 := 0) S n hM hy rfl rfl q1 q2 q3 q4 q5 (fwY_of hRm hk h h3) [0, 1, 2, 3, 4, 5, 6, 7, 8] rfl rfl rfl hn hst hdg k
/-- a method of the object that changes it -/
theorem cx_mu (S : fwC X cc RX0 (tysX ck)) (M : fwMu X) (hRm : fwRm X = rmL d) (n : Nat) {post : Option Value → va_W → Prop} (hM : ∀ sz, Met (fwLa X) y (ws_ y bytes maxL ret) (rmL d2) (muP (fwDD X) (tysX ck) (XW ad ck li kn dl wa no th ta fr co ss bu) (.ref (ad 0) :: As) sz) (muQ (fwDD X) post (va_A (XW ad ck li kn dl wa no th ta fr co ss bu) sz)) 0 0 (va_A (XW ad ck li kn dl wa no th ta fr co ss bu) sz)) (hy : y.cls = RX0) (q1 : Cond.methodLink RX0 index y ∈ lw_all) (q2 : Cond.instanceMethod y ∈ lw_all) (q3 : Cond.selects RX0 y y ∈ lw_all) (q4 : Cond.initialized RX0 ∈ lw_all) (q5 : Cond.code y bytes maxL ret ∈ lw_all) (hk : yOk y n) (h : d2 + 1 ≤ d ∧ 8 + (maxL + 11) + 40 * d2 ≤ 40 * d) (hn : As.length = n) (hst : st0 = As.reverse ++ .ref (ad 0) :: st) (h3 : (st.map fun v => v.category).sum ≤ 8) (hdg : decode cc pc = .ok (.invokevirtual index, 3)) (k : ∀ (v : Option Value) (w : va_W), post v w → fwG X w (pc + 3) lv (v.toList ++ st)) : fwG X (XW ad ck li kn dl wa no th ta fr co ss bu) pc lv st0 := fg_muV (ci := 0) (q0 := 0) S M n hM hy rfl rfl q1 q2 q3 q4 q5 (fwY_of hRm hk h h3) hn hst hdg k
/-- a method of the object that leaves the heap -/
theorem cm_ro (S : fwC X cc RX1 (tysX ck)) (hRm : fwRm X = rmL d) (n : Nat) (hM : Met (fwLa X) y (ws_ y bytes maxL ret) (rmL d2) (roP (fwDD X) (tysX ck) (MW bd ck ba nw lt hd) (.ref (bd 0) :: As)) (roQ v) 0 0 (fun _ => False)) (hy : y.cls = RX1) (q1 : Cond.methodLink RX1 index y ∈ lw_all) (q2 : Cond.instanceMethod y ∈ lw_all) (q3 : Cond.selects RX1 y y ∈ lw_all) (q4 : Cond.initialized RX1 ∈ lw_all) (q5 : Cond.code y bytes maxL ret ∈ lw_all) (hk : yOk y n) (h : d2 + 1 ≤ d ∧ 8 + (maxL + 11) + 40 * d2 ≤ 40 * d) (hn : As.length = n) (hst : st0 = As.reverse ++ .ref (bd 0) :: st) (h3 : (st.map fun v => v.category).sum ≤ 8) (hdg : decode cc pc = .ok (.invokevirtual index, 3)) (k : fwG X (MW bd ck ba nw lt hd) (pc + 3) lv (v :: st)) : fwG X (MW bd ck ba nw lt hd) pc lv st0 := fg_roV (ci := 1) (q0 := 0) S n hM hy rfl rfl q1 q2 q3 q4 q5 (fwY_of hRm hk h h3) [0, 1, 2, 3] rfl rfl rfl hn hst hdg k
/-- a method of the object that changes it -/
theorem cm_mu (S : fwC X cc RX1 (tysX ck)) (M : fwMu X) (hRm : fwRm X = rmL d) (n : Nat) {post : Option Value → va_W → Prop} (hM : ∀ sz, Met (fwLa X) y (ws_ y bytes maxL ret) (rmL d2) (muP (fwDD X) (tysX ck) (MW bd ck ba nw lt hd) (.ref (bd 0) :: As) sz) (muQ (fwDD X) post (va_A (MW bd ck ba nw lt hd) sz)) 0 0 (va_A (MW bd ck ba nw lt hd) sz)) (hy : y.cls = RX1) (q1 : Cond.methodLink RX1 index y ∈ lw_all) (q2 : Cond.instanceMethod y ∈ lw_all) (q3 : Cond.selects RX1 y y ∈ lw_all) (q4 : Cond.initialized RX1 ∈ lw_all) (q5 : Cond.code y bytes maxL ret ∈ lw_all) (hk : yOk y n) (h : d2 + 1 ≤ d ∧ 8 + (maxL + 11) + 40 * d2 ≤ 40 * d) (hn : As.length = n) (hst : st0 = As.reverse ++ .ref (bd 0) :: st) (h3 : (st.map fun v => v.category).sum ≤ 8) (hdg : decode cc pc = .ok (.invokevirtual index, 3)) (k : ∀ (v : Option Value) (w : va_W), post v w → fwG X w (pc + 3) lv (v.toList ++ st)) : fwG X (MW bd ck ba nw lt hd) pc lv st0 := fg_muV (ci := 1) (q0 := 0) S M n hM hy rfl rfl q1 q2 q3 q4 q5 (fwY_of hRm hk h h3) hn hst hdg k
end XR
theorem ok_X0_init : yOk yX0_init 0 := ⟨by decide +kernel, by decide +kernel, by decide +kernel⟩
theorem ok_X0_forbid : yOk yX0_forbid 1 := ⟨by decide +kernel, by decide +kernel, by decide +kernel⟩
theorem ok_X0_isPiece : yOk yX0_isPiece 1 := ⟨by decide +kernel, by decide +kernel, by decide +kernel⟩
theorem ok_X0_sizeOf : yOk yX0_sizeOf 1 := ⟨by decide +kernel, by decide +kernel, by decide +kernel⟩
theorem ok_X0_power : yOk yX0_power 1 := ⟨by decide +kernel, by decide +kernel, by decide +kernel⟩
theorem ok_X0_place : yOk yX0_place 1 := ⟨by decide +kernel, by decide +kernel, by decide +kernel⟩
theorem ok_X0_permit : yOk yX0_permit 1 := ⟨by decide +kernel, by decide +kernel, by decide +kernel⟩
theorem ok_X0_pieces : yOk yX0_pieces 0 := ⟨by decide +kernel, by decide +kernel, by decide +kernel⟩
theorem ok_X0_allowed : yOk yX0_allowed 2 := ⟨by decide +kernel, by decide +kernel, by decide +kernel⟩
theorem ok_X0_refused : yOk yX0_refused 2 := ⟨by decide +kernel, by decide +kernel, by decide +kernel⟩
theorem ok_X0_isLength : yOk yX0_isLength 1 := ⟨by decide +kernel, by decide +kernel, by decide +kernel⟩
theorem ok_X0_build : yOk yX0_build 0 := ⟨by decide +kernel, by decide +kernel, by decide +kernel⟩
theorem ok_X0_stateOf : yOk yX0_stateOf 1 := ⟨by decide +kernel, by decide +kernel, by decide +kernel⟩
theorem ok_X0_target : yOk yX0_target 1 := ⟨by decide +kernel, by decide +kernel, by decide +kernel⟩
theorem ok_X0_countWays : yOk yX0_countWays 0 := ⟨by decide +kernel, by decide +kernel, by decide +kernel⟩
theorem ok_X0_read : yOk yX0_read 3 := ⟨by decide +kernel, by decide +kernel, by decide +kernel⟩
theorem ok_X0_count : yOk yX0_count 1 := ⟨by decide +kernel, by decide +kernel, by decide +kernel⟩
theorem ok_X0_countWith : yOk yX0_countWith 2 := ⟨by decide +kernel, by decide +kernel, by decide +kernel⟩
theorem ok_X0_spreadTable : yOk yX0_spreadTable 0 := ⟨by decide +kernel, by decide +kernel, by decide +kernel⟩
theorem ok_X0_rank : yOk yX0_rank 2 := ⟨by decide +kernel, by decide +kernel, by decide +kernel⟩
theorem ok_X0_below : yOk yX0_below 2 := ⟨by decide +kernel, by decide +kernel, by decide +kernel⟩
theorem ok_X0_word : yOk yX0_word 2 := ⟨by decide +kernel, by decide +kernel, by decide +kernel⟩
theorem ok_X0_unrank : yOk yX0_unrank 2 := ⟨by decide +kernel, by decide +kernel, by decide +kernel⟩
theorem ok_X0_next : yOk yX0_next 2 := ⟨by decide +kernel, by decide +kernel, by decide +kernel⟩
theorem ok_X0_beginning : yOk yX0_beginning 2 := ⟨by decide +kernel, by decide +kernel, by decide +kernel⟩
theorem ok_X0_ending : yOk yX0_ending 2 := ⟨by decide +kernel, by decide +kernel, by decide +kernel⟩
theorem ok_X0_through : yOk yX0_through 3 := ⟨by decide +kernel, by decide +kernel, by decide +kernel⟩
theorem ok_X0_standing : yOk yX0_standing 2 := ⟨by decide +kernel, by decide +kernel, by decide +kernel⟩
theorem ok_X0_longest : yOk yX0_longest 0 := ⟨by decide +kernel, by decide +kernel, by decide +kernel⟩
theorem ok_X0_choices : yOk yX0_choices 2 := ⟨by decide +kernel, by decide +kernel, by decide +kernel⟩
theorem ok_X0_mirrored : yOk yX0_mirrored 1 := ⟨by decide +kernel, by decide +kernel, by decide +kernel⟩
theorem ok_X0_reflect : yOk yX0_reflect 3 := ⟨by decide +kernel, by decide +kernel, by decide +kernel⟩
theorem ok_X1_init : yOk yX1_init 0 := ⟨by decide +kernel, by decide +kernel, by decide +kernel⟩
theorem ok_X1_forbid : yOk yX1_forbid 1 := ⟨by decide +kernel, by decide +kernel, by decide +kernel⟩
theorem ok_X1_letters : yOk yX1_letters 1 := ⟨by decide +kernel, by decide +kernel, by decide +kernel⟩
theorem ok_X1_permit : yOk yX1_permit 1 := ⟨by decide +kernel, by decide +kernel, by decide +kernel⟩
theorem ok_X1_pieces : yOk yX1_pieces 0 := ⟨by decide +kernel, by decide +kernel, by decide +kernel⟩
theorem ok_X1_allowed : yOk yX1_allowed 2 := ⟨by decide +kernel, by decide +kernel, by decide +kernel⟩
theorem ok_X1_badLength : yOk yX1_badLength 1 := ⟨by decide +kernel, by decide +kernel, by decide +kernel⟩
theorem ok_X1_badCode : yOk yX1_badCode 2 := ⟨by decide +kernel, by decide +kernel, by decide +kernel⟩
theorem ok_X1_power : yOk yX1_power 1 := ⟨by decide +kernel, by decide +kernel, by decide +kernel⟩
theorem ok_X1_good : yOk yX1_good 2 := ⟨by decide +kernel, by decide +kernel, by decide +kernel⟩
theorem ok_X1_count : yOk yX1_count 1 := ⟨by decide +kernel, by decide +kernel, by decide +kernel⟩
theorem ok_X1_plainCount : yOk yX1_plainCount 1 := ⟨by decide +kernel, by decide +kernel, by decide +kernel⟩
theorem ok_X1_grow : yOk yX1_grow 0 := ⟨by decide +kernel, by decide +kernel, by decide +kernel⟩
theorem ok_X1_countWith : yOk yX1_countWith 2 := ⟨by decide +kernel, by decide +kernel, by decide +kernel⟩
theorem ok_X1_zeros : yOk yX1_zeros 2 := ⟨by decide +kernel, by decide +kernel, by decide +kernel⟩
theorem ok_X1_rank : yOk yX1_rank 2 := ⟨by decide +kernel, by decide +kernel, by decide +kernel⟩
theorem ok_X1_word : yOk yX1_word 2 := ⟨by decide +kernel, by decide +kernel, by decide +kernel⟩
theorem ok_X1_next : yOk yX1_next 2 := ⟨by decide +kernel, by decide +kernel, by decide +kernel⟩
theorem ok_X1_beginning : yOk yX1_beginning 2 := ⟨by decide +kernel, by decide +kernel, by decide +kernel⟩
theorem ok_X1_ending : yOk yX1_ending 2 := ⟨by decide +kernel, by decide +kernel, by decide +kernel⟩
theorem ok_X1_stands : yOk yX1_stands 4 := ⟨by decide +kernel, by decide +kernel, by decide +kernel⟩
theorem ok_X1_standing : yOk yX1_standing 2 := ⟨by decide +kernel, by decide +kernel, by decide +kernel⟩
theorem ok_X1_places : yOk yX1_places 4 := ⟨by decide +kernel, by decide +kernel, by decide +kernel⟩
theorem ok_X1_longest : yOk yX1_longest 0 := ⟨by decide +kernel, by decide +kernel, by decide +kernel⟩
theorem ok_X1_choices : yOk yX1_choices 2 := ⟨by decide +kernel, by decide +kernel, by decide +kernel⟩
theorem ok_X1_mirrored : yOk yX1_mirrored 1 := ⟨by decide +kernel, by decide +kernel, by decide +kernel⟩
theorem ok_X1_backward : yOk yX1_backward 2 := ⟨by decide +kernel, by decide +kernel, by decide +kernel⟩
end
section
set_option maxRecDepth 100000
section FZ
variable {X : fwX} {cc : ByteArray} {own : String} {tys : List (ClassId × FieldType)} {ws : va_W} {pc : Nat} {lv : List (Nat × Value)} {st : List Value}
theorem fg_icmpZ_eq (S : fwC X cc own tys) {x y : Int32} {a b : Int} {off : Int} (tgt : Nat) (hdg : decode cc pc = .ok (.if_icmp .eq off, 3)) (ht : (pc : Int) + off = (tgt : Int)) (hx : x.toInt = a) (hy : y.toInt = b) (kt : a = b → fwG X ws tgt lv st) (kf : a ≠ b → fwG X ws (pc + 3) lv st) : fwG X ws pc lv (.int y :: .int x :: st) := by
  refine fg_icmpR_eq S tgt hdg ht (fun h => kt ?_) (fun h => kf ?_) <;> simp only [Int32.le_iff_toInt_le, Int32.lt_iff_toInt_lt, ← Int32.toInt_inj, hx, hy] at h <;> omega
theorem fg_ifZ_eq (S : fwC X cc own tys) {x : Int32} {a : Int} {off : Int} (tgt : Nat) (hdg : decode cc pc = .ok (.ifCond .eq off, 3)) (ht : (pc : Int) + off = (tgt : Int)) (hx : x.toInt = a) (kt : a = 0 → fwG X ws tgt lv st) (kf : a ≠ 0 → fwG X ws (pc + 3) lv st) : fwG X ws pc lv (.int x :: st) := by
  have e1 : (0 : Int32).toInt = 0 := Int32.toInt_zero
  refine fg_ifR_eq S tgt hdg ht (fun h => kt ?_) (fun h => kf ?_) <;> simp only [Int32.le_iff_toInt_le, Int32.lt_iff_toInt_lt, ← Int32.toInt_inj, hx, e1] at h <;> omega
theorem fg_icmpZ_ne (S : fwC X cc own tys) {x y : Int32} {a b : Int} {off : Int} (tgt : Nat) (hdg : decode cc pc = .ok (.if_icmp .ne off, 3)) (ht : (pc : Int) + off = (tgt : Int)) (hx : x.toInt = a) (hy : y.toInt = b) (kt : a ≠ b → fwG X ws tgt lv st) (kf : a = b → fwG X ws (pc + 3) lv st) : fwG X ws pc lv (.int y :: .int x :: st) := by
  refine fg_icmpR_ne S tgt hdg ht (fun h => kt ?_) (fun h => kf ?_) <;> simp only [Int32.le_iff_toInt_le, Int32.lt_iff_toInt_lt, ← Int32.toInt_inj, hx, hy] at h <;> omega
theorem fg_ifZ_ne (S : fwC X cc own tys) {x : Int32} {a : Int} {off : Int} (tgt : Nat) (hdg : decode cc pc = .ok (.ifCond .ne off, 3)) (ht : (pc : Int) + off = (tgt : Int)) (hx : x.toInt = a) (kt : a ≠ 0 → fwG X ws tgt lv st) (kf : a = 0 → fwG X ws (pc + 3) lv st) : fwG X ws pc lv (.int x :: st) := by
  have e1 : (0 : Int32).toInt = 0 := Int32.toInt_zero
  refine fg_ifR_ne S tgt hdg ht (fun h => kt ?_) (fun h => kf ?_) <;> simp only [Int32.le_iff_toInt_le, Int32.lt_iff_toInt_lt, ← Int32.toInt_inj, hx, e1] at h <;> omega
theorem fg_icmpZ_lt (S : fwC X cc own tys) {x y : Int32} {a b : Int} {off : Int} (tgt : Nat) (hdg : decode cc pc = .ok (.if_icmp .lt off, 3)) (ht : (pc : Int) + off = (tgt : Int)) (hx : x.toInt = a) (hy : y.toInt = b) (kt : a < b → fwG X ws tgt lv st) (kf : b ≤ a → fwG X ws (pc + 3) lv st) : fwG X ws pc lv (.int y :: .int x :: st) := by
  refine fg_icmpR_lt S tgt hdg ht (fun h => kt ?_) (fun h => kf ?_) <;> simp only [Int32.le_iff_toInt_le, Int32.lt_iff_toInt_lt, ← Int32.toInt_inj, hx, hy] at h <;> omega
theorem fg_ifZ_lt (S : fwC X cc own tys) {x : Int32} {a : Int} {off : Int} (tgt : Nat) (hdg : decode cc pc = .ok (.ifCond .lt off, 3)) (ht : (pc : Int) + off = (tgt : Int)) (hx : x.toInt = a) (kt : a < 0 → fwG X ws tgt lv st) (kf : 0 ≤ a → fwG X ws (pc + 3) lv st) : fwG X ws pc lv (.int x :: st) := by
  have e1 : (0 : Int32).toInt = 0 := Int32.toInt_zero
  refine fg_ifR_lt S tgt hdg ht (fun h => kt ?_) (fun h => kf ?_) <;> simp only [Int32.le_iff_toInt_le, Int32.lt_iff_toInt_lt, ← Int32.toInt_inj, hx, e1] at h <;> omega
theorem fg_icmpZ_ge (S : fwC X cc own tys) {x y : Int32} {a b : Int} {off : Int} (tgt : Nat) (hdg : decode cc pc = .ok (.if_icmp .ge off, 3)) (ht : (pc : Int) + off = (tgt : Int)) (hx : x.toInt = a) (hy : y.toInt = b) (kt : b ≤ a → fwG X ws tgt lv st) (kf : a < b → fwG X ws (pc + 3) lv st) : fwG X ws pc lv (.int y :: .int x :: st) := by
  refine fg_icmpR_ge S tgt hdg ht (fun h => kt ?_) (fun h => kf ?_) <;> simp only [Int32.le_iff_toInt_le, Int32.lt_iff_toInt_lt, ← Int32.toInt_inj, hx, hy] at h <;> omega
theorem fg_ifZ_ge (S : fwC X cc own tys) {x : Int32} {a : Int} {off : Int} (tgt : Nat) (hdg : decode cc pc = .ok (.ifCond .ge off, 3)) (ht : (pc : Int) + off = (tgt : Int)) (hx : x.toInt = a) (kt : 0 ≤ a → fwG X ws tgt lv st) (kf : a < 0 → fwG X ws (pc + 3) lv st) : fwG X ws pc lv (.int x :: st) := by
  have e1 : (0 : Int32).toInt = 0 := Int32.toInt_zero
  refine fg_ifR_ge S tgt hdg ht (fun h => kt ?_) (fun h => kf ?_) <;> simp only [Int32.le_iff_toInt_le, Int32.lt_iff_toInt_lt, ← Int32.toInt_inj, hx, e1] at h <;> omega
theorem fg_icmpZ_gt (S : fwC X cc own tys) {x y : Int32} {a b : Int} {off : Int} (tgt : Nat) (hdg : decode cc pc = .ok (.if_icmp .gt off, 3)) (ht : (pc : Int) + off = (tgt : Int)) (hx : x.toInt = a) (hy : y.toInt = b) (kt : b < a → fwG X ws tgt lv st) (kf : a ≤ b → fwG X ws (pc + 3) lv st) : fwG X ws pc lv (.int y :: .int x :: st) := by
  refine fg_icmpR_gt S tgt hdg ht (fun h => kt ?_) (fun h => kf ?_) <;> simp only [Int32.le_iff_toInt_le, Int32.lt_iff_toInt_lt, ← Int32.toInt_inj, hx, hy] at h <;> omega
theorem fg_ifZ_gt (S : fwC X cc own tys) {x : Int32} {a : Int} {off : Int} (tgt : Nat) (hdg : decode cc pc = .ok (.ifCond .gt off, 3)) (ht : (pc : Int) + off = (tgt : Int)) (hx : x.toInt = a) (kt : 0 < a → fwG X ws tgt lv st) (kf : a ≤ 0 → fwG X ws (pc + 3) lv st) : fwG X ws pc lv (.int x :: st) := by
  have e1 : (0 : Int32).toInt = 0 := Int32.toInt_zero
  refine fg_ifR_gt S tgt hdg ht (fun h => kt ?_) (fun h => kf ?_) <;> simp only [Int32.le_iff_toInt_le, Int32.lt_iff_toInt_lt, ← Int32.toInt_inj, hx, e1] at h <;> omega
theorem fg_icmpZ_le (S : fwC X cc own tys) {x y : Int32} {a b : Int} {off : Int} (tgt : Nat) (hdg : decode cc pc = .ok (.if_icmp .le off, 3)) (ht : (pc : Int) + off = (tgt : Int)) (hx : x.toInt = a) (hy : y.toInt = b) (kt : a ≤ b → fwG X ws tgt lv st) (kf : b < a → fwG X ws (pc + 3) lv st) : fwG X ws pc lv (.int y :: .int x :: st) := by
  refine fg_icmpR_le S tgt hdg ht (fun h => kt ?_) (fun h => kf ?_) <;> simp only [Int32.le_iff_toInt_le, Int32.lt_iff_toInt_lt, ← Int32.toInt_inj, hx, hy] at h <;> omega
theorem fg_ifZ_le (S : fwC X cc own tys) {x : Int32} {a : Int} {off : Int} (tgt : Nat) (hdg : decode cc pc = .ok (.ifCond .le off, 3)) (ht : (pc : Int) + off = (tgt : Int)) (hx : x.toInt = a) (kt : a ≤ 0 → fwG X ws tgt lv st) (kf : 0 < a → fwG X ws (pc + 3) lv st) : fwG X ws pc lv (.int x :: st) := by
  have e1 : (0 : Int32).toInt = 0 := Int32.toInt_zero
  refine fg_ifR_le S tgt hdg ht (fun h => kt ?_) (fun h => kf ?_) <;> simp only [Int32.le_iff_toInt_le, Int32.lt_iff_toInt_lt, ← Int32.toInt_inj, hx, e1] at h <;> omega
end FZ
theorem inc_1 (a : Nat) : nI a + Int32.ofInt 1 = nI (a + 1) := nI_1 a
theorem inc_n (a c : Nat) : nI a + Int32.ofInt (c : Int) = nI (a + c) := by
  have h : Int32.ofInt (c : Int) = nI c := rfl
  rw [h, nI_add]
theorem dec_r (a : Nat) : nI a + Int32.ofInt (-1) = nI a - 1 := by
  have h : Int32.ofInt (-1) = -1 := by decide
  rw [h, Int32.sub_eq_add_neg]
theorem dec_n {a b : Nat} (h : a = b + 1) : nI a + Int32.ofInt (-1) = nI b := by
  subst h
  rw [dec_r]
  exact nI_pred b
theorem dn_toInt {a : Nat} (h : a < 2 ^ 31) : (nI a - 1).toInt = (a : Int) - 1 := by
  cases a with
  | zero => decide
  | succ b => rw [nI_pred, nI_toInt (by omega)]; omega
theorem m1_toInt : (-1 : Int32).toInt = -1 := by decide
theorem m2_toInt : (-2 : Int32).toInt = -2 := by decide
theorem m3_toInt : (-3 : Int32).toInt = -3 := by decide
/-- an int that is not below 0, by its number -/
theorem i_nat {x : Int32} {n : Nat} (h0 : 0 ≤ x.toInt) (h1 : x.toInt ≤ n) (hn : n < 2 ^ 31) : ∃ k : Nat, k ≤ n ∧ x = nI k ∧ x.toInt = k := by
  refine ⟨x.toInt.toNat, by omega, ?_, by omega⟩
  rw [← Int32.toInt_inj, nI_toInt (by omega)]
  omega
/-! powers of three -/
def p3 : Nat → Nat
  | 0 => 1
  | n + 1 => 3 * p3 n
theorem p3_pos : ∀ n, 0 < p3 n
  | 0 => Nat.one_pos
  | n + 1 => by have := p3_pos n; show 0 < 3 * p3 n; omega
theorem p3_s (n : Nat) : p3 (n + 1) = 3 * p3 n := rfl
theorem p3_add (a : Nat) : ∀ b, p3 (a + b) = p3 a * p3 b
  | 0 => by show p3 a = p3 a * 1; omega
  | b + 1 => by show 3 * p3 (a + b) = p3 a * (3 * p3 b); rw [p3_add a b]; rw [← Nat.mul_assoc, ← Nat.mul_assoc, Nat.mul_comm 3]
theorem p3_mono {a b : Nat} (h : a ≤ b) : p3 a ≤ p3 b := by
  obtain ⟨c, rfl⟩ := Nat.le.dest h
  rw [p3_add]
  exact Nat.le_mul_of_pos_right _ (p3_pos c)
theorem p3_le {n : Nat} (h : n ≤ 10) : p3 n ≤ 59049 := p3_mono h
theorem p3_le9 {n : Nat} (h : n ≤ 9) : p3 n ≤ 19683 := p3_mono h
/-! small functions -/
/-- how many letters a piece with this number has, 0 for none -/
def ltF (x : Int) : Nat := if 2 < x ∧ x < 6 then 1 else if 8 < x ∧ x < 18 then 2 else if 26 < x ∧ x < 54 then 3 else if 80 < x ∧ x < 162 then 4 else 0
def szF (x : Int) : Nat := if x < 6 then 1 else if x < 18 then 2 else if x < 54 then 3 else 4
theorem szF_1 {x : Int} (h : x < 6) : szF x = 1 := by simp [szF, h]
theorem szF_2 {x : Int} (h0 : 6 ≤ x) (h : x < 18) : szF x = 2 := by simp [szF, h]; omega
theorem szF_3 {x : Int} (h0 : 18 ≤ x) (h : x < 54) : szF x = 3 := by
  unfold szF
  rw [if_neg (by omega), if_neg (by omega), if_pos h]
theorem szF_4 {x : Int} (h0 : 54 ≤ x) : szF x = 4 := by
  unfold szF
  rw [if_neg (by omega), if_neg (by omega), if_neg (by omega)]
theorem szF_in (x : Int) : 1 ≤ szF x ∧ szF x ≤ 4 := by
  unfold szF
  split
  · omega
  · split
    · omega
    · split <;> omega
theorem ltF_sz (x : Int) : (0 < ltF x) ↔ ((p3 (szF x) : Int) ≤ x ∧ x < 2 * (p3 (szF x) : Int)) := by
  have e1 : p3 1 = 3 := rfl
  have e2 : p3 2 = 9 := rfl
  have e3 : p3 3 = 27 := rfl
  have e4 : p3 4 = 81 := rfl
  unfold ltF
  by_cases h1 : x < 6
  · rw [szF_1 h1, e1]; split
    · omega
    · rw [if_neg (by omega), if_neg (by omega), if_neg (by omega)]; omega
  · by_cases h2 : x < 18
    · rw [szF_2 (by omega) h2, e2, if_neg (by omega)]; split
      · omega
      · rw [if_neg (by omega), if_neg (by omega)]; omega
    · by_cases h3 : x < 54
      · rw [szF_3 (by omega) h3, e3, if_neg (by omega), if_neg (by omega)]; split
        · omega
        · rw [if_neg (by omega)]; omega
      · rw [szF_4 (by omega), e4, if_neg (by omega), if_neg (by omega), if_neg (by omega)]; split <;> omega
theorem ltF_eq {x : Int} (h : 0 < ltF x) : ltF x = szF x := by
  unfold ltF at h ⊢
  split
  · rw [szF_1 (by omega)]
  · split
    · rw [szF_2 (by omega) (by omega)]
    · split
      · rw [szF_3 (by omega) (by omega)]
      · split
        · rw [szF_4 (by omega)]
        · rename_i a b c d
          rw [if_neg a, if_neg b, if_neg c, if_neg d] at h
          omega
/-- a piece: its number p, its letters k -/
theorem pc_of {x : Int32} (h : 0 < ltF x.toInt) : ∃ p k : Nat, x = nI p ∧ x.toInt = p ∧ ltF x.toInt = k ∧ szF x.toInt = k ∧ 1 ≤ k ∧ k ≤ 4 ∧ p3 k ≤ p ∧ p < 2 * p3 k ∧ p < 162 := by
  have h1 := (ltF_sz x.toInt).mp h
  have h2 := szF_in x.toInt
  have h3 := ltF_eq h
  have h4 : p3 (szF x.toInt) ≤ p3 4 := p3_mono h2.2
  have e4 : p3 4 = 81 := rfl
  obtain ⟨p, hp, e, e'⟩ := i_nat (x := x) (n := 161) (by omega) (by omega) (by omega)
  exact ⟨p, szF x.toInt, e, e', h3, rfl, h2.1, h2.2, by omega, by omega, by omega⟩
theorem szN_of {k p : Nat} (h1 : 1 ≤ k) (h4 : k ≤ 4) (hp : p3 k ≤ p) (hp2 : p < 2 * p3 k) : szF (p : Int) = k := by
  have e1 : p3 1 = 3 := rfl
  have e2 : p3 2 = 9 := rfl
  have e3 : p3 3 = 27 := rfl
  have e4 : p3 4 = 81 := rfl
  rcases (by omega : k = 1 ∨ k = 2 ∨ k = 3 ∨ k = 4) with rfl | rfl | rfl | rfl
  · exact szF_1 (by omega)
  · exact szF_2 (by omega) (by omega)
  · exact szF_3 (by omega) (by omega)
  · exact szF_4 (by omega)
/-- the first place of x in f from k on, -1 if there is none -/
def fnd (f : Nat → Nat) (x : Int) : Nat → Nat → Int32
  | _, 0 => -1
  | k, m + 1 => if (f k : Int) = x then nI k else fnd f x (k + 1) m
theorem fnd_spec (f : Nat → Nat) (x : Int) : ∀ (m k : Nat), (fnd f x k m = -1 ∧ ∀ j, k ≤ j → j < k + m → (f j : Int) ≠ x) ∨ (∃ j, k ≤ j ∧ j < k + m ∧ fnd f x k m = nI j ∧ (f j : Int) = x ∧ ∀ i, k ≤ i → i < j → (f i : Int) ≠ x)
  | 0, k => Or.inl ⟨rfl, fun j h1 h2 => by omega⟩
  | m + 1, k => by
    by_cases h : (f k : Int) = x
    · exact Or.inr ⟨k, Nat.le_refl _, by omega, by simp [fnd, h], h, fun i h1 h2 => by omega⟩
    · have e : fnd f x k (m + 1) = fnd f x (k + 1) m := by simp [fnd, h]
      rcases fnd_spec f x m (k + 1) with ⟨h1, h2⟩ | ⟨j, h1, h2, h3, h4, h5⟩
      · refine Or.inl ⟨by rw [e, h1], fun j a b => ?_⟩
        by_cases hj : j = k
        · rw [hj]; exact h
        · exact h2 j (by omega) (by omega)
      · refine Or.inr ⟨j, by omega, by omega, by rw [e, h3], h4, fun i a b => ?_⟩
        by_cases hj : i = k
        · rw [hj]; exact h
        · exact h5 i (by omega) b
theorem fnd_hit {f : Nat → Nat} {x : Int} {k m : Nat} (h : (f k : Int) = x) (hm : 0 < m) : fnd f x k m = nI k := by
  obtain ⟨j, rfl⟩ : ∃ j, m = j + 1 := ⟨m - 1, by omega⟩
  simp [fnd, h]
theorem fnd_miss {f : Nat → Nat} {x : Int} {k m : Nat} (h : (f k : Int) ≠ x) (hm : 0 < m) : fnd f x k m = fnd f x (k + 1) (m - 1) := by
  obtain ⟨j, rfl⟩ : ∃ j, m = j + 1 := ⟨m - 1, by omega⟩
  simp [fnd, h]
/-- refused -/
def refF (n c : Int) : Int32 := if ¬ (0 ≤ n ∧ n ≤ 9) then -1 else if c < 0 ∨ (p3 n.toNat : Int) ≤ c then -2 else nI 0
theorem refF_1 {n c : Int} (h : ¬ (0 ≤ n ∧ n ≤ 9)) : refF n c = -1 := if_pos h
theorem refF_2 {n c : Int} (h : 0 ≤ n ∧ n ≤ 9) (h2 : c < 0 ∨ (p3 n.toNat : Int) ≤ c) : refF n c = -2 := by
  unfold refF
  rw [if_neg (fun q => q h), if_pos h2]
theorem refF_3 {n c : Int} (h : 0 ≤ n ∧ n ≤ 9) (h2 : 0 ≤ c) (h3 : c < (p3 n.toNat : Int)) : refF n c = nI 0 := by
  unfold refF
  rw [if_neg (fun q => q h), if_neg (by omega)]
theorem ref_ok {x y : Int32} (h : 0 ≤ (refF x.toInt y.toInt).toInt) : ∃ n c : Nat, n ≤ 9 ∧ c < p3 n ∧ x = nI n ∧ y = nI c ∧ x.toInt = n ∧ y.toInt = c := by
  by_cases h1 : 0 ≤ x.toInt ∧ x.toInt ≤ 9
  · obtain ⟨n, hn, e, e'⟩ := i_nat (x := x) (n := 9) h1.1 h1.2 (by omega)
    have hp := p3_le9 hn
    by_cases h2 : y.toInt < 0 ∨ (p3 x.toInt.toNat : Int) ≤ y.toInt
    · rw [refF_2 h1 h2] at h
      exact absurd h (by decide)
    · have e2 : x.toInt.toNat = n := by omega
      rw [e2] at h2
      obtain ⟨c, hc, e3, e4⟩ := i_nat (x := y) (n := 19682) (by omega) (by omega) (by omega)
      exact ⟨n, c, hn, by omega, e, e3, e', e4⟩
  · rw [refF_1 h1] at h
    exact absurd h (by decide)
end
section
set_option maxRecDepth 100000
set_option maxHeartbeats 4000000 in
set_option maxRecDepth 100000 in
/-- power: 3 to the n -/
theorem met_X0_power {l : Launch} {D : va_G} {tys : List (ClassId × FieldType)} (n : Nat) (hn : n ≤ 10) : Met l yX0_power (ws_ yX0_power cX0_power 3 (some .int)) (rmL 0) (roP D tys [] [.int (nI n)]) (roQ (.int (nI (p3 n)))) 0 0 (fun _ => False) := by
  refine ro_i (lv0 := [(0, .int (nI n))]) (by decide) (Nat.le_of_ble_eq_true rfl) rfl (fun X B hret => ?_)
  obtain ⟨S, hN, hRm, rfl, rfl⟩ := B
  have S : fwC X cX0_power RX0 tys := S
  refine fg_ic (v := nI 1) S dX0_power_0 (by decide) ?_
  refine fg_istore_n (lv' := [(0, .int (nI n)), (1, .int (nI 1))]) S [1, 0] dX0_power_1 rfl hN (by decide) rfl ?_
  refine fg_ic (v := nI 0) S dX0_power_2 (by decide) ?_
  refine fg_istore_n (lv' := [(0, .int (nI n)), (1, .int (nI 1)), (2, .int (nI 0))]) S [1, 2, 0] dX0_power_3 rfl hN (by decide) rfl ?_
  have lp : ∀ (fuel : Nat) (k : Nat), (k ≤ n) → (n - k) < fuel → fwG X [] 4 [(0, .int (nI n)), (1, .int (nI (p3 k))), (2, .int (nI k))] [] := by
    intro fuel
    induction fuel with
    | zero => intro k hk hfu; exact absurd hfu (Nat.not_lt_zero _)
    | succ fuel ih_lp =>
      intro k hk hfu
      refine fg_iload_n S 2 2 dX0_power_4 rfl rfl ?_
      refine fg_iload_n S 0 0 dX0_power_5 rfl rfl ?_
      refine fg_icmp_ge S 19 dX0_power_6 (by decide) (by omega) (by omega) (fun h_1 => ?_) (fun h_1 => ?_)
      · refine fg_iload_n S 1 1 dX0_power_19 rfl rfl ?_
        have e_k : k = n := by omega
        subst e_k
        exact hret _ _ dX0_power_20
      · refine fg_iload_n S 1 1 dX0_power_9 rfl rfl ?_
        refine fg_ic (v := nI 3) S dX0_power_10 (by decide) ?_
        refine fg_imul S dX0_power_11 ?_
        refine fg_topn (b := p3 (k + 1)) (by rw [p3_s]; omega) ?_
        refine fg_istore_n (lv' := [(0, .int (nI n)), (1, .int (nI (p3 (k + 1)))), (2, .int (nI k))]) S [1, 0, 2] dX0_power_12 rfl hN (by decide) rfl ?_
        refine fg_iinc (lv' := [(0, .int (nI n)), (1, .int (nI (p3 (k + 1)))), (2, .int (nI (k + 1)))]) S 2 [1, 2, 0] dX0_power_13 rfl (inc_1 _) hN (by decide) rfl ?_
        refine fg_goto S 4 dX0_power_16 (by decide) ?_
        exact ih_lp (k + 1) (by omega) (by omega)
  exact lp ((n - 0) + 1) 0 (Nat.zero_le _) (Nat.lt_succ_self _)
set_option maxHeartbeats 4000000 in
set_option maxRecDepth 100000 in
/-- sizeOf: how many letters a piece with a number has -/
theorem met_X0_sizeOf {l : Launch} {D : va_G} {tys : List (ClassId × FieldType)} (x : Int32) : Met l yX0_sizeOf (ws_ yX0_sizeOf cX0_sizeOf 2 (some .int)) (rmL 1) (roP D tys [] [.int x]) (roQ (.int (nI (szF x.toInt)))) 0 0 (fun _ => False) := by
  refine ro_i (lv0 := [(0, .int x)]) (by decide) (Nat.le_of_ble_eq_true rfl) rfl (fun X B hret => ?_)
  obtain ⟨S, hN, hRm, rfl, rfl⟩ := B
  have S : fwC X cX0_sizeOf RX0 tys := S
  refine fg_ic (v := nI 1) S dX0_sizeOf_0 (by decide) ?_
  refine fg_istore_n (lv' := [(0, .int x), (1, .int (nI 1))]) S [1, 0] dX0_sizeOf_1 rfl hN (by decide) rfl ?_
  refine fg_iload_n S 1 1 dX0_sizeOf_2 rfl rfl ?_
  refine fg_ic (v := nI 4) S dX0_sizeOf_3 (by decide) ?_
  refine fg_icmp_ge S 23 dX0_sizeOf_4 (by decide) (by omega) (by omega) (fun h_1 => ?_) (fun h_1 => ?_)
  · exact absurd h_1 (by omega)
  · refine fg_iload_n S 0 0 dX0_sizeOf_7 rfl rfl ?_
    refine fg_ic (v := nI 2) S dX0_sizeOf_8 (by decide) ?_
    refine fg_iload_n S 1 1 dX0_sizeOf_9 rfl rfl ?_
    refine cs_ S hRm 1 (met_X0_power 1 (by omega)) q78 q79 q22 q80 ok_X0_power (by decide) rfl rfl (Nat.le_of_ble_eq_true rfl) dX0_sizeOf_10 ?_
    refine fg_imul S dX0_sizeOf_13 ?_
    refine fg_topn (b := 6) rfl ?_
    refine fg_icmpZ_lt S 23 dX0_sizeOf_14 (by decide) rfl (nI_toInt (by omega)) (fun h_2 => ?_) (fun h_2 => ?_)
    · refine fg_iload_n S 1 1 dX0_sizeOf_23 rfl rfl ?_
      refine fg_topn (b := szF x.toInt) (szF_1 (by omega)).symm ?_
      exact hret _ _ dX0_sizeOf_24
    · refine fg_iinc (lv' := [(0, .int x), (1, .int (nI (1 + 1)))]) S 1 [1, 0] dX0_sizeOf_17 rfl (inc_1 _) hN (by decide) rfl ?_
      refine fg_goto S 2 dX0_sizeOf_20 (by decide) ?_
      show fwG X [] 2 [(0, .int x), (1, .int (nI 2))] []
      refine fg_iload_n S 1 1 dX0_sizeOf_2 rfl rfl ?_
      refine fg_ic (v := nI 4) S dX0_sizeOf_3 (by decide) ?_
      refine fg_icmp_ge S 23 dX0_sizeOf_4 (by decide) (by omega) (by omega) (fun h_3 => ?_) (fun h_3 => ?_)
      · exact absurd h_3 (by omega)
      · refine fg_iload_n S 0 0 dX0_sizeOf_7 rfl rfl ?_
        refine fg_ic (v := nI 2) S dX0_sizeOf_8 (by decide) ?_
        refine fg_iload_n S 1 1 dX0_sizeOf_9 rfl rfl ?_
        refine cs_ S hRm 1 (met_X0_power 2 (by omega)) q78 q79 q22 q80 ok_X0_power (by decide) rfl rfl (Nat.le_of_ble_eq_true rfl) dX0_sizeOf_10 ?_
        refine fg_imul S dX0_sizeOf_13 ?_
        refine fg_topn (b := 18) rfl ?_
        refine fg_icmpZ_lt S 23 dX0_sizeOf_14 (by decide) rfl (nI_toInt (by omega)) (fun h_4 => ?_) (fun h_4 => ?_)
        · refine fg_iload_n S 1 1 dX0_sizeOf_23 rfl rfl ?_
          refine fg_topn (b := szF x.toInt) (szF_2 (by omega) (by omega)).symm ?_
          exact hret _ _ dX0_sizeOf_24
        · refine fg_iinc (lv' := [(0, .int x), (1, .int (nI (2 + 1)))]) S 1 [1, 0] dX0_sizeOf_17 rfl (inc_1 _) hN (by decide) rfl ?_
          refine fg_goto S 2 dX0_sizeOf_20 (by decide) ?_
          show fwG X [] 2 [(0, .int x), (1, .int (nI 3))] []
          refine fg_iload_n S 1 1 dX0_sizeOf_2 rfl rfl ?_
          refine fg_ic (v := nI 4) S dX0_sizeOf_3 (by decide) ?_
          refine fg_icmp_ge S 23 dX0_sizeOf_4 (by decide) (by omega) (by omega) (fun h_5 => ?_) (fun h_5 => ?_)
          · exact absurd h_5 (by omega)
          · refine fg_iload_n S 0 0 dX0_sizeOf_7 rfl rfl ?_
            refine fg_ic (v := nI 2) S dX0_sizeOf_8 (by decide) ?_
            refine fg_iload_n S 1 1 dX0_sizeOf_9 rfl rfl ?_
            refine cs_ S hRm 1 (met_X0_power 3 (by omega)) q78 q79 q22 q80 ok_X0_power (by decide) rfl rfl (Nat.le_of_ble_eq_true rfl) dX0_sizeOf_10 ?_
            refine fg_imul S dX0_sizeOf_13 ?_
            refine fg_topn (b := 54) rfl ?_
            refine fg_icmpZ_lt S 23 dX0_sizeOf_14 (by decide) rfl (nI_toInt (by omega)) (fun h_6 => ?_) (fun h_6 => ?_)
            · refine fg_iload_n S 1 1 dX0_sizeOf_23 rfl rfl ?_
              refine fg_topn (b := szF x.toInt) (szF_3 (by omega) (by omega)).symm ?_
              exact hret _ _ dX0_sizeOf_24
            · refine fg_iinc (lv' := [(0, .int x), (1, .int (nI (3 + 1)))]) S 1 [1, 0] dX0_sizeOf_17 rfl (inc_1 _) hN (by decide) rfl ?_
              refine fg_goto S 2 dX0_sizeOf_20 (by decide) ?_
              show fwG X [] 2 [(0, .int x), (1, .int (nI 4))] []
              refine fg_iload_n S 1 1 dX0_sizeOf_2 rfl rfl ?_
              refine fg_ic (v := nI 4) S dX0_sizeOf_3 (by decide) ?_
              refine fg_icmp_ge S 23 dX0_sizeOf_4 (by decide) (by omega) (by omega) (fun h_7 => ?_) (fun h_7 => ?_)
              · refine fg_iload_n S 1 1 dX0_sizeOf_23 rfl rfl ?_
                refine fg_topn (b := szF x.toInt) (szF_4 (by omega)).symm ?_
                exact hret _ _ dX0_sizeOf_24
              · exact absurd h_7 (by omega)
set_option maxHeartbeats 4000000 in
set_option maxRecDepth 100000 in
/-- isPiece -/
theorem met_X0_isPiece {l : Launch} {D : va_G} {tys : List (ClassId × FieldType)} (x : Int32) : Met l yX0_isPiece (ws_ yX0_isPiece cX0_isPiece 2 (some .boolean)) (rmL 2) (roP D tys [] [.int x]) (roQ (.int (nI (decide (0 < ltF x.toInt)).toNat))) 0 0 (fun _ => False) := by
  refine ro_z (lv0 := [(0, .int x)]) (by decide) (Nat.le_of_ble_eq_true rfl) rfl (fun X B hret => ?_)
  obtain ⟨S, hN, hRm, rfl, rfl⟩ := B
  have S : fwC X cX0_isPiece RX0 tys := S
  have hz := szF_in x.toInt
  have hq := ltF_sz x.toInt
  have hp := p3_le (n := szF x.toInt) (by omega)
  refine fg_iload_n S 0 0 dX0_isPiece_0 rfl rfl ?_
  refine cs_ S hRm 1 (met_X0_sizeOf (x)) q75 q76 q22 q77 ok_X0_sizeOf (by decide) rfl rfl (Nat.le_of_ble_eq_true rfl) dX0_isPiece_1 ?_
  refine fg_istore_n (lv' := [(0, .int x), (1, .int (nI (szF (x).toInt)))]) S [1, 0] dX0_isPiece_4 rfl hN (by decide) rfl ?_
  refine fg_iload_n S 0 0 dX0_isPiece_5 rfl rfl ?_
  refine fg_iload_n S 1 1 dX0_isPiece_6 rfl rfl ?_
  refine cs_ S hRm 1 (met_X0_power (szF (x).toInt) (by omega)) q78 q79 q22 q80 ok_X0_power (by decide) rfl rfl (Nat.le_of_ble_eq_true rfl) dX0_isPiece_7 ?_
  refine fg_icmpZ_lt S 27 dX0_isPiece_10 (by decide) rfl (nI_toInt (by omega)) (fun h_1 => ?_) (fun h_1 => ?_)
  · refine fg_ic (v := nI 0) S dX0_isPiece_27 (by decide) ?_
    refine fg_topn (b := (decide (0 < ltF x.toInt)).toNat) (by rw [decide_eq_false (by omega)]; rfl) ?_
    exact hret _ _ dX0_isPiece_28
  · refine fg_iload_n S 0 0 dX0_isPiece_13 rfl rfl ?_
    refine fg_ic (v := nI 2) S dX0_isPiece_14 (by decide) ?_
    refine fg_iload_n S 1 1 dX0_isPiece_15 rfl rfl ?_
    refine cs_ S hRm 1 (met_X0_power (szF (x).toInt) (by omega)) q78 q79 q22 q80 ok_X0_power (by decide) rfl rfl (Nat.le_of_ble_eq_true rfl) dX0_isPiece_16 ?_
    refine fg_imul S dX0_isPiece_19 ?_
    refine fg_icmpZ_ge S 27 dX0_isPiece_20 (by decide) rfl (nI_toInt (by omega)) (fun h_2 => ?_) (fun h_2 => ?_)
    · refine fg_ic (v := nI 0) S dX0_isPiece_27 (by decide) ?_
      refine fg_topn (b := (decide (0 < ltF x.toInt)).toNat) (by rw [decide_eq_false (by omega)]; rfl) ?_
      exact hret _ _ dX0_isPiece_28
    · refine fg_ic (v := nI 1) S dX0_isPiece_23 (by decide) ?_
      refine fg_goto S 28 dX0_isPiece_24 (by decide) ?_
      refine fg_topn (b := (decide (0 < ltF x.toInt)).toNat) (by rw [decide_eq_true (by omega)]; rfl) ?_
      exact hret _ _ dX0_isPiece_28
set_option maxHeartbeats 4000000 in
set_option maxRecDepth 100000 in
/-- isLength -/
theorem met_X0_isLength {l : Launch} {D : va_G} {tys : List (ClassId × FieldType)} (x : Int32) : Met l yX0_isLength (ws_ yX0_isLength cX0_isLength 1 (some .boolean)) (rmL 0) (roP D tys [] [.int x]) (roQ (.int (nI (decide (0 ≤ x.toInt ∧ x.toInt ≤ 9)).toNat))) 0 0 (fun _ => False) := by
  refine ro_z (lv0 := [(0, .int x)]) (by decide) (Nat.le_of_ble_eq_true rfl) rfl (fun X B hret => ?_)
  obtain ⟨S, hN, hRm, rfl, rfl⟩ := B
  have S : fwC X cX0_isLength RX0 tys := S
  refine fg_iload_n S 0 0 dX0_isLength_0 rfl rfl ?_
  refine fg_ifZ_lt S 14 dX0_isLength_1 (by decide) rfl (fun h_1 => ?_) (fun h_1 => ?_)
  · refine fg_ic (v := nI 0) S dX0_isLength_14 (by decide) ?_
    refine fg_topn (b := (decide (0 ≤ x.toInt ∧ x.toInt ≤ 9)).toNat) (by rw [decide_eq_false (by omega)]; rfl) ?_
    exact hret _ _ dX0_isLength_15
  · refine fg_iload_n S 0 0 dX0_isLength_4 rfl rfl ?_
    refine fg_bi (v := nI 9) S dX0_isLength_5 (by decide) ?_
    refine fg_icmpZ_gt S 14 dX0_isLength_7 (by decide) rfl (nI_toInt (by omega)) (fun h_2 => ?_) (fun h_2 => ?_)
    · refine fg_ic (v := nI 0) S dX0_isLength_14 (by decide) ?_
      refine fg_topn (b := (decide (0 ≤ x.toInt ∧ x.toInt ≤ 9)).toNat) (by rw [decide_eq_false (by omega)]; rfl) ?_
      exact hret _ _ dX0_isLength_15
    · refine fg_ic (v := nI 1) S dX0_isLength_10 (by decide) ?_
      refine fg_goto S 15 dX0_isLength_11 (by decide) ?_
      refine fg_topn (b := (decide (0 ≤ x.toInt ∧ x.toInt ≤ 9)).toNat) (by rw [decide_eq_true (by omega)]; rfl) ?_
      exact hret _ _ dX0_isLength_15
set_option maxHeartbeats 4000000 in
set_option maxRecDepth 100000 in
/-- refused -/
theorem met_X0_refused {l : Launch} {D : va_G} {tys : List (ClassId × FieldType)} (x y : Int32) : Met l yX0_refused (ws_ yX0_refused cX0_refused 2 (some .int)) (rmL 1) (roP D tys [] [.int x, .int y]) (roQ (.int (refF x.toInt y.toInt))) 0 0 (fun _ => False) := by
  refine ro_i (lv0 := [(0, .int x), (1, .int y)]) (by decide) (Nat.le_of_ble_eq_true rfl) rfl (fun X B hret => ?_)
  obtain ⟨S, hN, hRm, rfl, rfl⟩ := B
  have S : fwC X cX0_refused RX0 tys := S
  refine fg_iload_n S 0 0 dX0_refused_0 rfl rfl ?_
  refine cs_ S hRm 1 (met_X0_isLength (x)) q100 q101 q22 q102 ok_X0_isLength (by decide) rfl rfl (Nat.le_of_ble_eq_true rfl) dX0_refused_1 ?_
  refine fg_if_ne S 9 dX0_refused_4 (by decide) (by cases decide (0 ≤ x.toInt ∧ x.toInt ≤ 9) <;> decide) (fun h_l => ?_) (fun h_l => ?_)
  · have h_l : 0 ≤ x.toInt ∧ x.toInt ≤ 9 := by
      by_cases q : 0 ≤ x.toInt ∧ x.toInt ≤ 9
      · exact q
      · rw [decide_eq_false q] at h_l; exact absurd rfl h_l
    obtain ⟨k, hk, rfl, ek⟩ := i_nat (n := 9) h_l.1 h_l.2 (by omega)
    have e2 : (nI k).toInt.toNat = k := by omega
    have hp := p3_le9 hk
    refine fg_iload_n S 1 1 dX0_refused_9 rfl rfl ?_
    refine fg_ifZ_lt S 21 dX0_refused_10 (by decide) rfl (fun h_1 => ?_) (fun h_1 => ?_)
    · refine fg_bi (v := -2) S dX0_refused_21 (by decide) ?_
      refine fg_goto S 27 dX0_refused_23 (by decide) ?_
      refine fg_topi (y := (refF (nI k).toInt y.toInt)) (refF_2 h_l (by rw [e2]; omega)).symm ?_
      exact hret _ _ dX0_refused_27
    · refine fg_iload_n S 1 1 dX0_refused_13 rfl rfl ?_
      refine fg_iload_n S 0 0 dX0_refused_14 rfl rfl ?_
      refine cs_ S hRm 1 (met_X0_power k (by omega)) q78 q79 q22 q80 ok_X0_power (by decide) rfl rfl (Nat.le_of_ble_eq_true rfl) dX0_refused_15 ?_
      refine fg_icmpZ_lt S 26 dX0_refused_18 (by decide) rfl (nI_toInt (by omega)) (fun h_2 => ?_) (fun h_2 => ?_)
      · refine fg_ic (v := nI 0) S dX0_refused_26 (by decide) ?_
        refine fg_topi (y := (refF (nI k).toInt y.toInt)) (refF_3 h_l (by omega) (by rw [e2]; omega)).symm ?_
        exact hret _ _ dX0_refused_27
      · refine fg_bi (v := -2) S dX0_refused_21 (by decide) ?_
        refine fg_goto S 27 dX0_refused_23 (by decide) ?_
        refine fg_topi (y := (refF (nI k).toInt y.toInt)) (refF_2 h_l (by rw [e2]; omega)).symm ?_
        exact hret _ _ dX0_refused_27
  · have h_l : ¬ (0 ≤ x.toInt ∧ x.toInt ≤ 9) := fun q => by rw [decide_eq_true q] at h_l; exact absurd h_l (by decide)
    refine fg_ic (v := -1) S dX0_refused_7 (by decide) ?_
    refine fg_topi (y := (refF x.toInt y.toInt)) (refF_1 h_l).symm ?_
    exact hret _ _ dX0_refused_8
set_option maxHeartbeats 4000000 in
set_option maxRecDepth 100000 in
/-- place: the first place, or -1 -/
theorem met_X0_place {l : Launch} {D : va_G} {ck : Nat → ClassId} {ad : Nat → Nat} {li kn dl wa no th ta fr : Nat → Nat} {co ss bu : Nat} (x : Int32) (hc : co ≤ 6) (hb : ∀ k, k < co → li k < 2 ^ 31) : Met l yX0_place (ws_ yX0_place cX0_place 3 (some .int)) (rmL 0) (roP D (tysX ck) (XW ad ck li kn dl wa no th ta fr co ss bu) [.ref (ad 0), .int x]) (roQ (.int (fnd li x.toInt 0 co))) 0 0 (fun _ => False) := by
  refine ro_i (lv0 := [(0, .ref (ad 0)), (1, .int x)]) (by decide) (Nat.le_of_ble_eq_true rfl) rfl (fun X B hret => ?_)
  obtain ⟨S, hN, hRm, rfl, rfl⟩ := B
  have S : fwC X cX0_place RX0 (tysX ck) := S
  refine fg_ic (v := nI 0) S dX0_place_0 (by decide) ?_
  refine fg_istore_n (lv' := [(0, .ref (ad 0)), (1, .int x), (2, .int (nI 0))]) S [1, 2, 0] dX0_place_1 rfl hN (by decide) rfl ?_
  have lp : ∀ (fuel : Nat) (k : Nat), (k ≤ co) → (fnd li x.toInt k (co - k) = fnd li x.toInt 0 co) → (co - k) < fuel → fwG X (XW ad ck li kn dl wa no th ta fr co ss bu) 2 [(0, .ref (ad 0)), (1, .int x), (2, .int (nI k))] [] := by
    intro fuel
    induction fuel with
    | zero => intro k hk he hfu; exact absurd hfu (Nat.not_lt_zero _)
    | succ fuel ih_lp =>
      intro k hk he hfu
      refine fg_iload_n S 2 2 dX0_place_2 rfl rfl ?_
      refine fg_aload_n S 0 0 dX0_place_3 rfl rfl ?_
      refine xg_co S dX0_place_4 ?_
      refine fg_icmp_ge S 28 dX0_place_7 (by decide) (by omega) (by omega) (fun h_1 => ?_) (fun h_1 => ?_)
      · have e_k : k = co := by omega
        have e_f : fnd li x.toInt 0 co = -1 := by rw [← he, e_k, Nat.sub_self]; rfl
        refine fg_ic (v := -1) S dX0_place_28 (by decide) ?_
        refine fg_topi (y := (fnd li x.toInt 0 co)) e_f.symm ?_
        exact hret _ _ dX0_place_29
      · have hbk := hb k (by omega)
        refine fg_aload_n S 0 0 dX0_place_10 rfl rfl ?_
        refine xg_li S dX0_place_11 ?_
        refine fg_iload_n S 2 2 dX0_place_14 rfl rfl ?_
        refine xl_li S dX0_place_15 (by omega) ?_
        refine fg_iload_n S 1 1 dX0_place_16 rfl rfl ?_
        refine fg_icmpZ_ne S 22 dX0_place_17 (by decide) (nI_toInt (by omega)) rfl (fun h_2 => ?_) (fun h_2 => ?_)
        · refine fg_iinc (lv' := [(0, .ref (ad 0)), (1, .int x), (2, .int (nI (k + 1)))]) S 2 [1, 2, 0] dX0_place_22 rfl (inc_1 _) hN (by decide) rfl ?_
          refine fg_goto S 2 dX0_place_25 (by decide) ?_
          exact ih_lp (k + 1) (by omega) ((fnd_miss (k := k) (m := co - k) (by omega) (by omega)).symm.trans he) (by omega)
        · refine fg_iload_n S 2 2 dX0_place_20 rfl rfl ?_
          refine fg_topi (y := (fnd li x.toInt 0 co)) (by rw [← he, fnd_hit (by omega) (by omega)]) ?_
          exact hret _ _ dX0_place_21
  exact lp ((co - 0) + 1) 0 (Nat.zero_le _) rfl (Nat.lt_succ_self _)
set_option maxHeartbeats 4000000 in
set_option maxRecDepth 100000 in
/-- stateOf: the first place, or -1 -/
theorem met_X0_stateOf {l : Launch} {D : va_G} {ck : Nat → ClassId} {ad : Nat → Nat} {li kn dl wa no th ta fr : Nat → Nat} {co ss bu : Nat} (x : Int32) (hc : ss ≤ 26) (hb : ∀ k, k < ss → kn k < 2 ^ 31) : Met l yX0_stateOf (ws_ yX0_stateOf cX0_stateOf 3 (some .int)) (rmL 0) (roP D (tysX ck) (XW ad ck li kn dl wa no th ta fr co ss bu) [.ref (ad 0), .int x]) (roQ (.int (fnd kn x.toInt 0 ss))) 0 0 (fun _ => False) := by
  refine ro_i (lv0 := [(0, .ref (ad 0)), (1, .int x)]) (by decide) (Nat.le_of_ble_eq_true rfl) rfl (fun X B hret => ?_)
  obtain ⟨S, hN, hRm, rfl, rfl⟩ := B
  have S : fwC X cX0_stateOf RX0 (tysX ck) := S
  refine fg_ic (v := nI 0) S dX0_stateOf_0 (by decide) ?_
  refine fg_istore_n (lv' := [(0, .ref (ad 0)), (1, .int x), (2, .int (nI 0))]) S [1, 2, 0] dX0_stateOf_1 rfl hN (by decide) rfl ?_
  have lp : ∀ (fuel : Nat) (k : Nat), (k ≤ ss) → (fnd kn x.toInt k (ss - k) = fnd kn x.toInt 0 ss) → (ss - k) < fuel → fwG X (XW ad ck li kn dl wa no th ta fr co ss bu) 2 [(0, .ref (ad 0)), (1, .int x), (2, .int (nI k))] [] := by
    intro fuel
    induction fuel with
    | zero => intro k hk he hfu; exact absurd hfu (Nat.not_lt_zero _)
    | succ fuel ih_lp =>
      intro k hk he hfu
      refine fg_iload_n S 2 2 dX0_stateOf_2 rfl rfl ?_
      refine fg_aload_n S 0 0 dX0_stateOf_3 rfl rfl ?_
      refine xg_ss S dX0_stateOf_4 ?_
      refine fg_icmp_ge S 28 dX0_stateOf_7 (by decide) (by omega) (by omega) (fun h_1 => ?_) (fun h_1 => ?_)
      · have e_k : k = ss := by omega
        have e_f : fnd kn x.toInt 0 ss = -1 := by rw [← he, e_k, Nat.sub_self]; rfl
        refine fg_ic (v := -1) S dX0_stateOf_28 (by decide) ?_
        refine fg_topi (y := (fnd kn x.toInt 0 ss)) e_f.symm ?_
        exact hret _ _ dX0_stateOf_29
      · have hbk := hb k (by omega)
        refine fg_aload_n S 0 0 dX0_stateOf_10 rfl rfl ?_
        refine xg_kn S dX0_stateOf_11 ?_
        refine fg_iload_n S 2 2 dX0_stateOf_14 rfl rfl ?_
        refine xl_kn S dX0_stateOf_15 (by omega) ?_
        refine fg_iload_n S 1 1 dX0_stateOf_16 rfl rfl ?_
        refine fg_icmpZ_ne S 22 dX0_stateOf_17 (by decide) (nI_toInt (by omega)) rfl (fun h_2 => ?_) (fun h_2 => ?_)
        · refine fg_iinc (lv' := [(0, .ref (ad 0)), (1, .int x), (2, .int (nI (k + 1)))]) S 2 [1, 2, 0] dX0_stateOf_22 rfl (inc_1 _) hN (by decide) rfl ?_
          refine fg_goto S 2 dX0_stateOf_25 (by decide) ?_
          exact ih_lp (k + 1) (by omega) ((fnd_miss (k := k) (m := ss - k) (by omega) (by omega)).symm.trans he) (by omega)
        · refine fg_iload_n S 2 2 dX0_stateOf_20 rfl rfl ?_
          refine fg_topi (y := (fnd kn x.toInt 0 ss)) (by rw [← he, fnd_hit (by omega) (by omega)]) ?_
          exact hret _ _ dX0_stateOf_21
  exact lp ((ss - 0) + 1) 0 (Nat.zero_le _) rfl (Nat.lt_succ_self _)
end
section
set_option maxRecDepth 100000
theorem met_X0_placeN {l : Launch} {D : va_G} {ck : Nat → ClassId} {ad : Nat → Nat} {li kn dl wa no th ta fr : Nat → Nat} {co ss bu : Nat} (e : Nat) (he : e < 2 ^ 31) (hc : co ≤ 6) (hb : ∀ k, k < co → li k < 2 ^ 31) : Met l yX0_place (ws_ yX0_place cX0_place 3 (some .int)) (rmL 0) (roP D (tysX ck) (XW ad ck li kn dl wa no th ta fr co ss bu) [.ref (ad 0), .int (nI e)]) (roQ (.int (fnd li ((e : Nat) : Int) 0 co))) 0 0 (fun _ => False) := by
  have h := met_X0_place (l := l) (D := D) (ck := ck) (ad := ad) (kn := kn) (dl := dl) (wa := wa) (no := no) (th := th) (ta := ta) (fr := fr) (ss := ss) (bu := bu) (nI e) hc hb
  rw [nI_toInt he] at h
  exact h
theorem met_X0_stateOfN {l : Launch} {D : va_G} {ck : Nat → ClassId} {ad : Nat → Nat} {li kn dl wa no th ta fr : Nat → Nat} {co ss bu : Nat} (e : Nat) (he : e < 2 ^ 31) (hc : ss ≤ 26) (hb : ∀ k, k < ss → kn k < 2 ^ 31) : Met l yX0_stateOf (ws_ yX0_stateOf cX0_stateOf 3 (some .int)) (rmL 0) (roP D (tysX ck) (XW ad ck li kn dl wa no th ta fr co ss bu) [.ref (ad 0), .int (nI e)]) (roQ (.int (fnd kn ((e : Nat) : Int) 0 ss))) 0 0 (fun _ => False) := by
  have h := met_X0_stateOf (l := l) (D := D) (ck := ck) (ad := ad) (li := li) (dl := dl) (wa := wa) (no := no) (th := th) (ta := ta) (fr := fr) (co := co) (bu := bu) (nI e) hc hb
  rw [nI_toInt he] at h
  exact h
theorem met_X0_sizeOfN {l : Launch} {D : va_G} {tys : List (ClassId × FieldType)} (p : Nat) {k : Nat} (hp : p < 2 ^ 31 ∧ szF (p : Int) = k) : Met l yX0_sizeOf (ws_ yX0_sizeOf cX0_sizeOf 2 (some .int)) (rmL 1) (roP D tys [] [.int (nI p)]) (roQ (.int (nI k))) 0 0 (fun _ => False) := by
  have h := met_X0_sizeOf (l := l) (D := D) (tys := tys) (nI p)
  rw [nI_toInt hp.1, hp.2] at h
  exact h
theorem sub_1 (n : Nat) : nI n - nI 1 = nI n - 1 := rfl
def sumF (f : Nat → Nat) : Nat → Nat
  | 0 => 0
  | n + 1 => sumF f n + f n
/-! the word of m last letters of d, by its number -/
def sfx (m d : Nat) : Nat := p3 m + d % p3 m
def deadF (li : Nat → Nat) (co d : Nat) : Nat → Bool
  | 0 => false
  | m + 1 => if 0 ≤ (fnd li (sfx (m + 1) d : Int) 0 co).toInt then true else deadF li co d m
def longF (kn : Nat → Nat) (ss d : Nat) : Nat → Nat
  | 0 => 0
  | m + 1 => if 0 ≤ (fnd kn (sfx (m + 1) d : Int) 0 ss).toInt then (fnd kn (sfx (m + 1) d : Int) 0 ss).toNatClampNeg else longF kn ss d m
def tgF (li : Nat → Nat) (co : Nat) (kn : Nat → Nat) (ss z d : Nat) : Nat := if deadF li co d z = true then 25 else longF kn ss d z
theorem deadF_t {li : Nat → Nat} {co d m : Nat} (h : 0 ≤ (fnd li (sfx (m + 1) d : Int) 0 co).toInt) : deadF li co d (m + 1) = true := if_pos h
theorem deadF_f {li : Nat → Nat} {co d m : Nat} (h : (fnd li (sfx (m + 1) d : Int) 0 co).toInt < 0) : deadF li co d (m + 1) = deadF li co d m := if_neg (by omega)
theorem longF_f {kn : Nat → Nat} {ss d m : Nat} (h : (fnd kn (sfx (m + 1) d : Int) 0 ss).toInt < 0) : longF kn ss d (m + 1) = longF kn ss d m := if_neg (by omega)
theorem longF_t {kn : Nat → Nat} {ss d m : Nat} (hs : ss ≤ 26) (h : 0 ≤ (fnd kn (sfx (m + 1) d : Int) 0 ss).toInt) : fnd kn (sfx (m + 1) d : Int) 0 ss = nI (longF kn ss d (m + 1)) := by
  have e : longF kn ss d (m + 1) = (fnd kn (sfx (m + 1) d : Int) 0 ss).toNatClampNeg := if_pos h
  rcases fnd_spec kn (sfx (m + 1) d : Int) ss 0 with ⟨h1, -⟩ | ⟨j, h1, h2, h3, -⟩
  · rw [h1] at h
    exact absurd h (by decide)
  · rw [e, h3, nI_clamp (by omega)]
/-! the machine's table -/
def inS (ss s : Nat) : Prop := s < ss ∨ s = 25
def okS (dl : Nat → Nat) (ss : Nat) : Prop := (1 ≤ ss ∧ ss ≤ 25) ∧ (∀ k, k < 3 * ss → inS ss (dl k)) ∧ dl 75 = 25 ∧ dl 76 = 25 ∧ dl 77 = 25
theorem inS_lt {dl : Nat → Nat} {ss s : Nat} (h : okS dl ss) (hs : inS ss s) : s ≤ 25 := by
  rcases hs with hs | hs <;> have := h.1 <;> omega
theorem inS_step {dl : Nat → Nat} {ss s c : Nat} (h : okS dl ss) (hs : inS ss s) (hc : c < 3) : inS ss (dl (3 * s + c)) := by
  rcases hs with hs | rfl
  · exact h.2.1 _ (by omega)
  · rcases (by omega : c = 0 ∨ c = 1 ∨ c = 2) with rfl | rfl | rfl
    · exact Or.inr h.2.2.1
    · exact Or.inr h.2.2.2.1
    · exact Or.inr h.2.2.2.2
theorem inS_dl {dl : Nat → Nat} {ss s c : Nat} (h : okS dl ss) (hs : inS ss s) (hc : c < 3) : 3 * s + c < 78 ∧ dl (3 * s + c) ≤ 25 := by
  have h1 := inS_lt h hs
  have h2 := inS_lt h (inS_step h hs hc)
  omega
theorem inS_0 {dl : Nat → Nat} {ss : Nat} (h : okS dl ss) : inS ss 0 := Or.inl (by have := h.1; omega)
def runF (dl : Nat → Nat) : Nat → Nat → Nat → Nat
  | s, 0, _ => s
  | s, n + 1, c => runF dl (dl (3 * s + c / p3 n % 3)) n c
theorem runF_s (dl : Nat → Nat) (s n c : Nat) : runF dl s (n + 1) c = runF dl (dl (3 * s + c / p3 n % 3)) n c := rfl
theorem runF_in {dl : Nat → Nat} {ss : Nat} (h : okS dl ss) : ∀ (n s c : Nat), inS ss s → inS ss (runF dl s n c)
  | 0, s, c, hs => hs
  | n + 1, s, c, hs => runF_in h n _ c (inS_step h hs (Nat.mod_lt _ (by omega)))
/-- how many words of a length have a lesser code -/
def blF (dl wa : Nat → Nat) : Nat → Nat → Nat → Nat
  | _, 0, _ => 0
  | s, n + 1, c => sumF (fun i => wa (26 * n + dl (3 * s + i))) (c / p3 n % 3) + blF dl wa (dl (3 * s + c / p3 n % 3)) n c
/-- unrank: state, left, code, letters to go -/
def unF (dl wa : Nat → Nat) : Nat → Nat → Nat → Nat → Nat
  | _, _, code, 0 => code
  | s, left, code, n + 1 =>
    if left < wa (26 * n + dl (3 * s + 0)) then unF dl wa (dl (3 * s + 0)) left (3 * code + 0) n
    else if left - wa (26 * n + dl (3 * s + 0)) < wa (26 * n + dl (3 * s + 1)) then unF dl wa (dl (3 * s + 1)) (left - wa (26 * n + dl (3 * s + 0))) (3 * code + 1) n
    else unF dl wa (dl (3 * s + 2)) (left - wa (26 * n + dl (3 * s + 0)) - wa (26 * n + dl (3 * s + 1))) (3 * code + 2) n
def rfF : Nat → Nat → Nat → Nat
  | w, _, 0 => w
  | w, r, k + 1 => rfF (3 * w + r % 3) (r / 3) k
set_option maxHeartbeats 4000000 in
set_option maxRecDepth 100000 in
/-- read: on from a state by a word -/
theorem met_X0_read {l : Launch} {D : va_G} {ck : Nat → ClassId} {ad : Nat → Nat} {li kn dl wa no th ta fr : Nat → Nat} {co ss bu : Nat} (a n c : Nat) (ho : okS dl ss) (ha : inS ss a) (hn : n ≤ 10) (hc : c < 2 ^ 31) : Met l yX0_read (ws_ yX0_read cX0_read 7 (some .int)) (rmL 1) (roP D (tysX ck) (XW ad ck li kn dl wa no th ta fr co ss bu) [.ref (ad 0), .int (nI a), .int (nI n), .int (nI c)]) (roQ (.int (nI (runF dl a n c)))) 0 0 (fun _ => False) := by
  refine ro_i (lv0 := [(0, .ref (ad 0)), (1, .int (nI a)), (2, .int (nI n)), (3, .int (nI c))]) (by decide) (Nat.le_of_ble_eq_true rfl) rfl (fun X B hret => ?_)
  obtain ⟨S, hN, hRm, rfl, rfl⟩ := B
  have S : fwC X cX0_read RX0 (tysX ck) := S
  refine fg_iload_n S 1 1 dX0_read_0 rfl rfl ?_
  refine fg_istore (lv' := [(0, .ref (ad 0)), (1, .int (nI a)), (2, .int (nI n)), (3, .int (nI c)), (4, .int (nI a))]) S [1, 2, 3, 4, 0] dX0_read_1 hN (by decide) rfl ?_
  refine fg_iload_n S 2 2 dX0_read_3 rfl rfl ?_
  refine fg_ic (v := nI 1) S dX0_read_4 (by decide) ?_
  refine fg_isubR (v := (nI n - 1)) S dX0_read_5 (sub_1 n) ?_
  refine fg_istore (lv' := [(0, .ref (ad 0)), (1, .int (nI a)), (2, .int (nI n)), (3, .int (nI c)), (4, .int (nI a)), (5, .int (nI n - 1))]) S [1, 2, 3, 4, 5, 0] dX0_read_6 hN (by decide) rfl ?_
  have lp : ∀ (fuel : Nat) (j : Nat) (s : Nat), (j ≤ n) → (inS ss s) → (runF dl s j c = runF dl a n c) → (j) < fuel → fwG X (XW ad ck li kn dl wa no th ta fr co ss bu) 8 [(0, .ref (ad 0)), (1, .int (nI a)), (2, .int (nI n)), (3, .int (nI c)), (4, .int (nI s)), (5, .int (nI j - 1))] [] := by
    intro fuel
    induction fuel with
    | zero => intro j s hj hs he hfu; exact absurd hfu (Nat.not_lt_zero _)
    | succ fuel ih_lp =>
      intro j s hj hs he hfu
      refine fg_iload S 5 dX0_read_8 rfl ?_
      refine fg_ifZ_lt S 44 dX0_read_10 (by decide) (dn_toInt (by omega)) (fun h_1 => ?_) (fun h_1 => ?_)
      · refine fg_iload S 4 dX0_read_44 rfl ?_
        refine fg_topn (b := runF dl a n c) (by rw [← he, show j = 0 by omega]; rfl) ?_
        exact hret _ _ dX0_read_46
      · obtain ⟨i, rfl⟩ : ∃ i, j = i + 1 := ⟨j - 1, by omega⟩
        rw [nI_pred i]
        have hp := p3_pos i
        have hq := p3_le (n := i) (by omega)
        have hr := inS_dl (c := c / p3 i % 3) ho hs (Nat.mod_lt _ (by omega))
        refine fg_iload_n S 3 3 dX0_read_13 rfl rfl ?_
        refine fg_iload S 5 dX0_read_14 rfl ?_
        refine cs_ S hRm 1 (met_X0_power i (by omega)) q78 q79 q22 q80 ok_X0_power (by decide) rfl rfl (Nat.le_of_ble_eq_true rfl) dX0_read_16 ?_
        refine fg_idiv S dX0_read_19 (by omega) (by omega) (by omega) ?_
        refine fg_ic (v := nI 3) S dX0_read_20 (by decide) ?_
        refine fg_irem S dX0_read_21 (by have := Nat.div_le_self c (p3 i); omega) (by have := Nat.div_le_self c (p3 i); omega) (by have := Nat.div_le_self c (p3 i); omega) ?_
        refine fg_istore (lv' := [(0, .ref (ad 0)), (1, .int (nI a)), (2, .int (nI n)), (3, .int (nI c)), (4, .int (nI s)), (5, .int (nI i)), (6, .int (nI ((c / (p3 i)) % 3)))]) S [1, 2, 3, 4, 5, 6, 0] dX0_read_22 hN (by decide) rfl ?_
        refine fg_aload_n S 0 0 dX0_read_24 rfl rfl ?_
        refine xg_dl S dX0_read_25 ?_
        refine fg_ic (v := nI 3) S dX0_read_28 (by decide) ?_
        refine fg_iload S 4 dX0_read_29 rfl ?_
        refine fg_imul S dX0_read_31 ?_
        refine fg_iload S 6 dX0_read_32 rfl ?_
        refine fg_iadd S dX0_read_34 ?_
        refine xl_dl S dX0_read_35 (by omega) ?_
        refine fg_istore (lv' := [(0, .ref (ad 0)), (1, .int (nI a)), (2, .int (nI n)), (3, .int (nI c)), (4, .int (nI (dl ((3 * s) + ((c / (p3 i)) % 3))))), (5, .int (nI i)), (6, .int (nI ((c / (p3 i)) % 3)))]) S [1, 2, 3, 4, 0, 5, 6] dX0_read_36 hN (by decide) rfl ?_
        refine fg_iinc (lv' := [(0, .ref (ad 0)), (1, .int (nI a)), (2, .int (nI n)), (3, .int (nI c)), (4, .int (nI (dl ((3 * s) + ((c / (p3 i)) % 3))))), (5, .int (nI i - 1)), (6, .int (nI ((c / (p3 i)) % 3)))]) S 5 [1, 2, 3, 4, 5, 0, 6] dX0_read_38 rfl (dec_r _) hN (by decide) rfl ?_
        refine fg_goto S 8 dX0_read_41 (by decide) ?_
        refine fg_perm (lv' := [(0, .ref (ad 0)), (1, .int (nI a)), (2, .int (nI n)), (3, .int (nI c)), (4, .int (nI (dl ((3 * s) + ((c / (p3 i)) % 3))))), (5, .int (nI i - 1))]) [0, 1, 2, 3, 4, 5] rfl ?_
        exact ih_lp i (dl (3 * s + c / p3 i % 3)) (by omega) (inS_step ho hs (Nat.mod_lt _ (by omega))) he (by omega)
  exact lp (n + 1) n a (Nat.le_refl _) ha rfl (Nat.lt_succ_self _)
set_option maxHeartbeats 4000000 in
set_option maxRecDepth 100000 in
/-- below: how many words of a length have a lesser code -/
theorem met_X0_below {l : Launch} {D : va_G} {ck : Nat → ClassId} {ad : Nat → Nat} {li kn dl wa no th ta fr : Nat → Nat} {co ss bu : Nat} (n c : Nat) (ho : okS dl ss) (hn : n ≤ 10) (hc : c < 2 ^ 31) : Met l yX0_below (ws_ yX0_below cX0_below 9 (some .int)) (rmL 1) (roP D (tysX ck) (XW ad ck li kn dl wa no th ta fr co ss bu) [.ref (ad 0), .int (nI n), .int (nI c)]) (roQ (.int (nI (blF dl wa 0 n c)))) 0 0 (fun _ => False) := by
  refine ro_i (lv0 := [(0, .ref (ad 0)), (1, .int (nI n)), (2, .int (nI c))]) (by decide) (Nat.le_of_ble_eq_true rfl) rfl (fun X B hret => ?_)
  obtain ⟨S, hN, hRm, rfl, rfl⟩ := B
  have S : fwC X cX0_below RX0 (tysX ck) := S
  refine fg_ic (v := nI 0) S dX0_below_0 (by decide) ?_
  refine fg_istore_n (lv' := [(0, .ref (ad 0)), (1, .int (nI n)), (2, .int (nI c)), (3, .int (nI 0))]) S [1, 2, 3, 0] dX0_below_1 rfl hN (by decide) rfl ?_
  refine fg_lc (v := lN 0) S dX0_below_2 (by decide) ?_
  refine fg_lstore (lv' := [(0, .ref (ad 0)), (1, .int (nI n)), (2, .int (nI c)), (3, .int (nI 0)), (4, .long (lN 0))]) S [1, 2, 3, 4, 0] dX0_below_3 hN (by decide) rfl ?_
  refine fg_iload_n S 1 1 dX0_below_5 rfl rfl ?_
  refine fg_ic (v := nI 1) S dX0_below_6 (by decide) ?_
  refine fg_isubR (v := (nI n - 1)) S dX0_below_7 (sub_1 n) ?_
  refine fg_istore (lv' := [(0, .ref (ad 0)), (1, .int (nI n)), (2, .int (nI c)), (3, .int (nI 0)), (4, .long (lN 0)), (6, .int (nI n - 1))]) S [1, 2, 3, 4, 5, 0] dX0_below_8 hN (by decide) rfl ?_
  have lp : ∀ (fuel : Nat) (j : Nat) (s : Nat) (t : Nat), (j ≤ n) → (inS ss s) → (t + blF dl wa s j c = blF dl wa 0 n c) → (j) < fuel → fwG X (XW ad ck li kn dl wa no th ta fr co ss bu) 10 [(0, .ref (ad 0)), (1, .int (nI n)), (2, .int (nI c)), (3, .int (nI s)), (4, .long (lN t)), (6, .int (nI j - 1))] [] := by
    intro fuel
    induction fuel with
    | zero => intro j s t hj hs he hfu; exact absurd hfu (Nat.not_lt_zero _)
    | succ fuel ih_lp =>
      intro j s t hj hs he hfu
      refine fg_iload S 5 dX0_below_10 rfl ?_
      refine fg_ifZ_lt S 87 dX0_below_12 (by decide) (dn_toInt (by omega)) (fun h_1 => ?_) (fun h_1 => ?_)
      · refine fg_lload S 4 dX0_below_87 rfl ?_
        refine fg_l2i S dX0_below_89 ?_
        refine fg_topn (b := blF dl wa 0 n c) (by rw [← he, show j = 0 by omega]; rfl) ?_
        exact hret _ _ dX0_below_90
      · obtain ⟨i, rfl⟩ : ∃ i, j = i + 1 := ⟨j - 1, by omega⟩
        rw [nI_pred i]
        have hp := p3_pos i
        have hq := p3_le (n := i) (by omega)
        have hm : c / p3 i % 3 < 3 := Nat.mod_lt _ (by omega)
        refine fg_iload_n S 2 2 dX0_below_15 rfl rfl ?_
        refine fg_iload S 5 dX0_below_16 rfl ?_
        refine cs_ S hRm 1 (met_X0_power i (by omega)) q78 q79 q22 q80 ok_X0_power (by decide) rfl rfl (Nat.le_of_ble_eq_true rfl) dX0_below_18 ?_
        refine fg_idiv S dX0_below_21 (by omega) (by omega) (by omega) ?_
        refine fg_ic (v := nI 3) S dX0_below_22 (by decide) ?_
        refine fg_irem S dX0_below_23 (by have := Nat.div_le_self c (p3 i); omega) (by have := Nat.div_le_self c (p3 i); omega) (by have := Nat.div_le_self c (p3 i); omega) ?_
        refine fg_istore (lv' := [(0, .ref (ad 0)), (1, .int (nI n)), (2, .int (nI c)), (3, .int (nI s)), (4, .long (lN t)), (6, .int (nI i)), (7, .int (nI ((c / (p3 i)) % 3)))]) S [1, 2, 3, 4, 5, 6, 0] dX0_below_24 hN (by decide) rfl ?_
        refine fg_ic (v := nI 0) S dX0_below_26 (by decide) ?_
        refine fg_istore (lv' := [(0, .ref (ad 0)), (1, .int (nI n)), (2, .int (nI c)), (3, .int (nI s)), (4, .long (lN t)), (6, .int (nI i)), (7, .int (nI ((c / (p3 i)) % 3))), (8, .int (nI 0))]) S [1, 2, 3, 4, 5, 6, 7, 0] dX0_below_27 hN (by decide) rfl ?_
        have lq : ∀ (fuel : Nat) (x : Nat) (u : Nat), (x ≤ c / p3 i % 3) → (u = t + sumF (fun y => wa (26 * i + dl (3 * s + y))) x) → (c / p3 i % 3 - x) < fuel → fwG X (XW ad ck li kn dl wa no th ta fr co ss bu) 29 [(0, .ref (ad 0)), (1, .int (nI n)), (2, .int (nI c)), (3, .int (nI s)), (4, .long (lN u)), (6, .int (nI i)), (7, .int (nI ((c / (p3 i)) % 3))), (8, .int (nI x))] [] := by
          intro fuel
          induction fuel with
          | zero => intro x u hx hu hfu; exact absurd hfu (Nat.not_lt_zero _)
          | succ fuel ih_lq =>
            intro x u hx hu hfu
            refine fg_iload S 7 dX0_below_29 rfl ?_
            refine fg_iload S 6 dX0_below_31 rfl ?_
            refine fg_icmp_ge S 69 dX0_below_33 (by decide) (by omega) (by omega) (fun h_2 => ?_) (fun h_2 => ?_)
            · have ex : x = c / p3 i % 3 := by omega
              have hr := inS_dl (c := c / p3 i % 3) ho hs hm
              refine fg_aload_n S 0 0 dX0_below_69 rfl rfl ?_
              refine xg_dl S dX0_below_70 ?_
              refine fg_ic (v := nI 3) S dX0_below_73 (by decide) ?_
              refine fg_iload_n S 3 3 dX0_below_74 rfl rfl ?_
              refine fg_imul S dX0_below_75 ?_
              refine fg_iload S 6 dX0_below_76 rfl ?_
              refine fg_iadd S dX0_below_78 ?_
              refine xl_dl S dX0_below_79 (by omega) ?_
              refine fg_istore_n (lv' := [(0, .ref (ad 0)), (1, .int (nI n)), (2, .int (nI c)), (3, .int (nI (dl ((3 * s) + ((c / (p3 i)) % 3))))), (4, .long (lN u)), (6, .int (nI i)), (7, .int (nI ((c / (p3 i)) % 3))), (8, .int (nI x))]) S [1, 2, 3, 0, 4, 5, 6, 7] dX0_below_80 rfl hN (by decide) rfl ?_
              refine fg_iinc (lv' := [(0, .ref (ad 0)), (1, .int (nI n)), (2, .int (nI c)), (3, .int (nI (dl ((3 * s) + ((c / (p3 i)) % 3))))), (4, .long (lN u)), (6, .int (nI i - 1)), (7, .int (nI ((c / (p3 i)) % 3))), (8, .int (nI x))]) S 5 [1, 2, 3, 4, 5, 0, 6, 7] dX0_below_81 rfl (dec_r _) hN (by decide) rfl ?_
              refine fg_goto S 10 dX0_below_84 (by decide) ?_
              refine fg_perm (lv' := [(0, .ref (ad 0)), (1, .int (nI n)), (2, .int (nI c)), (3, .int (nI (dl ((3 * s) + ((c / (p3 i)) % 3))))), (4, .long (lN u)), (6, .int (nI i - 1))]) [0, 1, 2, 3, 4, 5] rfl ?_
              exact ih_lp i (dl (3 * s + c / p3 i % 3)) u (by omega) (inS_step ho hs hm) (by rw [← he, hu, ex, Nat.add_assoc]; rfl) (by omega)
            · have hr := inS_dl (c := x) ho hs (by omega)
              refine fg_lload S 4 dX0_below_36 rfl ?_
              refine fg_aload_n S 0 0 dX0_below_38 rfl rfl ?_
              refine xg_wa S dX0_below_39 ?_
              refine fg_bi (v := nI 26) S dX0_below_42 (by decide) ?_
              refine fg_iload S 5 dX0_below_44 rfl ?_
              refine fg_imul S dX0_below_46 ?_
              refine fg_aload_n S 0 0 dX0_below_47 rfl rfl ?_
              refine xg_dl S dX0_below_48 ?_
              refine fg_ic (v := nI 3) S dX0_below_51 (by decide) ?_
              refine fg_iload_n S 3 3 dX0_below_52 rfl rfl ?_
              refine fg_imul S dX0_below_53 ?_
              refine fg_iload S 7 dX0_below_54 rfl ?_
              refine fg_iadd S dX0_below_56 ?_
              refine xl_dl S dX0_below_57 (by omega) ?_
              refine fg_iadd S dX0_below_58 ?_
              refine xl_wa S dX0_below_59 (by omega) ?_
              refine fg_ladd S dX0_below_60 ?_
              refine fg_lstore (lv' := [(0, .ref (ad 0)), (1, .int (nI n)), (2, .int (nI c)), (3, .int (nI s)), (4, .long (lN (u + (wa ((26 * i) + (dl ((3 * s) + x))))))), (6, .int (nI i)), (7, .int (nI ((c / (p3 i)) % 3))), (8, .int (nI x))]) S [1, 2, 3, 4, 0, 5, 6, 7] dX0_below_61 hN (by decide) rfl ?_
              refine fg_iinc (lv' := [(0, .ref (ad 0)), (1, .int (nI n)), (2, .int (nI c)), (3, .int (nI s)), (4, .long (lN (u + (wa ((26 * i) + (dl ((3 * s) + x))))))), (6, .int (nI i)), (7, .int (nI ((c / (p3 i)) % 3))), (8, .int (nI (x + 1)))]) S 7 [1, 2, 3, 4, 5, 6, 7, 0] dX0_below_63 rfl (inc_1 _) hN (by decide) rfl ?_
              refine fg_goto S 29 dX0_below_66 (by decide) ?_
              exact ih_lq (x + 1) (u + wa (26 * i + dl (3 * s + x))) (by omega) (by rw [hu, Nat.add_assoc]; rfl) (by omega)
        exact lq ((c / p3 i % 3 - 0) + 1) 0 t (Nat.zero_le _) rfl (Nat.lt_succ_self _)
  exact lp (n + 1) n 0 0 (Nat.le_refl _) (inS_0 ho) (Nat.zero_add _) (Nat.lt_succ_self _)
set_option maxHeartbeats 4000000 in
set_option maxRecDepth 100000 in
/-- unrank: the word with a number of lesser ones -/
theorem met_X0_unrank {l : Launch} {D : va_G} {ck : Nat → ClassId} {ad : Nat → Nat} {li kn dl wa no th ta fr : Nat → Nat} {co ss bu : Nat} (n i : Nat) (ho : okS dl ss) (hn : n ≤ 10) (hi : i < 2 ^ 31) (hw : ∀ k, k < 806 → wa k < 2 ^ 63) : Met l yX0_unrank (ws_ yX0_unrank cX0_unrank 9 (some .int)) (rmL 1) (roP D (tysX ck) (XW ad ck li kn dl wa no th ta fr co ss bu) [.ref (ad 0), .int (nI n), .int (nI i)]) (roQ (.int (nI (unF dl wa 0 i 0 n)))) 0 0 (fun _ => False) := by
  refine ro_i (lv0 := [(0, .ref (ad 0)), (1, .int (nI n)), (2, .int (nI i))]) (by decide) (Nat.le_of_ble_eq_true rfl) rfl (fun X B hret => ?_)
  obtain ⟨S, hN, hRm, rfl, rfl⟩ := B
  have S : fwC X cX0_unrank RX0 (tysX ck) := S
  refine fg_ic (v := nI 0) S dX0_unrank_0 (by decide) ?_
  refine fg_istore_n (lv' := [(0, .ref (ad 0)), (1, .int (nI n)), (2, .int (nI i)), (3, .int (nI 0))]) S [1, 2, 3, 0] dX0_unrank_1 rfl hN (by decide) rfl ?_
  refine fg_iload_n S 2 2 dX0_unrank_2 rfl rfl ?_
  refine fg_i2l S dX0_unrank_3 (by omega) ?_
  refine fg_lstore (lv' := [(0, .ref (ad 0)), (1, .int (nI n)), (2, .int (nI i)), (3, .int (nI 0)), (4, .long (lN i))]) S [1, 2, 3, 4, 0] dX0_unrank_4 hN (by decide) rfl ?_
  refine fg_ic (v := nI 0) S dX0_unrank_6 (by decide) ?_
  refine fg_istore (lv' := [(0, .ref (ad 0)), (1, .int (nI n)), (2, .int (nI i)), (3, .int (nI 0)), (4, .long (lN i)), (6, .int (nI 0))]) S [1, 2, 3, 4, 5, 0] dX0_unrank_7 hN (by decide) rfl ?_
  refine fg_iload_n S 1 1 dX0_unrank_9 rfl rfl ?_
  refine fg_ic (v := nI 1) S dX0_unrank_10 (by decide) ?_
  refine fg_isubR (v := (nI n - 1)) S dX0_unrank_11 (sub_1 n) ?_
  refine fg_istore (lv' := [(0, .ref (ad 0)), (1, .int (nI n)), (2, .int (nI i)), (3, .int (nI 0)), (4, .long (lN i)), (6, .int (nI 0)), (7, .int (nI n - 1))]) S [1, 2, 3, 4, 5, 6, 0] dX0_unrank_12 hN (by decide) rfl ?_
  have lp : ∀ (fuel : Nat) (j : Nat) (s : Nat) (t : Nat) (c : Nat), (j ≤ n) → (inS ss s) → (t < 2 ^ 31) → (unF dl wa s t c j = unF dl wa 0 i 0 n) → (j) < fuel → fwG X (XW ad ck li kn dl wa no th ta fr co ss bu) 14 [(0, .ref (ad 0)), (1, .int (nI n)), (2, .int (nI i)), (3, .int (nI s)), (4, .long (lN t)), (6, .int (nI c)), (7, .int (nI j - 1))] [] := by
    intro fuel
    induction fuel with
    | zero => intro j s t c hj hs ht he hfu; exact absurd hfu (Nat.not_lt_zero _)
    | succ fuel ih_lp =>
      intro j s t c hj hs ht he hfu
      refine fg_iload S 6 dX0_unrank_14 rfl ?_
      refine fg_ifZ_lt S 116 dX0_unrank_16 (by decide) (dn_toInt (by omega)) (fun h_1 => ?_) (fun h_1 => ?_)
      · refine fg_iload S 5 dX0_unrank_116 rfl ?_
        refine fg_topn (b := unF dl wa 0 i 0 n) (by rw [← he, show j = 0 by omega]; rfl) ?_
        exact hret _ _ dX0_unrank_118
      · obtain ⟨k, rfl⟩ : ∃ k, j = k + 1 := ⟨j - 1, by omega⟩
        rw [nI_pred k]
        have hr0 := inS_dl (c := 0) ho hs (by omega)
        have hv0 := hw (26 * k + dl (3 * s + 0)) (by omega)
        have hr1 := inS_dl (c := 1) ho hs (by omega)
        have hv1 := hw (26 * k + dl (3 * s + 1)) (by omega)
        have hr2 := inS_dl (c := 2) ho hs (by omega)
        have hv2 := hw (26 * k + dl (3 * s + 2)) (by omega)
        refine fg_ic (v := nI 0) S dX0_unrank_19 (by decide) ?_
        refine fg_istore (lv' := [(0, .ref (ad 0)), (1, .int (nI n)), (2, .int (nI i)), (3, .int (nI s)), (4, .long (lN t)), (6, .int (nI c)), (7, .int (nI k)), (8, .int (nI 0))]) S [1, 2, 3, 4, 5, 6, 7, 0] dX0_unrank_20 hN (by decide) rfl ?_
        refine fg_iload S 7 dX0_unrank_22 rfl ?_
        refine fg_ic (v := nI 2) S dX0_unrank_24 (by decide) ?_
        refine fg_icmp_ge S 89 dX0_unrank_25 (by decide) (by omega) (by omega) (fun h_2 => ?_) (fun h_2 => ?_)
        · exact absurd h_2 (by omega)
        · refine fg_lload S 4 dX0_unrank_28 rfl ?_
          refine fg_aload_n S 0 0 dX0_unrank_30 rfl rfl ?_
          refine xg_wa S dX0_unrank_31 ?_
          refine fg_bi (v := nI 26) S dX0_unrank_34 (by decide) ?_
          refine fg_iload S 6 dX0_unrank_36 rfl ?_
          refine fg_imul S dX0_unrank_38 ?_
          refine fg_aload_n S 0 0 dX0_unrank_39 rfl rfl ?_
          refine xg_dl S dX0_unrank_40 ?_
          refine fg_ic (v := nI 3) S dX0_unrank_43 (by decide) ?_
          refine fg_iload_n S 3 3 dX0_unrank_44 rfl rfl ?_
          refine fg_imul S dX0_unrank_45 ?_
          refine fg_iload S 7 dX0_unrank_46 rfl ?_
          refine fg_iadd S dX0_unrank_48 ?_
          refine xl_dl S dX0_unrank_49 (by omega) ?_
          refine fg_iadd S dX0_unrank_50 ?_
          refine xl_wa S dX0_unrank_51 (by omega) ?_
          refine fg_lcmp_lt S 89 dX0_unrank_52 dX0_unrank_53 (by decide) (by omega) (by omega) (fun h_3 => ?_) (fun h_3 => ?_)
          · refine fg_ic (v := nI 3) S dX0_unrank_89 (by decide) ?_
            refine fg_iload S 5 dX0_unrank_90 rfl ?_
            refine fg_imul S dX0_unrank_92 ?_
            refine fg_iload S 7 dX0_unrank_93 rfl ?_
            refine fg_iadd S dX0_unrank_95 ?_
            refine fg_istore (lv' := [(0, .ref (ad 0)), (1, .int (nI n)), (2, .int (nI i)), (3, .int (nI s)), (4, .long (lN t)), (6, .int (nI ((3 * c) + 0))), (7, .int (nI k)), (8, .int (nI 0))]) S [1, 2, 3, 4, 5, 0, 6, 7] dX0_unrank_96 hN (by decide) rfl ?_
            refine fg_aload_n S 0 0 dX0_unrank_98 rfl rfl ?_
            refine xg_dl S dX0_unrank_99 ?_
            refine fg_ic (v := nI 3) S dX0_unrank_102 (by decide) ?_
            refine fg_iload_n S 3 3 dX0_unrank_103 rfl rfl ?_
            refine fg_imul S dX0_unrank_104 ?_
            refine fg_iload S 7 dX0_unrank_105 rfl ?_
            refine fg_iadd S dX0_unrank_107 ?_
            refine xl_dl S dX0_unrank_108 (by omega) ?_
            refine fg_istore_n (lv' := [(0, .ref (ad 0)), (1, .int (nI n)), (2, .int (nI i)), (3, .int (nI (dl ((3 * s) + 0)))), (4, .long (lN t)), (6, .int (nI ((3 * c) + 0))), (7, .int (nI k)), (8, .int (nI 0))]) S [1, 2, 3, 0, 4, 5, 6, 7] dX0_unrank_109 rfl hN (by decide) rfl ?_
            refine fg_iinc (lv' := [(0, .ref (ad 0)), (1, .int (nI n)), (2, .int (nI i)), (3, .int (nI (dl ((3 * s) + 0)))), (4, .long (lN t)), (6, .int (nI ((3 * c) + 0))), (7, .int (nI k - 1)), (8, .int (nI 0))]) S 6 [1, 2, 3, 4, 5, 6, 0, 7] dX0_unrank_110 rfl (dec_r _) hN (by decide) rfl ?_
            refine fg_goto S 14 dX0_unrank_113 (by decide) ?_
            refine fg_perm (lv' := [(0, .ref (ad 0)), (1, .int (nI n)), (2, .int (nI i)), (3, .int (nI (dl ((3 * s) + 0)))), (4, .long (lN t)), (6, .int (nI ((3 * c) + 0))), (7, .int (nI k - 1))]) [0, 1, 2, 3, 4, 5, 6] rfl ?_
            exact ih_lp k (dl (3 * s + 0)) t (3 * c + 0) (by omega) (inS_step ho hs (by omega)) (by omega) (by rw [← he, unF, if_pos (h_3)]) (by omega)
          · refine fg_lload S 4 dX0_unrank_56 rfl ?_
            refine fg_aload_n S 0 0 dX0_unrank_58 rfl rfl ?_
            refine xg_wa S dX0_unrank_59 ?_
            refine fg_bi (v := nI 26) S dX0_unrank_62 (by decide) ?_
            refine fg_iload S 6 dX0_unrank_64 rfl ?_
            refine fg_imul S dX0_unrank_66 ?_
            refine fg_aload_n S 0 0 dX0_unrank_67 rfl rfl ?_
            refine xg_dl S dX0_unrank_68 ?_
            refine fg_ic (v := nI 3) S dX0_unrank_71 (by decide) ?_
            refine fg_iload_n S 3 3 dX0_unrank_72 rfl rfl ?_
            refine fg_imul S dX0_unrank_73 ?_
            refine fg_iload S 7 dX0_unrank_74 rfl ?_
            refine fg_iadd S dX0_unrank_76 ?_
            refine xl_dl S dX0_unrank_77 (by omega) ?_
            refine fg_iadd S dX0_unrank_78 ?_
            refine xl_wa S dX0_unrank_79 (by omega) ?_
            refine fg_lsub S dX0_unrank_80 (by omega) ?_
            refine fg_lstore (lv' := [(0, .ref (ad 0)), (1, .int (nI n)), (2, .int (nI i)), (3, .int (nI s)), (4, .long (lN (t - (wa ((26 * k) + (dl ((3 * s) + 0))))))), (6, .int (nI c)), (7, .int (nI k)), (8, .int (nI 0))]) S [1, 2, 3, 4, 0, 5, 6, 7] dX0_unrank_81 hN (by decide) rfl ?_
            refine fg_iinc (lv' := [(0, .ref (ad 0)), (1, .int (nI n)), (2, .int (nI i)), (3, .int (nI s)), (4, .long (lN (t - (wa ((26 * k) + (dl ((3 * s) + 0))))))), (6, .int (nI c)), (7, .int (nI k)), (8, .int (nI (0 + 1)))]) S 7 [1, 2, 3, 4, 5, 6, 7, 0] dX0_unrank_83 rfl (inc_1 _) hN (by decide) rfl ?_
            refine fg_goto S 22 dX0_unrank_86 (by decide) ?_
            show fwG X (XW ad ck li kn dl wa no th ta fr co ss bu) 22 [(0, .ref (ad 0)), (1, .int (nI n)), (2, .int (nI i)), (3, .int (nI s)), (4, .long (lN (t - (wa ((26 * k) + (dl ((3 * s) + 0))))))), (6, .int (nI c)), (7, .int (nI k)), (8, .int (nI 1))] []
            refine fg_iload S 7 dX0_unrank_22 rfl ?_
            refine fg_ic (v := nI 2) S dX0_unrank_24 (by decide) ?_
            refine fg_icmp_ge S 89 dX0_unrank_25 (by decide) (by omega) (by omega) (fun h_4 => ?_) (fun h_4 => ?_)
            · exact absurd h_4 (by omega)
            · refine fg_lload S 4 dX0_unrank_28 rfl ?_
              refine fg_aload_n S 0 0 dX0_unrank_30 rfl rfl ?_
              refine xg_wa S dX0_unrank_31 ?_
              refine fg_bi (v := nI 26) S dX0_unrank_34 (by decide) ?_
              refine fg_iload S 6 dX0_unrank_36 rfl ?_
              refine fg_imul S dX0_unrank_38 ?_
              refine fg_aload_n S 0 0 dX0_unrank_39 rfl rfl ?_
              refine xg_dl S dX0_unrank_40 ?_
              refine fg_ic (v := nI 3) S dX0_unrank_43 (by decide) ?_
              refine fg_iload_n S 3 3 dX0_unrank_44 rfl rfl ?_
              refine fg_imul S dX0_unrank_45 ?_
              refine fg_iload S 7 dX0_unrank_46 rfl ?_
              refine fg_iadd S dX0_unrank_48 ?_
              refine xl_dl S dX0_unrank_49 (by omega) ?_
              refine fg_iadd S dX0_unrank_50 ?_
              refine xl_wa S dX0_unrank_51 (by omega) ?_
              refine fg_lcmp_lt S 89 dX0_unrank_52 dX0_unrank_53 (by decide) (by omega) (by omega) (fun h_5 => ?_) (fun h_5 => ?_)
              · refine fg_ic (v := nI 3) S dX0_unrank_89 (by decide) ?_
                refine fg_iload S 5 dX0_unrank_90 rfl ?_
                refine fg_imul S dX0_unrank_92 ?_
                refine fg_iload S 7 dX0_unrank_93 rfl ?_
                refine fg_iadd S dX0_unrank_95 ?_
                refine fg_istore (lv' := [(0, .ref (ad 0)), (1, .int (nI n)), (2, .int (nI i)), (3, .int (nI s)), (4, .long (lN (t - (wa ((26 * k) + (dl ((3 * s) + 0))))))), (6, .int (nI ((3 * c) + 1))), (7, .int (nI k)), (8, .int (nI 1))]) S [1, 2, 3, 4, 5, 0, 6, 7] dX0_unrank_96 hN (by decide) rfl ?_
                refine fg_aload_n S 0 0 dX0_unrank_98 rfl rfl ?_
                refine xg_dl S dX0_unrank_99 ?_
                refine fg_ic (v := nI 3) S dX0_unrank_102 (by decide) ?_
                refine fg_iload_n S 3 3 dX0_unrank_103 rfl rfl ?_
                refine fg_imul S dX0_unrank_104 ?_
                refine fg_iload S 7 dX0_unrank_105 rfl ?_
                refine fg_iadd S dX0_unrank_107 ?_
                refine xl_dl S dX0_unrank_108 (by omega) ?_
                refine fg_istore_n (lv' := [(0, .ref (ad 0)), (1, .int (nI n)), (2, .int (nI i)), (3, .int (nI (dl ((3 * s) + 1)))), (4, .long (lN (t - (wa ((26 * k) + (dl ((3 * s) + 0))))))), (6, .int (nI ((3 * c) + 1))), (7, .int (nI k)), (8, .int (nI 1))]) S [1, 2, 3, 0, 4, 5, 6, 7] dX0_unrank_109 rfl hN (by decide) rfl ?_
                refine fg_iinc (lv' := [(0, .ref (ad 0)), (1, .int (nI n)), (2, .int (nI i)), (3, .int (nI (dl ((3 * s) + 1)))), (4, .long (lN (t - (wa ((26 * k) + (dl ((3 * s) + 0))))))), (6, .int (nI ((3 * c) + 1))), (7, .int (nI k - 1)), (8, .int (nI 1))]) S 6 [1, 2, 3, 4, 5, 6, 0, 7] dX0_unrank_110 rfl (dec_r _) hN (by decide) rfl ?_
                refine fg_goto S 14 dX0_unrank_113 (by decide) ?_
                refine fg_perm (lv' := [(0, .ref (ad 0)), (1, .int (nI n)), (2, .int (nI i)), (3, .int (nI (dl ((3 * s) + 1)))), (4, .long (lN (t - (wa ((26 * k) + (dl ((3 * s) + 0))))))), (6, .int (nI ((3 * c) + 1))), (7, .int (nI k - 1))]) [0, 1, 2, 3, 4, 5, 6] rfl ?_
                exact ih_lp k (dl (3 * s + 1)) (t - wa (26 * k + dl (3 * s + 0))) (3 * c + 1) (by omega) (inS_step ho hs (by omega)) (by omega) (by rw [← he, unF, if_neg (by omega), if_pos (h_5)]) (by omega)
              · refine fg_lload S 4 dX0_unrank_56 rfl ?_
                refine fg_aload_n S 0 0 dX0_unrank_58 rfl rfl ?_
                refine xg_wa S dX0_unrank_59 ?_
                refine fg_bi (v := nI 26) S dX0_unrank_62 (by decide) ?_
                refine fg_iload S 6 dX0_unrank_64 rfl ?_
                refine fg_imul S dX0_unrank_66 ?_
                refine fg_aload_n S 0 0 dX0_unrank_67 rfl rfl ?_
                refine xg_dl S dX0_unrank_68 ?_
                refine fg_ic (v := nI 3) S dX0_unrank_71 (by decide) ?_
                refine fg_iload_n S 3 3 dX0_unrank_72 rfl rfl ?_
                refine fg_imul S dX0_unrank_73 ?_
                refine fg_iload S 7 dX0_unrank_74 rfl ?_
                refine fg_iadd S dX0_unrank_76 ?_
                refine xl_dl S dX0_unrank_77 (by omega) ?_
                refine fg_iadd S dX0_unrank_78 ?_
                refine xl_wa S dX0_unrank_79 (by omega) ?_
                refine fg_lsub S dX0_unrank_80 (by omega) ?_
                refine fg_lstore (lv' := [(0, .ref (ad 0)), (1, .int (nI n)), (2, .int (nI i)), (3, .int (nI s)), (4, .long (lN ((t - (wa ((26 * k) + (dl ((3 * s) + 0))))) - (wa ((26 * k) + (dl ((3 * s) + 1))))))), (6, .int (nI c)), (7, .int (nI k)), (8, .int (nI 1))]) S [1, 2, 3, 4, 0, 5, 6, 7] dX0_unrank_81 hN (by decide) rfl ?_
                refine fg_iinc (lv' := [(0, .ref (ad 0)), (1, .int (nI n)), (2, .int (nI i)), (3, .int (nI s)), (4, .long (lN ((t - (wa ((26 * k) + (dl ((3 * s) + 0))))) - (wa ((26 * k) + (dl ((3 * s) + 1))))))), (6, .int (nI c)), (7, .int (nI k)), (8, .int (nI (1 + 1)))]) S 7 [1, 2, 3, 4, 5, 6, 7, 0] dX0_unrank_83 rfl (inc_1 _) hN (by decide) rfl ?_
                refine fg_goto S 22 dX0_unrank_86 (by decide) ?_
                show fwG X (XW ad ck li kn dl wa no th ta fr co ss bu) 22 [(0, .ref (ad 0)), (1, .int (nI n)), (2, .int (nI i)), (3, .int (nI s)), (4, .long (lN ((t - (wa ((26 * k) + (dl ((3 * s) + 0))))) - (wa ((26 * k) + (dl ((3 * s) + 1))))))), (6, .int (nI c)), (7, .int (nI k)), (8, .int (nI 2))] []
                refine fg_iload S 7 dX0_unrank_22 rfl ?_
                refine fg_ic (v := nI 2) S dX0_unrank_24 (by decide) ?_
                refine fg_icmp_ge S 89 dX0_unrank_25 (by decide) (by omega) (by omega) (fun h_6 => ?_) (fun h_6 => ?_)
                · refine fg_ic (v := nI 3) S dX0_unrank_89 (by decide) ?_
                  refine fg_iload S 5 dX0_unrank_90 rfl ?_
                  refine fg_imul S dX0_unrank_92 ?_
                  refine fg_iload S 7 dX0_unrank_93 rfl ?_
                  refine fg_iadd S dX0_unrank_95 ?_
                  refine fg_istore (lv' := [(0, .ref (ad 0)), (1, .int (nI n)), (2, .int (nI i)), (3, .int (nI s)), (4, .long (lN ((t - (wa ((26 * k) + (dl ((3 * s) + 0))))) - (wa ((26 * k) + (dl ((3 * s) + 1))))))), (6, .int (nI ((3 * c) + 2))), (7, .int (nI k)), (8, .int (nI 2))]) S [1, 2, 3, 4, 5, 0, 6, 7] dX0_unrank_96 hN (by decide) rfl ?_
                  refine fg_aload_n S 0 0 dX0_unrank_98 rfl rfl ?_
                  refine xg_dl S dX0_unrank_99 ?_
                  refine fg_ic (v := nI 3) S dX0_unrank_102 (by decide) ?_
                  refine fg_iload_n S 3 3 dX0_unrank_103 rfl rfl ?_
                  refine fg_imul S dX0_unrank_104 ?_
                  refine fg_iload S 7 dX0_unrank_105 rfl ?_
                  refine fg_iadd S dX0_unrank_107 ?_
                  refine xl_dl S dX0_unrank_108 (by omega) ?_
                  refine fg_istore_n (lv' := [(0, .ref (ad 0)), (1, .int (nI n)), (2, .int (nI i)), (3, .int (nI (dl ((3 * s) + 2)))), (4, .long (lN ((t - (wa ((26 * k) + (dl ((3 * s) + 0))))) - (wa ((26 * k) + (dl ((3 * s) + 1))))))), (6, .int (nI ((3 * c) + 2))), (7, .int (nI k)), (8, .int (nI 2))]) S [1, 2, 3, 0, 4, 5, 6, 7] dX0_unrank_109 rfl hN (by decide) rfl ?_
                  refine fg_iinc (lv' := [(0, .ref (ad 0)), (1, .int (nI n)), (2, .int (nI i)), (3, .int (nI (dl ((3 * s) + 2)))), (4, .long (lN ((t - (wa ((26 * k) + (dl ((3 * s) + 0))))) - (wa ((26 * k) + (dl ((3 * s) + 1))))))), (6, .int (nI ((3 * c) + 2))), (7, .int (nI k - 1)), (8, .int (nI 2))]) S 6 [1, 2, 3, 4, 5, 6, 0, 7] dX0_unrank_110 rfl (dec_r _) hN (by decide) rfl ?_
                  refine fg_goto S 14 dX0_unrank_113 (by decide) ?_
                  refine fg_perm (lv' := [(0, .ref (ad 0)), (1, .int (nI n)), (2, .int (nI i)), (3, .int (nI (dl ((3 * s) + 2)))), (4, .long (lN ((t - (wa ((26 * k) + (dl ((3 * s) + 0))))) - (wa ((26 * k) + (dl ((3 * s) + 1))))))), (6, .int (nI ((3 * c) + 2))), (7, .int (nI k - 1))]) [0, 1, 2, 3, 4, 5, 6] rfl ?_
                  exact ih_lp k (dl (3 * s + 2)) (t - wa (26 * k + dl (3 * s + 0)) - wa (26 * k + dl (3 * s + 1))) (3 * c + 2) (by omega) (inS_step ho hs (by omega)) (by omega) (by rw [← he, unF, if_neg (by omega), if_neg (by omega)]) (by omega)
                · exact absurd h_6 (by omega)
  exact lp (n + 1) n 0 i 0 (Nat.le_refl _) (inS_0 ho) hi rfl (Nat.lt_succ_self _)
set_option maxHeartbeats 4000000 in
set_option maxRecDepth 100000 in
/-- reflect: a word that reads the same backward -/
theorem met_X0_reflect {l : Launch} {D : va_G} {tys : List (ClassId × FieldType)} (c h n : Nat) (hh : h ≤ n) (hn : n < 2 ^ 31) (hc : c < 2 ^ 31) : Met l yX0_reflect (ws_ yX0_reflect cX0_reflect 6 (some .int)) (rmL 0) (roP D tys [] [.int (nI c), .int (nI h), .int (nI n)]) (roQ (.int (nI (rfF c (if n % 2 = 1 then c / 3 else c) (n - h))))) 0 0 (fun _ => False) := by
  refine ro_i (lv0 := [(0, .int (nI c)), (1, .int (nI h)), (2, .int (nI n))]) (by decide) (Nat.le_of_ble_eq_true rfl) rfl (fun X B hret => ?_)
  obtain ⟨S, hN, hRm, rfl, rfl⟩ := B
  have S : fwC X cX0_reflect RX0 tys := S
  generalize hg : (if n % 2 = 1 then c / 3 else c) = g at hret
  refine fg_iload_n S 0 0 dX0_reflect_0 rfl rfl ?_
  refine fg_istore_n (lv' := [(0, .int (nI c)), (1, .int (nI h)), (2, .int (nI n)), (3, .int (nI c))]) S [1, 2, 3, 0] dX0_reflect_1 rfl hN (by decide) rfl ?_
  refine fg_iload_n S 2 2 dX0_reflect_2 rfl rfl ?_
  refine fg_ic (v := nI 1) S dX0_reflect_3 (by decide) ?_
  refine fg_iandR (v := (nI (n % 2))) S dX0_reflect_4 (pk_andN (by omega) 1 (by decide)) ?_
  refine fg_ic (v := nI 1) S dX0_reflect_5 (by decide) ?_
  refine fg_icmp_ne S 15 dX0_reflect_6 (by decide) (by omega) (by omega) (fun h_1 => ?_) (fun h_1 => ?_)
  · have hg1 : g ≤ c := by rw [← hg]; split <;> omega
    refine fg_iload_n S 0 0 dX0_reflect_15 rfl rfl ?_
    refine fg_topn (b := g) (by rw [← hg, if_neg (by omega)]) ?_
    refine fg_istore (lv' := [(0, .int (nI c)), (1, .int (nI h)), (2, .int (nI n)), (3, .int (nI c)), (4, .int (nI g))]) S [1, 2, 3, 4, 0] dX0_reflect_16 hN (by decide) rfl ?_
    refine fg_iload_n S 2 2 dX0_reflect_18 rfl rfl ?_
    refine fg_iload_n S 1 1 dX0_reflect_19 rfl rfl ?_
    refine fg_isub S dX0_reflect_20 (by omega) ?_
    refine fg_istore (lv' := [(0, .int (nI c)), (1, .int (nI h)), (2, .int (nI n)), (3, .int (nI c)), (4, .int (nI g)), (5, .int (nI (n - h)))]) S [1, 2, 3, 4, 5, 0] dX0_reflect_21 hN (by decide) rfl ?_
    have lp : ∀ (fuel : Nat) (w : Nat) (r : Nat) (k : Nat), (r < 2 ^ 31) → (k < 2 ^ 31) → (rfF w r k = rfF c g (n - h)) → (k) < fuel → fwG X [] 23 [(0, .int (nI c)), (1, .int (nI h)), (2, .int (nI n)), (3, .int (nI w)), (4, .int (nI r)), (5, .int (nI k))] [] := by
      intro fuel
      induction fuel with
      | zero => intro w r k hr hk he hfu; exact absurd hfu (Nat.not_lt_zero _)
      | succ fuel ih_lp =>
        intro w r k hr hk he hfu
        refine fg_iload S 5 dX0_reflect_23 rfl ?_
        refine fg_if_le S 49 dX0_reflect_25 (by decide) (by omega) (fun h_2 => ?_) (fun h_2 => ?_)
        · refine fg_iload_n S 3 3 dX0_reflect_49 rfl rfl ?_
          refine fg_topn (b := rfF c g (n - h)) (by rw [← he, show k = 0 by omega]; rfl) ?_
          exact hret _ _ dX0_reflect_50
        · obtain ⟨j, rfl⟩ : ∃ j, k = j + 1 := ⟨k - 1, by omega⟩
          refine fg_ic (v := nI 3) S dX0_reflect_28 (by decide) ?_
          refine fg_iload_n S 3 3 dX0_reflect_29 rfl rfl ?_
          refine fg_imul S dX0_reflect_30 ?_
          refine fg_iload S 4 dX0_reflect_31 rfl ?_
          refine fg_ic (v := nI 3) S dX0_reflect_33 (by decide) ?_
          refine fg_irem S dX0_reflect_34 (by omega) (by omega) (by omega) ?_
          refine fg_iadd S dX0_reflect_35 ?_
          refine fg_istore_n (lv' := [(0, .int (nI c)), (1, .int (nI h)), (2, .int (nI n)), (3, .int (nI ((3 * w) + (r % 3)))), (4, .int (nI r)), (5, .int (nI (j + 1)))]) S [1, 2, 3, 0, 4, 5] dX0_reflect_36 rfl hN (by decide) rfl ?_
          refine fg_iload S 4 dX0_reflect_37 rfl ?_
          refine fg_ic (v := nI 3) S dX0_reflect_39 (by decide) ?_
          refine fg_idiv S dX0_reflect_40 (by omega) (by omega) (by omega) ?_
          refine fg_istore (lv' := [(0, .int (nI c)), (1, .int (nI h)), (2, .int (nI n)), (3, .int (nI ((3 * w) + (r % 3)))), (4, .int (nI (r / 3))), (5, .int (nI (j + 1)))]) S [1, 2, 3, 4, 0, 5] dX0_reflect_41 hN (by decide) rfl ?_
          refine fg_iinc (lv' := [(0, .int (nI c)), (1, .int (nI h)), (2, .int (nI n)), (3, .int (nI ((3 * w) + (r % 3)))), (4, .int (nI (r / 3))), (5, .int (nI j))]) S 5 [1, 2, 3, 4, 5, 0] dX0_reflect_43 rfl (dec_n rfl) hN (by decide) rfl ?_
          refine fg_goto S 23 dX0_reflect_46 (by decide) ?_
          exact ih_lp (3 * w + r % 3) (r / 3) j (by omega) (by omega) he (by omega)
    exact lp ((n - h) + 1) c g (n - h) (by omega) (by omega) rfl (Nat.lt_succ_self _)
  · have hg1 : g ≤ c := by rw [← hg]; split <;> omega
    refine fg_iload_n S 0 0 dX0_reflect_9 rfl rfl ?_
    refine fg_ic (v := nI 3) S dX0_reflect_10 (by decide) ?_
    refine fg_idiv S dX0_reflect_11 (by omega) (by omega) (by omega) ?_
    refine fg_goto S 16 dX0_reflect_12 (by decide) ?_
    refine fg_topn (b := g) (by rw [← hg, if_pos (by omega)]) ?_
    refine fg_istore (lv' := [(0, .int (nI c)), (1, .int (nI h)), (2, .int (nI n)), (3, .int (nI c)), (4, .int (nI g))]) S [1, 2, 3, 4, 0] dX0_reflect_16 hN (by decide) rfl ?_
    refine fg_iload_n S 2 2 dX0_reflect_18 rfl rfl ?_
    refine fg_iload_n S 1 1 dX0_reflect_19 rfl rfl ?_
    refine fg_isub S dX0_reflect_20 (by omega) ?_
    refine fg_istore (lv' := [(0, .int (nI c)), (1, .int (nI h)), (2, .int (nI n)), (3, .int (nI c)), (4, .int (nI g)), (5, .int (nI (n - h)))]) S [1, 2, 3, 4, 5, 0] dX0_reflect_21 hN (by decide) rfl ?_
    have lp : ∀ (fuel : Nat) (w : Nat) (r : Nat) (k : Nat), (r < 2 ^ 31) → (k < 2 ^ 31) → (rfF w r k = rfF c g (n - h)) → (k) < fuel → fwG X [] 23 [(0, .int (nI c)), (1, .int (nI h)), (2, .int (nI n)), (3, .int (nI w)), (4, .int (nI r)), (5, .int (nI k))] [] := by
      intro fuel
      induction fuel with
      | zero => intro w r k hr hk he hfu; exact absurd hfu (Nat.not_lt_zero _)
      | succ fuel ih_lp =>
        intro w r k hr hk he hfu
        refine fg_iload S 5 dX0_reflect_23 rfl ?_
        refine fg_if_le S 49 dX0_reflect_25 (by decide) (by omega) (fun h_3 => ?_) (fun h_3 => ?_)
        · refine fg_iload_n S 3 3 dX0_reflect_49 rfl rfl ?_
          refine fg_topn (b := rfF c g (n - h)) (by rw [← he, show k = 0 by omega]; rfl) ?_
          exact hret _ _ dX0_reflect_50
        · obtain ⟨j, rfl⟩ : ∃ j, k = j + 1 := ⟨k - 1, by omega⟩
          refine fg_ic (v := nI 3) S dX0_reflect_28 (by decide) ?_
          refine fg_iload_n S 3 3 dX0_reflect_29 rfl rfl ?_
          refine fg_imul S dX0_reflect_30 ?_
          refine fg_iload S 4 dX0_reflect_31 rfl ?_
          refine fg_ic (v := nI 3) S dX0_reflect_33 (by decide) ?_
          refine fg_irem S dX0_reflect_34 (by omega) (by omega) (by omega) ?_
          refine fg_iadd S dX0_reflect_35 ?_
          refine fg_istore_n (lv' := [(0, .int (nI c)), (1, .int (nI h)), (2, .int (nI n)), (3, .int (nI ((3 * w) + (r % 3)))), (4, .int (nI r)), (5, .int (nI (j + 1)))]) S [1, 2, 3, 0, 4, 5] dX0_reflect_36 rfl hN (by decide) rfl ?_
          refine fg_iload S 4 dX0_reflect_37 rfl ?_
          refine fg_ic (v := nI 3) S dX0_reflect_39 (by decide) ?_
          refine fg_idiv S dX0_reflect_40 (by omega) (by omega) (by omega) ?_
          refine fg_istore (lv' := [(0, .int (nI c)), (1, .int (nI h)), (2, .int (nI n)), (3, .int (nI ((3 * w) + (r % 3)))), (4, .int (nI (r / 3))), (5, .int (nI (j + 1)))]) S [1, 2, 3, 4, 0, 5] dX0_reflect_41 hN (by decide) rfl ?_
          refine fg_iinc (lv' := [(0, .int (nI c)), (1, .int (nI h)), (2, .int (nI n)), (3, .int (nI ((3 * w) + (r % 3)))), (4, .int (nI (r / 3))), (5, .int (nI j))]) S 5 [1, 2, 3, 4, 5, 0] dX0_reflect_43 rfl (dec_n rfl) hN (by decide) rfl ?_
          refine fg_goto S 23 dX0_reflect_46 (by decide) ?_
          exact ih_lp (3 * w + r % 3) (r / 3) j (by omega) (by omega) he (by omega)
    exact lp ((n - h) + 1) c g (n - h) (by omega) (by omega) rfl (Nat.lt_succ_self _)
set_option maxHeartbeats 4000000 in
set_option maxRecDepth 100000 in
/-- target: where the machine stands after a word given as a number -/
theorem met_X0_target {l : Launch} {D : va_G} {ck : Nat → ClassId} {ad : Nat → Nat} {li kn dl wa no th ta fr : Nat → Nat} {co ss bu : Nat} (e z d : Nat) (hz : 1 ≤ z ∧ z ≤ 4) (hd : d < p3 z) (he0 : e = p3 z + d) (hc : co ≤ 6) (hb : ∀ k, k < co → li k < 2 ^ 31) (hcs : ss ≤ 26) (hbs : ∀ k, k < ss → kn k < 2 ^ 31) : Met l yX0_target (ws_ yX0_target cX0_target 7 (some .int)) (rmL 1) (roP D (tysX ck) (XW ad ck li kn dl wa no th ta fr co ss bu) [.ref (ad 0), .int (nI e)]) (roQ (.int (nI (tgF li co kn ss z d)))) 0 0 (fun _ => False) := by
  refine ro_i (lv0 := [(0, .ref (ad 0)), (1, .int (nI e))]) (by decide) (Nat.le_of_ble_eq_true rfl) rfl (fun X B hret => ?_)
  obtain ⟨S, hN, hRm, rfl, rfl⟩ := B
  have S : fwC X cX0_target RX0 (tysX ck) := S
  have hp4 : p3 z ≤ 81 := p3_mono hz.2
  refine fg_ic (v := nI 0) S dX0_target_0 (by decide) ?_
  refine fg_istore_n (lv' := [(0, .ref (ad 0)), (1, .int (nI e)), (2, .int (nI 0))]) S [1, 2, 0] dX0_target_1 rfl hN (by decide) rfl ?_
  have lp : ∀ (fuel : Nat) (k : Nat), (k ≤ z) → (4 - k) < fuel → fwG X (XW ad ck li kn dl wa no th ta fr co ss bu) 2 [(0, .ref (ad 0)), (1, .int (nI e)), (2, .int (nI k))] [] := by
    intro fuel
    induction fuel with
    | zero => intro k hk hfu; exact absurd hfu (Nat.not_lt_zero _)
    | succ fuel ih_lp =>
      intro k hk hfu
      refine fg_iload_n S 2 2 dX0_target_2 rfl rfl ?_
      refine fg_ic (v := nI 5) S dX0_target_3 (by decide) ?_
      refine fg_icmp_ge S 23 dX0_target_4 (by decide) (by omega) (by omega) (fun h_1 => ?_) (fun h_1 => ?_)
      · exact absurd hk (by omega)
      · have hp1 := p3_s k
        have hp0 := p3_le (n := k + 1) (by omega)
        refine fg_iload_n S 2 2 dX0_target_7 rfl rfl ?_
        refine fg_ic (v := nI 1) S dX0_target_8 (by decide) ?_
        refine fg_iadd S dX0_target_9 ?_
        refine cs_ S hRm 1 (met_X0_power (k + 1) (by omega)) q78 q79 q22 q80 ok_X0_power (by decide) rfl rfl (Nat.le_of_ble_eq_true rfl) dX0_target_10 ?_
        refine fg_iload_n S 1 1 dX0_target_13 rfl rfl ?_
        refine fg_icmp_gt S 23 dX0_target_14 (by decide) (by omega) (by omega) (fun h_2 => ?_) (fun h_2 => ?_)
        · have ek : k = z := by
            rcases Nat.lt_or_ge k z with q | q
            · have := p3_mono (a := k + 1) (b := z) q; omega
            · omega
          subst ek
          refine fg_iload_n S 2 2 dX0_target_23 rfl rfl ?_
          refine cs_ S hRm 1 (met_X0_power k (by omega)) q78 q79 q22 q80 ok_X0_power (by decide) rfl rfl (Nat.le_of_ble_eq_true rfl) dX0_target_24 ?_
          refine fg_iload_n S 1 1 dX0_target_27 rfl rfl ?_
          refine fg_icmp_le S 34 dX0_target_28 (by decide) (by omega) (by omega) (fun h_3 => ?_) (fun h_3 => ?_)
          · refine fg_iload_n S 1 1 dX0_target_34 rfl rfl ?_
            refine fg_iload_n S 2 2 dX0_target_35 rfl rfl ?_
            refine cs_ S hRm 1 (met_X0_power k (by omega)) q78 q79 q22 q80 ok_X0_power (by decide) rfl rfl (Nat.le_of_ble_eq_true rfl) dX0_target_36 ?_
            refine fg_isub S dX0_target_39 (by omega) ?_
            refine fg_topn (b := d) (by omega) ?_
            refine fg_istore_n (lv' := [(0, .ref (ad 0)), (1, .int (nI e)), (2, .int (nI k)), (3, .int (nI d))]) S [1, 2, 3, 0] dX0_target_40 rfl hN (by decide) rfl ?_
            refine fg_ic (v := nI 0) S dX0_target_41 (by decide) ?_
            refine fg_istore (lv' := [(0, .ref (ad 0)), (1, .int (nI e)), (2, .int (nI k)), (3, .int (nI d)), (4, .int (nI 0))]) S [1, 2, 3, 4, 0] dX0_target_42 hN (by decide) rfl ?_
            have lq : ∀ (fuel : Nat) (i : Nat), (i ≤ k) → (deadF li co d (k - i) = deadF li co d k) → (k - i) < fuel → fwG X (XW ad ck li kn dl wa no th ta fr co ss bu) 44 [(0, .ref (ad 0)), (1, .int (nI e)), (2, .int (nI k)), (3, .int (nI d)), (4, .int (nI i))] [] := by
              intro fuel
              induction fuel with
              | zero => intro i hi hi2 hfu; exact absurd hfu (Nat.not_lt_zero _)
              | succ fuel ih_lq =>
                intro i hi hi2 hfu
                refine fg_iload S 4 dX0_target_44 rfl ?_
                refine fg_iload_n S 2 2 dX0_target_46 rfl rfl ?_
                refine fg_icmp_ge S 87 dX0_target_47 (by decide) (by omega) (by omega) (fun h_4 => ?_) (fun h_4 => ?_)
                · have hdead : deadF li co d k = false := by rw [← hi2, show k - i = 0 by omega]; rfl
                  have htg : tgF li co kn ss k d = longF kn ss d k := if_neg (by rw [hdead]; decide)
                  refine fg_ic (v := nI 0) S dX0_target_87 (by decide) ?_
                  refine fg_istore (lv' := [(0, .ref (ad 0)), (1, .int (nI e)), (2, .int (nI k)), (3, .int (nI d)), (4, .int (nI 0))]) S [1, 2, 3, 4, 0] dX0_target_88 hN (by decide) rfl ?_
                  have lr : ∀ (fuel : Nat) (v : Nat), (v ≤ k) → (longF kn ss d (k - v) = longF kn ss d k) → (k - v) < fuel → fwG X (XW ad ck li kn dl wa no th ta fr co ss bu) 90 [(0, .ref (ad 0)), (1, .int (nI e)), (2, .int (nI k)), (3, .int (nI d)), (4, .int (nI v))] [] := by
                    intro fuel
                    induction fuel with
                    | zero => intro v hv hv2 hfu; exact absurd hfu (Nat.not_lt_zero _)
                    | succ fuel ih_lr =>
                      intro v hv hv2 hfu
                      refine fg_iload S 4 dX0_target_90 rfl ?_
                      refine fg_iload_n S 2 2 dX0_target_92 rfl rfl ?_
                      refine fg_icmp_ge S 137 dX0_target_93 (by decide) (by omega) (by omega) (fun h_5 => ?_) (fun h_5 => ?_)
                      · refine fg_ic (v := nI 0) S dX0_target_137 (by decide) ?_
                        refine fg_topn (b := tgF li co kn ss k d) (by rw [htg, ← hv2, show k - v = 0 by omega]; rfl) ?_
                        exact hret _ _ dX0_target_138
                      · obtain ⟨q, hq⟩ : ∃ q, k - v = q + 1 := ⟨k - v - 1, by omega⟩
                        have hp1 := p3_pos (q + 1)
                        have hp2 := p3_mono (a := q + 1) (b := k) (by omega)
                        have hp3 := Nat.mod_lt d hp1
                        refine fg_iload_n S 2 2 dX0_target_96 rfl rfl ?_
                        refine fg_iload S 4 dX0_target_97 rfl ?_
                        refine fg_isub S dX0_target_99 (by omega) ?_
                        refine fg_topn (b := q + 1) hq ?_
                        refine cs_ S hRm 1 (met_X0_power (q + 1) (by omega)) q78 q79 q22 q80 ok_X0_power (by decide) rfl rfl (Nat.le_of_ble_eq_true rfl) dX0_target_100 ?_
                        refine fg_iload_n S 3 3 dX0_target_103 rfl rfl ?_
                        refine fg_iload_n S 2 2 dX0_target_104 rfl rfl ?_
                        refine fg_iload S 4 dX0_target_105 rfl ?_
                        refine fg_isub S dX0_target_107 (by omega) ?_
                        refine fg_topn (b := q + 1) hq ?_
                        refine cs_ S hRm 1 (met_X0_power (q + 1) (by omega)) q78 q79 q22 q80 ok_X0_power (by decide) rfl rfl (Nat.le_of_ble_eq_true rfl) dX0_target_108 ?_
                        refine fg_irem S dX0_target_111 (by omega) (by omega) (by omega) ?_
                        refine fg_iadd S dX0_target_112 ?_
                        refine fg_topn (b := sfx (q + 1) d) rfl ?_
                        have hx : sfx (q + 1) d < 200 := by unfold sfx; omega
                        refine fg_istore (lv' := [(0, .ref (ad 0)), (1, .int (nI e)), (2, .int (nI k)), (3, .int (nI d)), (4, .int (nI v)), (5, .int (nI (sfx (q + 1) d)))]) S [1, 2, 3, 4, 5, 0] dX0_target_113 hN (by decide) rfl ?_
                        refine fg_aload_n S 0 0 dX0_target_115 rfl rfl ?_
                        refine fg_iload S 5 dX0_target_116 rfl ?_
                        refine cx_ro S hRm 1 (met_X0_stateOfN (sfx (q + 1) d) (by omega) hcs hbs) rfl q107 q109 qs2 q22 q110 ok_X0_stateOf (by decide) rfl rfl (Nat.le_of_ble_eq_true rfl) dX0_target_118 ?_
                        refine fg_istore (lv' := [(0, .ref (ad 0)), (1, .int (nI e)), (2, .int (nI k)), (3, .int (nI d)), (4, .int (nI v)), (5, .int (nI (sfx (q + 1) d))), (6, .int (fnd kn ((sfx (q + 1) d : Nat) : Int) 0 ss))]) S [1, 2, 3, 4, 5, 6, 0] dX0_target_121 hN (by decide) rfl ?_
                        refine fg_iload S 6 dX0_target_123 rfl ?_
                        refine fg_ifZ_lt S 131 dX0_target_125 (by decide) rfl (fun h_6 => ?_) (fun h_6 => ?_)
                        · refine fg_iinc (lv' := [(0, .ref (ad 0)), (1, .int (nI e)), (2, .int (nI k)), (3, .int (nI d)), (4, .int (nI (v + 1))), (5, .int (nI (sfx (q + 1) d))), (6, .int (fnd kn ((sfx (q + 1) d : Nat) : Int) 0 ss))]) S 4 [1, 2, 3, 4, 0, 5, 6] dX0_target_131 rfl (inc_1 _) hN (by decide) rfl ?_
                          refine fg_goto S 90 dX0_target_134 (by decide) ?_
                          refine fg_perm (lv' := [(0, .ref (ad 0)), (1, .int (nI e)), (2, .int (nI k)), (3, .int (nI d)), (4, .int (nI (v + 1)))]) [0, 1, 2, 3, 4] rfl ?_
                          exact ih_lr (v + 1) (by omega) (by rw [← hv2, hq, longF_f h_6, show k - (v + 1) = q by omega]) (by omega)
                        · refine fg_iload S 6 dX0_target_128 rfl ?_
                          refine fg_topi (y := (nI (tgF li co kn ss k d))) (by rw [htg, ← hv2, hq]; exact longF_t hcs h_6) ?_
                          exact hret _ _ dX0_target_130
                  exact lr ((k - 0) + 1) 0 (Nat.zero_le _) rfl (Nat.lt_succ_self _)
                · obtain ⟨q, hq⟩ : ∃ q, k - i = q + 1 := ⟨k - i - 1, by omega⟩
                  have hp1 := p3_pos (q + 1)
                  have hp2 := p3_mono (a := q + 1) (b := k) (by omega)
                  have hp3 := Nat.mod_lt d hp1
                  refine fg_iload_n S 2 2 dX0_target_50 rfl rfl ?_
                  refine fg_iload S 4 dX0_target_51 rfl ?_
                  refine fg_isub S dX0_target_53 (by omega) ?_
                  refine fg_topn (b := q + 1) hq ?_
                  refine cs_ S hRm 1 (met_X0_power (q + 1) (by omega)) q78 q79 q22 q80 ok_X0_power (by decide) rfl rfl (Nat.le_of_ble_eq_true rfl) dX0_target_54 ?_
                  refine fg_iload_n S 3 3 dX0_target_57 rfl rfl ?_
                  refine fg_iload_n S 2 2 dX0_target_58 rfl rfl ?_
                  refine fg_iload S 4 dX0_target_59 rfl ?_
                  refine fg_isub S dX0_target_61 (by omega) ?_
                  refine fg_topn (b := q + 1) hq ?_
                  refine cs_ S hRm 1 (met_X0_power (q + 1) (by omega)) q78 q79 q22 q80 ok_X0_power (by decide) rfl rfl (Nat.le_of_ble_eq_true rfl) dX0_target_62 ?_
                  refine fg_irem S dX0_target_65 (by omega) (by omega) (by omega) ?_
                  refine fg_iadd S dX0_target_66 ?_
                  refine fg_topn (b := sfx (q + 1) d) rfl ?_
                  have hx : sfx (q + 1) d < 200 := by unfold sfx; omega
                  refine fg_istore (lv' := [(0, .ref (ad 0)), (1, .int (nI e)), (2, .int (nI k)), (3, .int (nI d)), (4, .int (nI i)), (5, .int (nI (sfx (q + 1) d)))]) S [1, 2, 3, 4, 5, 0] dX0_target_67 hN (by decide) rfl ?_
                  refine fg_aload_n S 0 0 dX0_target_69 rfl rfl ?_
                  refine fg_iload S 5 dX0_target_70 rfl ?_
                  refine cx_ro S hRm 1 (met_X0_placeN (sfx (q + 1) d) (by omega) hc hb) rfl q81 q83 qs0 q22 q84 ok_X0_place (by decide) rfl rfl (Nat.le_of_ble_eq_true rfl) dX0_target_72 ?_
                  refine fg_ifZ_lt S 81 dX0_target_75 (by decide) rfl (fun h_7 => ?_) (fun h_7 => ?_)
                  · refine fg_iinc (lv' := [(0, .ref (ad 0)), (1, .int (nI e)), (2, .int (nI k)), (3, .int (nI d)), (4, .int (nI (i + 1))), (5, .int (nI (sfx (q + 1) d)))]) S 4 [1, 2, 3, 4, 0, 5] dX0_target_81 rfl (inc_1 _) hN (by decide) rfl ?_
                    refine fg_goto S 44 dX0_target_84 (by decide) ?_
                    refine fg_perm (lv' := [(0, .ref (ad 0)), (1, .int (nI e)), (2, .int (nI k)), (3, .int (nI d)), (4, .int (nI (i + 1)))]) [0, 1, 2, 3, 4] rfl ?_
                    exact ih_lq (i + 1) (by omega) (by rw [← hi2, hq, deadF_f h_7, show k - (i + 1) = q by omega]) (by omega)
                  · refine fg_bi (v := nI 25) S dX0_target_78 (by decide) ?_
                    refine fg_topn (b := tgF li co kn ss k d) (by unfold tgF; rw [if_pos]; rw [← hi2, hq]; exact deadF_t h_7) ?_
                    exact hret _ _ dX0_target_80
            exact lq ((k - 0) + 1) 0 (Nat.zero_le _) rfl (Nat.lt_succ_self _)
          · exact absurd h_3 (by omega)
        · have ek : k + 1 ≤ z := by
            rcases Nat.lt_or_ge k z with q | q
            · exact q
            · have e1 : k = z := by omega
              subst e1; omega
          refine fg_iinc (lv' := [(0, .ref (ad 0)), (1, .int (nI e)), (2, .int (nI (k + 1)))]) S 2 [1, 2, 0] dX0_target_17 rfl (inc_1 _) hN (by decide) rfl ?_
          refine fg_goto S 2 dX0_target_20 (by decide) ?_
          exact ih_lp (k + 1) ek (by omega)
  exact lp ((4 - 0) + 1) 0 (Nat.zero_le _) (Nat.lt_succ_self _)
end
section
set_option maxRecDepth 100000
theorem up_ne {α : Type} {f : Nat → α} {k j : Nat} {v : α} (h : j ≠ k) : va_up f k v j = f j := if_neg h
theorem up_eq {α : Type} {f : Nat → α} {k : Nat} {v : α} : va_up f k v k = v := if_pos rfl
/-- how many words of n letters go on from s without dying -/
def cntF (dl : Nat → Nat) (ss : Nat) : Nat → Nat → Nat
  | 0, s => if s < ss then 1 else 0
  | n + 1, s => if s < ss then sumF (fun c => cntF dl ss n (dl (3 * s + c))) 3 else 0
/-- whether p is one of the first n pieces of the list -/
def bL (li : Nat → Nat) : Nat → Nat → Bool
  | 0, _ => false
  | n + 1, p => (li n == p) || bL li n p
theorem bL_iff {li : Nat → Nat} {p : Nat} : ∀ n, bL li n p = true ↔ ∃ k, k < n ∧ li k = p
  | 0 => by simp [bL]
  | n + 1 => by
    have ih := bL_iff (li := li) (p := p) n
    constructor
    · intro h
      rcases (Bool.or_eq_true _ _).mp h with h | h
      · exact ⟨n, by omega, by simpa using h⟩
      · obtain ⟨k, h1, h2⟩ := ih.mp h
        exact ⟨k, by omega, h2⟩
    · rintro ⟨k, h1, h2⟩
      refine (Bool.or_eq_true _ _).mpr ?_
      by_cases hk : k = n
      · subst hk; exact Or.inl (by simpa using h2)
      · exact Or.inr (ih.mpr ⟨k, by omega, h2⟩)
/-- whether a word of 'left' letters ends with a forbidden piece -/
def endF (ba : Nat → Bool) (left rest : Nat) : Bool := ba (3 + rest % 3) || (decide (1 < left) && ba (9 + rest % 9)) || (decide (2 < left) && ba (27 + rest % 27)) || (decide (3 < left) && ba (81 + rest % 81))
/-- whether no forbidden piece stands in the word of n letters with the code c -/
def goodF (ba : Nat → Bool) : Nat → Nat → Bool
  | 0, _ => true
  | n + 1, c => if endF ba (n + 1) c = true then false else goodF ba n (c / 3)
theorem endF_iff {ba : Nat → Bool} {n c : Nat} : endF ba (n + 1) c = true ↔ ∃ m, 1 ≤ m ∧ m ≤ 4 ∧ m ≤ n + 1 ∧ ba (sfx m c) = true := by
  have e1 : sfx 1 c = 3 + c % 3 := rfl
  have e2 : sfx 2 c = 9 + c % 9 := rfl
  have e3 : sfx 3 c = 27 + c % 27 := rfl
  have e4 : sfx 4 c = 81 + c % 81 := rfl
  unfold endF
  rw [← e1, ← e2, ← e3, ← e4]
  simp only [Bool.or_eq_true, Bool.and_eq_true, decide_eq_true_eq]
  constructor
  · rintro (((h | ⟨h1, h⟩) | ⟨h1, h⟩) | ⟨h1, h⟩)
    · exact ⟨1, by omega, by omega, by omega, h⟩
    · exact ⟨2, by omega, by omega, by omega, h⟩
    · exact ⟨3, by omega, by omega, by omega, h⟩
    · exact ⟨4, by omega, by omega, by omega, h⟩
  · rintro ⟨m, h1, h2, h3, h⟩
    rcases (by omega : m = 1 ∨ m = 2 ∨ m = 3 ∨ m = 4) with rfl | rfl | rfl | rfl
    · exact Or.inl (Or.inl (Or.inl h))
    · exact Or.inl (Or.inl (Or.inr ⟨by omega, h⟩))
    · exact Or.inl (Or.inr ⟨by omega, h⟩)
    · exact Or.inr ⟨by omega, h⟩
theorem sfx_s (m c : Nat) : 3 * sfx m (c / 3) + c % 3 = sfx (m + 1) c := by
  unfold sfx
  rw [p3_s, Nat.mod_mul (x := c) (a := 3) (b := p3 m)]
  omega
theorem sfx_div (m c : Nat) : sfx (m + 1) c / 3 = sfx m (c / 3) := by
  rw [← sfx_s]; omega
theorem sfx_in (m c : Nat) : p3 m ≤ sfx m c ∧ sfx m c < 2 * p3 m := by
  have := Nat.mod_lt c (p3_pos m)
  unfold sfx; omega
theorem num_le {z w a b : Nat} (h : a = b) (h1 : a < 2 * p3 z) (h2 : p3 w ≤ b) : w ≤ z := by
  rcases Nat.lt_or_ge z w with q | q
  · have h3 := p3_mono (a := z + 1) (b := w) q
    have h4 := p3_s z
    omega
  · exact q
theorem num_eq {z w a b : Nat} (h : a = b) (h1 : p3 z ≤ a) (h2 : a < 2 * p3 z) (h3 : p3 w ≤ b) (h4 : b < 2 * p3 w) : z = w := Nat.le_antisymm (num_le h.symm h4 h1) (num_le h h2 h3)
theorem sfx_mod {m z c : Nat} (h : m ≤ z) : sfx m (c % p3 z) = sfx m c := by
  unfold sfx
  rw [Nat.mod_mod_of_dvd]
  obtain ⟨k, rfl⟩ := Nat.le.dest h
  rw [p3_add]
  exact Nat.dvd_mul_right _ _
theorem runF_last (dl : Nat → Nat) : ∀ (n s c : Nat), runF dl s (n + 1) c = dl (3 * runF dl s n (c / 3) + c % 3)
  | 0, s, c => by show dl (3 * s + c / 1 % 3) = _; rw [Nat.div_one]; rfl
  | n + 1, s, c => by
    rw [runF_s, runF_last dl n, runF_s dl s n (c / 3), p3_s, Nat.div_div_eq_div_mul]
theorem fnd_ge {f : Nat → Nat} {x : Int} {n : Nat} (hn : n < 2 ^ 31) : 0 ≤ (fnd f x 0 n).toInt ↔ ∃ k, k < n ∧ (f k : Int) = x := by
  rcases fnd_spec f x n 0 with ⟨h1, h2⟩ | ⟨j, h1, h2, h3, h4, h5⟩
  · rw [h1]
    constructor
    · intro h; exact absurd h (by decide)
    · rintro ⟨k, h3, h4⟩; exact absurd h4 (h2 k (by omega) (by omega))
  · rw [h3, nI_toInt (by omega)]
    exact ⟨fun _ => ⟨j, by omega, h4⟩, fun _ => by omega⟩
theorem deadF_iff {li : Nat → Nat} {co d : Nat} (hc : co ≤ 6) : ∀ z, deadF li co d z = true ↔ ∃ m, 1 ≤ m ∧ m ≤ z ∧ ∃ k, k < co ∧ li k = sfx m d
  | 0 => by simp only [deadF]; constructor
            · intro h; cases h
            · rintro ⟨m, h1, h2, -⟩; omega
  | z + 1 => by
    have ih := deadF_iff (li := li) (d := d) hc z
    have hf := fnd_ge (f := li) (x := (sfx (z + 1) d : Int)) (n := co) (by omega)
    by_cases h : 0 ≤ (fnd li (sfx (z + 1) d : Int) 0 co).toInt
    · rw [deadF_t h]
      obtain ⟨k, h1, h2⟩ := hf.mp h
      exact ⟨fun _ => ⟨z + 1, by omega, by omega, k, h1, by omega⟩, fun _ => rfl⟩
    · rw [deadF_f (by omega), ih]
      constructor
      · rintro ⟨m, h1, h2, h3⟩; exact ⟨m, h1, by omega, h3⟩
      · rintro ⟨m, h1, h2, k, h3, h4⟩
        by_cases hm : m = z + 1
        · subst hm; exact absurd (hf.mpr ⟨k, h3, by omega⟩) h
        · exact ⟨m, h1, by omega, k, h3, h4⟩
theorem longF_spec {kn : Nat → Nat} {ss d : Nat} (hs : ss ≤ 26) : ∀ z, (longF kn ss d z = 0 ∧ ∀ m, 1 ≤ m → m ≤ z → ∀ t, t < ss → kn t ≠ sfx m d) ∨ (∃ m, 1 ≤ m ∧ m ≤ z ∧ longF kn ss d z < ss ∧ kn (longF kn ss d z) = sfx m d ∧ ∀ m', m < m' → m' ≤ z → ∀ t, t < ss → kn t ≠ sfx m' d)
  | 0 => Or.inl ⟨rfl, fun m h1 h2 => by omega⟩
  | z + 1 => by
    have hf := fnd_ge (f := kn) (x := (sfx (z + 1) d : Int)) (n := ss) (by omega)
    by_cases h : 0 ≤ (fnd kn (sfx (z + 1) d : Int) 0 ss).toInt
    · right
      have e := longF_t hs h
      rcases fnd_spec kn (sfx (z + 1) d : Int) ss 0 with ⟨h1, -⟩ | ⟨j, h1, h2, h3, h4, -⟩
      · rw [h1] at h; exact absurd h (by decide)
      · have e2 : longF kn ss d (z + 1) = j := by
          have e3 : longF kn ss d (z + 1) = (fnd kn (sfx (z + 1) d : Int) 0 ss).toNatClampNeg := if_pos h
          rw [e3, h3, nI_clamp (by omega)]
        rw [e2]
        exact ⟨z + 1, by omega, by omega, by omega, by omega, fun m' a b => by omega⟩
    · have hno : ∀ t, t < ss → kn t ≠ sfx (z + 1) d := fun t ht q => h (hf.mpr ⟨t, ht, by omega⟩)
      rw [longF_f (by omega)]
      rcases longF_spec (d := d) hs z with ⟨h1, h2⟩ | ⟨m, h1, h2, h3, h4, h5⟩
      · refine Or.inl ⟨h1, fun m a b => ?_⟩
        by_cases hm : m = z + 1
        · subst hm; exact hno
        · exact h2 m a (by omega)
      · refine Or.inr ⟨m, h1, by omega, h3, h4, fun m' a b => ?_⟩
        by_cases hm : m' = z + 1
        · subst hm; exact hno
        · exact h5 m' a (by omega)
/-- every number of the list is a piece's -/
def PCS (li : Nat → Nat) (co : Nat) : Prop := co ≤ 6 ∧ ∀ k, k < co → ∃ z, 1 ≤ z ∧ z ≤ 4 ∧ p3 z ≤ li k ∧ li k < 2 * p3 z
/-- the beginnings that the machine knows -/
def KN (li : Nat → Nat) (co : Nat) (kn : Nat → Nat) (ss : Nat) : Prop := kn 0 = 1 ∧ (1 ≤ ss ∧ ss ≤ 19) ∧ (∀ s, s < ss → ∃ y, y ≤ 3 ∧ p3 y ≤ kn s ∧ kn s < 2 * p3 y) ∧ (∀ k j, k < co → 1 ≤ j → j < szF (li k) → ∃ s, s < ss ∧ kn s = li k / p3 j) ∧ (∀ s, s < ss → s = 0 ∨ ∃ k j, k < co ∧ 1 ≤ j ∧ j < szF (li k) ∧ kn s = li k / p3 j)
/-- its table -/
def STP (li : Nat → Nat) (co : Nat) (kn : Nat → Nat) (ss : Nat) (dl : Nat → Nat) : Prop := ∀ i, i < 3 * ss → ∃ z d, 1 ≤ z ∧ z ≤ 4 ∧ d < p3 z ∧ 3 * kn (i / 3) + i % 3 = p3 z + d ∧ dl i = tgF li co kn ss z d
theorem tgF_in {li : Nat → Nat} {co : Nat} {kn : Nat → Nat} {ss z d : Nat} (hs : 1 ≤ ss ∧ ss ≤ 26) : inS ss (tgF li co kn ss z d) := by
  unfold tgF
  split
  · exact Or.inr rfl
  · rcases longF_spec (kn := kn) (d := d) hs.2 z with ⟨h1, -⟩ | ⟨m, -, -, h3, -⟩
    · rw [h1]; exact Or.inl (by omega)
    · exact Or.inl h3
theorem kn_up {li : Nat → Nat} {co : Nat} {kn : Nat → Nat} {ss : Nat} (hP : PCS li co) (hK : KN li co kn ss) {t m c : Nat} (ht : t < ss) (e : kn t = sfx (m + 1) c) : ∃ t', t' < ss ∧ kn t' = sfx m (c / 3) := by
  obtain ⟨h0, h1, h2, h3, h4⟩ := hK
  have hs := sfx_in (m + 1) c
  have hm := p3_pos m
  have h5 := p3_s m
  rcases h4 t ht with rfl | ⟨k, j, a1, a2, a3, a4⟩
  · omega
  · obtain ⟨z, b1, b2, b3, b4⟩ := hP.2 k a1
    have hz := szN_of b1 b2 b3 b4
    rw [hz] at a3
    have e2 : li k / p3 (j + 1) = sfx m (c / 3) := by
      rw [← sfx_div, ← e, a4, p3_s, Nat.mul_comm, Nat.div_div_eq_div_mul]
    by_cases hj : j + 1 < z
    · obtain ⟨s, c1, c2⟩ := h3 k (j + 1) a1 (by omega) (by rw [hz]; exact hj)
      exact ⟨s, c1, by rw [c2, e2]⟩
    · refine ⟨0, by omega, ?_⟩
      have e3 : j + 1 = z := by omega
      rw [← e2, e3, h0]
      have := p3_pos z
      exact (Nat.div_eq_of_lt_le (by omega) (by omega)).symm
theorem pc_up {li : Nat → Nat} {co : Nat} {kn : Nat → Nat} {ss : Nat} (hP : PCS li co) (hK : KN li co kn ss) {k m c : Nat} (hk : k < co) (e : li k = sfx (m + 1) c) : ∃ t', t' < ss ∧ kn t' = sfx m (c / 3) := by
  obtain ⟨h0, h1, h2, h3, h4⟩ := hK
  obtain ⟨z, b1, b2, b3, b4⟩ := hP.2 k hk
  have hz := szN_of b1 b2 b3 b4
  have hs := sfx_in (m + 1) c
  have ez := num_eq e b3 b4 hs.1 hs.2
  have e2 : li k / p3 1 = sfx m (c / 3) := by
    rw [← sfx_div, ← e]; rfl
  by_cases hj : 1 < z
  · obtain ⟨s, c1, c2⟩ := h3 k 1 hk (by omega) (by rw [hz]; exact hj)
    exact ⟨s, c1, by rw [c2, e2]⟩
  · refine ⟨0, by omega, ?_⟩
    have : m = 0 := by omega
    subst this
    rw [h0]
    show 1 = p3 0 + (c / 3) % p3 0
    show 1 = 1 + (c / 3) % 1
    omega
/-- what the machine has read: dead just when a piece stands in it; else it stands at the longest known end -/
theorem run_inv {li : Nat → Nat} {co : Nat} {kn : Nat → Nat} {ss : Nat} {dl : Nat → Nat} (hP : PCS li co) (hK : KN li co kn ss) (hT : STP li co kn ss dl) (ho : okS dl ss) : ∀ n c : Nat, (runF dl 0 n c = 25 ∧ goodF (bL li co) n c = false) ∨ (runF dl 0 n c < ss ∧ goodF (bL li co) n c = true ∧ ∃ y, y ≤ n ∧ kn (runF dl 0 n c) = sfx y c ∧ ∀ m, y < m → m ≤ n → ∀ t, t < ss → kn t ≠ sfx m c)
  | 0, c => by
    refine Or.inr ⟨hK.2.1.1, rfl, 0, Nat.le_refl _, ?_, fun m h1 h2 => by omega⟩
    show kn 0 = 1 + c % 1
    rw [hK.1]; omega
  | n + 1, c => by
    rw [runF_last]
    have ha : c % 3 < 3 := Nat.mod_lt _ (by omega)
    rcases run_inv hP hK hT ho n (c / 3) with ⟨h1, h2⟩ | ⟨h1, h2, y, h3, h4, h5⟩
    · left
      rw [h1]
      refine ⟨?_, ?_⟩
      · rcases (by omega : c % 3 = 0 ∨ c % 3 = 1 ∨ c % 3 = 2) with e | e | e <;> rw [e]
        · exact ho.2.2.1
        · exact ho.2.2.2.1
        · exact ho.2.2.2.2
      · show (if endF _ _ _ = true then false else goodF _ n (c / 3)) = false
        split
        · rfl
        · exact h2
    · generalize hs : runF dl 0 n (c / 3) = s at h1 h4
      obtain ⟨z, d, z1, z2, hd, he, ht⟩ := hT (3 * s + c % 3) (by omega)
      rw [show (3 * s + c % 3) / 3 = s by omega, show (3 * s + c % 3) % 3 = c % 3 by omega, h4, sfx_s] at he
      have hs1 := sfx_in (y + 1) c
      have ez : y + 1 = z := num_eq he hs1.1 hs1.2 (by omega) (by omega)
      subst ez
      have ed : d = c % p3 (y + 1) := by unfold sfx at he; omega
      have hsf : ∀ m, m ≤ y + 1 → sfx m d = sfx m c := fun m hm => by rw [ed]; exact sfx_mod hm
      have hdead := deadF_iff (li := li) (d := d) hP.1 (y + 1)
      have hend : endF (bL li co) (n + 1) c = true ↔ deadF li co d (y + 1) = true := by
        rw [endF_iff, hdead]
        constructor
        · rintro ⟨m, m1, m2, m3, m4⟩
          obtain ⟨k, k1, k2⟩ := (bL_iff co).mp m4
          obtain ⟨m', rfl⟩ : ∃ m', m = m' + 1 := ⟨m - 1, by omega⟩
          obtain ⟨t, t1, t2⟩ := pc_up hP hK k1 k2
          have hy : m' ≤ y := by
            rcases Nat.lt_or_ge y m' with q | q
            · exact absurd t2 (h5 m' q (by omega) t t1)
            · exact q
          exact ⟨m' + 1, m1, by omega, k, k1, by rw [hsf _ (by omega)]; exact k2⟩
        · rintro ⟨m, m1, m2, k, k1, k2⟩
          rw [hsf m m2] at k2
          obtain ⟨w, b1, b2, b3, b4⟩ := hP.2 k k1
          have hs2 := sfx_in m c
          have ew := num_eq k2 b3 b4 hs2.1 hs2.2
          exact ⟨m, m1, by omega, by omega, (bL_iff co).mpr ⟨k, k1, k2⟩⟩
      by_cases hE : endF (bL li co) (n + 1) c = true
      · left
        refine ⟨?_, if_pos hE⟩
        rw [ht]
        exact if_pos (hend.mp hE)
      · right
        have hg : goodF (bL li co) (n + 1) c = true := by
          show (if endF _ _ _ = true then false else goodF _ n (c / 3)) = true
          rw [if_neg hE]; exact h2
        have e1 : dl (3 * s + c % 3) = longF kn ss d (y + 1) := by
          rw [ht]; exact if_neg (fun q => hE (hend.mpr q))
        have hup : ∀ m, y + 1 < m → m ≤ n + 1 → ∀ t, t < ss → kn t ≠ sfx m c := by
          intro m a b t ht q
          obtain ⟨m', rfl⟩ : ∃ m', m = m' + 1 := ⟨m - 1, by omega⟩
          obtain ⟨t', t1, t2⟩ := kn_up hP hK ht q
          exact h5 m' (by omega) (by omega) t' t1 t2
        rw [e1]
        have hss := hK.2.1
        rcases longF_spec (kn := kn) (d := d) (ss := ss) (by omega) (y + 1) with ⟨g1, g2⟩ | ⟨m, g1, g2, g3, g4, g5⟩
        · rw [g1]
          refine ⟨by omega, hg, 0, by omega, ?_, ?_⟩
          · show kn 0 = 1 + c % 1
            rw [hK.1]; omega
          · intro m a b t ht
            by_cases hm : m ≤ y + 1
            · rw [← hsf m hm]; exact g2 m (by omega) hm t ht
            · exact hup m (by omega) b t ht
        · refine ⟨g3, hg, m, by omega, by rw [g4, hsf m g2], ?_⟩
          intro m' a b t ht
          by_cases hm : m' ≤ y + 1
          · rw [← hsf m' hm]; exact g5 m' a hm t ht
          · exact hup m' (by omega) b t ht
/-- what is built: the table, the numbers of ways, and what they mean -/
def BT (li : Nat → Nat) (co : Nat) (dl wa : Nat → Nat) (ss : Nat) : Prop := okS dl ss ∧ (∀ n s, n ≤ 30 → s < 26 → wa (26 * n + s) = cntF dl ss n s) ∧ ∀ n c, runF dl 0 n c = 25 ↔ goodF (bL li co) n c = false
theorem BT_of {li : Nat → Nat} {co : Nat} {kn : Nat → Nat} {ss : Nat} {dl wa : Nat → Nat} (hP : PCS li co) (hK : KN li co kn ss) (hT : STP li co kn ss dl) (ho : okS dl ss) (hw : ∀ n s, n ≤ 30 → s < 26 → wa (26 * n + s) = cntF dl ss n s) : BT li co dl wa ss := by
  refine ⟨ho, hw, fun n c => ?_⟩
  have hss := hK.2.1
  rcases run_inv hP hK hT ho n c with ⟨h1, h2⟩ | ⟨h1, h2, -⟩
  · exact ⟨fun _ => h2, fun _ => h1⟩
  · constructor
    · intro h; omega
    · intro h; rw [h2] at h; cases h
end
section
set_option maxRecDepth 100000
set_option maxHeartbeats 4000000 in
set_option maxRecDepth 100000 in
/-- countWays: the numbers of ways -/
theorem met_X0_countWays {l : Launch} {D : va_G} {ck : Nat → ClassId} {ad : Nat → Nat} {li kn dl wa no th ta fr : Nat → Nat} {co ss bu : Nat} (ho : okS dl ss) (sz : Nat) : Met l yX0_countWays (ws_ yX0_countWays cX0_countWays 4 none) (rmL 0) (muP D (tysX ck) (XW ad ck li kn dl wa no th ta fr co ss bu) [.ref (ad 0)] sz) (muQ D (fun v w => v = none ∧ ∃ wv, w = XW ad ck li kn dl wv no th ta fr co ss bu ∧ ∀ n s, n ≤ 30 → s < 26 → wv (26 * n + s) = cntF dl ss n s) (va_A (XW ad ck li kn dl wa no th ta fr co ss bu) sz)) 0 0 (va_A (XW ad ck li kn dl wa no th ta fr co ss bu) sz) := by
  refine mu_v (lv0 := [(0, .ref (ad 0))]) (by decide) (Nat.le_of_ble_eq_true rfl) rfl (fun X B M hret => ?_) sz
  obtain ⟨S, hN, hRm, rfl, rfl⟩ := B
  have S : fwC X cX0_countWays RX0 (tysX ck) := S
  have hss := ho.1
  refine fg_ic (v := nI 0) S dX0_countWays_0 (by decide) ?_
  refine fg_istore_n (lv' := [(0, .ref (ad 0)), (1, .int (nI 0))]) S [1, 0] dX0_countWays_1 rfl hN (by decide) rfl ?_
  have lA : ∀ (fuel : Nat) (k : Nat) (w1 : Nat → Nat), (k ≤ 26) → (∀ t, t < k → w1 t = cntF dl ss 0 t) → (26 - k) < fuel → fwG X (XW ad ck li kn dl w1 no th ta fr co ss bu) 2 [(0, .ref (ad 0)), (1, .int (nI k))] [] := by
    intro fuel
    induction fuel with
    | zero => intro k w1 hk hA hfu; exact absurd hfu (Nat.not_lt_zero _)
    | succ fuel ih_lA =>
      intro k w1 hk hA hfu
      refine fg_iload_n S 1 1 dX0_countWays_2 rfl rfl ?_
      refine fg_bi (v := nI 26) S dX0_countWays_3 (by decide) ?_
      refine fg_icmp_ge S 33 dX0_countWays_5 (by decide) (by omega) (by omega) (fun h_1 => ?_) (fun h_1 => ?_)
      · refine fg_ic (v := nI 1) S dX0_countWays_33 (by decide) ?_
        refine fg_istore_n (lv' := [(0, .ref (ad 0)), (1, .int (nI 1))]) S [1, 0] dX0_countWays_34 rfl hN (by decide) rfl ?_
        have lB : ∀ (fuel : Nat) (n : Nat) (w2 : Nat → Nat), (1 ≤ n) → (n ≤ 31) → (∀ m t, m < n → t < 26 → w2 (26 * m + t) = cntF dl ss m t) → (31 - n) < fuel → fwG X (XW ad ck li kn dl w2 no th ta fr co ss bu) 35 [(0, .ref (ad 0)), (1, .int (nI n))] [] := by
          intro fuel
          induction fuel with
          | zero => intro n w2 hn1 hn2 hB hfu; exact absurd hfu (Nat.not_lt_zero _)
          | succ fuel ih_lB =>
            intro n w2 hn1 hn2 hB hfu
            refine fg_iload_n S 1 1 dX0_countWays_35 rfl rfl ?_
            refine fg_bi (v := nI 30) S dX0_countWays_36 (by decide) ?_
            refine fg_icmp_gt S 130 dX0_countWays_38 (by decide) (by omega) (by omega) (fun h_2 => ?_) (fun h_2 => ?_)
            · exact hret _ _ _ dX0_countWays_130 ⟨rfl, w2, rfl, fun m t hm ht => hB m t (by omega) ht⟩
            · refine fg_ic (v := nI 0) S dX0_countWays_41 (by decide) ?_
              refine fg_istore_n (lv' := [(0, .ref (ad 0)), (1, .int (nI n)), (2, .int (nI 0))]) S [1, 2, 0] dX0_countWays_42 rfl hN (by decide) rfl ?_
              have lC : ∀ (fuel : Nat) (s : Nat) (w3 : Nat → Nat), (s ≤ 26) → (∀ m t, m < n → t < 26 → w3 (26 * m + t) = cntF dl ss m t) → (∀ t, t < s → w3 (26 * n + t) = cntF dl ss n t) → (26 - s) < fuel → fwG X (XW ad ck li kn dl w3 no th ta fr co ss bu) 43 [(0, .ref (ad 0)), (1, .int (nI n)), (2, .int (nI s))] [] := by
                intro fuel
                induction fuel with
                | zero => intro s w3 hs hC1 hC2 hfu; exact absurd hfu (Nat.not_lt_zero _)
                | succ fuel ih_lC =>
                  intro s w3 hs hC1 hC2 hfu
                  refine fg_iload_n S 2 2 dX0_countWays_43 rfl rfl ?_
                  refine fg_bi (v := nI 26) S dX0_countWays_44 (by decide) ?_
                  refine fg_icmp_ge S 124 dX0_countWays_46 (by decide) (by omega) (by omega) (fun h_3 => ?_) (fun h_3 => ?_)
                  · refine fg_iinc (lv' := [(0, .ref (ad 0)), (1, .int (nI (n + 1))), (2, .int (nI s))]) S 1 [1, 0, 2] dX0_countWays_124 rfl (inc_1 _) hN (by decide) rfl ?_
                    refine fg_goto S 35 dX0_countWays_127 (by decide) ?_
                    refine fg_perm (lv' := [(0, .ref (ad 0)), (1, .int (nI (n + 1)))]) [0, 1] rfl ?_
                    exact ih_lB (n + 1) w3 (by omega) (by omega) (fun m t hm ht => by by_cases q : m = n; (subst q; exact hC2 t (by omega)); exact hC1 m t (by omega) ht) (by omega)
                  · refine fg_aload_n S 0 0 dX0_countWays_49 rfl rfl ?_
                    refine xg_wa S dX0_countWays_50 ?_
                    refine fg_bi (v := nI 26) S dX0_countWays_53 (by decide) ?_
                    refine fg_iload_n S 1 1 dX0_countWays_55 rfl rfl ?_
                    refine fg_imul S dX0_countWays_56 ?_
                    refine fg_iload_n S 2 2 dX0_countWays_57 rfl rfl ?_
                    refine fg_iadd S dX0_countWays_58 ?_
                    refine fg_lc (v := lN 0) S dX0_countWays_59 (by decide) ?_
                    refine xs_wa S M dX0_countWays_60 (by omega) ?_
                    refine fg_ic (v := nI 0) S dX0_countWays_61 (by decide) ?_
                    refine fg_istore_n (lv' := [(0, .ref (ad 0)), (1, .int (nI n)), (2, .int (nI s)), (3, .int (nI 0))]) S [1, 2, 3, 0] dX0_countWays_62 rfl hN (by decide) rfl ?_
                    have lD : ∀ (fuel : Nat) (c : Nat) (w4 : Nat → Nat), (c ≤ 3) → (∀ m t, m < n → t < 26 → w4 (26 * m + t) = cntF dl ss m t) → (∀ t, t < s → w4 (26 * n + t) = cntF dl ss n t) → (w4 (26 * n + s) = if s < ss then sumF (fun x => cntF dl ss (n - 1) (dl (3 * s + x))) c else 0) → (3 - c) < fuel → fwG X (XW ad ck li kn dl w4 no th ta fr co ss bu) 63 [(0, .ref (ad 0)), (1, .int (nI n)), (2, .int (nI s)), (3, .int (nI c))] [] := by
                      intro fuel
                      induction fuel with
                      | zero => intro c w4 hc hD1 hD2 hD3 hfu; exact absurd hfu (Nat.not_lt_zero _)
                      | succ fuel ih_lD =>
                        intro c w4 hc hD1 hD2 hD3 hfu
                        refine fg_iload_n S 3 3 dX0_countWays_63 rfl rfl ?_
                        refine fg_ic (v := nI 3) S dX0_countWays_64 (by decide) ?_
                        refine fg_icmp_ge S 118 dX0_countWays_65 (by decide) (by omega) (by omega) (fun h_4 => ?_) (fun h_4 => ?_)
                        · refine fg_iinc (lv' := [(0, .ref (ad 0)), (1, .int (nI n)), (2, .int (nI (s + 1))), (3, .int (nI c))]) S 2 [1, 2, 0, 3] dX0_countWays_118 rfl (inc_1 _) hN (by decide) rfl ?_
                          refine fg_goto S 43 dX0_countWays_121 (by decide) ?_
                          refine fg_perm (lv' := [(0, .ref (ad 0)), (1, .int (nI n)), (2, .int (nI (s + 1)))]) [0, 1, 2] rfl ?_
                          exact ih_lC (s + 1) w4 (by omega) hD1 (fun t ht => by by_cases q : t = s; (subst q; rw [hD3, show c = 3 by omega]; obtain ⟨j, rfl⟩ : ∃ j, n = j + 1 := ⟨n - 1, by omega⟩; rfl); exact hD2 t (by omega)) (by omega)
                        · refine fg_iload_n S 2 2 dX0_countWays_68 rfl rfl ?_
                          refine fg_aload_n S 0 0 dX0_countWays_69 rfl rfl ?_
                          refine xg_ss S dX0_countWays_70 ?_
                          refine fg_icmp_ge S 118 dX0_countWays_73 (by decide) (by omega) (by omega) (fun h_5 => ?_) (fun h_5 => ?_)
                          · refine fg_iinc (lv' := [(0, .ref (ad 0)), (1, .int (nI n)), (2, .int (nI (s + 1))), (3, .int (nI c))]) S 2 [1, 2, 0, 3] dX0_countWays_118 rfl (inc_1 _) hN (by decide) rfl ?_
                            refine fg_goto S 43 dX0_countWays_121 (by decide) ?_
                            refine fg_perm (lv' := [(0, .ref (ad 0)), (1, .int (nI n)), (2, .int (nI (s + 1)))]) [0, 1, 2] rfl ?_
                            exact ih_lC (s + 1) w4 (by omega) hD1 (fun t ht => by by_cases q : t = s; (subst q; rw [hD3, if_neg (by omega)]; obtain ⟨j, rfl⟩ : ∃ j, n = j + 1 := ⟨n - 1, by omega⟩; exact (if_neg (by omega)).symm); exact hD2 t (by omega)) (by omega)
                          · have hr := inS_dl (c := c) ho (Or.inl (by omega) : inS ss s) (by omega)
                            refine fg_aload_n S 0 0 dX0_countWays_76 rfl rfl ?_
                            refine xg_wa S dX0_countWays_77 ?_
                            refine fg_bi (v := nI 26) S dX0_countWays_80 (by decide) ?_
                            refine fg_iload_n S 1 1 dX0_countWays_82 rfl rfl ?_
                            refine fg_imul S dX0_countWays_83 ?_
                            refine fg_iload_n S 2 2 dX0_countWays_84 rfl rfl ?_
                            refine fg_iadd S dX0_countWays_85 ?_
                            refine fg_dup2 S dX0_countWays_86 rfl rfl ?_
                            refine xl_wa S dX0_countWays_87 (by omega) ?_
                            refine fg_aload_n S 0 0 dX0_countWays_88 rfl rfl ?_
                            refine xg_wa S dX0_countWays_89 ?_
                            refine fg_bi (v := nI 26) S dX0_countWays_92 (by decide) ?_
                            refine fg_iload_n S 1 1 dX0_countWays_94 rfl rfl ?_
                            refine fg_ic (v := nI 1) S dX0_countWays_95 (by decide) ?_
                            refine fg_isub S dX0_countWays_96 (by omega) ?_
                            refine fg_imul S dX0_countWays_97 ?_
                            refine fg_aload_n S 0 0 dX0_countWays_98 rfl rfl ?_
                            refine xg_dl S dX0_countWays_99 ?_
                            refine fg_ic (v := nI 3) S dX0_countWays_102 (by decide) ?_
                            refine fg_iload_n S 2 2 dX0_countWays_103 rfl rfl ?_
                            refine fg_imul S dX0_countWays_104 ?_
                            refine fg_iload_n S 3 3 dX0_countWays_105 rfl rfl ?_
                            refine fg_iadd S dX0_countWays_106 ?_
                            refine xl_dl S dX0_countWays_107 (by omega) ?_
                            refine fg_iadd S dX0_countWays_108 ?_
                            refine xl_wa S dX0_countWays_109 (by omega) ?_
                            refine fg_ladd S dX0_countWays_110 ?_
                            refine xs_wa S M dX0_countWays_111 (by omega) ?_
                            refine fg_iinc (lv' := [(0, .ref (ad 0)), (1, .int (nI n)), (2, .int (nI s)), (3, .int (nI (c + 1)))]) S 3 [1, 2, 3, 0] dX0_countWays_112 rfl (inc_1 _) hN (by decide) rfl ?_
                            refine fg_goto S 63 dX0_countWays_115 (by decide) ?_
                            exact ih_lD (c + 1) (va_up w4 (26 * n + s) (w4 (26 * n + s) + w4 (26 * (n - 1) + dl (3 * s + c)))) (by omega) (fun m t hm ht => by rw [up_ne (by omega)]; exact hD1 m t hm ht) (fun t ht => by rw [up_ne (by omega)]; exact hD2 t ht) (by rw [up_eq, hD3, if_pos (by omega), if_pos (by omega), hD1 (n - 1) _ (by omega) (by omega)]; rfl) (by omega)
                    exact lD ((3 - 0) + 1) 0 (va_up w3 (26 * n + s) 0) (Nat.zero_le _) (fun m t hm ht => by rw [up_ne (by omega)]; exact hC1 m t hm ht) (fun t ht => by rw [up_ne (by omega)]; exact hC2 t ht) (by rw [up_eq]; split <;> rfl) (Nat.lt_succ_self _)
              exact lC ((26 - 0) + 1) 0 w2 (Nat.zero_le _) hB (fun t ht => absurd ht (by omega)) (Nat.lt_succ_self _)
        exact lB ((31 - 1) + 1) 1 w1 (Nat.le_refl _) (by omega) (fun m t hm ht => by rw [show m = 0 by omega, show 26 * 0 + t = t by omega]; exact hA t (by omega)) (Nat.lt_succ_self _)
      · refine fg_aload_n S 0 0 dX0_countWays_8 rfl rfl ?_
        refine xg_wa S dX0_countWays_9 ?_
        refine fg_iload_n S 1 1 dX0_countWays_12 rfl rfl ?_
        refine fg_iload_n S 1 1 dX0_countWays_13 rfl rfl ?_
        refine fg_aload_n S 0 0 dX0_countWays_14 rfl rfl ?_
        refine xg_ss S dX0_countWays_15 ?_
        refine fg_icmp_ge S 25 dX0_countWays_18 (by decide) (by omega) (by omega) (fun h_6 => ?_) (fun h_6 => ?_)
        · refine fg_lc (v := lN 0) S dX0_countWays_25 (by decide) ?_
          refine xs_wa S M dX0_countWays_26 (by omega) ?_
          refine fg_iinc (lv' := [(0, .ref (ad 0)), (1, .int (nI (k + 1)))]) S 1 [1, 0] dX0_countWays_27 rfl (inc_1 _) hN (by decide) rfl ?_
          refine fg_goto S 2 dX0_countWays_30 (by decide) ?_
          exact ih_lA (k + 1) (va_up w1 k 0) (by omega) (fun t ht => by by_cases q : t = k; (subst q; rw [up_eq]; exact (if_neg (by omega)).symm); (rw [up_ne q]; exact hA t (by omega))) (by omega)
        · refine fg_lc (v := lN 1) S dX0_countWays_21 (by decide) ?_
          refine fg_goto S 26 dX0_countWays_22 (by decide) ?_
          refine xs_wa S M dX0_countWays_26 (by omega) ?_
          refine fg_iinc (lv' := [(0, .ref (ad 0)), (1, .int (nI (k + 1)))]) S 1 [1, 0] dX0_countWays_27 rfl (inc_1 _) hN (by decide) rfl ?_
          refine fg_goto S 2 dX0_countWays_30 (by decide) ?_
          exact ih_lA (k + 1) (va_up w1 k 1) (by omega) (fun t ht => by by_cases q : t = k; (subst q; rw [up_eq]; exact (if_pos (by omega)).symm); (rw [up_ne q]; exact hA t (by omega))) (by omega)
  exact lA ((26 - 0) + 1) 0 wa (Nat.zero_le _) (fun t ht => absurd ht (by omega)) (Nat.lt_succ_self _)
set_option maxHeartbeats 4000000 in
set_option maxRecDepth 100000 in
/-- build -/
theorem met_X0_build {l : Launch} {D : va_G} {ck : Nat → ClassId} {ad : Nat → Nat} {li kn dl wa no th ta fr : Nat → Nat} {co ss bu : Nat} (hP : PCS li co) (hbu : bu = 0 ∨ (bu = 1 ∧ BT li co dl wa ss)) (sz : Nat) : Met l yX0_build (ws_ yX0_build cX0_build 5 none) (rmL 2) (muP D (tysX ck) (XW ad ck li kn dl wa no th ta fr co ss bu) [.ref (ad 0)] sz) (muQ D (fun v w => v = none ∧ ∃ kv dv wv sv, w = XW ad ck li kv dv wv no th ta fr co sv 1 ∧ BT li co dv wv sv) (va_A (XW ad ck li kn dl wa no th ta fr co ss bu) sz)) 0 0 (va_A (XW ad ck li kn dl wa no th ta fr co ss bu) sz) := by
  refine mu_v (lv0 := [(0, .ref (ad 0))]) (by decide) (Nat.le_of_ble_eq_true rfl) rfl (fun X B M hret => ?_) sz
  obtain ⟨S, hN, hRm, rfl, rfl⟩ := B
  have S : fwC X cX0_build RX0 (tysX ck) := S
  have hco := hP.1
  have hsz : ∀ k, k < co → ∃ z, szF (li k : Int) = z ∧ 1 ≤ z ∧ z ≤ 4 ∧ p3 z ≤ li k ∧ li k < 2 * p3 z ∧ li k < 162 := by
    intro k hk
    obtain ⟨z, z1, z2, z3, z4⟩ := hP.2 k hk
    have := p3_mono z2
    have e4 : p3 4 = 81 := rfl
    exact ⟨z, szN_of z1 z2 z3 z4, z1, z2, z3, z4, by omega⟩
  have hbl : ∀ k, k < co → li k < 2 ^ 31 := fun k hk => by obtain ⟨z, -, -, -, -, -, h⟩ := hsz k hk; omega
  refine fg_aload_n S 0 0 dX0_build_0 rfl rfl ?_
  refine xg_bu S dX0_build_1 ?_
  refine fg_if_eq S 8 dX0_build_4 (by decide) (by rcases hbu with h | h <;> omega) (fun h_1 => ?_) (fun h_1 => ?_)
  · refine fg_aload_n S 0 0 dX0_build_8 rfl rfl ?_
    refine fg_ic (v := nI 1) S dX0_build_9 (by decide) ?_
    refine xp_bu1 S M dX0_build_10 ?_
    refine fg_aload_n S 0 0 dX0_build_13 rfl rfl ?_
    refine fg_ic (v := nI 1) S dX0_build_14 (by decide) ?_
    refine xp_ss S M dX0_build_15 ?_
    refine fg_aload_n S 0 0 dX0_build_18 rfl rfl ?_
    refine xg_kn S dX0_build_19 ?_
    refine fg_ic (v := nI 0) S dX0_build_22 (by decide) ?_
    refine fg_ic (v := nI 1) S dX0_build_23 (by decide) ?_
    refine xs_kn S M dX0_build_24 (by omega) ?_
    refine fg_ic (v := nI 0) S dX0_build_25 (by decide) ?_
    refine fg_istore_n (lv' := [(0, .ref (ad 0)), (1, .int (nI 0))]) S [1, 0] dX0_build_26 rfl hN (by decide) rfl ?_
    have lA : ∀ (fuel : Nat) (k : Nat) (kv : Nat → Nat) (sv : Nat), (k ≤ co) → (kv 0 = 1 ∧ (1 ≤ sv ∧ sv ≤ 1 + 3 * k) ∧ (∀ s, s < sv → ∃ y, y ≤ 3 ∧ p3 y ≤ kv s ∧ kv s < 2 * p3 y)) → (∀ q j, q < k → 1 ≤ j → j < szF (li q) → ∃ s, s < sv ∧ kv s = li q / p3 j) → (∀ s, s < sv → s = 0 ∨ ∃ q x, q < k ∧ 1 ≤ x ∧ x < szF (li q) ∧ kv s = li q / p3 x) → (co - k) < fuel → fwG X (XW ad ck li kv dl wa no th ta fr co sv 1) 27 [(0, .ref (ad 0)), (1, .int (nI k))] [] := by
      intro fuel
      induction fuel with
      | zero => intro k kv sv hk hA hA1 hA2 hfu; exact absurd hfu (Nat.not_lt_zero _)
      | succ fuel ih_lA =>
        intro k kv sv hk hA hA1 hA2 hfu
        refine fg_iload_n S 1 1 dX0_build_27 rfl rfl ?_
        refine fg_aload_n S 0 0 dX0_build_28 rfl rfl ?_
        refine xg_co S dX0_build_29 ?_
        refine fg_icmp_ge S 109 dX0_build_32 (by decide) (by omega) (by omega) (fun h_2 => ?_) (fun h_2 => ?_)
        · have ek : k = co := by omega
          subst ek
          have hKN : KN li k kv sv := ⟨hA.1, ⟨hA.2.1.1, by omega⟩, hA.2.2, hA1, hA2⟩
          have hkb : ∀ t, t < sv → kv t < 54 := fun t ht => by obtain ⟨y, y1, y2, y3⟩ := hA.2.2 t ht; have := p3_mono y1; have e3 : p3 3 = 27 := rfl; omega
          refine fg_ic (v := nI 0) S dX0_build_109 (by decide) ?_
          refine fg_istore_n (lv' := [(0, .ref (ad 0)), (1, .int (nI 0))]) S [1, 0] dX0_build_110 rfl hN (by decide) rfl ?_
          have lE : ∀ (fuel : Nat) (i : Nat) (dv : Nat → Nat), (i ≤ 3 * sv) → (∀ x, x < i → ∃ z d, 1 ≤ z ∧ z ≤ 4 ∧ d < p3 z ∧ 3 * kv (x / 3) + x % 3 = p3 z + d ∧ dv x = tgF li k kv sv z d) → (3 * sv - i) < fuel → fwG X (XW ad ck li kv dv wa no th ta fr k sv 1) 111 [(0, .ref (ad 0)), (1, .int (nI i))] [] := by
            intro fuel
            induction fuel with
            | zero => intro i dv hi hE hfu; exact absurd hfu (Nat.not_lt_zero _)
            | succ fuel ih_lE =>
              intro i dv hi hE hfu
              refine fg_iload_n S 1 1 dX0_build_111 rfl rfl ?_
              refine fg_ic (v := nI 3) S dX0_build_112 (by decide) ?_
              refine fg_aload_n S 0 0 dX0_build_113 rfl rfl ?_
              refine xg_ss S dX0_build_114 ?_
              refine fg_imul S dX0_build_117 ?_
              refine fg_icmp_ge S 151 dX0_build_118 (by decide) (by omega) (by omega) (fun h_3 => ?_) (fun h_3 => ?_)
              · refine fg_ic (v := nI 0) S dX0_build_151 (by decide) ?_
                refine fg_istore_n (lv' := [(0, .ref (ad 0)), (1, .int (nI 0))]) S [1, 0] dX0_build_152 rfl hN (by decide) rfl ?_
                have lF : ∀ (fuel : Nat) (c : Nat) (du : Nat → Nat), (c ≤ 3) → (∀ i, i < 3 * sv → ∃ z d, 1 ≤ z ∧ z ≤ 4 ∧ d < p3 z ∧ 3 * kv (i / 3) + i % 3 = p3 z + d ∧ du i = tgF li k kv sv z d) → (∀ x, x < c → du (75 + x) = 25) → (3 - c) < fuel → fwG X (XW ad ck li kv du wa no th ta fr k sv 1) 153 [(0, .ref (ad 0)), (1, .int (nI c))] [] := by
                  intro fuel
                  induction fuel with
                  | zero => intro c du hc hF1 hF2 hfu; exact absurd hfu (Nat.not_lt_zero _)
                  | succ fuel ih_lF =>
                    intro c du hc hF1 hF2 hfu
                    refine fg_iload_n S 1 1 dX0_build_153 rfl rfl ?_
                    refine fg_ic (v := nI 3) S dX0_build_154 (by decide) ?_
                    refine fg_icmp_ge S 175 dX0_build_155 (by decide) (by omega) (by omega) (fun h_4 => ?_) (fun h_4 => ?_)
                    · have hST : STP li k kv sv du := fun i hi => hF1 i (by omega)
                      have ho : okS du sv := ⟨⟨hA.2.1.1, by omega⟩, fun i hi => by obtain ⟨z, d, -, -, -, -, e⟩ := hF1 i (by omega); rw [e]; exact tgF_in ⟨hA.2.1.1, by omega⟩, hF2 0 (by omega), hF2 1 (by omega), hF2 2 (by omega)⟩
                      refine fg_aload_n S 0 0 dX0_build_175 rfl rfl ?_
                      refine cx_mu S M hRm 0 (fun sz => met_X0_countWays ho sz) rfl q115 q117 qs4 q22 q118 ok_X0_countWays (by decide) rfl rfl (Nat.le_of_ble_eq_true rfl) dX0_build_176 ?_
                      intro v_ w_ hp_
                      obtain ⟨rfl, wv, rfl, hwv⟩ := hp_
                      show fwG X (XW ad ck li kv du wv no th ta fr k sv 1) 179 [(0, .ref (ad 0)), (1, .int (nI c))] []
                      exact hret _ _ _ dX0_build_179 ⟨rfl, kv, du, wv, sv, rfl, BT_of hP hKN hST ho hwv⟩
                    · refine fg_aload_n S 0 0 dX0_build_158 rfl rfl ?_
                      refine xg_dl S dX0_build_159 ?_
                      refine fg_bi (v := nI 75) S dX0_build_162 (by decide) ?_
                      refine fg_iload_n S 1 1 dX0_build_164 rfl rfl ?_
                      refine fg_iadd S dX0_build_165 ?_
                      refine fg_bi (v := nI 25) S dX0_build_166 (by decide) ?_
                      refine xs_dl S M dX0_build_168 (by omega) ?_
                      refine fg_iinc (lv' := [(0, .ref (ad 0)), (1, .int (nI (c + 1)))]) S 1 [1, 0] dX0_build_169 rfl (inc_1 _) hN (by decide) rfl ?_
                      refine fg_goto S 153 dX0_build_172 (by decide) ?_
                      exact ih_lF (c + 1) (va_up du (75 + c) 25) (by omega) (fun i hi => by rw [up_ne (by omega)]; exact hF1 i hi) (fun x hx => by by_cases q : x = c; (subst q; exact up_eq); (rw [up_ne (by omega)]; exact hF2 x (by omega))) (by omega)
                exact lF ((3 - 0) + 1) 0 dv (Nat.zero_le _) (fun i hi => hE i (by omega)) (fun x hx => absurd hx (by omega)) (Nat.lt_succ_self _)
              · have hi3 : i / 3 < sv := by omega
                have hkv := hkb (i / 3) hi3
                obtain ⟨y, y1, y2, y3⟩ := hA.2.2 (i / 3) hi3
                obtain ⟨z, d, hz, hd, he⟩ : ∃ z d, (1 ≤ z ∧ z ≤ 4) ∧ d < p3 z ∧ 3 * kv (i / 3) + i % 3 = p3 z + d := ⟨y + 1, 3 * kv (i / 3) + i % 3 - p3 (y + 1), by omega, by rw [p3_s]; omega, by rw [p3_s]; omega⟩
                refine fg_aload_n S 0 0 dX0_build_121 rfl rfl ?_
                refine xg_dl S dX0_build_122 ?_
                refine fg_iload_n S 1 1 dX0_build_125 rfl rfl ?_
                refine fg_aload_n S 0 0 dX0_build_126 rfl rfl ?_
                refine fg_ic (v := nI 3) S dX0_build_127 (by decide) ?_
                refine fg_aload_n S 0 0 dX0_build_128 rfl rfl ?_
                refine xg_kn S dX0_build_129 ?_
                refine fg_iload_n S 1 1 dX0_build_132 rfl rfl ?_
                refine fg_ic (v := nI 3) S dX0_build_133 (by decide) ?_
                refine fg_idiv S dX0_build_134 (by omega) (by omega) (by omega) ?_
                refine xl_kn S dX0_build_135 (by omega) ?_
                refine fg_imul S dX0_build_136 ?_
                refine fg_iload_n S 1 1 dX0_build_137 rfl rfl ?_
                refine fg_ic (v := nI 3) S dX0_build_138 (by decide) ?_
                refine fg_irem S dX0_build_139 (by omega) (by omega) (by omega) ?_
                refine fg_iadd S dX0_build_140 ?_
                refine cx_ro S hRm 1 (met_X0_target ((3 * (kv (i / 3))) + (i % 3)) z d hz hd he hco hbl (by omega) (fun t ht => by have := hkb t ht; omega)) rfl q111 q113 qs3 q22 q114 ok_X0_target (by decide) rfl rfl (Nat.le_of_ble_eq_true rfl) dX0_build_141 ?_
                refine xs_dl S M dX0_build_144 (by omega) ?_
                refine fg_iinc (lv' := [(0, .ref (ad 0)), (1, .int (nI (i + 1)))]) S 1 [1, 0] dX0_build_145 rfl (inc_1 _) hN (by decide) rfl ?_
                refine fg_goto S 111 dX0_build_148 (by decide) ?_
                exact ih_lE (i + 1) (va_up dv i (tgF li k kv sv z d)) (by omega) (fun x hx => by by_cases q : x = i; (subst q; exact ⟨z, d, hz.1, hz.2, hd, he, up_eq⟩); (rw [up_ne q]; exact hE x (by omega))) (by omega)
          exact lE ((3 * sv - 0) + 1) 0 dl (Nat.zero_le _) (fun x hx => absurd hx (by omega)) (Nat.lt_succ_self _)
        · obtain ⟨z, ez, z1, z2, z3, z4, z5⟩ := hsz k (by omega)
          refine fg_aload_n S 0 0 dX0_build_35 rfl rfl ?_
          refine xg_li S dX0_build_36 ?_
          refine fg_iload_n S 1 1 dX0_build_39 rfl rfl ?_
          refine xl_li S dX0_build_40 (by omega) ?_
          refine cs_ S hRm 1 (met_X0_sizeOfN (li k) ⟨by omega, ez⟩) q75 q76 q22 q77 ok_X0_sizeOf (by decide) rfl rfl (Nat.le_of_ble_eq_true rfl) dX0_build_41 ?_
          refine fg_istore_n (lv' := [(0, .ref (ad 0)), (1, .int (nI k)), (2, .int (nI z))]) S [1, 2, 0] dX0_build_44 rfl hN (by decide) rfl ?_
          refine fg_iload_n S 2 2 dX0_build_45 rfl rfl ?_
          refine fg_ic (v := nI 1) S dX0_build_46 (by decide) ?_
          refine fg_isub S dX0_build_47 (by omega) ?_
          refine fg_istore_n (lv' := [(0, .ref (ad 0)), (1, .int (nI k)), (2, .int (nI z)), (3, .int (nI (z - 1)))]) S [1, 2, 3, 0] dX0_build_48 rfl hN (by decide) rfl ?_
          have lB : ∀ (fuel : Nat) (j : Nat) (ku : Nat → Nat) (su : Nat), (j < z) → (ku 0 = 1 ∧ (1 ≤ su ∧ su + j ≤ 3 * k + z) ∧ (∀ s, s < su → ∃ y, y ≤ 3 ∧ p3 y ≤ ku s ∧ ku s < 2 * p3 y)) → (∀ q x, q < k → 1 ≤ x → x < szF (li q) → ∃ s, s < su ∧ ku s = li q / p3 x) → (∀ x, j < x → x < z → ∃ s, s < su ∧ ku s = li k / p3 x) → (∀ s, s < su → s = 0 ∨ ∃ q x, q < k + 1 ∧ 1 ≤ x ∧ x < szF (li q) ∧ ku s = li q / p3 x) → (j) < fuel → fwG X (XW ad ck li ku dl wa no th ta fr co su 1) 49 [(0, .ref (ad 0)), (1, .int (nI k)), (2, .int (nI z)), (3, .int (nI j))] [] := by
            intro fuel
            induction fuel with
            | zero => intro j ku su hj hB hB1 hB3 hB2 hfu; exact absurd hfu (Nat.not_lt_zero _)
            | succ fuel ih_lB =>
              intro j ku su hj hB hB1 hB3 hB2 hfu
              refine fg_iload_n S 3 3 dX0_build_49 rfl rfl ?_
              refine fg_ic (v := nI 1) S dX0_build_50 (by decide) ?_
              refine fg_icmp_lt S 103 dX0_build_51 (by decide) (by omega) (by omega) (fun h_5 => ?_) (fun h_5 => ?_)
              · refine fg_iinc (lv' := [(0, .ref (ad 0)), (1, .int (nI (k + 1))), (2, .int (nI z)), (3, .int (nI j))]) S 1 [1, 0, 2, 3] dX0_build_103 rfl (inc_1 _) hN (by decide) rfl ?_
                refine fg_goto S 27 dX0_build_106 (by decide) ?_
                refine fg_perm (lv' := [(0, .ref (ad 0)), (1, .int (nI (k + 1)))]) [0, 1] rfl ?_
                exact ih_lA (k + 1) ku su (by omega) ⟨hB.1, ⟨hB.2.1.1, by omega⟩, hB.2.2⟩ (fun q x hq h1 h2 => by by_cases e : q = k; (subst e; exact hB3 x (by omega) (by rw [ez] at h2; exact h2)); exact hB1 q x (by omega) h1 h2) (fun t ht => by rcases hB2 t ht with h | ⟨q, x, h1, h2⟩; (exact Or.inl h); exact Or.inr ⟨q, x, by omega, h2⟩) (by omega)
              · have hp1 := p3_pos j
                have hp2 := p3_le (n := j) (by omega)
                have hkb : ∀ t, t < su → ku t < 54 := fun t ht => by obtain ⟨y, y1, y2, y3⟩ := hB.2.2 t ht; have := p3_mono y1; have e3 : p3 3 = 27 := rfl; omega
                have hdv := Nat.div_le_self (li k) (p3 j)
                obtain ⟨i, ei, hei⟩ : ∃ i, j + i = z ∧ p3 z = p3 j * p3 i := ⟨z - j, by omega, by rw [← p3_add, show j + (z - j) = z by omega]⟩
                have hy1 : p3 i ≤ li k / p3 j := (Nat.le_div_iff_mul_le hp1).mpr (by rw [Nat.mul_comm]; omega)
                have hy2 : li k / p3 j < 2 * p3 i := (Nat.div_lt_iff_lt_mul hp1).mpr (by rw [Nat.mul_assoc, Nat.mul_comm (p3 i)]; omega)
                obtain ⟨i2, rfl⟩ : ∃ i2, j = i2 + 1 := ⟨j - 1, by omega⟩
                refine fg_aload_n S 0 0 dX0_build_54 rfl rfl ?_
                refine xg_li S dX0_build_55 ?_
                refine fg_iload_n S 1 1 dX0_build_58 rfl rfl ?_
                refine xl_li S dX0_build_59 (by omega) ?_
                refine fg_iload_n S 3 3 dX0_build_60 rfl rfl ?_
                refine cs_ S hRm 1 (met_X0_power (i2 + 1) (by omega)) q78 q79 q22 q80 ok_X0_power (by decide) rfl rfl (Nat.le_of_ble_eq_true rfl) dX0_build_61 ?_
                refine fg_idiv S dX0_build_64 (by omega) (by omega) (by omega) ?_
                refine fg_istore (lv' := [(0, .ref (ad 0)), (1, .int (nI k)), (2, .int (nI z)), (3, .int (nI (i2 + 1))), (4, .int (nI ((li k) / (p3 (i2 + 1)))))]) S [1, 2, 3, 4, 0] dX0_build_65 hN (by decide) rfl ?_
                refine fg_aload_n S 0 0 dX0_build_67 rfl rfl ?_
                refine fg_iload S 4 dX0_build_68 rfl ?_
                refine cx_ro S hRm 1 (met_X0_stateOfN ((li k) / (p3 (i2 + 1))) (by omega) (by omega) (fun t ht => by have := hkb t ht; omega)) rfl q107 q109 qs2 q22 q110 ok_X0_stateOf (by decide) rfl rfl (Nat.le_of_ble_eq_true rfl) dX0_build_70 ?_
                refine fg_ifZ_ge S 97 dX0_build_73 (by decide) rfl (fun h_6 => ?_) (fun h_6 => ?_)
                · refine fg_iinc (lv' := [(0, .ref (ad 0)), (1, .int (nI k)), (2, .int (nI z)), (3, .int (nI i2)), (4, .int (nI ((li k) / (p3 (i2 + 1)))))]) S 3 [1, 2, 3, 0, 4] dX0_build_97 rfl (dec_n rfl) hN (by decide) rfl ?_
                  refine fg_goto S 49 dX0_build_100 (by decide) ?_
                  refine fg_perm (lv' := [(0, .ref (ad 0)), (1, .int (nI k)), (2, .int (nI z)), (3, .int (nI i2))]) [0, 1, 2, 3] rfl ?_
                  obtain ⟨t0, t1, t2⟩ := (fnd_ge (by omega)).mp h_6
                  exact ih_lB i2 ku su (by omega) ⟨hB.1, ⟨hB.2.1.1, by omega⟩, hB.2.2⟩ hB1 (fun x h1 h2 => by by_cases e : x = i2 + 1; (subst e; exact ⟨t0, t1, by omega⟩); exact hB3 x (by omega) h2) hB2 (by omega)
                · refine fg_aload_n S 0 0 dX0_build_76 rfl rfl ?_
                  refine xg_kn S dX0_build_77 ?_
                  refine fg_aload_n S 0 0 dX0_build_80 rfl rfl ?_
                  refine xg_ss S dX0_build_81 ?_
                  refine fg_iload S 4 dX0_build_84 rfl ?_
                  refine xs_kn S M dX0_build_86 (by omega) ?_
                  refine fg_aload_n S 0 0 dX0_build_87 rfl rfl ?_
                  refine fg_dup S dX0_build_88 rfl ?_
                  refine xg_ss S dX0_build_89 ?_
                  refine fg_ic (v := nI 1) S dX0_build_92 (by decide) ?_
                  refine fg_iadd S dX0_build_93 ?_
                  refine xp_ss S M dX0_build_94 ?_
                  refine fg_iinc (lv' := [(0, .ref (ad 0)), (1, .int (nI k)), (2, .int (nI z)), (3, .int (nI i2)), (4, .int (nI ((li k) / (p3 (i2 + 1)))))]) S 3 [1, 2, 3, 0, 4] dX0_build_97 rfl (dec_n rfl) hN (by decide) rfl ?_
                  refine fg_goto S 49 dX0_build_100 (by decide) ?_
                  refine fg_perm (lv' := [(0, .ref (ad 0)), (1, .int (nI k)), (2, .int (nI z)), (3, .int (nI i2))]) [0, 1, 2, 3] rfl ?_
                  exact ih_lB i2 (va_up ku su (li k / p3 (i2 + 1))) (su + 1) (by omega) ⟨by rw [up_ne (by omega)]; exact hB.1, ⟨by omega, by omega⟩, fun t ht => by by_cases e : t = su; (subst e; rw [up_eq]; exact ⟨i, by omega, hy1, hy2⟩); (rw [up_ne e]; exact hB.2.2 t (by omega))⟩ (fun q x h1 h2 h3 => by obtain ⟨t, t1, t2⟩ := hB1 q x h1 h2 h3; exact ⟨t, by omega, by rw [up_ne (by omega)]; exact t2⟩) (fun x h1 h2 => by by_cases e : x = i2 + 1; (subst e; exact ⟨su, by omega, up_eq⟩); (obtain ⟨t, t1, t2⟩ := hB3 x (by omega) h2; exact ⟨t, by omega, by rw [up_ne (by omega)]; exact t2⟩)) (fun t ht => by by_cases e : t = su; (subst e; rw [up_eq]; exact Or.inr ⟨k, i2 + 1, by omega, by omega, by rw [ez]; omega, rfl⟩); (rw [up_ne e]; exact hB2 t (by omega))) (by omega)
          exact lB ((z - 1) + 1) (z - 1) kv sv (by omega) ⟨hA.1, ⟨hA.2.1.1, by omega⟩, hA.2.2⟩ hA1 (fun x h1 h2 => absurd h1 (by omega)) (fun t ht => by rcases hA2 t ht with h | ⟨q, x, h1, h2⟩; (exact Or.inl h); exact Or.inr ⟨q, x, by omega, h2⟩) (Nat.lt_succ_self _)
    exact lA ((co - 0) + 1) 0 (va_up kn 0 1) 1 (Nat.zero_le _) ⟨up_eq, ⟨by omega, by omega⟩, fun t ht => ⟨0, by omega, by rw [show t = 0 by omega, up_eq]; exact Nat.le_refl _, by rw [show t = 0 by omega, up_eq]; decide⟩⟩ (fun q x hq => absurd hq (by omega)) (fun t ht => Or.inl (by omega)) (Nat.lt_succ_self _)
  · rcases hbu with hbu | ⟨rfl, hbt⟩
    · exact absurd hbu h_1
    · exact hret _ _ _ dX0_build_7 ⟨rfl, kn, dl, wa, ss, rfl, hbt⟩
end
section
set_option maxRecDepth 100000
def zc (l : Nat) : Nat := if l = 0 then 1 else 0
/-- what the place i of the table gives to the place j by the letter l -/
def spT (dl ta : Nat → Nat) (j i l : Nat) : Nat := if dl (3 * (i / 10) + l) ≠ 25 ∧ i % 10 + zc l < 10 ∧ 10 * dl (3 * (i / 10) + l) + (i % 10 + zc l) = j then ta i else 0
def spF (dl : Nat → Nat) (ss : Nat) (ta : Nat → Nat) (j : Nat) : Nat := sumF (fun i => sumF (fun l => spT dl ta j i l) 3) (10 * ss)
/-- how many words of t letters come from the start to s -/
def nwF (dl : Nat → Nat) (ss : Nat) : Nat → Nat → Nat
  | 0, s => if s = 0 then 1 else 0
  | t + 1, s => if s = 25 then 0 else sumF (fun k => if dl k = s then nwF dl ss t (k / 3) else 0) (3 * ss)
/-- how many words there are of b letters, a word c of k letters, and q letters more -/
def thF (dl : Nat → Nat) (ss : Nat) (wa : Nat → Nat) (b k c q : Nat) : Nat := sumF (fun s => nwF dl ss b s * wa (26 * q + runF dl s k c)) ss
theorem sumF_ext {f g : Nat → Nat} : ∀ n, (∀ k, k < n → f k = g k) → sumF f n = sumF g n
  | 0, _ => rfl
  | n + 1, h => by
    show sumF f n + f n = sumF g n + g n
    rw [sumF_ext n (fun k hk => h k (by omega)), h n (by omega)]
set_option maxHeartbeats 4000000 in
set_option maxRecDepth 100000 in
/-- spreadTable -/
theorem met_X0_spreadTable {l : Launch} {D : va_G} {ck : Nat → ClassId} {ad : Nat → Nat} {li kn dl wa no th ta fr : Nat → Nat} {co ss bu : Nat} (ho : okS dl ss) (sz : Nat) : Met l yX0_spreadTable (ws_ yX0_spreadTable cX0_spreadTable 5 none) (rmL 0) (muP D (tysX ck) (XW ad ck li kn dl wa no th ta fr co ss bu) [.ref (ad 0)] sz) (muQ D (fun v w => v = none ∧ ∃ tv fv, w = XW ad ck li kn dl wa no th tv fv co ss bu ∧ ∀ x, x < 260 → tv x = spF dl ss ta x) (va_A (XW ad ck li kn dl wa no th ta fr co ss bu) sz)) 0 0 (va_A (XW ad ck li kn dl wa no th ta fr co ss bu) sz) := by
  refine mu_v (lv0 := [(0, .ref (ad 0))]) (by decide) (Nat.le_of_ble_eq_true rfl) rfl (fun X B M hret => ?_) sz
  obtain ⟨S, hN, hRm, rfl, rfl⟩ := B
  have S : fwC X cX0_spreadTable RX0 (tysX ck) := S
  have hss := ho.1
  refine fg_ic (v := nI 0) S dX0_spreadTable_0 (by decide) ?_
  refine fg_istore_n (lv' := [(0, .ref (ad 0)), (1, .int (nI 0))]) S [1, 0] dX0_spreadTable_1 rfl hN (by decide) rfl ?_
  have lA : ∀ (fuel : Nat) (k : Nat) (f1 : Nat → Nat), (k ≤ 260) → (∀ x, x < k → f1 x = 0) → (260 - k) < fuel → fwG X (XW ad ck li kn dl wa no th ta f1 co ss bu) 2 [(0, .ref (ad 0)), (1, .int (nI k))] [] := by
    intro fuel
    induction fuel with
    | zero => intro k f1 hk hA hfu; exact absurd hfu (Nat.not_lt_zero _)
    | succ fuel ih_lA =>
      intro k f1 hk hA hfu
      refine fg_iload_n S 1 1 dX0_spreadTable_2 rfl rfl ?_
      refine fg_si (v := nI 260) S dX0_spreadTable_3 (by decide) ?_
      refine fg_icmp_ge S 22 dX0_spreadTable_6 (by decide) (by omega) (by omega) (fun h_1 => ?_) (fun h_1 => ?_)
      · refine fg_ic (v := nI 0) S dX0_spreadTable_22 (by decide) ?_
        refine fg_istore_n (lv' := [(0, .ref (ad 0)), (1, .int (nI 0))]) S [1, 0] dX0_spreadTable_23 rfl hN (by decide) rfl ?_
        have lB : ∀ (fuel : Nat) (i : Nat) (f2 : Nat → Nat), (i ≤ 10 * ss) → (∀ x, x < 260 → f2 x = sumF (fun i => sumF (fun l => spT dl ta x i l) 3) i) → (10 * ss - i) < fuel → fwG X (XW ad ck li kn dl wa no th ta f2 co ss bu) 24 [(0, .ref (ad 0)), (1, .int (nI i))] [] := by
          intro fuel
          induction fuel with
          | zero => intro i f2 hi hB hfu; exact absurd hfu (Nat.not_lt_zero _)
          | succ fuel ih_lB =>
            intro i f2 hi hB hfu
            refine fg_iload_n S 1 1 dX0_spreadTable_24 rfl rfl ?_
            refine fg_bi (v := nI 10) S dX0_spreadTable_25 (by decide) ?_
            refine fg_aload_n S 0 0 dX0_spreadTable_27 rfl rfl ?_
            refine xg_ss S dX0_spreadTable_28 ?_
            refine fg_imul S dX0_spreadTable_31 ?_
            refine fg_icmp_ge S 118 dX0_spreadTable_32 (by decide) (by omega) (by omega) (fun h_2 => ?_) (fun h_2 => ?_)
            · have ei : i = 10 * ss := by omega
              have hB2 : ∀ x, x < 260 → f2 x = spF dl ss ta x := fun x hx => by rw [hB x hx, ei]; rfl
              refine fg_ic (v := nI 0) S dX0_spreadTable_118 (by decide) ?_
              refine fg_istore_n (lv' := [(0, .ref (ad 0)), (1, .int (nI 0))]) S [1, 0] dX0_spreadTable_119 rfl hN (by decide) rfl ?_
              have lD : ∀ (fuel : Nat) (j : Nat) (t2 : Nat → Nat), (j ≤ 260) → (∀ x, x < j → t2 x = f2 x) → (260 - j) < fuel → fwG X (XW ad ck li kn dl wa no th t2 f2 co ss bu) 120 [(0, .ref (ad 0)), (1, .int (nI j))] [] := by
                intro fuel
                induction fuel with
                | zero => intro j t2 hj hD hfu; exact absurd hfu (Nat.not_lt_zero _)
                | succ fuel ih_lD =>
                  intro j t2 hj hD hfu
                  refine fg_iload_n S 1 1 dX0_spreadTable_120 rfl rfl ?_
                  refine fg_si (v := nI 260) S dX0_spreadTable_121 (by decide) ?_
                  refine fg_icmp_ge S 145 dX0_spreadTable_124 (by decide) (by omega) (by omega) (fun h_3 => ?_) (fun h_3 => ?_)
                  · exact hret _ _ _ dX0_spreadTable_145 ⟨rfl, t2, f2, rfl, fun x hx => by rw [hD x (by omega)]; exact hB2 x hx⟩
                  · refine fg_aload_n S 0 0 dX0_spreadTable_127 rfl rfl ?_
                    refine xg_ta S dX0_spreadTable_128 ?_
                    refine fg_iload_n S 1 1 dX0_spreadTable_131 rfl rfl ?_
                    refine fg_aload_n S 0 0 dX0_spreadTable_132 rfl rfl ?_
                    refine xg_fr S dX0_spreadTable_133 ?_
                    refine fg_iload_n S 1 1 dX0_spreadTable_136 rfl rfl ?_
                    refine xl_fr S dX0_spreadTable_137 (by omega) ?_
                    refine xs_ta S M dX0_spreadTable_138 (by omega) ?_
                    refine fg_iinc (lv' := [(0, .ref (ad 0)), (1, .int (nI (j + 1)))]) S 1 [1, 0] dX0_spreadTable_139 rfl (inc_1 _) hN (by decide) rfl ?_
                    refine fg_goto S 120 dX0_spreadTable_142 (by decide) ?_
                    exact ih_lD (j + 1) (va_up t2 j (f2 j)) (by omega) (fun x hx => by by_cases q : x = j; (subst q; exact up_eq); (rw [up_ne q]; exact hD x (by omega))) (by omega)
              exact lD ((260 - 0) + 1) 0 ta (Nat.zero_le _) (fun x hx => absurd hx (by omega)) (Nat.lt_succ_self _)
            · refine fg_ic (v := nI 0) S dX0_spreadTable_35 (by decide) ?_
              refine fg_istore_n (lv' := [(0, .ref (ad 0)), (1, .int (nI i)), (2, .int (nI 0))]) S [1, 2, 0] dX0_spreadTable_36 rfl hN (by decide) rfl ?_
              have lC : ∀ (fuel : Nat) (l : Nat) (f3 : Nat → Nat), (l ≤ 3) → (∀ x, x < 260 → f3 x = sumF (fun i => sumF (fun l => spT dl ta x i l) 3) i + sumF (fun l => spT dl ta x i l) l) → (3 - l) < fuel → fwG X (XW ad ck li kn dl wa no th ta f3 co ss bu) 37 [(0, .ref (ad 0)), (1, .int (nI i)), (2, .int (nI l))] [] := by
                intro fuel
                induction fuel with
                | zero => intro l f3 hl hC hfu; exact absurd hfu (Nat.not_lt_zero _)
                | succ fuel ih_lC =>
                  intro l f3 hl hC hfu
                  refine fg_iload_n S 2 2 dX0_spreadTable_37 rfl rfl ?_
                  refine fg_ic (v := nI 3) S dX0_spreadTable_38 (by decide) ?_
                  refine fg_icmp_ge S 112 dX0_spreadTable_39 (by decide) (by omega) (by omega) (fun h_4 => ?_) (fun h_4 => ?_)
                  · refine fg_iinc (lv' := [(0, .ref (ad 0)), (1, .int (nI (i + 1))), (2, .int (nI l))]) S 1 [1, 0, 2] dX0_spreadTable_112 rfl (inc_1 _) hN (by decide) rfl ?_
                    refine fg_goto S 24 dX0_spreadTable_115 (by decide) ?_
                    refine fg_perm (lv' := [(0, .ref (ad 0)), (1, .int (nI (i + 1)))]) [0, 1] rfl ?_
                    exact ih_lB (i + 1) f3 (by omega) (fun x hx => by rw [hC x hx, show l = 3 by omega]; rfl) (by omega)
                  · have hin := inS_step (s := i / 10) (c := l) ho (Or.inl (by omega)) (by omega)
                    have hr := inS_dl (s := i / 10) (c := l) ho (Or.inl (by omega)) (by omega)
                    refine fg_aload_n S 0 0 dX0_spreadTable_42 rfl rfl ?_
                    refine xg_dl S dX0_spreadTable_43 ?_
                    refine fg_ic (v := nI 3) S dX0_spreadTable_46 (by decide) ?_
                    refine fg_iload_n S 1 1 dX0_spreadTable_47 rfl rfl ?_
                    refine fg_bi (v := nI 10) S dX0_spreadTable_48 (by decide) ?_
                    refine fg_idiv S dX0_spreadTable_50 (by omega) (by omega) (by omega) ?_
                    refine fg_imul S dX0_spreadTable_51 ?_
                    refine fg_iload_n S 2 2 dX0_spreadTable_52 rfl rfl ?_
                    refine fg_iadd S dX0_spreadTable_53 ?_
                    refine xl_dl S dX0_spreadTable_54 (by omega) ?_
                    refine fg_istore_n (lv' := [(0, .ref (ad 0)), (1, .int (nI i)), (2, .int (nI l)), (3, .int (nI (dl ((3 * (i / 10)) + l))))]) S [1, 2, 3, 0] dX0_spreadTable_55 rfl hN (by decide) rfl ?_
                    refine fg_iload_n S 1 1 dX0_spreadTable_56 rfl rfl ?_
                    refine fg_bi (v := nI 10) S dX0_spreadTable_57 (by decide) ?_
                    refine fg_irem S dX0_spreadTable_59 (by omega) (by omega) (by omega) ?_
                    refine fg_iload_n S 2 2 dX0_spreadTable_60 rfl rfl ?_
                    refine fg_if_ne S 68 dX0_spreadTable_61 (by decide) (by omega) (fun h_5 => ?_) (fun h_5 => ?_)
                    · refine fg_ic (v := nI 0) S dX0_spreadTable_68 (by decide) ?_
                      refine fg_iadd S dX0_spreadTable_69 ?_
                      refine fg_topn (b := i % 10 + zc l) (by unfold zc; rw [if_neg h_5]) ?_
                      have hz1 : zc l ≤ 1 := by unfold zc; split <;> omega
                      refine fg_istore (lv' := [(0, .ref (ad 0)), (1, .int (nI i)), (2, .int (nI l)), (3, .int (nI (dl ((3 * (i / 10)) + l)))), (4, .int (nI (i % 10 + zc l)))]) S [1, 2, 3, 4, 0] dX0_spreadTable_70 hN (by decide) rfl ?_
                      refine fg_iload_n S 3 3 dX0_spreadTable_72 rfl rfl ?_
                      refine fg_bi (v := nI 25) S dX0_spreadTable_73 (by decide) ?_
                      refine fg_icmp_eq S 106 dX0_spreadTable_75 (by decide) (by omega) (by omega) (fun h_6 => ?_) (fun h_6 => ?_)
                      · refine fg_iinc (lv' := [(0, .ref (ad 0)), (1, .int (nI i)), (2, .int (nI (l + 1))), (3, .int (nI (dl ((3 * (i / 10)) + l)))), (4, .int (nI (i % 10 + zc l)))]) S 2 [1, 2, 0, 3, 4] dX0_spreadTable_106 rfl (inc_1 _) hN (by decide) rfl ?_
                        refine fg_goto S 37 dX0_spreadTable_109 (by decide) ?_
                        refine fg_perm (lv' := [(0, .ref (ad 0)), (1, .int (nI i)), (2, .int (nI (l + 1)))]) [0, 1, 2] rfl ?_
                        exact ih_lC (l + 1) f3 (by omega) (fun x hx => by rw [hC x hx]; show _ = _ + (sumF _ l + spT dl ta x i l); rw [show spT dl ta x i l = 0 from if_neg (by omega)]; rfl) (by omega)
                      · refine fg_iload S 4 dX0_spreadTable_78 rfl ?_
                        refine fg_bi (v := nI 10) S dX0_spreadTable_80 (by decide) ?_
                        refine fg_icmp_ge S 106 dX0_spreadTable_82 (by decide) (by omega) (by omega) (fun h_7 => ?_) (fun h_7 => ?_)
                        · refine fg_iinc (lv' := [(0, .ref (ad 0)), (1, .int (nI i)), (2, .int (nI (l + 1))), (3, .int (nI (dl ((3 * (i / 10)) + l)))), (4, .int (nI (i % 10 + zc l)))]) S 2 [1, 2, 0, 3, 4] dX0_spreadTable_106 rfl (inc_1 _) hN (by decide) rfl ?_
                          refine fg_goto S 37 dX0_spreadTable_109 (by decide) ?_
                          refine fg_perm (lv' := [(0, .ref (ad 0)), (1, .int (nI i)), (2, .int (nI (l + 1)))]) [0, 1, 2] rfl ?_
                          exact ih_lC (l + 1) f3 (by omega) (fun x hx => by rw [hC x hx]; show _ = _ + (sumF _ l + spT dl ta x i l); rw [show spT dl ta x i l = 0 from if_neg (by omega)]; rfl) (by omega)
                        · have hlt : dl (3 * (i / 10) + l) < ss := by rcases hin with h | h <;> omega
                          refine fg_aload_n S 0 0 dX0_spreadTable_85 rfl rfl ?_
                          refine xg_fr S dX0_spreadTable_86 ?_
                          refine fg_bi (v := nI 10) S dX0_spreadTable_89 (by decide) ?_
                          refine fg_iload_n S 3 3 dX0_spreadTable_91 rfl rfl ?_
                          refine fg_imul S dX0_spreadTable_92 ?_
                          refine fg_iload S 4 dX0_spreadTable_93 rfl ?_
                          refine fg_iadd S dX0_spreadTable_95 ?_
                          refine fg_dup2 S dX0_spreadTable_96 rfl rfl ?_
                          refine xl_fr S dX0_spreadTable_97 (by omega) ?_
                          refine fg_aload_n S 0 0 dX0_spreadTable_98 rfl rfl ?_
                          refine xg_ta S dX0_spreadTable_99 ?_
                          refine fg_iload_n S 1 1 dX0_spreadTable_102 rfl rfl ?_
                          refine xl_ta S dX0_spreadTable_103 (by omega) ?_
                          refine fg_iadd S dX0_spreadTable_104 ?_
                          refine xs_fr S M dX0_spreadTable_105 (by omega) ?_
                          refine fg_iinc (lv' := [(0, .ref (ad 0)), (1, .int (nI i)), (2, .int (nI (l + 1))), (3, .int (nI (dl ((3 * (i / 10)) + l)))), (4, .int (nI (i % 10 + zc l)))]) S 2 [1, 2, 0, 3, 4] dX0_spreadTable_106 rfl (inc_1 _) hN (by decide) rfl ?_
                          refine fg_goto S 37 dX0_spreadTable_109 (by decide) ?_
                          refine fg_perm (lv' := [(0, .ref (ad 0)), (1, .int (nI i)), (2, .int (nI (l + 1)))]) [0, 1, 2] rfl ?_
                          exact ih_lC (l + 1) (va_up f3 (10 * dl (3 * (i / 10) + l) + (i % 10 + zc l)) (f3 (10 * dl (3 * (i / 10) + l) + (i % 10 + zc l)) + ta i)) (by omega) (fun x hx => by show _ = _ + (sumF _ l + spT dl ta x i l); by_cases q : x = 10 * dl (3 * (i / 10) + l) + (i % 10 + zc l); (subst q; rw [up_eq, hC _ hx, show spT dl ta _ i l = ta i from if_pos ⟨by omega, by omega, rfl⟩, Nat.add_assoc]); (rw [up_ne q, hC x hx, show spT dl ta x i l = 0 from if_neg (by omega)]; rfl)) (by omega)
                    · refine fg_ic (v := nI 1) S dX0_spreadTable_64 (by decide) ?_
                      refine fg_goto S 69 dX0_spreadTable_65 (by decide) ?_
                      refine fg_iadd S dX0_spreadTable_69 ?_
                      refine fg_topn (b := i % 10 + zc l) (by unfold zc; rw [if_pos h_5]) ?_
                      have hz1 : zc l ≤ 1 := by unfold zc; split <;> omega
                      refine fg_istore (lv' := [(0, .ref (ad 0)), (1, .int (nI i)), (2, .int (nI l)), (3, .int (nI (dl ((3 * (i / 10)) + l)))), (4, .int (nI (i % 10 + zc l)))]) S [1, 2, 3, 4, 0] dX0_spreadTable_70 hN (by decide) rfl ?_
                      refine fg_iload_n S 3 3 dX0_spreadTable_72 rfl rfl ?_
                      refine fg_bi (v := nI 25) S dX0_spreadTable_73 (by decide) ?_
                      refine fg_icmp_eq S 106 dX0_spreadTable_75 (by decide) (by omega) (by omega) (fun h_8 => ?_) (fun h_8 => ?_)
                      · refine fg_iinc (lv' := [(0, .ref (ad 0)), (1, .int (nI i)), (2, .int (nI (l + 1))), (3, .int (nI (dl ((3 * (i / 10)) + l)))), (4, .int (nI (i % 10 + zc l)))]) S 2 [1, 2, 0, 3, 4] dX0_spreadTable_106 rfl (inc_1 _) hN (by decide) rfl ?_
                        refine fg_goto S 37 dX0_spreadTable_109 (by decide) ?_
                        refine fg_perm (lv' := [(0, .ref (ad 0)), (1, .int (nI i)), (2, .int (nI (l + 1)))]) [0, 1, 2] rfl ?_
                        exact ih_lC (l + 1) f3 (by omega) (fun x hx => by rw [hC x hx]; show _ = _ + (sumF _ l + spT dl ta x i l); rw [show spT dl ta x i l = 0 from if_neg (by omega)]; rfl) (by omega)
                      · refine fg_iload S 4 dX0_spreadTable_78 rfl ?_
                        refine fg_bi (v := nI 10) S dX0_spreadTable_80 (by decide) ?_
                        refine fg_icmp_ge S 106 dX0_spreadTable_82 (by decide) (by omega) (by omega) (fun h_9 => ?_) (fun h_9 => ?_)
                        · refine fg_iinc (lv' := [(0, .ref (ad 0)), (1, .int (nI i)), (2, .int (nI (l + 1))), (3, .int (nI (dl ((3 * (i / 10)) + l)))), (4, .int (nI (i % 10 + zc l)))]) S 2 [1, 2, 0, 3, 4] dX0_spreadTable_106 rfl (inc_1 _) hN (by decide) rfl ?_
                          refine fg_goto S 37 dX0_spreadTable_109 (by decide) ?_
                          refine fg_perm (lv' := [(0, .ref (ad 0)), (1, .int (nI i)), (2, .int (nI (l + 1)))]) [0, 1, 2] rfl ?_
                          exact ih_lC (l + 1) f3 (by omega) (fun x hx => by rw [hC x hx]; show _ = _ + (sumF _ l + spT dl ta x i l); rw [show spT dl ta x i l = 0 from if_neg (by omega)]; rfl) (by omega)
                        · have hlt : dl (3 * (i / 10) + l) < ss := by rcases hin with h | h <;> omega
                          refine fg_aload_n S 0 0 dX0_spreadTable_85 rfl rfl ?_
                          refine xg_fr S dX0_spreadTable_86 ?_
                          refine fg_bi (v := nI 10) S dX0_spreadTable_89 (by decide) ?_
                          refine fg_iload_n S 3 3 dX0_spreadTable_91 rfl rfl ?_
                          refine fg_imul S dX0_spreadTable_92 ?_
                          refine fg_iload S 4 dX0_spreadTable_93 rfl ?_
                          refine fg_iadd S dX0_spreadTable_95 ?_
                          refine fg_dup2 S dX0_spreadTable_96 rfl rfl ?_
                          refine xl_fr S dX0_spreadTable_97 (by omega) ?_
                          refine fg_aload_n S 0 0 dX0_spreadTable_98 rfl rfl ?_
                          refine xg_ta S dX0_spreadTable_99 ?_
                          refine fg_iload_n S 1 1 dX0_spreadTable_102 rfl rfl ?_
                          refine xl_ta S dX0_spreadTable_103 (by omega) ?_
                          refine fg_iadd S dX0_spreadTable_104 ?_
                          refine xs_fr S M dX0_spreadTable_105 (by omega) ?_
                          refine fg_iinc (lv' := [(0, .ref (ad 0)), (1, .int (nI i)), (2, .int (nI (l + 1))), (3, .int (nI (dl ((3 * (i / 10)) + l)))), (4, .int (nI (i % 10 + zc l)))]) S 2 [1, 2, 0, 3, 4] dX0_spreadTable_106 rfl (inc_1 _) hN (by decide) rfl ?_
                          refine fg_goto S 37 dX0_spreadTable_109 (by decide) ?_
                          refine fg_perm (lv' := [(0, .ref (ad 0)), (1, .int (nI i)), (2, .int (nI (l + 1)))]) [0, 1, 2] rfl ?_
                          exact ih_lC (l + 1) (va_up f3 (10 * dl (3 * (i / 10) + l) + (i % 10 + zc l)) (f3 (10 * dl (3 * (i / 10) + l) + (i % 10 + zc l)) + ta i)) (by omega) (fun x hx => by show _ = _ + (sumF _ l + spT dl ta x i l); by_cases q : x = 10 * dl (3 * (i / 10) + l) + (i % 10 + zc l); (subst q; rw [up_eq, hC _ hx, show spT dl ta _ i l = ta i from if_pos ⟨by omega, by omega, rfl⟩, Nat.add_assoc]); (rw [up_ne q, hC x hx, show spT dl ta x i l = 0 from if_neg (by omega)]; rfl)) (by omega)
              exact lC ((3 - 0) + 1) 0 f2 (Nat.zero_le _) (fun x hx => hB x hx) (Nat.lt_succ_self _)
        exact lB ((10 * ss - 0) + 1) 0 f1 (Nat.zero_le _) (fun x hx => hA x (by omega)) (Nat.lt_succ_self _)
      · refine fg_aload_n S 0 0 dX0_spreadTable_9 rfl rfl ?_
        refine xg_fr S dX0_spreadTable_10 ?_
        refine fg_iload_n S 1 1 dX0_spreadTable_13 rfl rfl ?_
        refine fg_ic (v := nI 0) S dX0_spreadTable_14 (by decide) ?_
        refine xs_fr S M dX0_spreadTable_15 (by omega) ?_
        refine fg_iinc (lv' := [(0, .ref (ad 0)), (1, .int (nI (k + 1)))]) S 1 [1, 0] dX0_spreadTable_16 rfl (inc_1 _) hN (by decide) rfl ?_
        refine fg_goto S 2 dX0_spreadTable_19 (by decide) ?_
        exact ih_lA (k + 1) (va_up f1 k 0) (by omega) (fun x hx => by by_cases q : x = k; (subst q; exact up_eq); (rw [up_ne q]; exact hA x (by omega))) (by omega)
  exact lA ((260 - 0) + 1) 0 fr (Nat.zero_le _) (fun x hx => absurd hx (by omega)) (Nat.lt_succ_self _)
set_option maxHeartbeats 4000000 in
set_option maxRecDepth 100000 in
/-- through -/
theorem met_X0_through {l : Launch} {D : va_G} {ck : Nat → ClassId} {ad : Nat → Nat} {li kn dl wa no th ta fr : Nat → Nat} {co ss bu : Nat} (b p q k : Nat) (ho : okS dl ss) (hb : b ≤ 9) (hq : q ≤ 9) (hk : 1 ≤ k ∧ k ≤ 4) (hp : p3 k ≤ p ∧ p < 2 * p3 k) (sz : Nat) : Met l yX0_through (ws_ yX0_through cX0_through 9 (some .long)) (rmL 2) (muP D (tysX ck) (XW ad ck li kn dl wa no th ta fr co ss bu) [.ref (ad 0), .int (nI b), .int (nI p), .int (nI q)] sz) (muQ D (fun v w => v = some (.long (lN (thF dl ss wa b k (p - p3 k) q))) ∧ ∃ nv tv, w = XW ad ck li kn dl wa nv tv ta fr co ss bu) (va_A (XW ad ck li kn dl wa no th ta fr co ss bu) sz)) 0 0 (va_A (XW ad ck li kn dl wa no th ta fr co ss bu) sz) := by
  refine mu_l (lv0 := [(0, .ref (ad 0)), (1, .int (nI b)), (2, .int (nI p)), (3, .int (nI q))]) (by decide) (Nat.le_of_ble_eq_true rfl) rfl (fun X B M hret => ?_) sz
  obtain ⟨S, hN, hRm, rfl, rfl⟩ := B
  have S : fwC X cX0_through RX0 (tysX ck) := S
  have hss := ho.1
  have hp4 := p3_mono hk.2
  have e4 : p3 4 = 81 := rfl
  have hsz := szN_of hk.1 hk.2 hp.1 hp.2
  refine fg_ic (v := nI 0) S dX0_through_0 (by decide) ?_
  refine fg_istore (lv' := [(0, .ref (ad 0)), (1, .int (nI b)), (2, .int (nI p)), (3, .int (nI q)), (4, .int (nI 0))]) S [1, 2, 3, 4, 0] dX0_through_1 hN (by decide) rfl ?_
  have lA : ∀ (fuel : Nat) (x : Nat) (n1 : Nat → Nat), (x ≤ 26) → (∀ z, z < x → n1 z = nwF dl ss 0 z) → (26 - x) < fuel → fwG X (XW ad ck li kn dl wa n1 th ta fr co ss bu) 3 [(0, .ref (ad 0)), (1, .int (nI b)), (2, .int (nI p)), (3, .int (nI q)), (4, .int (nI x))] [] := by
    intro fuel
    induction fuel with
    | zero => intro x n1 hx hA hfu; exact absurd hfu (Nat.not_lt_zero _)
    | succ fuel ih_lA =>
      intro x n1 hx hA hfu
      refine fg_iload S 4 dX0_through_3 rfl ?_
      refine fg_bi (v := nI 26) S dX0_through_5 (by decide) ?_
      refine fg_icmp_ge S 33 dX0_through_7 (by decide) (by omega) (by omega) (fun h_1 => ?_) (fun h_1 => ?_)
      · refine fg_ic (v := nI 0) S dX0_through_33 (by decide) ?_
        refine fg_istore (lv' := [(0, .ref (ad 0)), (1, .int (nI b)), (2, .int (nI p)), (3, .int (nI q)), (4, .int (nI 0))]) S [1, 2, 3, 4, 0] dX0_through_34 hN (by decide) rfl ?_
        have lB : ∀ (fuel : Nat) (t : Nat) (n2 : Nat → Nat) (t2 : Nat → Nat), (t ≤ b) → (∀ z, z < 26 → n2 z = nwF dl ss t z) → (b - t) < fuel → fwG X (XW ad ck li kn dl wa n2 t2 ta fr co ss bu) 36 [(0, .ref (ad 0)), (1, .int (nI b)), (2, .int (nI p)), (3, .int (nI q)), (4, .int (nI t))] [] := by
          intro fuel
          induction fuel with
          | zero => intro t n2 t2 ht hB hfu; exact absurd hfu (Nat.not_lt_zero _)
          | succ fuel ih_lB =>
            intro t n2 t2 ht hB hfu
            refine fg_iload S 4 dX0_through_36 rfl ?_
            refine fg_iload_n S 1 1 dX0_through_38 rfl rfl ?_
            refine fg_icmp_ge S 157 dX0_through_39 (by decide) (by omega) (by omega) (fun h_2 => ?_) (fun h_2 => ?_)
            · have et : t = b := by omega
              subst et
              refine fg_iload_n S 2 2 dX0_through_157 rfl rfl ?_
              refine cs_ S hRm 1 (met_X0_sizeOfN p ⟨by omega, hsz⟩) q75 q76 q22 q77 ok_X0_sizeOf (by decide) rfl rfl (Nat.le_of_ble_eq_true rfl) dX0_through_158 ?_
              refine fg_istore (lv' := [(0, .ref (ad 0)), (1, .int (nI t)), (2, .int (nI p)), (3, .int (nI q)), (4, .int (nI k))]) S [1, 2, 3, 4, 0] dX0_through_161 hN (by decide) rfl ?_
              refine fg_lc (v := lN 0) S dX0_through_163 (by decide) ?_
              refine fg_lstore (lv' := [(0, .ref (ad 0)), (1, .int (nI t)), (2, .int (nI p)), (3, .int (nI q)), (4, .int (nI k)), (5, .long (lN 0))]) S [1, 2, 3, 4, 5, 0] dX0_through_164 hN (by decide) rfl ?_
              refine fg_ic (v := nI 0) S dX0_through_166 (by decide) ?_
              refine fg_istore (lv' := [(0, .ref (ad 0)), (1, .int (nI t)), (2, .int (nI p)), (3, .int (nI q)), (4, .int (nI k)), (5, .long (lN 0)), (7, .int (nI 0))]) S [1, 2, 3, 4, 5, 6, 0] dX0_through_167 hN (by decide) rfl ?_
              have lF : ∀ (fuel : Nat) (s : Nat) (u : Nat), (s ≤ ss) → (u = sumF (fun s => n2 s * wa (26 * q + runF dl s k (p - p3 k))) s) → (ss - s) < fuel → fwG X (XW ad ck li kn dl wa n2 t2 ta fr co ss bu) 169 [(0, .ref (ad 0)), (1, .int (nI t)), (2, .int (nI p)), (3, .int (nI q)), (4, .int (nI k)), (5, .long (lN u)), (7, .int (nI s))] [] := by
                intro fuel
                induction fuel with
                | zero => intro s u hs hu hfu; exact absurd hfu (Nat.not_lt_zero _)
                | succ fuel ih_lF =>
                  intro s u hs hu hfu
                  refine fg_iload S 6 dX0_through_169 rfl ?_
                  refine fg_aload_n S 0 0 dX0_through_171 rfl rfl ?_
                  refine xg_ss S dX0_through_172 ?_
                  refine fg_icmp_ge S 226 dX0_through_175 (by decide) (by omega) (by omega) (fun h_3 => ?_) (fun h_3 => ?_)
                  · refine fg_lload S 5 dX0_through_226 rfl ?_
                    refine fg_topl (b := thF dl ss wa t k (p - p3 k) q) (by rw [hu, show s = ss by omega]; exact sumF_ext ss (fun x hx => by rw [hB x (by omega)])) ?_
                    exact hret _ _ _ _ dX0_through_228 ⟨rfl, n2, t2, rfl⟩
                  · have hin := runF_in ho k s (p - p3 k) (Or.inl (by omega))
                    have hle := inS_lt ho hin
                    refine fg_aload_n S 0 0 dX0_through_178 rfl rfl ?_
                    refine fg_iload S 6 dX0_through_179 rfl ?_
                    refine fg_iload S 4 dX0_through_181 rfl ?_
                    refine fg_iload_n S 2 2 dX0_through_183 rfl rfl ?_
                    refine fg_iload S 4 dX0_through_184 rfl ?_
                    refine cs_ S hRm 1 (met_X0_power k (by omega)) q78 q79 q22 q80 ok_X0_power (by decide) rfl rfl (Nat.le_of_ble_eq_true rfl) dX0_through_186 ?_
                    refine fg_isub S dX0_through_189 (by omega) ?_
                    refine cx_ro S hRm 3 (met_X0_read s k (p - (p3 k)) ho (Or.inl (by omega)) (by omega) (by omega)) rfl q119 q121 qs5 q22 q122 ok_X0_read (by decide) rfl rfl (Nat.le_of_ble_eq_true rfl) dX0_through_190 ?_
                    refine fg_istore (lv' := [(0, .ref (ad 0)), (1, .int (nI t)), (2, .int (nI p)), (3, .int (nI q)), (4, .int (nI k)), (5, .long (lN u)), (7, .int (nI s)), (8, .int (nI (runF dl s k (p - (p3 k)))))]) S [1, 2, 3, 4, 5, 6, 7, 0] dX0_through_193 hN (by decide) rfl ?_
                    refine fg_lload S 5 dX0_through_195 rfl ?_
                    refine fg_aload_n S 0 0 dX0_through_197 rfl rfl ?_
                    refine xg_no S dX0_through_198 ?_
                    refine fg_iload S 6 dX0_through_201 rfl ?_
                    refine xl_no S dX0_through_203 (by omega) ?_
                    refine fg_aload_n S 0 0 dX0_through_204 rfl rfl ?_
                    refine xg_wa S dX0_through_205 ?_
                    refine fg_bi (v := nI 26) S dX0_through_208 (by decide) ?_
                    refine fg_iload_n S 3 3 dX0_through_210 rfl rfl ?_
                    refine fg_imul S dX0_through_211 ?_
                    refine fg_iload S 7 dX0_through_212 rfl ?_
                    refine fg_iadd S dX0_through_214 ?_
                    refine xl_wa S dX0_through_215 (by omega) ?_
                    refine fg_lmul S dX0_through_216 ?_
                    refine fg_ladd S dX0_through_217 ?_
                    refine fg_lstore (lv' := [(0, .ref (ad 0)), (1, .int (nI t)), (2, .int (nI p)), (3, .int (nI q)), (4, .int (nI k)), (5, .long (lN (u + ((n2 s) * (wa ((26 * q) + (runF dl s k (p - (p3 k))))))))), (7, .int (nI s)), (8, .int (nI (runF dl s k (p - (p3 k)))))]) S [1, 2, 3, 4, 5, 0, 6, 7] dX0_through_218 hN (by decide) rfl ?_
                    refine fg_iinc (lv' := [(0, .ref (ad 0)), (1, .int (nI t)), (2, .int (nI p)), (3, .int (nI q)), (4, .int (nI k)), (5, .long (lN (u + ((n2 s) * (wa ((26 * q) + (runF dl s k (p - (p3 k))))))))), (7, .int (nI (s + 1))), (8, .int (nI (runF dl s k (p - (p3 k)))))]) S 6 [1, 2, 3, 4, 5, 6, 0, 7] dX0_through_220 rfl (inc_1 _) hN (by decide) rfl ?_
                    refine fg_goto S 169 dX0_through_223 (by decide) ?_
                    refine fg_perm (lv' := [(0, .ref (ad 0)), (1, .int (nI t)), (2, .int (nI p)), (3, .int (nI q)), (4, .int (nI k)), (5, .long (lN (u + ((n2 s) * (wa ((26 * q) + (runF dl s k (p - (p3 k))))))))), (7, .int (nI (s + 1)))]) [0, 1, 2, 3, 4, 5, 6] rfl ?_
                    exact ih_lF (s + 1) (u + n2 s * wa (26 * q + runF dl s k (p - p3 k))) (by omega) (by rw [hu]; rfl) (by omega)
              exact lF ((ss - 0) + 1) 0 0 (Nat.zero_le _) rfl (Nat.lt_succ_self _)
            · refine fg_ic (v := nI 0) S dX0_through_42 (by decide) ?_
              refine fg_istore (lv' := [(0, .ref (ad 0)), (1, .int (nI b)), (2, .int (nI p)), (3, .int (nI q)), (4, .int (nI t)), (5, .int (nI 0))]) S [1, 2, 3, 4, 5, 0] dX0_through_43 hN (by decide) rfl ?_
              have lC : ∀ (fuel : Nat) (x : Nat) (t3 : Nat → Nat), (x ≤ 26) → (∀ z, z < x → t3 z = 0) → (26 - x) < fuel → fwG X (XW ad ck li kn dl wa n2 t3 ta fr co ss bu) 45 [(0, .ref (ad 0)), (1, .int (nI b)), (2, .int (nI p)), (3, .int (nI q)), (4, .int (nI t)), (5, .int (nI x))] [] := by
                intro fuel
                induction fuel with
                | zero => intro x t3 hx hC hfu; exact absurd hfu (Nat.not_lt_zero _)
                | succ fuel ih_lC =>
                  intro x t3 hx hC hfu
                  refine fg_iload S 5 dX0_through_45 rfl ?_
                  refine fg_bi (v := nI 26) S dX0_through_47 (by decide) ?_
                  refine fg_icmp_ge S 66 dX0_through_49 (by decide) (by omega) (by omega) (fun h_4 => ?_) (fun h_4 => ?_)
                  · refine fg_ic (v := nI 0) S dX0_through_66 (by decide) ?_
                    refine fg_istore (lv' := [(0, .ref (ad 0)), (1, .int (nI b)), (2, .int (nI p)), (3, .int (nI q)), (4, .int (nI t)), (5, .int (nI 0))]) S [1, 2, 3, 4, 5, 0] dX0_through_67 hN (by decide) rfl ?_
                    have lD : ∀ (fuel : Nat) (i : Nat) (t4 : Nat → Nat), (i ≤ 3 * ss) → (∀ z, z < 26 → t4 z = sumF (fun j => if dl j = z then n2 (j / 3) else 0) i) → (3 * ss - i) < fuel → fwG X (XW ad ck li kn dl wa n2 t4 ta fr co ss bu) 69 [(0, .ref (ad 0)), (1, .int (nI b)), (2, .int (nI p)), (3, .int (nI q)), (4, .int (nI t)), (5, .int (nI i))] [] := by
                      intro fuel
                      induction fuel with
                      | zero => intro i t4 hi hD hfu; exact absurd hfu (Nat.not_lt_zero _)
                      | succ fuel ih_lD =>
                        intro i t4 hi hD hfu
                        refine fg_iload S 5 dX0_through_69 rfl ?_
                        refine fg_ic (v := nI 3) S dX0_through_71 (by decide) ?_
                        refine fg_aload_n S 0 0 dX0_through_72 rfl rfl ?_
                        refine xg_ss S dX0_through_73 ?_
                        refine fg_imul S dX0_through_76 ?_
                        refine fg_icmp_ge S 110 dX0_through_77 (by decide) (by omega) (by omega) (fun h_5 => ?_) (fun h_5 => ?_)
                        · have ei : i = 3 * ss := by omega
                          refine fg_ic (v := nI 0) S dX0_through_110 (by decide) ?_
                          refine fg_istore (lv' := [(0, .ref (ad 0)), (1, .int (nI b)), (2, .int (nI p)), (3, .int (nI q)), (4, .int (nI t)), (5, .int (nI 0))]) S [1, 2, 3, 4, 5, 0] dX0_through_111 hN (by decide) rfl ?_
                          have lE : ∀ (fuel : Nat) (y : Nat) (n5 : Nat → Nat), (y ≤ 26) → (∀ z, z < y → n5 z = if z = 25 then 0 else t4 z) → (26 - y) < fuel → fwG X (XW ad ck li kn dl wa n5 t4 ta fr co ss bu) 113 [(0, .ref (ad 0)), (1, .int (nI b)), (2, .int (nI p)), (3, .int (nI q)), (4, .int (nI t)), (5, .int (nI y))] [] := by
                            intro fuel
                            induction fuel with
                            | zero => intro y n5 hy hE hfu; exact absurd hfu (Nat.not_lt_zero _)
                            | succ fuel ih_lE =>
                              intro y n5 hy hE hfu
                              refine fg_iload S 5 dX0_through_113 rfl ?_
                              refine fg_bi (v := nI 26) S dX0_through_115 (by decide) ?_
                              refine fg_icmp_ge S 151 dX0_through_117 (by decide) (by omega) (by omega) (fun h_6 => ?_) (fun h_6 => ?_)
                              · refine fg_iinc (lv' := [(0, .ref (ad 0)), (1, .int (nI b)), (2, .int (nI p)), (3, .int (nI q)), (4, .int (nI (t + 1))), (5, .int (nI y))]) S 4 [1, 2, 3, 4, 0, 5] dX0_through_151 rfl (inc_1 _) hN (by decide) rfl ?_
                                refine fg_goto S 36 dX0_through_154 (by decide) ?_
                                refine fg_perm (lv' := [(0, .ref (ad 0)), (1, .int (nI b)), (2, .int (nI p)), (3, .int (nI q)), (4, .int (nI (t + 1)))]) [0, 1, 2, 3, 4] rfl ?_
                                exact ih_lB (t + 1) n5 t4 (by omega) (fun z hz => by rw [hE z (by omega)]; show _ = (if z = 25 then 0 else _); split; rfl; rw [hD z hz, ei]; exact sumF_ext _ (fun j hj => by rw [hB _ (by omega)])) (by omega)
                              · refine fg_aload_n S 0 0 dX0_through_120 rfl rfl ?_
                                refine xg_no S dX0_through_121 ?_
                                refine fg_iload S 5 dX0_through_124 rfl ?_
                                refine fg_iload S 5 dX0_through_126 rfl ?_
                                refine fg_bi (v := nI 25) S dX0_through_128 (by decide) ?_
                                refine fg_icmp_ne S 137 dX0_through_130 (by decide) (by omega) (by omega) (fun h_7 => ?_) (fun h_7 => ?_)
                                · refine fg_aload_n S 0 0 dX0_through_137 rfl rfl ?_
                                  refine xg_th S dX0_through_138 ?_
                                  refine fg_iload S 5 dX0_through_141 rfl ?_
                                  refine xl_th S dX0_through_143 (by omega) ?_
                                  refine xs_no S M dX0_through_144 (by omega) ?_
                                  refine fg_iinc (lv' := [(0, .ref (ad 0)), (1, .int (nI b)), (2, .int (nI p)), (3, .int (nI q)), (4, .int (nI t)), (5, .int (nI (y + 1)))]) S 5 [1, 2, 3, 4, 5, 0] dX0_through_145 rfl (inc_1 _) hN (by decide) rfl ?_
                                  refine fg_goto S 113 dX0_through_148 (by decide) ?_
                                  exact ih_lE (y + 1) (va_up n5 y (t4 y)) (by omega) (fun z hz => by by_cases e : z = y; (subst e; rw [up_eq, if_neg h_7]); (rw [up_ne e]; exact hE z (by omega))) (by omega)
                                · refine fg_lc (v := lN 0) S dX0_through_133 (by decide) ?_
                                  refine fg_goto S 144 dX0_through_134 (by decide) ?_
                                  refine xs_no S M dX0_through_144 (by omega) ?_
                                  refine fg_iinc (lv' := [(0, .ref (ad 0)), (1, .int (nI b)), (2, .int (nI p)), (3, .int (nI q)), (4, .int (nI t)), (5, .int (nI (y + 1)))]) S 5 [1, 2, 3, 4, 5, 0] dX0_through_145 rfl (inc_1 _) hN (by decide) rfl ?_
                                  refine fg_goto S 113 dX0_through_148 (by decide) ?_
                                  exact ih_lE (y + 1) (va_up n5 y 0) (by omega) (fun z hz => by by_cases e : z = y; (subst e; rw [up_eq, if_pos h_7]); (rw [up_ne e]; exact hE z (by omega))) (by omega)
                          exact lE ((26 - 0) + 1) 0 n2 (Nat.zero_le _) (fun z hz => absurd hz (by omega)) (Nat.lt_succ_self _)
                        · have hin := ho.2.1 i (by omega)
                          have hle := inS_lt ho hin
                          refine fg_aload_n S 0 0 dX0_through_80 rfl rfl ?_
                          refine xg_th S dX0_through_81 ?_
                          refine fg_aload_n S 0 0 dX0_through_84 rfl rfl ?_
                          refine xg_dl S dX0_through_85 ?_
                          refine fg_iload S 5 dX0_through_88 rfl ?_
                          refine xl_dl S dX0_through_90 (by omega) ?_
                          refine fg_dup2 S dX0_through_91 rfl rfl ?_
                          refine xl_th S dX0_through_92 (by omega) ?_
                          refine fg_aload_n S 0 0 dX0_through_93 rfl rfl ?_
                          refine xg_no S dX0_through_94 ?_
                          refine fg_iload S 5 dX0_through_97 rfl ?_
                          refine fg_ic (v := nI 3) S dX0_through_99 (by decide) ?_
                          refine fg_idiv S dX0_through_100 (by omega) (by omega) (by omega) ?_
                          refine xl_no S dX0_through_101 (by omega) ?_
                          refine fg_ladd S dX0_through_102 ?_
                          refine xs_th S M dX0_through_103 (by omega) ?_
                          refine fg_iinc (lv' := [(0, .ref (ad 0)), (1, .int (nI b)), (2, .int (nI p)), (3, .int (nI q)), (4, .int (nI t)), (5, .int (nI (i + 1)))]) S 5 [1, 2, 3, 4, 5, 0] dX0_through_104 rfl (inc_1 _) hN (by decide) rfl ?_
                          refine fg_goto S 69 dX0_through_107 (by decide) ?_
                          exact ih_lD (i + 1) (va_up t4 (dl i) (t4 (dl i) + n2 (i / 3))) (by omega) (fun z hz => by show _ = sumF _ i + (if dl i = z then _ else 0); by_cases e : z = dl i; (subst e; rw [up_eq, if_pos rfl, hD _ hz]); (rw [up_ne e, if_neg (fun q => e q.symm), hD z hz]; rfl)) (by omega)
                    exact lD ((3 * ss - 0) + 1) 0 t3 (Nat.zero_le _) (fun z hz => hC z (by omega)) (Nat.lt_succ_self _)
                  · refine fg_aload_n S 0 0 dX0_through_52 rfl rfl ?_
                    refine xg_th S dX0_through_53 ?_
                    refine fg_iload S 5 dX0_through_56 rfl ?_
                    refine fg_lc (v := lN 0) S dX0_through_58 (by decide) ?_
                    refine xs_th S M dX0_through_59 (by omega) ?_
                    refine fg_iinc (lv' := [(0, .ref (ad 0)), (1, .int (nI b)), (2, .int (nI p)), (3, .int (nI q)), (4, .int (nI t)), (5, .int (nI (x + 1)))]) S 5 [1, 2, 3, 4, 5, 0] dX0_through_60 rfl (inc_1 _) hN (by decide) rfl ?_
                    refine fg_goto S 45 dX0_through_63 (by decide) ?_
                    exact ih_lC (x + 1) (va_up t3 x 0) (by omega) (fun z hz => by by_cases e : z = x; (subst e; exact up_eq); (rw [up_ne e]; exact hC z (by omega))) (by omega)
              exact lC ((26 - 0) + 1) 0 t2 (Nat.zero_le _) (fun z hz => absurd hz (by omega)) (Nat.lt_succ_self _)
        exact lB ((b - 0) + 1) 0 n1 th (Nat.zero_le _) (fun z hz => hA z (by omega)) (Nat.lt_succ_self _)
      · refine fg_aload_n S 0 0 dX0_through_10 rfl rfl ?_
        refine xg_no S dX0_through_11 ?_
        refine fg_iload S 4 dX0_through_14 rfl ?_
        refine fg_iload S 4 dX0_through_16 rfl ?_
        refine fg_if_ne S 25 dX0_through_18 (by decide) (by omega) (fun h_8 => ?_) (fun h_8 => ?_)
        · refine fg_lc (v := lN 0) S dX0_through_25 (by decide) ?_
          refine xs_no S M dX0_through_26 (by omega) ?_
          refine fg_iinc (lv' := [(0, .ref (ad 0)), (1, .int (nI b)), (2, .int (nI p)), (3, .int (nI q)), (4, .int (nI (x + 1)))]) S 4 [1, 2, 3, 4, 0] dX0_through_27 rfl (inc_1 _) hN (by decide) rfl ?_
          refine fg_goto S 3 dX0_through_30 (by decide) ?_
          exact ih_lA (x + 1) (va_up n1 x 0) (by omega) (fun z hz => by by_cases e : z = x; (subst e; rw [up_eq]; exact (if_neg h_8).symm); (rw [up_ne e]; exact hA z (by omega))) (by omega)
        · refine fg_lc (v := lN 1) S dX0_through_21 (by decide) ?_
          refine fg_goto S 26 dX0_through_22 (by decide) ?_
          refine xs_no S M dX0_through_26 (by omega) ?_
          refine fg_iinc (lv' := [(0, .ref (ad 0)), (1, .int (nI b)), (2, .int (nI p)), (3, .int (nI q)), (4, .int (nI (x + 1)))]) S 4 [1, 2, 3, 4, 0] dX0_through_27 rfl (inc_1 _) hN (by decide) rfl ?_
          refine fg_goto S 3 dX0_through_30 (by decide) ?_
          exact ih_lA (x + 1) (va_up n1 x 1) (by omega) (fun z hz => by by_cases e : z = x; (subst e; rw [up_eq]; exact (if_pos h_8).symm); (rw [up_ne e]; exact hA z (by omega))) (by omega)
  exact lA ((26 - 0) + 1) 0 no (Nat.zero_le _) (fun z hz => absurd hz (by omega)) (Nat.lt_succ_self _)
end
section
set_option maxRecDepth 100000
/-! sums -/
theorem sumF_0 {f : Nat → Nat} : ∀ n, (∀ k, k < n → f k = 0) → sumF f n = 0
  | 0, _ => rfl
  | n + 1, h => by
    show sumF f n + f n = 0
    rw [sumF_0 n (fun k hk => h k (by omega)), h n (by omega)]
theorem sumF_add (f g : Nat → Nat) : ∀ n, sumF (fun k => f k + g k) n = sumF f n + sumF g n
  | 0 => rfl
  | n + 1 => by
    show sumF (fun k => f k + g k) n + (f n + g n) = (sumF f n + f n) + (sumF g n + g n)
    rw [sumF_add f g n]; omega
theorem sumF_app (f : Nat → Nat) (a : Nat) : ∀ b, sumF f (a + b) = sumF f a + sumF (fun k => f (a + k)) b
  | 0 => rfl
  | b + 1 => by
    show sumF f (a + b) + f (a + b) = sumF f a + (sumF (fun k => f (a + k)) b + f (a + b))
    rw [sumF_app f a b]; omega
theorem sumF_mul (f : Nat → Nat) (b : Nat) : ∀ a, sumF f (a * b) = sumF (fun i => sumF (fun j => f (i * b + j)) b) a
  | 0 => by rw [Nat.zero_mul]; rfl
  | a + 1 => by
    rw [Nat.succ_mul, sumF_app, sumF_mul f b a]; rfl
theorem sumF_comm (f : Nat → Nat → Nat) (b : Nat) : ∀ a, sumF (fun i => sumF (fun j => f i j) b) a = sumF (fun j => sumF (fun i => f i j) a) b
  | 0 => by symm; exact sumF_0 b (fun _ _ => rfl)
  | a + 1 => by
    show sumF (fun i => sumF (fun j => f i j) b) a + sumF (fun j => f a j) b = sumF (fun j => sumF (fun i => f i j) a + f a j) b
    rw [sumF_comm f b a, ← sumF_add]
theorem sumF_cmul (c : Nat) (f : Nat → Nat) : ∀ n, sumF (fun k => c * f k) n = c * sumF f n
  | 0 => rfl
  | n + 1 => by
    show sumF (fun k => c * f k) n + c * f n = c * (sumF f n + f n)
    rw [sumF_cmul c f n, Nat.mul_add]
theorem sumF_mulc (c : Nat) (f : Nat → Nat) (n : Nat) : sumF (fun k => f k * c) n = sumF f n * c := by
  rw [Nat.mul_comm, ← sumF_cmul]
  exact sumF_ext n (fun k _ => Nat.mul_comm _ _)
theorem sumF_one {f : Nat → Nat} {k0 : Nat} : ∀ n, k0 < n → (∀ k, k < n → k ≠ k0 → f k = 0) → sumF f n = f k0
  | 0, h, _ => by omega
  | n + 1, h, h2 => by
    show sumF f n + f n = f k0
    by_cases e : k0 = n
    · subst e
      rw [sumF_0 k0 (fun k hk => h2 k (by omega) (by omega)), Nat.zero_add]
    · rw [sumF_one n (by omega) (fun k hk => h2 k (by omega)), h2 n (by omega) (by omega), Nat.add_zero]
theorem sumF_s (f : Nat → Nat) (n : Nat) : sumF f (n + 1) = sumF f n + f n := rfl
theorem sumF_rev (f : Nat → Nat) : ∀ n, sumF (fun k => f (n - 1 - k)) n = sumF f n
  | 0 => rfl
  | n + 1 => by
    rw [show n + 1 = 1 + n by omega, sumF_app, show 1 + n = n + 1 by omega, sumF_s f n, ← sumF_rev f n]
    show 0 + f (n + 1 - 1 - 0) + sumF (fun k => f (n + 1 - 1 - (1 + k))) n = _
    rw [show n + 1 - 1 - 0 = n by omega, sumF_ext n (fun k hk => by rw [show n + 1 - 1 - (1 + k) = n - 1 - k by omega] : ∀ k, k < n → f (n + 1 - 1 - (1 + k)) = f (n - 1 - k))]
    omega
theorem sumF_le {f g : Nat → Nat} : ∀ n, (∀ k, k < n → f k ≤ g k) → sumF f n ≤ sumF g n
  | 0, _ => Nat.le_refl _
  | n + 1, h => by
    have := sumF_le n (fun k hk => h k (by omega))
    have := h n (by omega)
    show sumF f n + f n ≤ sumF g n + g n
    omega
theorem sumF_mono {f : Nat → Nat} {a b : Nat} (h : a ≤ b) : sumF f a ≤ sumF f b := by
  obtain ⟨c, rfl⟩ := Nat.le.dest h
  rw [sumF_app]; omega
/-- how many c below n have P -/
def cnt (P : Nat → Bool) (n : Nat) : Nat := sumF (fun c => (P c).toNat) n
theorem cnt_s (P : Nat → Bool) (n : Nat) : cnt P (n + 1) = cnt P n + (P n).toNat := rfl
theorem cnt_mono {P : Nat → Bool} {a b : Nat} (h : a ≤ b) : cnt P a ≤ cnt P b := sumF_mono h
theorem cnt_lt {P : Nat → Bool} {a b : Nat} (h : a < b) (hp : P a = true) : cnt P a < cnt P b := by
  have h1 : cnt P (a + 1) ≤ cnt P b := cnt_mono h
  rw [cnt_s, hp] at h1
  have : true.toNat = 1 := rfl
  omega
theorem cnt_le (P : Nat → Bool) : ∀ n, cnt P n ≤ n
  | 0 => Nat.le_refl _
  | n + 1 => by
    have := cnt_le P n
    rw [cnt_s]
    have : (P n).toNat ≤ 1 := by cases P n <;> decide
    omega
theorem cnt_ext {P Q : Nat → Bool} (n : Nat) (h : ∀ k, k < n → P k = Q k) : cnt P n = cnt Q n := sumF_ext n (fun k hk => by rw [h k hk])
/-- a sum over the values of g, by how often each stands -/
theorem sumF_push {g h : Nat → Nat} {ss : Nat} (h25 : h 25 = 0) : ∀ N, (∀ c, c < N → inS ss (g c)) → (hs : ss ≤ 25) → sumF (fun c => h (g c)) N = sumF (fun u => sumF (fun c => if g c = u then 1 else 0) N * h u) ss := by
  intro N hg hs
  have e1 : sumF (fun u => sumF (fun c => if g c = u then 1 else 0) N * h u) ss = sumF (fun u => sumF (fun c => (if g c = u then 1 else 0) * h u) N) ss := sumF_ext ss (fun u _ => (sumF_mulc (h u) _ N).symm)
  rw [e1, sumF_comm]
  refine sumF_ext N (fun c hc => ?_)
  rcases hg c hc with q | q
  · rw [sumF_one (k0 := g c) ss q (fun u _ hu => by rw [if_neg (fun z => hu z.symm), Nat.zero_mul]), if_pos rfl, Nat.one_mul]
  · rw [q, h25]
    symm
    exact sumF_0 ss (fun u hu => by rw [if_neg (by omega), Nat.zero_mul])
/-! digits -/
theorem p3_1 : p3 1 = 3 := rfl
theorem digit {N k : Nat} (h : k < N) (c : Nat) : (c % p3 N) / p3 k % 3 = c / p3 k % 3 := by
  obtain ⟨m, rfl⟩ : ∃ m, N = k + (m + 1) := ⟨N - k - 1, by omega⟩
  rw [p3_add, Nat.mod_mul_right_div_self, p3_s, Nat.mod_mul_right_mod]
theorem runF_mod (dl : Nat → Nat) {N : Nat} : ∀ (n s c : Nat), n ≤ N → runF dl s n (c % p3 N) = runF dl s n c
  | 0, _, _, _ => rfl
  | n + 1, s, c, h => by rw [runF_s, runF_s, digit (by omega), runF_mod dl n _ c (by omega)]
theorem runF_app (dl : Nat → Nat) (b : Nat) : ∀ (a s c : Nat), runF dl s (a + b) c = runF dl (runF dl s a (c / p3 b)) b c
  | 0, s, c => by rw [Nat.zero_add]; rfl
  | a + 1, s, c => by
    rw [show a + 1 + b = (a + b) + 1 by omega, runF_s, runF_app dl b a, runF_s, p3_add, Nat.mul_comm (p3 a), Nat.div_div_eq_div_mul]
theorem hi_lo {x y b : Nat} (h : y < p3 b) : (x * p3 b + y) / p3 b = x ∧ (x * p3 b + y) % p3 b = y := by
  have := p3_pos b
  constructor
  · rw [Nat.mul_comm, Nat.mul_add_div this, Nat.div_eq_of_lt h]; omega
  · rw [Nat.mul_comm, Nat.mul_add_mod, Nat.mod_eq_of_lt h]
theorem hi_lt {x y a b : Nat} (hx : x < p3 a) (hy : y < p3 b) : x * p3 b + y < p3 (a + b) := by
  rw [p3_add]
  have : (x + 1) * p3 b ≤ p3 a * p3 b := Nat.mul_le_mul_right _ hx
  rw [Nat.succ_mul] at this
  omega
theorem run_25 {dl : Nat → Nat} {ss : Nat} (ho : okS dl ss) : ∀ n c, runF dl 25 n c = 25
  | 0, _ => rfl
  | n + 1, c => by
    have hm : c / p3 n % 3 < 3 := Nat.mod_lt _ (by omega)
    have e : dl (3 * 25 + c / p3 n % 3) = 25 := by
      rcases (by omega : c / p3 n % 3 = 0 ∨ c / p3 n % 3 = 1 ∨ c / p3 n % 3 = 2) with e | e | e <;> rw [e]
      · exact ho.2.2.1
      · exact ho.2.2.2.1
      · exact ho.2.2.2.2
    rw [runF_s, e, run_25 ho n c]
/-- alive behind the word c of n letters from s -/
def lvF (dl : Nat → Nat) (s n c : Nat) : Nat := if runF dl s n c = 25 then 0 else 1
theorem lvF_hi (dl : Nat → Nat) {s n i j : Nat} (hi : i < 3) (hj : j < p3 n) : lvF dl s (n + 1) (i * p3 n + j) = lvF dl (dl (3 * s + i)) n j := by
  unfold lvF
  have h := hi_lo (x := i) hj
  rw [runF_s, h.1, Nat.mod_eq_of_lt hi, ← runF_mod dl (N := n) n _ (i * p3 n + j) (Nat.le_refl _), h.2]
theorem cntF_live {dl : Nat → Nat} {ss : Nat} (ho : okS dl ss) : ∀ n s, inS ss s → cntF dl ss n s = sumF (lvF dl s n) (p3 n)
  | 0, s, hs => by
    have h1 := ho.1
    show (if s < ss then 1 else 0) = 0 + (if s = 25 then 0 else 1)
    rcases hs with q | q
    · rw [if_pos q, if_neg (by omega)]
    · rw [if_neg (by omega), if_pos q]
  | n + 1, s, hs => by
    have h1 := ho.1
    have e : sumF (lvF dl s (n + 1)) (p3 (n + 1)) = sumF (fun i => sumF (lvF dl (dl (3 * s + i)) n) (p3 n)) 3 := by
      rw [p3_s, sumF_mul]
      exact sumF_ext 3 (fun i hi => sumF_ext (p3 n) (fun j hj => lvF_hi dl hi hj))
    rw [e]
    rcases hs with q | q
    · show (if s < ss then _ else 0) = _
      rw [if_pos q]
      exact sumF_ext 3 (fun i hi => cntF_live ho n _ (inS_step ho (Or.inl q) hi))
    · show (if s < ss then _ else 0) = _
      rw [if_neg (by omega)]
      symm
      refine sumF_0 3 (fun i hi => ?_)
      refine sumF_0 (p3 n) (fun j hj => ?_)
      unfold lvF
      have e2 : dl (3 * s + i) = 25 := by
        subst q
        rcases (by omega : i = 0 ∨ i = 1 ∨ i = 2) with rfl | rfl | rfl
        · exact ho.2.2.1
        · exact ho.2.2.2.1
        · exact ho.2.2.2.2
      rw [e2, run_25 ho, if_pos rfl]
/-- the ways as the array has them -/
def wOk (dl wa : Nat → Nat) (ss : Nat) : Prop := ∀ n s, n ≤ 30 → s < 26 → wa (26 * n + s) = cntF dl ss n s
theorem wa_live {dl wa : Nat → Nat} {ss : Nat} (ho : okS dl ss) (hw : wOk dl wa ss) {n s : Nat} (hn : n ≤ 30) (hs : inS ss s) : wa (26 * n + s) = sumF (lvF dl s n) (p3 n) := by
  have := inS_lt ho hs
  rw [hw n s hn (by omega), cntF_live ho n s hs]
theorem blF_live {dl wa : Nat → Nat} {ss : Nat} (ho : okS dl ss) (hw : wOk dl wa ss) : ∀ n s c, n ≤ 30 → inS ss s → blF dl wa s n c = sumF (lvF dl s n) (c % p3 n)
  | 0, s, c, _, _ => by show 0 = sumF _ (c % 1); rw [Nat.mod_one]; rfl
  | n + 1, s, c, hn, hs => by
    have hm : c / p3 n % 3 < 3 := Nat.mod_lt _ (by omega)
    have hr : c % p3 n < p3 n := Nat.mod_lt _ (p3_pos n)
    show sumF (fun i => wa (26 * n + dl (3 * s + i))) (c / p3 n % 3) + blF dl wa (dl (3 * s + c / p3 n % 3)) n c = _
    rw [blF_live ho hw n _ c (by omega) (inS_step ho hs hm)]
    have e : c % p3 (n + 1) = (c / p3 n % 3) * p3 n + c % p3 n := by
      rw [p3_s, Nat.mul_comm 3, Nat.mod_mul, Nat.mul_comm]; omega
    rw [e, sumF_app, sumF_mul]
    congr 1
    · refine sumF_ext _ (fun i hi => ?_)
      rw [wa_live ho hw (by omega) (inS_step ho hs (by omega))]
      exact sumF_ext _ (fun j hj => (lvF_hi dl (by omega) hj).symm)
    · exact sumF_ext _ (fun j hj => (lvF_hi dl hm (by omega)).symm)
theorem unF_live {dl wa : Nat → Nat} {ss : Nat} (ho : okS dl ss) (hw : wOk dl wa ss) : ∀ n s i code, n ≤ 30 → inS ss s → i < sumF (lvF dl s n) (p3 n) → ∃ x, x < p3 n ∧ unF dl wa s i code n = code * p3 n + x ∧ lvF dl s n x = 1 ∧ sumF (lvF dl s n) x = i
  | 0, s, i, code, _, _, hi => by
    have hi : i < 0 + lvF dl s 0 0 := hi
    refine ⟨0, by decide, ?_, ?_, ?_⟩
    · show code = code * 1 + 0; omega
    · unfold lvF at hi ⊢
      split at hi
      · omega
      · rename_i q; rw [if_neg q]
    · show 0 = i
      unfold lvF at hi
      split at hi <;> omega
  | n + 1, s, i, code, hn, hs, hi => by
    have hw' : ∀ a, a < 3 → wa (26 * n + dl (3 * s + a)) = sumF (lvF dl (dl (3 * s + a)) n) (p3 n) := fun a ha => wa_live ho hw (by omega) (inS_step ho hs ha)
    have hsum : ∀ a x, a < 3 → x < p3 n → sumF (lvF dl s (n + 1)) (a * p3 n + x) = sumF (fun b => wa (26 * n + dl (3 * s + b))) a + sumF (lvF dl (dl (3 * s + a)) n) x := by
      intro a x ha hx
      rw [sumF_app, sumF_mul]
      congr 1
      · exact sumF_ext _ (fun b hb => by rw [hw' b (by omega)]; exact sumF_ext _ (fun j hj => lvF_hi dl (by omega) hj))
      · exact sumF_ext _ (fun j hj => lvF_hi dl ha (by omega))
    have htot : sumF (lvF dl s (n + 1)) (p3 (n + 1)) = sumF (fun b => wa (26 * n + dl (3 * s + b))) 3 := by
      rw [p3_s, sumF_mul]
      exact sumF_ext _ (fun b hb => by rw [hw' b hb]; exact sumF_ext _ (fun j hj => lvF_hi dl hb hj))
    have h3 : sumF (fun b => wa (26 * n + dl (3 * s + b))) 3 = 0 + wa (26 * n + dl (3 * s + 0)) + wa (26 * n + dl (3 * s + 1)) + wa (26 * n + dl (3 * s + 2)) := rfl
    rw [htot, h3] at hi
    have go : ∀ a i2, a < 3 → i2 < wa (26 * n + dl (3 * s + a)) → i = sumF (fun b => wa (26 * n + dl (3 * s + b))) a + i2 → unF dl wa s i code (n + 1) = unF dl wa (dl (3 * s + a)) i2 (3 * code + a) n → ∃ x, x < p3 (n + 1) ∧ unF dl wa s i code (n + 1) = code * p3 (n + 1) + x ∧ lvF dl s (n + 1) x = 1 ∧ sumF (lvF dl s (n + 1)) x = i := by
      intro a i2 ha h1 h2 h4
      obtain ⟨x, x1, x2, x3, x4⟩ := unF_live ho hw n (dl (3 * s + a)) i2 (3 * code + a) (by omega) (inS_step ho hs ha) (by rw [← hw' a ha]; exact h1)
      refine ⟨a * p3 n + x, ?_, ?_, by rw [lvF_hi dl ha x1]; exact x3, by rw [hsum a x ha x1, x4]; exact h2.symm⟩
      · have : (a + 1) * p3 n ≤ 3 * p3 n := Nat.mul_le_mul_right _ ha
        rw [Nat.succ_mul] at this
        rw [p3_s]; omega
      · rw [h4, x2, p3_s, Nat.add_mul, Nat.mul_comm 3 code, Nat.mul_assoc, Nat.add_assoc]
    by_cases c0 : i < wa (26 * n + dl (3 * s + 0))
    · exact go 0 i (by omega) c0 (Nat.zero_add _).symm (if_pos c0)
    · by_cases c1 : i - wa (26 * n + dl (3 * s + 0)) < wa (26 * n + dl (3 * s + 1))
      · refine go 1 (i - wa (26 * n + dl (3 * s + 0))) (by omega) c1 ?_ ?_
        · show i = 0 + wa (26 * n + dl (3 * s + 0)) + _; omega
        · show (if _ then _ else if _ then _ else _) = _
          rw [if_neg c0, if_pos c1]
      · refine go 2 (i - wa (26 * n + dl (3 * s + 0)) - wa (26 * n + dl (3 * s + 1))) (by omega) (by omega) ?_ ?_
        · show i = 0 + wa (26 * n + dl (3 * s + 0)) + wa (26 * n + dl (3 * s + 1)) + _; omega
        · show (if _ then _ else if _ then _ else _) = _
          rw [if_neg c0, if_neg c1]
/-! what is built, by the good words -/
section BTS
variable {li : Nat → Nat} {co : Nat} {dl wa : Nat → Nat} {ss : Nat}
theorem lv_good (h : BT li co dl wa ss) (n c : Nat) : lvF dl 0 n c = (goodF (bL li co) n c).toNat := by
  unfold lvF
  by_cases q : runF dl 0 n c = 25
  · rw [if_pos q, (h.2.2 n c).mp q]; rfl
  · rw [if_neg q]
    cases e : goodF (bL li co) n c with
    | false => exact absurd ((h.2.2 n c).mpr e) q
    | true => rfl
theorem live_cnt (h : BT li co dl wa ss) (n x : Nat) : sumF (lvF dl 0 n) x = cnt (goodF (bL li co) n) x := sumF_ext x (fun c _ => lv_good h n c)
theorem BT_w (h : BT li co dl wa ss) : wOk dl wa ss := h.2.1
theorem BT_count (h : BT li co dl wa ss) {n : Nat} (hn : n ≤ 30) : wa (26 * n) = cnt (goodF (bL li co) n) (p3 n) := by
  rw [← live_cnt h, ← wa_live h.1 (BT_w h) hn (inS_0 h.1), Nat.add_zero]
theorem BT_below (h : BT li co dl wa ss) {n c : Nat} (hn : n ≤ 30) (hc : c < p3 n) : blF dl wa 0 n c = cnt (goodF (bL li co) n) c := by
  rw [blF_live h.1 (BT_w h) n 0 c hn (inS_0 h.1), live_cnt h, Nat.mod_eq_of_lt hc]
theorem BT_unrank (h : BT li co dl wa ss) {n i : Nat} (hn : n ≤ 30) (hi : i < cnt (goodF (bL li co) n) (p3 n)) : unF dl wa 0 i 0 n < p3 n ∧ goodF (bL li co) n (unF dl wa 0 i 0 n) = true ∧ cnt (goodF (bL li co) n) (unF dl wa 0 i 0 n) = i := by
  obtain ⟨x, x1, x2, x3, x4⟩ := unF_live h.1 (BT_w h) n 0 i 0 hn (inS_0 h.1) (by rw [live_cnt h]; exact hi)
  rw [Nat.zero_mul, Nat.zero_add] at x2
  rw [x2]
  refine ⟨x1, ?_, by rw [← live_cnt h]; exact x4⟩
  rw [lv_good h] at x3
  cases e : goodF (bL li co) n x with
  | false => rw [e] at x3; cases x3
  | true => rfl
theorem cnt_bound (h : BT li co dl wa ss) : ∀ k, k < 806 → wa k < 2 ^ 63 := by
  intro k hk
  have e : k = 26 * (k / 26) + k % 26 := by omega
  rw [e, h.2.1 (k / 26) (k % 26) (by omega) (by omega)]
  have hb : ∀ n s, cntF dl ss n s ≤ p3 n := by
    intro n
    induction n with
    | zero => intro s; show (if s < ss then 1 else 0) ≤ 1; split <;> omega
    | succ n ih =>
      intro s
      show (if s < ss then 0 + cntF dl ss n (dl (3 * s + 0)) + cntF dl ss n (dl (3 * s + 1)) + cntF dl ss n (dl (3 * s + 2)) else 0) ≤ 3 * p3 n
      have a0 := ih (dl (3 * s + 0))
      have a1 := ih (dl (3 * s + 1))
      have a2 := ih (dl (3 * s + 2))
      split <;> omega
  have h1 := hb (k / 26) (k % 26)
  have h2 : p3 (k / 26) ≤ p3 30 := p3_mono (by omega)
  have h3 : p3 30 = 205891132094649 := by decide
  omega
end BTS
end
section
set_option maxRecDepth 100000
/-! the answers, by the good words alone -/
def zrF : Nat → Nat → Nat
  | 0, _ => 0
  | n + 1, c => zc (c % 3) + zrF n (c / 3)
def selF (P : Nat → Bool) (i : Int) : Nat → Nat → Int32
  | _, 0 => -2
  | c, m + 1 => if P c = true ∧ (cnt P c : Int) = i then nI c else selF P i (c + 1) m
def nxtF (P : Nat → Bool) (y : Int) : Nat → Nat → Int32
  | _, 0 => -2
  | c, m + 1 => if y < (c : Int) ∧ P c = true then nI c else nxtF P y (c + 1) m
def stB (left rest p k : Nat) : Bool := decide (k ≤ left ∧ rest % p3 k = p - p3 k)
def plF (p k : Nat) : Nat → Nat → Nat
  | 0, _ => 0
  | n + 1, c => (stB (n + 1) c p k).toNat + plF p k n (c / 3)
def lgF (ba : Nat → Bool) : Nat → Nat
  | 0 => 0
  | n + 1 => if 0 < cnt (goodF ba (n + 1)) (p3 (n + 1)) then n + 1 else lgF ba n
def sRef (x y : Int) (v : Nat → Nat → Nat) : Int32 := if (refF x y).toInt < 0 then refF x y else nI (v x.toNat y.toNat)
def sLen (x : Int) (v : Nat → Int32) : Int32 := if 0 ≤ x ∧ x ≤ 9 then v x.toNat else -1
def sPc (x y : Int) (v : Nat → Nat → Nat → Nat) : Int32 := sLen x (fun n => if 0 < ltF y then nI (v n y.toNat (ltF y)) else -2)
def aAllowed (ba : Nat → Bool) (x y : Int) : Int32 := sRef x y (fun n c => (goodF ba n c).toNat)
def aRank (ba : Nat → Bool) (x y : Int) : Int32 := sRef x y (fun n c => cnt (goodF ba n) c)
def aChoices (ba : Nat → Bool) (x y : Int) : Int32 := sRef x y (fun n c => cnt (fun a => goodF ba n c && goodF ba (n + 1) (3 * c + a)) 3)
def aCount (ba : Nat → Bool) (x : Int) : Int64 := if x < 0 ∨ 30 < x then -1 else lN (cnt (goodF ba x.toNat) (p3 x.toNat))
def aCountWith (ba : Nat → Bool) (x y : Int) : Int32 := sLen x (fun n => if y < 0 ∨ 9 < y then -2 else nI (cnt (fun c => decide (zrF n c = y.toNat) && goodF ba n c) (p3 n)))
def aWord (ba : Nat → Bool) (x y : Int) : Int32 := sLen x (fun n => selF (goodF ba n) y 0 (p3 n))
def aNext (ba : Nat → Bool) (x y : Int) : Int32 := sLen x (fun n => nxtF (goodF ba n) y 0 (p3 n))
def aBeginning (ba : Nat → Bool) (x y : Int) : Int32 := sPc x y (fun n p k => if n < k then 0 else cnt (fun c => goodF ba n ((p - p3 k) * p3 (n - k) + c)) (p3 (n - k)))
def aEnding (ba : Nat → Bool) (x y : Int) : Int32 := sPc x y (fun n p k => cnt (fun c => stB n c p k && goodF ba n c) (p3 n))
def aStanding (ba : Nat → Bool) (x y : Int) : Int32 := sPc x y (fun n p k => sumF (fun c => if goodF ba n c = true then plF p k n c else 0) (p3 n))
def aLongest (ba : Nat → Bool) : Int32 := nI (lgF ba 9)
def aMirrored (ba : Nat → Bool) (x : Int) : Int32 := sLen x (fun n => nI (cnt (fun c => decide (rfF 0 c n = c) && goodF ba n c) (p3 n)))
theorem sRef_bad {x y : Int} {v : Nat → Nat → Nat} (h : (refF x y).toInt < 0) : sRef x y v = refF x y := if_pos h
theorem sRef_ok {n c : Nat} {v : Nat → Nat → Nat} (hn : n ≤ 9) (hc : c < p3 n) : sRef n c v = nI (v n c) := by
  have e : refF n c = nI 0 := refF_3 (by omega) (by omega) (by rw [Int.toNat_natCast]; omega)
  unfold sRef
  rw [e, if_neg (by decide)]; rfl
theorem sLen_bad {x : Int} {v : Nat → Int32} (h : ¬ (0 ≤ x ∧ x ≤ 9)) : sLen x v = -1 := if_neg h
theorem sLen_ok {n : Nat} {v : Nat → Int32} (hn : n ≤ 9) : sLen n v = v n := by
  unfold sLen
  rw [if_pos (by omega)]; rfl
theorem sPc_bad {x y : Int} {v : Nat → Nat → Nat → Nat} (h : ¬ (0 ≤ x ∧ x ≤ 9)) : sPc x y v = -1 := sLen_bad h
theorem sPc_bad2 {n : Nat} {y : Int} {v : Nat → Nat → Nat → Nat} (hn : n ≤ 9) (h : ltF y = 0) : sPc n y v = -2 := by
  unfold sPc
  rw [sLen_ok hn, if_neg (by omega)]
theorem sPc_ok {n p k : Nat} {v : Nat → Nat → Nat → Nat} (hn : n ≤ 9) (h : ltF (p : Int) = k) (hk : 1 ≤ k) : sPc n p v = nI (v n p k) := by
  unfold sPc
  rw [sLen_ok hn, if_pos (by omega), h]; rfl
theorem zrF_le : ∀ n c, zrF n c ≤ n
  | 0, _ => Nat.le_refl _
  | n + 1, c => by
    have := zrF_le n (c / 3)
    have : zc (c % 3) ≤ 1 := by unfold zc; split <;> omega
    show zc (c % 3) + zrF n (c / 3) ≤ n + 1
    omega
theorem sel_of {P : Nat → Bool} {c i : Nat} (hp : P c = true) (hi : cnt P c = i) : ∀ m c0, c0 ≤ c → c < c0 + m → selF P i c0 m = nI c
  | 0, c0, h1, h2 => by omega
  | m + 1, c0, h1, h2 => by
    show (if _ then _ else _) = _
    by_cases e : c0 = c
    · subst e
      rw [if_pos ⟨hp, by omega⟩]
    · rw [if_neg (fun q => by have := cnt_lt (P := P) (a := c0) (b := c) (by omega) q.1; omega)]
      exact sel_of hp hi m (c0 + 1) (by omega) (by omega)
theorem sel_no {P : Nat → Bool} {i : Int} {N : Nat} (h : i < 0 ∨ (cnt P N : Int) ≤ i) : ∀ m c0, c0 + m ≤ N → selF P i c0 m = -2
  | 0, _, _ => rfl
  | m + 1, c0, h1 => by
    show (if _ then _ else _) = _
    rw [if_neg (fun q => by have := cnt_lt (P := P) (a := c0) (b := N) (by omega) q.1; omega)]
    exact sel_no h m (c0 + 1) (by omega)
theorem nxt_of {P : Nat → Bool} {c : Nat} {y : Int} (hp : P c = true) (hy : y < c) (hm : ∀ x, x < c → y < (x : Int) → P x = false) : ∀ m c0, c0 ≤ c → c < c0 + m → nxtF P y c0 m = nI c
  | 0, c0, h1, h2 => by omega
  | m + 1, c0, h1, h2 => by
    show (if _ then _ else _) = _
    by_cases e : c0 = c
    · subst e
      rw [if_pos ⟨hy, hp⟩]
    · rw [if_neg (fun q => by have := hm c0 (by omega) q.1; rw [this] at q; exact absurd q.2 (by decide))]
      exact nxt_of hp hy hm m (c0 + 1) (by omega) (by omega)
theorem nxt_no {P : Nat → Bool} {y : Int} {N : Nat} (h : ∀ x, x < N → y < (x : Int) → P x = false) : ∀ m c0, c0 + m ≤ N → nxtF P y c0 m = -2
  | 0, _, _ => rfl
  | m + 1, c0, h1 => by
    show (if _ then _ else _) = _
    rw [if_neg (fun q => by have := h c0 (by omega) q.1; rw [this] at q; exact absurd q.2 (by decide))]
    exact nxt_no h m (c0 + 1) (by omega)
/-! good words -/
theorem endF_mono {ba : Nat → Bool} {m n c : Nat} (h : m ≤ n) (h1 : endF ba (m + 1) c = true) : endF ba (n + 1) c = true := by
  obtain ⟨j, a1, a2, a3, a4⟩ := endF_iff.mp h1
  exact endF_iff.mpr ⟨j, a1, a2, by omega, a4⟩
theorem goodF_s (ba : Nat → Bool) (n c : Nat) : goodF ba (n + 1) c = (!endF ba (n + 1) c && goodF ba n (c / 3)) := by
  show (if endF ba (n + 1) c = true then false else goodF ba n (c / 3)) = _
  cases endF ba (n + 1) c <;> rfl
theorem good_suf {ba : Nat → Bool} : ∀ m n c, m ≤ n → goodF ba n c = true → goodF ba m c = true
  | 0, _, _, _, _ => rfl
  | m + 1, n, c, h, hg => by
    obtain ⟨k, rfl⟩ : ∃ k, n = k + 1 := ⟨n - 1, by omega⟩
    rw [goodF_s] at hg ⊢
    rw [Bool.and_eq_true] at hg ⊢
    refine ⟨?_, good_suf m k (c / 3) (by omega) hg.2⟩
    cases e : endF ba (m + 1) c with
    | false => rfl
    | true =>
      have := endF_mono (n := k) (by omega) e
      rw [this] at hg
      exact absurd hg.1 (by decide)
theorem endF_mod {ba : Nat → Bool} {n N c : Nat} (h : n + 1 ≤ N) : endF ba (n + 1) (c % p3 N) = endF ba (n + 1) c := by
  have e : endF ba (n + 1) (c % p3 N) = true ↔ endF ba (n + 1) c = true := by
    rw [endF_iff, endF_iff]
    constructor
    · rintro ⟨j, a1, a2, a3, a4⟩; exact ⟨j, a1, a2, a3, by rw [sfx_mod (by omega)] at a4; exact a4⟩
    · rintro ⟨j, a1, a2, a3, a4⟩; exact ⟨j, a1, a2, a3, by rw [sfx_mod (by omega)]; exact a4⟩
  exact Bool.eq_iff_iff.mpr e
theorem goodF_mod {ba : Nat → Bool} : ∀ n N c, n ≤ N → goodF ba n (c % p3 N) = goodF ba n c
  | 0, _, _, _ => rfl
  | n + 1, N, c, h => by
    obtain ⟨M, rfl⟩ : ∃ M, N = M + 1 := ⟨N - 1, by omega⟩
    rw [goodF_s, goodF_s, endF_mod h]
    have e : c % p3 (M + 1) / 3 = (c / 3) % p3 M := by
      rw [p3_s, Nat.mod_mul_right_div_self]
    rw [e, goodF_mod n M (c / 3) (by omega)]
theorem goodF_congr {ba bb : Nat → Bool} (h : ∀ p, p < 162 → ba p = bb p) : ∀ n c, goodF ba n c = goodF bb n c
  | 0, _ => rfl
  | n + 1, c => by
    have e : endF ba (n + 1) c = endF bb (n + 1) c := by
      unfold endF
      rw [h _ (by omega), h (9 + c % 9) (by omega), h (27 + c % 27) (by omega), h (81 + c % 81) (by omega)]
    rw [goodF_s, goodF_s, e, goodF_congr h n]
theorem goodF_fun {ba bb : Nat → Bool} (h : ∀ p, p < 162 → ba p = bb p) : goodF ba = goodF bb := by
  funext n c
  exact goodF_congr h n c
/-! turned round -/
def bkF : Nat → Nat → Nat
  | 0, _ => 0
  | n + 1, c => (c % 3) * p3 n + bkF n (c / 3)
theorem rfF_bk : ∀ k w r, rfF w r k = w * p3 k + bkF k r
  | 0, w, r => by show w = w * 1 + 0; omega
  | k + 1, w, r => by
    show rfF (3 * w + r % 3) (r / 3) k = w * (3 * p3 k) + ((r % 3) * p3 k + bkF k (r / 3))
    rw [rfF_bk k, Nat.add_mul, Nat.mul_comm 3 w, Nat.mul_assoc]; omega
theorem bk_lt : ∀ n c, bkF n c < p3 n
  | 0, _ => Nat.one_pos
  | n + 1, c => by
    have h1 := bk_lt n (c / 3)
    have h2 : c % 3 < 3 := Nat.mod_lt _ (by omega)
    show (c % 3) * p3 n + bkF n (c / 3) < p3 (n + 1)
    rw [show n + 1 = 1 + n by omega]
    exact hi_lt (a := 1) h2 h1
theorem bk_mod : ∀ n N c, n ≤ N → bkF n (c % p3 N) = bkF n c
  | 0, _, _, _ => rfl
  | n + 1, N, c, h => by
    obtain ⟨M, rfl⟩ : ∃ M, N = M + 1 := ⟨N - 1, by omega⟩
    have e : c % p3 (M + 1) / 3 = (c / 3) % p3 M := by rw [p3_s, Nat.mod_mul_right_div_self]
    have e2 : c % p3 (M + 1) % 3 = c % 3 := by rw [p3_s, Nat.mod_mul_right_mod]
    show (c % p3 (M + 1) % 3) * p3 n + bkF n (c % p3 (M + 1) / 3) = (c % 3) * p3 n + bkF n (c / 3)
    rw [e, e2, bk_mod n M (c / 3) (by omega)]
theorem bk_app (b : Nat) : ∀ a c, bkF (a + b) c = bkF a c * p3 b + bkF b (c / p3 a)
  | 0, c => by
    rw [Nat.zero_add]
    show bkF b c = 0 * p3 b + bkF b (c / 1)
    rw [Nat.div_one]; omega
  | a + 1, c => by
    rw [show a + 1 + b = (a + b) + 1 by omega]
    show (c % 3) * p3 (a + b) + bkF (a + b) (c / 3) = ((c % 3) * p3 a + bkF a (c / 3)) * p3 b + bkF b (c / (3 * p3 a))
    rw [bk_app b a, p3_add, Nat.add_mul, Nat.mul_assoc, Nat.div_div_eq_div_mul]; omega
theorem bk_bk : ∀ n c, bkF n (bkF n c) = c % p3 n
  | 0, c => by show 0 = c % 1; omega
  | n + 1, c => by
    have h1 := bk_lt n (c / 3)
    have h2 : c % 3 < 3 := Nat.mod_lt _ (by omega)
    have h3 := hi_lo (x := c % 3) h1
    have e : bkF (n + 1) c = (c % 3) * p3 n + bkF n (c / 3) := rfl
    rw [bk_app 1 n, e]
    rw [← bk_mod n n _ (Nat.le_refl _), h3.2, bk_bk n (c / 3), h3.1]
    show (c / 3) % p3 n * 3 + ((c % 3) % 3 * 1 + 0) = c % (3 * p3 n)
    rw [Nat.mod_mul]; omega
/-! the middle -/
section MID
variable {dl wa : Nat → Nat} {ss : Nat}
theorem nwF_cnt (ho : okS dl ss) : ∀ t s, s ≠ 25 → nwF dl ss t s = sumF (fun c => if runF dl 0 t c = s then 1 else 0) (p3 t)
  | 0, s, _ => by
    show (if s = 0 then 1 else 0) = 0 + (if 0 = s then 1 else 0)
    by_cases h : s = 0
    · rw [if_pos h, if_pos h.symm]
    · rw [if_neg h, if_neg (fun q => h q.symm)]
  | t + 1, s, hs => by
    have hss := ho.1
    show (if s = 25 then 0 else sumF (fun k => if dl k = s then nwF dl ss t (k / 3) else 0) (3 * ss)) = _
    rw [if_neg hs, p3_s, Nat.mul_comm 3 ss, Nat.mul_comm 3 (p3 t), sumF_mul, sumF_mul]
    have e1 : ∀ c, c < p3 t → sumF (fun a => if runF dl 0 (t + 1) (c * 3 + a) = s then 1 else 0) 3 = sumF (fun a => if dl (3 * runF dl 0 t c + a) = s then 1 else 0) 3 := fun c _ => sumF_ext 3 (fun a ha => by rw [runF_last, show (c * 3 + a) / 3 = c by omega, show (c * 3 + a) % 3 = a by omega])
    rw [sumF_ext (p3 t) e1]
    have e2 := sumF_push (g := fun c => runF dl 0 t c) (h := fun u => sumF (fun a => if dl (3 * u + a) = s then 1 else 0) 3) (ss := ss) (by
      refine sumF_0 3 (fun a ha => if_neg ?_)
      rcases (by omega : a = 0 ∨ a = 1 ∨ a = 2) with rfl | rfl | rfl
      · rw [ho.2.2.1]; omega
      · rw [ho.2.2.2.1]; omega
      · rw [ho.2.2.2.2]; omega) (p3 t) (fun c _ => runF_in ho t 0 c (inS_0 ho)) hss.2
    rw [e2]
    refine sumF_ext ss (fun u hu => ?_)
    have e3 : sumF (fun a => if dl (u * 3 + a) = s then nwF dl ss t ((u * 3 + a) / 3) else 0) 3 = sumF (fun a => nwF dl ss t u * (if dl (3 * u + a) = s then 1 else 0)) 3 := sumF_ext 3 (fun a ha => by
      rw [show (u * 3 + a) / 3 = u by omega, show u * 3 + a = 3 * u + a by omega]
      split <;> omega)
    rw [e3, sumF_cmul, nwF_cnt ho t u (by omega)]
theorem thF_live (ho : okS dl ss) (hw : wOk dl wa ss) {b k c0 q : Nat} (hc : c0 < p3 k) (hq : q ≤ 30) : thF dl ss wa b k c0 q = sumF (fun x => sumF (fun y => lvF dl 0 (b + k + q) ((x * p3 k + c0) * p3 q + y)) (p3 q)) (p3 b) := by
  have hss := ho.1
  have e1 : thF dl ss wa b k c0 q = sumF (fun u => sumF (fun c => if runF dl 0 b c = u then 1 else 0) (p3 b) * sumF (lvF dl (runF dl u k c0) q) (p3 q)) ss := by
    refine sumF_ext ss (fun u hu => ?_)
    rw [nwF_cnt ho b u (by omega), wa_live ho hw hq (runF_in ho k u c0 (Or.inl hu))]
  have e2 := sumF_push (g := fun c => runF dl 0 b c) (h := fun u => sumF (lvF dl (runF dl u k c0) q) (p3 q)) (ss := ss) (by
    refine sumF_0 _ (fun y _ => ?_)
    unfold lvF
    rw [run_25 ho, run_25 ho, if_pos rfl]) (p3 b) (fun c _ => runF_in ho b 0 c (inS_0 ho)) hss.2
  rw [e1, ← e2]
  refine sumF_ext _ (fun x _ => sumF_ext _ (fun y hy => ?_))
  unfold lvF
  have h1 := hi_lo (x := x * p3 k + c0) hy
  have h2 := hi_lo (x := x) hc
  rw [runF_app dl q (b + k), h1.1, runF_app dl k b, h2.1, ← runF_mod dl (N := k) k _ (x * p3 k + c0) (Nat.le_refl _), h2.2, ← runF_mod dl (N := q) q _ ((x * p3 k + c0) * p3 q + y) (Nat.le_refl _), h1.2]
end MID
theorem plF_sum (p k : Nat) : ∀ n c, plF p k n c = sumF (fun q => (stB (n - q) (c / p3 q) p k).toNat) n
  | 0, _ => rfl
  | n + 1, c => by
    show (stB (n + 1) c p k).toNat + plF p k n (c / 3) = _
    rw [show n + 1 = 1 + n by omega, sumF_app]
    show _ = 0 + (stB (1 + n - 0) (c / 1) p k).toNat + sumF (fun q => (stB (1 + n - (1 + q)) (c / p3 (1 + q)) p k).toNat) n
    rw [Nat.div_one, plF_sum p k n, Nat.zero_add, Nat.sub_zero]
    congr 1
    refine sumF_ext n (fun q hq => ?_)
    rw [show 1 + n - (1 + q) = n - q by omega, show 1 + q = q + 1 by omega, p3_s, Nat.div_div_eq_div_mul]
theorem toNat_and (a b : Bool) : (a && b).toNat = if a = true then b.toNat else 0 := by cases a <;> rfl
section BTM
variable {li : Nat → Nat} {co : Nat} {dl wa : Nat → Nat} {ss : Nat}
theorem BT_thF (h : BT li co dl wa ss) {b k c0 q : Nat} (hc : c0 < p3 k) (hq : q ≤ 30) : thF dl ss wa b k c0 q = sumF (fun x => sumF (fun y => (goodF (bL li co) (b + k + q) ((x * p3 k + c0) * p3 q + y)).toNat) (p3 q)) (p3 b) := by
  rw [thF_live h.1 (BT_w h) hc hq]
  exact sumF_ext _ (fun x _ => sumF_ext _ (fun y _ => lv_good h _ _))
/-- the words with the piece behind b letters and ahead of q letters -/
theorem mid_cnt (P : Nat → Bool) {b k c0 q : Nat} (hc : c0 < p3 k) : sumF (fun c => if c / p3 q % p3 k = c0 then (P c).toNat else 0) (p3 (b + k + q)) = sumF (fun x => sumF (fun y => (P ((x * p3 k + c0) * p3 q + y)).toNat) (p3 q)) (p3 b) := by
  rw [p3_add, sumF_mul, p3_add, sumF_mul]
  refine sumF_ext _ (fun x _ => ?_)
  have e : ∀ z, z < p3 k → sumF (fun y => if ((x * p3 k + z) * p3 q + y) / p3 q % p3 k = c0 then (P ((x * p3 k + z) * p3 q + y)).toNat else 0) (p3 q) = if z = c0 then sumF (fun y => (P ((x * p3 k + c0) * p3 q + y)).toNat) (p3 q) else 0 := by
    intro z hz
    by_cases hzc : z = c0
    · subst hzc
      rw [if_pos rfl]
      exact sumF_ext _ (fun y hy => by rw [(hi_lo hy).1, (hi_lo hz).2, if_pos rfl])
    · rw [if_neg hzc]
      exact sumF_0 _ (fun y hy => by rw [(hi_lo hy).1, (hi_lo hz).2, if_neg hzc])
  rw [sumF_ext _ e, sumF_one (k0 := c0) _ hc (fun z _ hz => if_neg hz), if_pos rfl]
theorem BT_ending (h : BT li co dl wa ss) {n p k : Nat} (hk : k ≤ n) (hp : p3 k ≤ p ∧ p < 2 * p3 k) : thF dl ss wa (n - k) k (p - p3 k) 0 = cnt (fun c => stB n c p k && goodF (bL li co) n c) (p3 n) := by
  obtain ⟨b, rfl⟩ : ∃ b, n = b + k := ⟨n - k, by omega⟩
  rw [show b + k - k = b by omega, BT_thF h (by omega) (by omega), ← mid_cnt (fun c => goodF (bL li co) (b + k + 0) c) (by omega)]
  refine sumF_ext _ (fun c _ => ?_)
  show _ = (stB (b + k) c p k && goodF (bL li co) (b + k) c).toNat
  rw [toNat_and]
  unfold stB
  show (if c / 1 % p3 k = p - p3 k then _ else 0) = _
  rw [Nat.div_one]
  by_cases e : c % p3 k = p - p3 k
  · rw [if_pos e, if_pos (decide_eq_true ⟨by omega, e⟩)]; rfl
  · rw [if_neg e, if_neg (fun q => e (of_decide_eq_true q).2)]
theorem BT_standing (h : BT li co dl wa ss) {n p k : Nat} (hn : n ≤ 9) (hk1 : 1 ≤ k) (hk : k ≤ n) (hp : p3 k ≤ p ∧ p < 2 * p3 k) : sumF (fun b => thF dl ss wa b k (p - p3 k) (n - k - b)) (n - k + 1) = sumF (fun c => if goodF (bL li co) n c = true then plF p k n c else 0) (p3 n) := by
  obtain ⟨r, rfl⟩ : ∃ r, n = k + r := ⟨n - k, by omega⟩
  rw [show k + r - k = r by omega]
  have e1 : sumF (fun c => if goodF (bL li co) (k + r) c = true then plF p k (k + r) c else 0) (p3 (k + r)) = sumF (fun c => sumF (fun q => if goodF (bL li co) (k + r) c = true then (stB (k + r - q) (c / p3 q) p k).toNat else 0) (k + r)) (p3 (k + r)) := by
    refine sumF_ext _ (fun c _ => ?_)
    by_cases g : goodF (bL li co) (k + r) c = true
    · rw [if_pos g, plF_sum]; exact sumF_ext _ (fun q _ => by rw [if_pos g])
    · rw [if_neg g]; symm; exact sumF_0 _ (fun q _ => if_neg g)
  have e3 : ∀ F : Nat → Nat, sumF F (k + r) = sumF F (r + 1) + sumF (fun q => F (r + 1 + q)) (k - 1) := fun F => by rw [← sumF_app]; congr 1; omega
  rw [e1, sumF_comm, e3]
  have e2 : sumF (fun q => sumF (fun c => if goodF (bL li co) (k + r) c = true then (stB (k + r - (r + 1 + q)) (c / p3 (r + 1 + q)) p k).toNat else 0) (p3 (k + r))) (k - 1) = 0 := by
    refine sumF_0 _ (fun q hq => sumF_0 _ (fun c _ => ?_))
    have : stB (k + r - (r + 1 + q)) (c / p3 (r + 1 + q)) p k = false := by
      unfold stB
      exact decide_eq_false (fun z => by omega)
    rw [this]; split <;> rfl
  rw [e2, Nat.add_zero, ← sumF_rev]
  refine sumF_ext _ (fun q hq => ?_)
  rw [show r + 1 - 1 - q = r - q by omega, show r - (r - q) = q by omega, BT_thF h (by omega) (by omega), ← mid_cnt (fun c => goodF (bL li co) (r - q + k + q) c) (by omega), show r - q + k + q = k + r by omega]
  refine sumF_ext _ (fun c _ => ?_)
  by_cases e : c / p3 q % p3 k = p - p3 k
  · have es : stB (k + r - q) (c / p3 q) p k = true := by unfold stB; exact decide_eq_true ⟨by omega, e⟩
    rw [if_pos e, es]
    cases goodF (bL li co) (k + r) c <;> rfl
  · have es : stB (k + r - q) (c / p3 q) p k = false := by unfold stB; exact decide_eq_false (fun z => e z.2)
    rw [if_neg e, es]
    cases goodF (bL li co) (k + r) c <;> rfl
theorem BT_begin (h : BT li co dl wa ss) {n p k : Nat} (hn : n ≤ 9) (hk : k ≤ n) (hp : p3 k ≤ p ∧ p < 2 * p3 k) : wa (26 * (n - k) + runF dl 0 k (p - p3 k)) = cnt (fun c => goodF (bL li co) n ((p - p3 k) * p3 (n - k) + c)) (p3 (n - k)) := by
  rw [wa_live h.1 (BT_w h) (by omega) (runF_in h.1 k 0 _ (inS_0 h.1))]
  refine sumF_ext _ (fun c hc => ?_)
  show _ = (goodF (bL li co) n ((p - p3 k) * p3 (n - k) + c)).toNat
  have h1 := hi_lo (x := p - p3 k) hc
  rw [← lv_good h]
  unfold lvF
  have e := runF_app dl (n - k) k 0 ((p - p3 k) * p3 (n - k) + c)
  rw [show k + (n - k) = n by omega, h1.1, ← runF_mod dl (N := n - k) (n - k) _ ((p - p3 k) * p3 (n - k) + c) (Nat.le_refl _), h1.2] at e
  rw [e]
theorem BT_choices (h : BT li co dl wa ss) {n c : Nat} (hs : runF dl 0 n c ≠ 25) : wa (26 + runF dl 0 n c) = cnt (fun a => goodF (bL li co) n c && goodF (bL li co) (n + 1) (3 * c + a)) 3 := by
  have hin := runF_in h.1 n 0 c (inS_0 h.1)
  have hg : goodF (bL li co) n c = true := by
    cases e : goodF (bL li co) n c with
    | true => rfl
    | false => exact absurd ((h.2.2 n c).mpr e) hs
  have e1 := wa_live h.1 (BT_w h) (n := 1) (by omega) hin
  rw [show 26 * 1 + runF dl 0 n c = 26 + runF dl 0 n c by omega] at e1
  rw [e1]
  refine sumF_ext _ (fun a ha => ?_)
  have ha : a < 3 := ha
  show _ = (goodF (bL li co) n c && goodF (bL li co) (n + 1) (3 * c + a)).toNat
  rw [hg, Bool.true_and, ← lv_good h]
  unfold lvF
  rw [runF_last dl n, show (3 * c + a) / 3 = c by omega, show (3 * c + a) % 3 = a by omega]
  show (if dl (3 * runF dl 0 n c + a / 1 % 3) = 25 then 0 else 1) = _
  rw [Nat.div_one, Nat.mod_eq_of_lt ha]
theorem choices_dead {li : Nat → Nat} {co : Nat} {dl wa : Nat → Nat} {ss : Nat} (h : BT li co dl wa ss) {n c : Nat} (hs : runF dl 0 n c = 25) : cnt (fun a => goodF (bL li co) n c && goodF (bL li co) (n + 1) (3 * c + a)) 3 = 0 := by
  rw [(h.2.2 n c).mp hs]
  exact sumF_0 _ (fun a _ => rfl)
/-- words with a number of letters 0, by state -/
def tbF (dl : Nat → Nat) (t s z : Nat) : Nat := sumF (fun c => if runF dl 0 t c = s ∧ zrF t c = z then 1 else 0) (p3 t)
theorem sumF_comm3 (F : Nat → Nat → Nat → Nat) (a b N : Nat) : sumF (fun u => sumF (fun v => sumF (fun c => F u v c) N) b) a = sumF (fun c => sumF (fun u => sumF (fun v => F u v c) b) a) N := by
  rw [← sumF_comm (fun u c => sumF (fun v => F u v c) b) N a]
  exact sumF_ext a (fun u _ => sumF_comm (fun v c => F u v c) N b)
theorem spF_tb {dl : Nat → Nat} {ss : Nat} (ho : okS dl ss) {ta : Nat → Nat} {t : Nat} (ht : t ≤ 8) (hta : ∀ u v, u < ss → v < 10 → ta (10 * u + v) = tbF dl t u v) {s z : Nat} (hs : s < ss) (hz : z < 10) : spF dl ss ta (10 * s + z) = tbF dl (t + 1) s z := by
  have hss := ho.1
  have zc1 : ∀ l, zc l ≤ 1 := fun l => by unfold zc; split <;> omega
  unfold spF
  rw [Nat.mul_comm 10 ss, sumF_mul]
  have e1 : sumF (fun u => sumF (fun v => sumF (fun l => spT dl ta (10 * s + z) (u * 10 + v) l) 3) 10) ss = sumF (fun u => sumF (fun v => sumF (fun c => sumF (fun l => if dl (3 * u + l) = s ∧ v + zc l = z then 1 else 0) 3 * (if runF dl 0 t c = u ∧ zrF t c = v then 1 else 0)) (p3 t)) 10) ss := by
    refine sumF_ext ss (fun u hu => sumF_ext 10 (fun v hv => ?_))
    rw [sumF_cmul]
    have e : ∀ l, l < 3 → spT dl ta (10 * s + z) (u * 10 + v) l = (if dl (3 * u + l) = s ∧ v + zc l = z then 1 else 0) * ta (10 * u + v) := by
      intro l hl
      have := zc1 l
      have hle := inS_dl (c := l) ho (Or.inl hu) hl
      unfold spT
      rw [show (u * 10 + v) / 10 = u by omega, show (u * 10 + v) % 10 = v by omega, show u * 10 + v = 10 * u + v by omega]
      by_cases q : dl (3 * u + l) = s ∧ v + zc l = z
      · rw [if_pos q, if_pos ⟨by omega, by omega, by omega⟩, Nat.one_mul]
      · rw [if_neg q, if_neg (fun w => q ⟨by omega, by omega⟩), Nat.zero_mul]
    rw [sumF_ext 3 e, sumF_mulc, hta u v hu hv]
    rfl
  rw [e1, sumF_comm3]
  unfold tbF
  rw [p3_s, Nat.mul_comm 3, sumF_mul]
  refine sumF_ext _ (fun c _ => ?_)
  have hzr := zrF_le t c
  have e2 : sumF (fun l => if runF dl 0 (t + 1) (c * 3 + l) = s ∧ zrF (t + 1) (c * 3 + l) = z then 1 else 0) 3 = sumF (fun l => if dl (3 * runF dl 0 t c + l) = s ∧ zrF t c + zc l = z then 1 else 0) 3 := by
    refine sumF_ext 3 (fun l hl => ?_)
    have e3 : zrF (t + 1) (c * 3 + l) = zrF t c + zc l := by
      show zc ((c * 3 + l) % 3) + zrF t ((c * 3 + l) / 3) = _
      rw [show (c * 3 + l) / 3 = c by omega, show (c * 3 + l) % 3 = l by omega]; omega
    rw [runF_last, show (c * 3 + l) / 3 = c by omega, show (c * 3 + l) % 3 = l by omega, e3]
  rw [e2]
  rcases runF_in ho t 0 c (inS_0 ho) with q | q
  · rw [sumF_one (k0 := runF dl 0 t c) ss q (fun u _ hu => sumF_0 _ (fun v _ => by rw [if_neg (fun w => hu w.1.symm), Nat.mul_zero]))]
    rw [sumF_one (k0 := zrF t c) 10 (by omega) (fun v _ hv => by rw [if_neg (fun w => hv w.2.symm), Nat.mul_zero])]
    rw [if_pos ⟨rfl, rfl⟩, Nat.mul_one]
  · rw [sumF_0 ss (fun u hu => sumF_0 _ (fun v _ => by rw [if_neg (fun w => by omega), Nat.mul_zero]))]
    symm
    refine sumF_0 3 (fun l hl => if_neg (fun w => ?_))
    have w1 := w.1
    rw [q] at w1
    rcases (by omega : l = 0 ∨ l = 1 ∨ l = 2) with rfl | rfl | rfl
    · rw [ho.2.2.1] at w1; omega
    · rw [ho.2.2.2.1] at w1; omega
    · rw [ho.2.2.2.2] at w1; omega
theorem BT_with (h : BT li co dl wa ss) {ta : Nat → Nat} {n k : Nat} (hk : k < 10) (hta : ∀ u v, u < ss → v < 10 → ta (10 * u + v) = tbF dl n u v) : sumF (fun s => ta (10 * s + k)) ss = cnt (fun c => decide (zrF n c = k) && goodF (bL li co) n c) (p3 n) := by
  have hss := h.1.1
  rw [sumF_ext ss (fun s hs => hta s k hs hk)]
  unfold tbF
  rw [sumF_comm]
  refine sumF_ext _ (fun c _ => ?_)
  show _ = (decide (zrF n c = k) && goodF (bL li co) n c).toNat
  rw [toNat_and, ← lv_good h]
  unfold lvF
  by_cases e : zrF n c = k
  · rw [if_pos (decide_eq_true e)]
    rcases runF_in h.1 n 0 c (inS_0 h.1) with q | q
    · rw [if_neg (by omega), sumF_one (k0 := runF dl 0 n c) ss q (fun u _ hu => if_neg (fun w => hu w.1.symm)), if_pos ⟨rfl, e⟩]
    · rw [if_pos q]
      exact sumF_0 _ (fun u hu => if_neg (fun w => by omega))
  · rw [if_neg (fun w => e (of_decide_eq_true w))]
    exact sumF_0 _ (fun u hu => if_neg (fun w => e w.2))
/-- a sum over the chosen, by their numbers -/
theorem sum_sel {P : Nat → Bool} {f e : Nat → Nat} : ∀ N, (∀ i, i < cnt P N → e i < N ∧ P (e i) = true ∧ cnt P (e i) = i) → sumF (fun i => f (e i)) (cnt P N) = sumF (fun x => if P x = true then f x else 0) N
  | 0, _ => rfl
  | N + 1, h => by
    have h1 : ∀ i, i < cnt P N → e i < N ∧ P (e i) = true ∧ cnt P (e i) = i := by
      intro i hi
      obtain ⟨a, b, c⟩ := h i (by rw [cnt_s]; omega)
      refine ⟨?_, b, c⟩
      by_cases q : e i = N
      · rw [q] at c; omega
      · omega
    rw [sumF_s, ← sum_sel N h1, cnt_s]
    by_cases p : P N = true
    · rw [p, if_pos rfl]
      show sumF (fun i => f (e i)) (cnt P N) + f (e (cnt P N)) = _
      obtain ⟨a, b, c⟩ := h (cnt P N) (by rw [cnt_s, p]; show _ < _ + 1; omega)
      have : e (cnt P N) = N := by
        rcases Nat.lt_or_ge (e (cnt P N)) N with q | q
        · have := cnt_lt q b; omega
        · omega
      rw [this]
    · rw [if_neg p]
      have : P N = false := by cases q : P N with
        | true => exact absurd q p
        | false => rfl
      rw [this]; rfl
theorem BT_mirror (h : BT li co dl wa ss) {n hf : Nat} (hn : n ≤ 9) (hh : hf = (n + 1) / 2) : sumF (fun i => (goodF (bL li co) n (rfF (unF dl wa 0 i 0 hf) (if n % 2 = 1 then unF dl wa 0 i 0 hf / 3 else unF dl wa 0 i 0 hf) (n - hf))).toNat) (cnt (goodF (bL li co) hf) (p3 hf)) = cnt (fun c => decide (rfF 0 c n = c) && goodF (bL li co) n c) (p3 n) := by
  rw [sum_sel (f := fun x => (goodF (bL li co) n (rfF x (if n % 2 = 1 then x / 3 else x) (n - hf))).toNat) (e := fun i => unF dl wa 0 i 0 hf) (p3 hf) (fun i hi => BT_unrank h (by omega) hi)]
  obtain ⟨r, e, hr, he, he2⟩ : ∃ r e, hf = e + r ∧ n = hf + r ∧ ((n % 2 = 1 ∧ e = 1) ∨ (n % 2 = 0 ∧ e = 0)) := ⟨n / 2, n % 2, by omega, by omega, by omega⟩
  have hy0 : ∀ x, x < p3 hf → rfF x (if n % 2 = 1 then x / 3 else x) (n - hf) = x * p3 r + bkF r (x / p3 e) := by
    intro x _
    rw [rfF_bk, show n - hf = r by omega]
    rcases he2 with ⟨a, b⟩ | ⟨a, b⟩
    · rw [if_pos a, b]; rfl
    · rw [if_neg (by omega), b]; show _ = _ + bkF r (x / 1); rw [Nat.div_one]
  have key : ∀ x y, x < p3 hf → y < p3 r → (rfF 0 (x * p3 r + y) n = x * p3 r + y ↔ y = bkF r (x / p3 e)) := by
    intro x y hx hy
    have hl := hi_lo (x := x) hy
    have hz := bk_lt hf x
    have e1 : rfF 0 (x * p3 r + y) n = bkF r y * p3 hf + bkF hf x := by
      rw [rfF_bk, Nat.zero_mul, Nat.zero_add, he, Nat.add_comm hf r, bk_app hf r, hl.1, ← bk_mod r r (x * p3 r + y) (Nat.le_refl _), hl.2]
    have e2 : bkF hf x = bkF e x * p3 r + bkF r (x / p3 e) := by rw [hr, bk_app r e]
    have e3 : bkF e x = x % p3 e := by
      rcases he2 with ⟨_, b⟩ | ⟨_, b⟩ <;> rw [b]
      · show x % 3 * 1 + 0 = x % 3; omega
      · show 0 = x % 1; omega
    have hb := bk_lt r (x / p3 e)
    have ep : p3 hf = p3 e * p3 r := by rw [hr, p3_add]
    have hxe : x / p3 e < p3 r := Nat.div_lt_of_lt_mul (by rw [← ep]; exact hx)
    rw [e1, e2, e3, ep]
    constructor
    · intro q
      have q2 : (bkF r y * (p3 e * p3 r) + (x % p3 e * p3 r + bkF r (x / p3 e))) % p3 r = y := by rw [q]; exact hl.2
      rw [← Nat.mul_assoc, ← Nat.add_assoc, ← Nat.add_mul, (hi_lo hb).2] at q2
      exact q2.symm
    · intro q
      have q2 : bkF r y = x / p3 e := by rw [q, bk_bk, Nat.mod_eq_of_lt hxe]
      rw [q2, ← Nat.mul_assoc, ← Nat.add_assoc, ← Nat.add_mul, ← q]
      congr 2
      have := Nat.div_add_mod x (p3 e)
      rw [Nat.mul_comm]; exact this
  have eN : p3 n = p3 hf * p3 r := by rw [he, p3_add]
  unfold cnt
  rw [eN, sumF_mul]
  refine sumF_ext _ (fun x hx => ?_)
  have hb := bk_lt r (x / p3 e)
  have e4 : ∀ y, y < p3 r → (decide (rfF 0 (x * p3 r + y) n = x * p3 r + y) && goodF (bL li co) n (x * p3 r + y)).toNat = if y = bkF r (x / p3 e) then (goodF (bL li co) n (x * p3 r + y)).toNat else 0 := by
    intro y hy
    rw [toNat_and]
    by_cases q : y = bkF r (x / p3 e)
    · rw [if_pos q, if_pos (decide_eq_true ((key x y hx hy).mpr q))]
    · rw [if_neg q, if_neg (fun w => q ((key x y hx hy).mp (of_decide_eq_true w)))]
  rw [sumF_ext _ e4, sumF_one (k0 := bkF r (x / p3 e)) _ hb (fun y _ hy => if_neg hy), if_pos rfl, hy0 x hx]
  by_cases g : goodF (bL li co) hf x = true
  · rw [if_pos g]
  · rw [if_neg g]
    cases g2 : goodF (bL li co) n (x * p3 r + bkF r (x / p3 e)) with
    | false => rfl
    | true =>
      exfalso
      apply g
      cases g3 : goodF (bL li co) hf x with
      | true => rfl
      | false =>
        have r1 := (h.2.2 hf x).mpr g3
        have r2 := runF_app dl r hf 0 (x * p3 r + bkF r (x / p3 e))
        rw [(hi_lo hb).1, r1, run_25 h.1, ← he] at r2
        rw [(h.2.2 n _).mp r2] at g2
        cases g2
end BTM
end
section
set_option maxRecDepth 100000
theorem fg_toplR {X : fwX} {ws : va_W} {pc : Nat} {lv : List (Nat × Value)} {st : List Value} {x y : Int64} (h : x = y) (k : fwG X ws pc lv (.long y :: st)) : fwG X ws pc lv (.long x :: st) := by rw [h]; exact k
theorem dec_ne {p : Prop} [Decidable p] (h : (decide p).toNat ≠ 0) : p := by
  by_cases q : p
  · exact q
  · rw [decide_eq_false q] at h; exact absurd rfl h
theorem dec_eq {p : Prop} [Decidable p] (h : (decide p).toNat = 0) : ¬ p := by
  intro q
  rw [decide_eq_true q] at h; exact absurd h (by decide)
theorem dec_lt {b : Bool} : b.toNat < 2 ^ 31 := by cases b <;> decide
theorem i_natU {x : Int32} (h : 0 ≤ x.toInt) : ∃ k : Nat, k < 2 ^ 31 ∧ x = nI k ∧ x.toInt = k := by
  obtain ⟨j, h1, h2⟩ := nI_of (x := x) (fun q => by rw [Int32.lt_iff_toInt_lt, Int32.toInt_zero] at q; omega)
  exact ⟨j, h1, h2, by rw [h2, nI_toInt h1]⟩
/-- what holds of a FactorFreeWords between the calls -/
def XI (li : Nat → Nat) (co : Nat) (dl wa : Nat → Nat) (ss bu : Nat) : Prop := PCS li co ∧ (∀ i j, i < co → j < co → li i = li j → i = j) ∧ (bu = 0 ∨ (bu = 1 ∧ BT li co dl wa ss))
/-- the end of a call that asks: the answer, and the same pieces -/
def XQ (ad : Nat → Nat) (ck : Nat → ClassId) (li : Nat → Nat) (co : Nat) (v0 : Value) : Option Value → va_W → Prop := fun v w => v = some v0 ∧ ∃ kv dv wv nv tv uv fv sv bv, w = XW ad ck li kv dv wv nv tv uv fv co sv bv ∧ XI li co dv wv sv bv
/-! forbid and permit: the answer, and the pieces behind it -/
def aForbid (ba : Nat → Bool) (he : Nat) (x : Int) : Int32 := if ltF x = 0 then -1 else if ba x.toNat = true then -2 else if 5 < he then -3 else nI (he + 1)
def okForbid (ba : Nat → Bool) (he : Nat) (x : Int) : Prop := 0 < ltF x ∧ ba x.toNat = false ∧ he ≤ 5
def aPermit (ba : Nat → Bool) (he : Nat) (x : Int) : Int32 := if ltF x = 0 ∨ ba x.toNat = false then -1 else nI (he - 1)
def okPermit (ba : Nat → Bool) (x : Int) : Prop := 0 < ltF x ∧ ba x.toNat = true
/-- the end of forbid: other pieces lv, cv -/
def XF (ad : Nat → Nat) (ck : Nat → ClassId) (li : Nat → Nat) (co : Nat) (x : Int) : Option Value → va_W → Prop := fun v w => v = some (.int (aForbid (bL li co) co x)) ∧ ∃ lv kv dv wv nv tv uv fv cv sv bv, w = XW ad ck lv kv dv wv nv tv uv fv cv sv bv ∧ XI lv cv dv wv sv bv ∧ ((okForbid (bL li co) co x ∧ cv = co + 1 ∧ ∀ p, bL lv cv p = va_up (bL li co) x.toNat true p) ∨ (¬ okForbid (bL li co) co x ∧ cv = co ∧ lv = li))
def XP_ (ad : Nat → Nat) (ck : Nat → ClassId) (li : Nat → Nat) (co : Nat) (x : Int) : Option Value → va_W → Prop := fun v w => v = some (.int (aPermit (bL li co) co x)) ∧ ∃ lv kv dv wv nv tv uv fv cv sv bv, w = XW ad ck lv kv dv wv nv tv uv fv cv sv bv ∧ XI lv cv dv wv sv bv ∧ ((okPermit (bL li co) x ∧ cv + 1 = co ∧ ∀ p, bL lv cv p = va_up (bL li co) x.toNat false p) ∨ (¬ okPermit (bL li co) x ∧ cv = co ∧ lv = li))
theorem bL_congr {f g : Nat → Nat} {p : Nat} : ∀ n, (∀ k, k < n → f k = g k) → bL f n p = bL g n p
  | 0, _ => rfl
  | n + 1, h => by
    show ((f n == p) || bL f n p) = ((g n == p) || bL g n p)
    rw [h n (by omega), bL_congr n (fun k hk => h k (by omega))]
theorem bL_push {li : Nat → Nat} {co p q : Nat} : bL (va_up li co q) (co + 1) p = va_up (bL li co) q true p := by
  show ((va_up li co q co == p) || bL (va_up li co q) co p) = _
  rw [up_eq, bL_congr co (fun k hk => up_ne (by omega))]
  by_cases e : p = q
  · subst e
    rw [up_eq]; simp
  · rw [up_ne e]
    have : (q == p) = false := by simpa using fun z => e z.symm
    rw [this, Bool.false_or]
theorem bL_false {li : Nat → Nat} {p n : Nat} (h : ∀ k, k < n → li k ≠ p) : bL li n p = false := by
  cases e : bL li n p with
  | false => rfl
  | true =>
    obtain ⟨k, h1, h2⟩ := (bL_iff n).mp e
    exact absurd h2 (h k h1)
theorem pcs_lt {li : Nat → Nat} {co k : Nat} (h : PCS li co) (hk : k < co) : 0 < ltF (li k : Int) ∧ li k < 162 := by
  obtain ⟨z, z1, z2, z3, z4⟩ := h.2 k hk
  have := p3_mono z2
  have e4 : p3 4 = 81 := rfl
  refine ⟨(ltF_sz _).mpr ?_, by omega⟩
  rw [szN_of z1 z2 z3 z4]; omega
theorem forbid_ok {li : Nat → Nat} {co p k : Nat} {dl wa : Nat → Nat} {ss bu : Nat} (hI : XI li co dl wa ss bu) (hk : 1 ≤ k ∧ k ≤ 4) (hp : p3 k ≤ p ∧ p < 2 * p3 k) (hno : ∀ j, j < co → li j ≠ p) (hc : co ≠ 6) : XI (va_up li co p) (co + 1) dl wa ss 0 := by
  obtain ⟨h1, h2, -⟩ := hI
  refine ⟨⟨by have := h1.1; omega, fun j hj => ?_⟩, fun i j hi hj e => ?_, Or.inl rfl⟩
  · by_cases e : j = co
    · subst e; rw [up_eq]; exact ⟨k, hk.1, hk.2, hp⟩
    · rw [up_ne e]; exact h1.2 j (by omega)
  · by_cases ei : i = co
    · by_cases ej : j = co
      · omega
      · rw [ei, up_eq, up_ne ej] at e; exact absurd e.symm (hno j (by omega))
    · by_cases ej : j = co
      · rw [ej, up_eq, up_ne ei] at e; exact absurd e (hno i (by omega))
      · rw [up_ne ei, up_ne ej] at e; exact h2 i j (by omega) (by omega) e
/-- one piece less -/
theorem permit_ok {li lv : Nat → Nat} {co at_ : Nat} {dl wa : Nat → Nat} {ss bu : Nat} (hI : XI li co dl wa ss bu) (ha : at_ < co) (hl : ∀ j, j + 1 < co → lv j = if at_ ≤ j then li (j + 1) else li j) : XI lv (co - 1) dl wa ss 0 ∧ ∀ p, bL lv (co - 1) p = va_up (bL li co) (li at_) false p := by
  obtain ⟨h1, h2, -⟩ := hI
  have hm : ∀ j, j + 1 < co → ∃ i, i < co ∧ i ≠ at_ ∧ lv j = li i ∧ i = if at_ ≤ j then j + 1 else j := by
    intro j hj
    by_cases q : at_ ≤ j
    · exact ⟨j + 1, hj, by omega, by rw [hl j hj, if_pos q], by rw [if_pos q]⟩
    · exact ⟨j, by omega, by omega, by rw [hl j hj, if_neg q], by rw [if_neg q]⟩
  refine ⟨⟨⟨by have := h1.1; omega, fun j hj => ?_⟩, fun i j hi hj e => ?_, Or.inl rfl⟩, fun p => ?_⟩
  · obtain ⟨i, i1, i2, i3, -⟩ := hm j (by omega)
    rw [i3]; exact h1.2 i i1
  · obtain ⟨a, a1, a2, a3, a4⟩ := hm i (by omega)
    obtain ⟨b, b1, b2, b3, b4⟩ := hm j (by omega)
    have := h2 a b a1 b1 (by rw [← a3, ← b3]; exact e)
    split at a4 <;> split at b4 <;> omega
  · by_cases e : p = li at_
    · subst e
      rw [up_eq]
      refine bL_false (fun j hj q => ?_)
      obtain ⟨i, i1, i2, i3, -⟩ := hm j (by omega)
      rw [i3] at q
      exact i2 (h2 i at_ i1 ha q)
    · rw [up_ne e]
      refine Bool.eq_iff_iff.mpr ?_
      rw [bL_iff, bL_iff]
      constructor
      · rintro ⟨j, j1, j2⟩
        obtain ⟨i, i1, i2, i3, -⟩ := hm j (by omega)
        exact ⟨i, i1, by rw [← i3]; exact j2⟩
      · rintro ⟨i, i1, i2⟩
        have : i ≠ at_ := fun z => by subst z; exact e i2.symm
        by_cases q : at_ < i
        · exact ⟨i - 1, by omega, by rw [hl (i - 1) (by omega), if_pos (by omega), show i - 1 + 1 = i by omega]; exact i2⟩
        · exact ⟨i, by omega, by rw [hl i (by omega), if_neg (by omega)]; exact i2⟩
/-! next, by numbers -/
theorem nx_of {P : Nat → Bool} {N m c : Nat} {y : Int} (hm : ∀ x : Nat, y < (x : Int) ↔ m ≤ x) (hc : c < N) (hp : P c = true) (he : cnt P c = cnt P m) : nxtF P y 0 N = nI c := by
  have hmc : m ≤ c := by
    rcases Nat.lt_or_ge c m with q | q
    · have := cnt_lt q hp; omega
    · exact q
  refine nxt_of hp ((hm c).mpr hmc) (fun x hx hy => ?_) N 0 (Nat.zero_le _) (by omega)
  cases e : P x with
  | false => rfl
  | true =>
    have h1 := cnt_lt hx e
    have h2 := cnt_mono (P := P) ((hm x).mp hy)
    omega
theorem nx_no {P : Nat → Bool} {N m : Nat} {y : Int} (hm : ∀ x : Nat, y < (x : Int) ↔ m ≤ x) (he : cnt P N ≤ cnt P m) : nxtF P y 0 N = -2 := by
  refine nxt_no (N := N) (fun x hx hy => ?_) N 0 (by omega)
  cases e : P x with
  | false => rfl
  | true =>
    have h1 := cnt_lt hx e
    have h2 := cnt_mono (P := P) ((hm x).mp hy)
    omega
theorem lg_of {ba : Nat → Bool} {n : Nat} : ∀ m, n ≤ m → (∀ j, n < j → j ≤ m → cnt (goodF ba j) (p3 j) = 0) → lgF ba m = lgF ba n
  | 0, h, _ => by rw [show n = 0 by omega]
  | m + 1, h, h2 => by
    by_cases e : n = m + 1
    · rw [e]
    · show (if _ then _ else _) = _
      rw [if_neg (by rw [h2 (m + 1) (by omega) (by omega)]; omega)]
      exact lg_of m (by omega) (fun j a b => h2 j a (by omega))
end
section
set_option maxRecDepth 100000
set_option maxHeartbeats 4000000 in
set_option maxRecDepth 100000 in
/-- forbid -/
theorem met_X0_forbid {l : Launch} {D : va_G} {ck : Nat → ClassId} {ad : Nat → Nat} {li kn dl wa no th ta fr : Nat → Nat} {co ss bu : Nat} (x : Int32) (hI : XI li co dl wa ss bu) (sz : Nat) : Met l yX0_forbid (ws_ yX0_forbid cX0_forbid 3 (some .int)) (rmL 3) (muP D (tysX ck) (XW ad ck li kn dl wa no th ta fr co ss bu) [.ref (ad 0), .int x] sz) (muQ D (XF ad ck li co x.toInt) (va_A (XW ad ck li kn dl wa no th ta fr co ss bu) sz)) 0 0 (va_A (XW ad ck li kn dl wa no th ta fr co ss bu) sz) := by
  refine mu_i (lv0 := [(0, .ref (ad 0)), (1, .int x)]) (by decide) (Nat.le_of_ble_eq_true rfl) rfl (fun X B M hret => ?_) sz
  obtain ⟨S, hN, hRm, rfl, rfl⟩ := B
  have S : fwC X cX0_forbid RX0 (tysX ck) := S
  refine fg_iload_n S 1 1 dX0_forbid_0 rfl rfl ?_
  refine cs_ S hRm 1 (met_X0_isPiece (x)) q72 q73 q22 q74 ok_X0_isPiece (by decide) rfl rfl (Nat.le_of_ble_eq_true rfl) dX0_forbid_1 ?_
  refine fg_if_ne S 9 dX0_forbid_4 (by decide) dec_lt (fun h_z => ?_) (fun h_z => ?_)
  · obtain ⟨p, k, rfl, ex, hlt, hsz, hk1, hk4, hp1, hp2, hp3⟩ := pc_of (dec_ne h_z)
    have hco := hI.1.1
    have hz : ltF (nI p).toInt ≠ 0 := by omega
    have et : (nI p).toInt.toNat = p := by omega
    refine fg_aload_n S 0 0 dX0_forbid_9 rfl rfl ?_
    refine fg_iload_n S 1 1 dX0_forbid_10 rfl rfl ?_
    refine cx_ro S hRm 1 (met_X0_placeN p (by omega) hco (fun j hj => by have := (pcs_lt hI.1 hj).2; omega)) rfl q81 q83 qs0 q22 q84 ok_X0_place (by decide) rfl rfl (Nat.le_of_ble_eq_true rfl) dX0_forbid_11 ?_
    refine fg_istore_n (lv' := [(0, .ref (ad 0)), (1, .int (nI p)), (2, .int (fnd li ((p : Nat) : Int) 0 co))]) S [1, 2, 0] dX0_forbid_14 rfl hN (by decide) rfl ?_
    refine fg_iload_n S 2 2 dX0_forbid_15 rfl rfl ?_
    have hfi := fnd_ge (f := li) (x := ((p : Nat) : Int)) (n := co) (by omega)
    refine fg_ifZ_lt S 22 dX0_forbid_16 (by decide) rfl (fun h_1 => ?_) (fun h_1 => ?_)
    · have hno : ∀ j, j < co → li j ≠ p := fun j hj q => absurd (hfi.mpr ⟨j, hj, by omega⟩) (by omega)
      have hin : bL li co (nI p).toInt.toNat = false := by rw [et]; exact bL_false hno
      refine fg_aload_n S 0 0 dX0_forbid_22 rfl rfl ?_
      refine xg_co S dX0_forbid_23 ?_
      refine fg_bi (v := nI 6) S dX0_forbid_26 (by decide) ?_
      refine fg_icmp_ne S 34 dX0_forbid_28 (by decide) (by omega) (by omega) (fun h_2 => ?_) (fun h_2 => ?_)
      · refine fg_aload_n S 0 0 dX0_forbid_34 rfl rfl ?_
        refine xg_li S dX0_forbid_35 ?_
        refine fg_aload_n S 0 0 dX0_forbid_38 rfl rfl ?_
        refine xg_co S dX0_forbid_39 ?_
        refine fg_iload_n S 1 1 dX0_forbid_42 rfl rfl ?_
        refine xs_li S M dX0_forbid_43 (by omega) ?_
        refine fg_aload_n S 0 0 dX0_forbid_44 rfl rfl ?_
        refine fg_dup S dX0_forbid_45 rfl ?_
        refine xg_co S dX0_forbid_46 ?_
        refine fg_ic (v := nI 1) S dX0_forbid_49 (by decide) ?_
        refine fg_iadd S dX0_forbid_50 ?_
        refine xp_co S M dX0_forbid_51 ?_
        refine fg_aload_n S 0 0 dX0_forbid_54 rfl rfl ?_
        refine fg_ic (v := nI 0) S dX0_forbid_55 (by decide) ?_
        refine xp_bu0 S M dX0_forbid_56 ?_
        refine fg_aload_n S 0 0 dX0_forbid_59 rfl rfl ?_
        refine xg_co S dX0_forbid_60 ?_
        refine fg_topi (y := (aForbid (bL li co) co (nI p).toInt)) (by unfold aForbid; rw [if_neg hz, if_neg (by rw [hin]; decide), if_neg (by omega)]) ?_
        exact hret _ _ _ _ dX0_forbid_63 ⟨rfl, va_up li co p, kn, dl, wa, no, th, ta, fr, co + 1, ss, 0, rfl, forbid_ok hI ⟨hk1, hk4⟩ ⟨hp1, hp2⟩ hno h_2, Or.inl ⟨⟨by omega, hin, by omega⟩, rfl, fun q => by rw [et]; exact bL_push⟩⟩
      · refine fg_bi (v := -3) S dX0_forbid_31 (by decide) ?_
        refine fg_topi (y := (aForbid (bL li co) co (nI p).toInt)) (by unfold aForbid; rw [if_neg hz, if_neg (by rw [hin]; decide), if_pos (by omega)]) ?_
        exact hret _ _ _ _ dX0_forbid_33 ⟨rfl, li, kn, dl, wa, no, th, ta, fr, co, ss, bu, rfl, hI, Or.inr ⟨fun q => by have := q.2.2; omega, rfl, rfl⟩⟩
    · have hin : bL li co (nI p).toInt.toNat = true := by rw [et]; exact (bL_iff co).mpr (by obtain ⟨j, j1, j2⟩ := hfi.mp h_1; exact ⟨j, j1, by omega⟩)
      refine fg_bi (v := -2) S dX0_forbid_19 (by decide) ?_
      refine fg_topi (y := (aForbid (bL li co) co (nI p).toInt)) (by unfold aForbid; rw [if_neg hz, if_pos hin]) ?_
      exact hret _ _ _ _ dX0_forbid_21 ⟨rfl, li, kn, dl, wa, no, th, ta, fr, co, ss, bu, rfl, hI, Or.inr ⟨fun q => absurd (hin.symm.trans q.2.1) (by decide), rfl, rfl⟩⟩
  · have hz : ltF x.toInt = 0 := by have := dec_eq h_z; omega
    refine fg_ic (v := -1) S dX0_forbid_7 (by decide) ?_
    refine fg_topi (y := (aForbid (bL li co) co x.toInt)) (if_pos hz).symm ?_
    exact hret _ _ _ _ dX0_forbid_8 ⟨rfl, li, kn, dl, wa, no, th, ta, fr, co, ss, bu, rfl, hI, Or.inr ⟨fun q => by have := q.1; omega, rfl, rfl⟩⟩
set_option maxHeartbeats 4000000 in
set_option maxRecDepth 100000 in
/-- permit -/
theorem met_X0_permit {l : Launch} {D : va_G} {ck : Nat → ClassId} {ad : Nat → Nat} {li kn dl wa no th ta fr : Nat → Nat} {co ss bu : Nat} (x : Int32) (hI : XI li co dl wa ss bu) (sz : Nat) : Met l yX0_permit (ws_ yX0_permit cX0_permit 4 (some .int)) (rmL 3) (muP D (tysX ck) (XW ad ck li kn dl wa no th ta fr co ss bu) [.ref (ad 0), .int x] sz) (muQ D (XP_ ad ck li co x.toInt) (va_A (XW ad ck li kn dl wa no th ta fr co ss bu) sz)) 0 0 (va_A (XW ad ck li kn dl wa no th ta fr co ss bu) sz) := by
  refine mu_i (lv0 := [(0, .ref (ad 0)), (1, .int x)]) (by decide) (Nat.le_of_ble_eq_true rfl) rfl (fun X B M hret => ?_) sz
  obtain ⟨S, hN, hRm, rfl, rfl⟩ := B
  have S : fwC X cX0_permit RX0 (tysX ck) := S
  have hco := hI.1.1
  have hfi := fnd_ge (f := li) (x := x.toInt) (n := co) (by omega)
  refine fg_aload_n S 0 0 dX0_permit_0 rfl rfl ?_
  refine fg_iload_n S 1 1 dX0_permit_1 rfl rfl ?_
  refine cx_ro S hRm 1 (met_X0_place (x) hco (fun j hj => by have := (pcs_lt hI.1 hj).2; omega)) rfl q81 q83 qs0 q22 q84 ok_X0_place (by decide) rfl rfl (Nat.le_of_ble_eq_true rfl) dX0_permit_2 ?_
  refine fg_istore_n (lv' := [(0, .ref (ad 0)), (1, .int x), (2, .int (fnd li (x).toInt 0 co))]) S [1, 2, 0] dX0_permit_5 rfl hN (by decide) rfl ?_
  refine fg_iload_n S 2 2 dX0_permit_6 rfl rfl ?_
  refine fg_ifZ_ge S 12 dX0_permit_7 (by decide) rfl (fun h_1 => ?_) (fun h_1 => ?_)
  · rcases fnd_spec li x.toInt co 0 with ⟨w1, -⟩ | ⟨t, t1, t2, t3, t4, -⟩
    · rw [w1] at h_1; exact absurd h_1 (by decide)
    rw [t3]
    have hpc := pcs_lt hI.1 (k := t) (by omega)
    rw [t4] at hpc
    have et : x.toInt.toNat = li t := by omega
    have hok : okPermit (bL li co) x.toInt := ⟨hpc.1, (bL_iff co).mpr ⟨t, by omega, et.symm⟩⟩
    refine fg_iload_n S 2 2 dX0_permit_12 rfl rfl ?_
    refine fg_ic (v := nI 1) S dX0_permit_13 (by decide) ?_
    refine fg_iadd S dX0_permit_14 ?_
    refine fg_istore_n (lv' := [(0, .ref (ad 0)), (1, .int x), (2, .int (nI t)), (3, .int (nI (t + 1)))]) S [1, 2, 3, 0] dX0_permit_15 rfl hN (by decide) rfl ?_
    have lp : ∀ (fuel : Nat) (k : Nat) (lv : Nat → Nat), (t + 1 ≤ k) → (k ≤ co) → (∀ j, j < 6 → lv j = if t ≤ j ∧ j + 1 < k then li (j + 1) else li j) → (co - k) < fuel → fwG X (XW ad ck lv kn dl wa no th ta fr co ss bu) 16 [(0, .ref (ad 0)), (1, .int x), (2, .int (nI t)), (3, .int (nI k))] [] := by
      intro fuel
      induction fuel with
      | zero => intro k lv hk1 hk2 hL hfu; exact absurd hfu (Nat.not_lt_zero _)
      | succ fuel ih_lp =>
        intro k lv hk1 hk2 hL hfu
        refine fg_iload_n S 3 3 dX0_permit_16 rfl rfl ?_
        refine fg_aload_n S 0 0 dX0_permit_17 rfl rfl ?_
        refine xg_co S dX0_permit_18 ?_
        refine fg_icmp_ge S 44 dX0_permit_21 (by decide) (by omega) (by omega) (fun h_2 => ?_) (fun h_2 => ?_)
        · refine fg_aload_n S 0 0 dX0_permit_44 rfl rfl ?_
          refine fg_dup S dX0_permit_45 rfl ?_
          refine xg_co S dX0_permit_46 ?_
          refine fg_ic (v := nI 1) S dX0_permit_49 (by decide) ?_
          refine fg_isub S dX0_permit_50 (by omega) ?_
          refine xp_co S M dX0_permit_51 ?_
          refine fg_aload_n S 0 0 dX0_permit_54 rfl rfl ?_
          refine fg_ic (v := nI 0) S dX0_permit_55 (by decide) ?_
          refine xp_bu0 S M dX0_permit_56 ?_
          refine fg_aload_n S 0 0 dX0_permit_59 rfl rfl ?_
          refine xg_co S dX0_permit_60 ?_
          refine fg_topi (y := (aPermit (bL li co) co x.toInt)) (by unfold aPermit; rw [if_neg (fun q => by rcases q with z | z; (have := hok.1; omega); (rw [hok.2] at z; cases z))]) ?_
          obtain ⟨w1, w2⟩ := permit_ok (lv := lv) hI (by omega : t < co) (fun j hj => by rw [hL j (by omega)]; by_cases q : t ≤ j; (rw [if_pos ⟨q, by omega⟩, if_pos q]); (rw [if_neg (fun z => q z.1), if_neg q]))
          exact hret _ _ _ _ dX0_permit_63 ⟨rfl, lv, kn, dl, wa, no, th, ta, fr, co - 1, ss, 0, rfl, w1, Or.inl ⟨hok, by omega, fun q => by rw [et]; exact w2 q⟩⟩
        · refine fg_aload_n S 0 0 dX0_permit_24 rfl rfl ?_
          refine xg_li S dX0_permit_25 ?_
          refine fg_iload_n S 3 3 dX0_permit_28 rfl rfl ?_
          refine fg_ic (v := nI 1) S dX0_permit_29 (by decide) ?_
          refine fg_isub S dX0_permit_30 (by omega) ?_
          refine fg_aload_n S 0 0 dX0_permit_31 rfl rfl ?_
          refine xg_li S dX0_permit_32 ?_
          refine fg_iload_n S 3 3 dX0_permit_35 rfl rfl ?_
          refine xl_li S dX0_permit_36 (by omega) ?_
          refine xs_li S M dX0_permit_37 (by omega) ?_
          refine fg_iinc (lv' := [(0, .ref (ad 0)), (1, .int x), (2, .int (nI t)), (3, .int (nI (k + 1)))]) S 3 [1, 2, 3, 0] dX0_permit_38 rfl (inc_1 _) hN (by decide) rfl ?_
          refine fg_goto S 16 dX0_permit_41 (by decide) ?_
          exact ih_lp (k + 1) (va_up lv (k - 1) (lv k)) (by omega) (by omega) (fun j hj => by by_cases e : j = k - 1; (subst e; rw [up_eq, hL k (by omega), if_neg (by omega), if_pos (by omega), show k - 1 + 1 = k by omega]); (rw [up_ne e, hL j hj]; by_cases q : t ≤ j ∧ j + 1 < k; (rw [if_pos q, if_pos (by omega)]); (rw [if_neg q, if_neg (by omega)]))) (by omega)
    exact lp ((co - (t + 1)) + 1) (t + 1) li (Nat.le_refl _) (by omega) (fun j hj => by rw [if_neg (by omega)]) (Nat.lt_succ_self _)
  · have hcs : ltF x.toInt = 0 ∨ bL li co x.toInt.toNat = false := by
      by_cases q : ltF x.toInt = 0
      · exact Or.inl q
      · obtain ⟨p, k, e1, e2, -⟩ := pc_of (x := x) (by omega)
        exact Or.inr (bL_false (fun j hj e => absurd (hfi.mpr ⟨j, hj, by omega⟩) (by omega)))
    refine fg_ic (v := -1) S dX0_permit_10 (by decide) ?_
    refine fg_topi (y := (aPermit (bL li co) co x.toInt)) (if_pos hcs).symm ?_
    exact hret _ _ _ _ dX0_permit_11 ⟨rfl, li, kn, dl, wa, no, th, ta, fr, co, ss, bu, rfl, hI, Or.inr ⟨fun q => by rcases hcs with z | z; (have := q.1; omega); (rw [q.2] at z; cases z), rfl, rfl⟩⟩
set_option maxHeartbeats 4000000 in
set_option maxRecDepth 100000 in
/-- pieces -/
theorem met_X0_pieces {l : Launch} {D : va_G} {ck : Nat → ClassId} {ad : Nat → Nat} {li kn dl wa no th ta fr : Nat → Nat} {co ss bu : Nat}  : Met l yX0_pieces (ws_ yX0_pieces cX0_pieces 1 (some .int)) (rmL 0) (roP D (tysX ck) (XW ad ck li kn dl wa no th ta fr co ss bu) [.ref (ad 0)]) (roQ (.int (nI co))) 0 0 (fun _ => False) := by
  refine ro_i (lv0 := [(0, .ref (ad 0))]) (by decide) (Nat.le_of_ble_eq_true rfl) rfl (fun X B hret => ?_)
  obtain ⟨S, hN, hRm, rfl, rfl⟩ := B
  have S : fwC X cX0_pieces RX0 (tysX ck) := S
  refine fg_aload_n S 0 0 dX0_pieces_0 rfl rfl ?_
  refine xg_co S dX0_pieces_1 ?_
  exact hret _ _ dX0_pieces_4
set_option maxHeartbeats 4000000 in
set_option maxRecDepth 100000 in
/-- allowed -/
theorem met_X0_allowed {l : Launch} {D : va_G} {ck : Nat → ClassId} {ad : Nat → Nat} {li kn dl wa no th ta fr : Nat → Nat} {co ss bu : Nat} (x y : Int32) (hI : XI li co dl wa ss bu) (sz : Nat) : Met l yX0_allowed (ws_ yX0_allowed cX0_allowed 4 (some .int)) (rmL 3) (muP D (tysX ck) (XW ad ck li kn dl wa no th ta fr co ss bu) [.ref (ad 0), .int x, .int y] sz) (muQ D (XQ ad ck li co (.int (aAllowed (bL li co)  x.toInt y.toInt))) (va_A (XW ad ck li kn dl wa no th ta fr co ss bu) sz)) 0 0 (va_A (XW ad ck li kn dl wa no th ta fr co ss bu) sz) := by
  refine mu_i (lv0 := [(0, .ref (ad 0)), (1, .int x), (2, .int y)]) (by decide) (Nat.le_of_ble_eq_true rfl) rfl (fun X B M hret => ?_) sz
  obtain ⟨S, hN, hRm, rfl, rfl⟩ := B
  have S : fwC X cX0_allowed RX0 (tysX ck) := S
  refine fg_iload_n S 1 1 dX0_allowed_0 rfl rfl ?_
  refine fg_iload_n S 2 2 dX0_allowed_1 rfl rfl ?_
  refine cs_ S hRm 2 (met_X0_refused (x) (y)) q97 q98 q22 q99 ok_X0_refused (by decide) rfl rfl (Nat.le_of_ble_eq_true rfl) dX0_allowed_2 ?_
  refine fg_istore_n (lv' := [(0, .ref (ad 0)), (1, .int x), (2, .int y), (3, .int (refF (x).toInt (y).toInt))]) S [1, 2, 3, 0] dX0_allowed_5 rfl hN (by decide) rfl ?_
  refine fg_iload_n S 3 3 dX0_allowed_6 rfl rfl ?_
  refine fg_ifZ_ge S 12 dX0_allowed_7 (by decide) rfl (fun h_1 => ?_) (fun h_1 => ?_)
  · obtain ⟨n, c, hn, hc, rfl, rfl, ex, ey⟩ := ref_ok h_1
    rw [ex, ey] at hret
    have hp9 := p3_le9 hn
    refine fg_aload_n S 0 0 dX0_allowed_12 rfl rfl ?_
    refine cx_mu S M hRm 0 (fun sz => met_X0_build hI.1 hI.2.2 sz) rfl q103 q105 qs1 q22 q106 ok_X0_build (by decide) rfl rfl (Nat.le_of_ble_eq_true rfl) dX0_allowed_13 ?_
    intro v_ w_ hp_
    obtain ⟨rfl, kv, dv, wv, sv, rfl, hbt⟩ := hp_
    show fwG X (XW ad ck li kv dv wv no th ta fr co sv 1) 16 [(0, .ref (ad 0)), (1, .int (nI n)), (2, .int (nI c)), (3, .int (refF (nI n).toInt (nI c).toInt))] []
    have hI2 : XI li co dv wv sv 1 := ⟨hI.1, hI.2.1, Or.inr ⟨rfl, hbt⟩⟩
    have ho := hbt.1
    have hss := ho.1
    refine fg_aload_n S 0 0 dX0_allowed_16 rfl rfl ?_
    refine fg_ic (v := nI 0) S dX0_allowed_17 (by decide) ?_
    refine fg_iload_n S 1 1 dX0_allowed_18 rfl rfl ?_
    refine fg_iload_n S 2 2 dX0_allowed_19 rfl rfl ?_
    refine cx_ro S hRm 3 (met_X0_read 0 n c ho (inS_0 ho) (by omega) (by omega)) rfl q119 q121 qs5 q22 q122 ok_X0_read (by decide) rfl rfl (Nat.le_of_ble_eq_true rfl) dX0_allowed_20 ?_
    refine fg_bi (v := nI 25) S dX0_allowed_23 (by decide) ?_
    have hle := inS_lt ho (runF_in ho n 0 c (inS_0 ho))
    refine fg_icmp_ne S 32 dX0_allowed_25 (by decide) (by omega) (by omega) (fun h_2 => ?_) (fun h_2 => ?_)
    · refine fg_ic (v := nI 1) S dX0_allowed_32 (by decide) ?_
      refine fg_topi (y := (aAllowed (bL li co) n c)) (by unfold aAllowed; rw [sRef_ok hn hc, ← lv_good hbt]; unfold lvF; rw [if_neg h_2]) ?_
      exact hret _ _ _ _ dX0_allowed_33 ⟨rfl, kv, dv, wv, no, th, ta, fr, sv, 1, rfl, hI2⟩
    · refine fg_ic (v := nI 0) S dX0_allowed_28 (by decide) ?_
      refine fg_goto S 33 dX0_allowed_29 (by decide) ?_
      refine fg_topi (y := (aAllowed (bL li co) n c)) (by unfold aAllowed; rw [sRef_ok hn hc, ← lv_good hbt]; unfold lvF; rw [if_pos h_2]) ?_
      exact hret _ _ _ _ dX0_allowed_33 ⟨rfl, kv, dv, wv, no, th, ta, fr, sv, 1, rfl, hI2⟩
  · refine fg_iload_n S 3 3 dX0_allowed_10 rfl rfl ?_
    refine fg_topi (y := (aAllowed (bL li co) x.toInt y.toInt)) (sRef_bad h_1).symm ?_
    exact hret _ _ _ _ dX0_allowed_11 ⟨rfl, kn, dl, wa, no, th, ta, fr, ss, bu, rfl, hI⟩
set_option maxHeartbeats 4000000 in
set_option maxRecDepth 100000 in
/-- rank -/
theorem met_X0_rank {l : Launch} {D : va_G} {ck : Nat → ClassId} {ad : Nat → Nat} {li kn dl wa no th ta fr : Nat → Nat} {co ss bu : Nat} (x y : Int32) (hI : XI li co dl wa ss bu) (sz : Nat) : Met l yX0_rank (ws_ yX0_rank cX0_rank 4 (some .int)) (rmL 3) (muP D (tysX ck) (XW ad ck li kn dl wa no th ta fr co ss bu) [.ref (ad 0), .int x, .int y] sz) (muQ D (XQ ad ck li co (.int (aRank (bL li co)  x.toInt y.toInt))) (va_A (XW ad ck li kn dl wa no th ta fr co ss bu) sz)) 0 0 (va_A (XW ad ck li kn dl wa no th ta fr co ss bu) sz) := by
  refine mu_i (lv0 := [(0, .ref (ad 0)), (1, .int x), (2, .int y)]) (by decide) (Nat.le_of_ble_eq_true rfl) rfl (fun X B M hret => ?_) sz
  obtain ⟨S, hN, hRm, rfl, rfl⟩ := B
  have S : fwC X cX0_rank RX0 (tysX ck) := S
  refine fg_iload_n S 1 1 dX0_rank_0 rfl rfl ?_
  refine fg_iload_n S 2 2 dX0_rank_1 rfl rfl ?_
  refine cs_ S hRm 2 (met_X0_refused (x) (y)) q97 q98 q22 q99 ok_X0_refused (by decide) rfl rfl (Nat.le_of_ble_eq_true rfl) dX0_rank_2 ?_
  refine fg_istore_n (lv' := [(0, .ref (ad 0)), (1, .int x), (2, .int y), (3, .int (refF (x).toInt (y).toInt))]) S [1, 2, 3, 0] dX0_rank_5 rfl hN (by decide) rfl ?_
  refine fg_iload_n S 3 3 dX0_rank_6 rfl rfl ?_
  refine fg_ifZ_ge S 12 dX0_rank_7 (by decide) rfl (fun h_1 => ?_) (fun h_1 => ?_)
  · obtain ⟨n, c, hn, hc, rfl, rfl, ex, ey⟩ := ref_ok h_1
    rw [ex, ey] at hret
    have hp9 := p3_le9 hn
    refine fg_aload_n S 0 0 dX0_rank_12 rfl rfl ?_
    refine cx_mu S M hRm 0 (fun sz => met_X0_build hI.1 hI.2.2 sz) rfl q103 q105 qs1 q22 q106 ok_X0_build (by decide) rfl rfl (Nat.le_of_ble_eq_true rfl) dX0_rank_13 ?_
    intro v_ w_ hp_
    obtain ⟨rfl, kv, dv, wv, sv, rfl, hbt⟩ := hp_
    show fwG X (XW ad ck li kv dv wv no th ta fr co sv 1) 16 [(0, .ref (ad 0)), (1, .int (nI n)), (2, .int (nI c)), (3, .int (refF (nI n).toInt (nI c).toInt))] []
    have hI2 : XI li co dv wv sv 1 := ⟨hI.1, hI.2.1, Or.inr ⟨rfl, hbt⟩⟩
    have ho := hbt.1
    have hss := ho.1
    refine fg_aload_n S 0 0 dX0_rank_16 rfl rfl ?_
    refine fg_iload_n S 1 1 dX0_rank_17 rfl rfl ?_
    refine fg_iload_n S 2 2 dX0_rank_18 rfl rfl ?_
    refine cx_ro S hRm 2 (met_X0_below n c ho (by omega) (by omega)) rfl q140 q142 qs7 q22 q143 ok_X0_below (by decide) rfl rfl (Nat.le_of_ble_eq_true rfl) dX0_rank_19 ?_
    refine fg_topi (y := (aRank (bL li co) n c)) (by unfold aRank; rw [sRef_ok hn hc, ← BT_below hbt (by omega) hc]) ?_
    exact hret _ _ _ _ dX0_rank_22 ⟨rfl, kv, dv, wv, no, th, ta, fr, sv, 1, rfl, hI2⟩
  · refine fg_iload_n S 3 3 dX0_rank_10 rfl rfl ?_
    refine fg_topi (y := (aRank (bL li co) x.toInt y.toInt)) (sRef_bad h_1).symm ?_
    exact hret _ _ _ _ dX0_rank_11 ⟨rfl, kn, dl, wa, no, th, ta, fr, ss, bu, rfl, hI⟩
set_option maxHeartbeats 4000000 in
set_option maxRecDepth 100000 in
/-- choices -/
theorem met_X0_choices {l : Launch} {D : va_G} {ck : Nat → ClassId} {ad : Nat → Nat} {li kn dl wa no th ta fr : Nat → Nat} {co ss bu : Nat} (x y : Int32) (hI : XI li co dl wa ss bu) (sz : Nat) : Met l yX0_choices (ws_ yX0_choices cX0_choices 5 (some .int)) (rmL 3) (muP D (tysX ck) (XW ad ck li kn dl wa no th ta fr co ss bu) [.ref (ad 0), .int x, .int y] sz) (muQ D (XQ ad ck li co (.int (aChoices (bL li co)  x.toInt y.toInt))) (va_A (XW ad ck li kn dl wa no th ta fr co ss bu) sz)) 0 0 (va_A (XW ad ck li kn dl wa no th ta fr co ss bu) sz) := by
  refine mu_i (lv0 := [(0, .ref (ad 0)), (1, .int x), (2, .int y)]) (by decide) (Nat.le_of_ble_eq_true rfl) rfl (fun X B M hret => ?_) sz
  obtain ⟨S, hN, hRm, rfl, rfl⟩ := B
  have S : fwC X cX0_choices RX0 (tysX ck) := S
  refine fg_iload_n S 1 1 dX0_choices_0 rfl rfl ?_
  refine fg_iload_n S 2 2 dX0_choices_1 rfl rfl ?_
  refine cs_ S hRm 2 (met_X0_refused (x) (y)) q97 q98 q22 q99 ok_X0_refused (by decide) rfl rfl (Nat.le_of_ble_eq_true rfl) dX0_choices_2 ?_
  refine fg_istore_n (lv' := [(0, .ref (ad 0)), (1, .int x), (2, .int y), (3, .int (refF (x).toInt (y).toInt))]) S [1, 2, 3, 0] dX0_choices_5 rfl hN (by decide) rfl ?_
  refine fg_iload_n S 3 3 dX0_choices_6 rfl rfl ?_
  refine fg_ifZ_ge S 12 dX0_choices_7 (by decide) rfl (fun h_1 => ?_) (fun h_1 => ?_)
  · obtain ⟨n, c, hn, hc, rfl, rfl, ex, ey⟩ := ref_ok h_1
    rw [ex, ey] at hret
    have hp9 := p3_le9 hn
    refine fg_aload_n S 0 0 dX0_choices_12 rfl rfl ?_
    refine cx_mu S M hRm 0 (fun sz => met_X0_build hI.1 hI.2.2 sz) rfl q103 q105 qs1 q22 q106 ok_X0_build (by decide) rfl rfl (Nat.le_of_ble_eq_true rfl) dX0_choices_13 ?_
    intro v_ w_ hp_
    obtain ⟨rfl, kv, dv, wv, sv, rfl, hbt⟩ := hp_
    show fwG X (XW ad ck li kv dv wv no th ta fr co sv 1) 16 [(0, .ref (ad 0)), (1, .int (nI n)), (2, .int (nI c)), (3, .int (refF (nI n).toInt (nI c).toInt))] []
    have hI2 : XI li co dv wv sv 1 := ⟨hI.1, hI.2.1, Or.inr ⟨rfl, hbt⟩⟩
    have ho := hbt.1
    have hss := ho.1
    have hle := inS_lt ho (runF_in ho n 0 c (inS_0 ho))
    refine fg_aload_n S 0 0 dX0_choices_16 rfl rfl ?_
    refine fg_ic (v := nI 0) S dX0_choices_17 (by decide) ?_
    refine fg_iload_n S 1 1 dX0_choices_18 rfl rfl ?_
    refine fg_iload_n S 2 2 dX0_choices_19 rfl rfl ?_
    refine cx_ro S hRm 3 (met_X0_read 0 n c ho (inS_0 ho) (by omega) (by omega)) rfl q119 q121 qs5 q22 q122 ok_X0_read (by decide) rfl rfl (Nat.le_of_ble_eq_true rfl) dX0_choices_20 ?_
    refine fg_istore (lv' := [(0, .ref (ad 0)), (1, .int (nI n)), (2, .int (nI c)), (3, .int (refF (nI n).toInt (nI c).toInt)), (4, .int (nI (runF dv 0 n c)))]) S [1, 2, 3, 4, 0] dX0_choices_23 hN (by decide) rfl ?_
    refine fg_iload S 4 dX0_choices_25 rfl ?_
    refine fg_bi (v := nI 25) S dX0_choices_27 (by decide) ?_
    refine fg_icmp_ne S 36 dX0_choices_29 (by decide) (by omega) (by omega) (fun h_2 => ?_) (fun h_2 => ?_)
    · refine fg_aload_n S 0 0 dX0_choices_36 rfl rfl ?_
      refine xg_wa S dX0_choices_37 ?_
      refine fg_bi (v := nI 26) S dX0_choices_40 (by decide) ?_
      refine fg_iload S 4 dX0_choices_42 rfl ?_
      refine fg_iadd S dX0_choices_44 ?_
      refine xl_wa S dX0_choices_45 (by omega) ?_
      refine fg_l2i S dX0_choices_46 ?_
      refine fg_topi (y := (aChoices (bL li co) n c)) (by unfold aChoices; rw [sRef_ok hn hc, ← BT_choices hbt h_2]) ?_
      exact hret _ _ _ _ dX0_choices_47 ⟨rfl, kv, dv, wv, no, th, ta, fr, sv, 1, rfl, hI2⟩
    · refine fg_ic (v := nI 0) S dX0_choices_32 (by decide) ?_
      refine fg_goto S 47 dX0_choices_33 (by decide) ?_
      refine fg_topi (y := (aChoices (bL li co) n c)) (by unfold aChoices; rw [sRef_ok hn hc, choices_dead hbt h_2]) ?_
      exact hret _ _ _ _ dX0_choices_47 ⟨rfl, kv, dv, wv, no, th, ta, fr, sv, 1, rfl, hI2⟩
  · refine fg_iload_n S 3 3 dX0_choices_10 rfl rfl ?_
    refine fg_topi (y := (aChoices (bL li co) x.toInt y.toInt)) (sRef_bad h_1).symm ?_
    exact hret _ _ _ _ dX0_choices_11 ⟨rfl, kn, dl, wa, no, th, ta, fr, ss, bu, rfl, hI⟩
set_option maxHeartbeats 4000000 in
set_option maxRecDepth 100000 in
/-- count -/
theorem met_X0_count {l : Launch} {D : va_G} {ck : Nat → ClassId} {ad : Nat → Nat} {li kn dl wa no th ta fr : Nat → Nat} {co ss bu : Nat} (x : Int32) (hI : XI li co dl wa ss bu) (sz : Nat) : Met l yX0_count (ws_ yX0_count cX0_count 2 (some .long)) (rmL 3) (muP D (tysX ck) (XW ad ck li kn dl wa no th ta fr co ss bu) [.ref (ad 0), .int x] sz) (muQ D (XQ ad ck li co (.long (aCount (bL li co)  x.toInt))) (va_A (XW ad ck li kn dl wa no th ta fr co ss bu) sz)) 0 0 (va_A (XW ad ck li kn dl wa no th ta fr co ss bu) sz) := by
  refine mu_l (lv0 := [(0, .ref (ad 0)), (1, .int x)]) (by decide) (Nat.le_of_ble_eq_true rfl) rfl (fun X B M hret => ?_) sz
  obtain ⟨S, hN, hRm, rfl, rfl⟩ := B
  have S : fwC X cX0_count RX0 (tysX ck) := S
  refine fg_iload_n S 1 1 dX0_count_0 rfl rfl ?_
  refine fg_ifZ_lt S 10 dX0_count_1 (by decide) rfl (fun h_1 => ?_) (fun h_1 => ?_)
  · refine fg_ldc2 (v := -1) S dX0_count_10 q127 ?_
    refine fg_toplR (y := aCount (bL li co)  x.toInt) (if_pos (by omega)).symm ?_
    exact hret _ _ _ _ dX0_count_13 ⟨rfl, kn, dl, wa, no, th, ta, fr, ss, bu, rfl, hI⟩
  · refine fg_iload_n S 1 1 dX0_count_4 rfl rfl ?_
    refine fg_bi (v := nI 30) S dX0_count_5 (by decide) ?_
    refine fg_icmpZ_le S 14 dX0_count_7 (by decide) rfl (nI_toInt (by omega)) (fun h_2 => ?_) (fun h_2 => ?_)
    · obtain ⟨n, hn, rfl, ex⟩ := i_nat (x := x) (n := 30) (by omega) (by omega) (by omega)
      rw [ex] at hret
      refine fg_aload_n S 0 0 dX0_count_14 rfl rfl ?_
      refine cx_mu S M hRm 0 (fun sz => met_X0_build hI.1 hI.2.2 sz) rfl q103 q105 qs1 q22 q106 ok_X0_build (by decide) rfl rfl (Nat.le_of_ble_eq_true rfl) dX0_count_15 ?_
      intro v_ w_ hp_
      obtain ⟨rfl, kv, dv, wv, sv, rfl, hbt⟩ := hp_
      show fwG X (XW ad ck li kv dv wv no th ta fr co sv 1) 18 [(0, .ref (ad 0)), (1, .int (nI n))] []
      have hI2 : XI li co dv wv sv 1 := ⟨hI.1, hI.2.1, Or.inr ⟨rfl, hbt⟩⟩
      have ho := hbt.1
      have hss := ho.1
      refine fg_aload_n S 0 0 dX0_count_18 rfl rfl ?_
      refine xg_wa S dX0_count_19 ?_
      refine fg_bi (v := nI 26) S dX0_count_22 (by decide) ?_
      refine fg_iload_n S 1 1 dX0_count_24 rfl rfl ?_
      refine fg_imul S dX0_count_25 ?_
      refine xl_wa S dX0_count_26 (by omega) ?_
      refine fg_toplR (y := aCount (bL li co)  n) (by unfold aCount; rw [if_neg (by omega), Int.toNat_natCast, ← BT_count hbt hn]) ?_
      exact hret _ _ _ _ dX0_count_27 ⟨rfl, kv, dv, wv, no, th, ta, fr, sv, 1, rfl, hI2⟩
    · refine fg_ldc2 (v := -1) S dX0_count_10 q127 ?_
      refine fg_toplR (y := aCount (bL li co)  x.toInt) (if_pos (by omega)).symm ?_
      exact hret _ _ _ _ dX0_count_13 ⟨rfl, kn, dl, wa, no, th, ta, fr, ss, bu, rfl, hI⟩
set_option maxHeartbeats 4000000 in
set_option maxRecDepth 100000 in
/-- countWith -/
theorem met_X0_countWith {l : Launch} {D : va_G} {ck : Nat → ClassId} {ad : Nat → Nat} {li kn dl wa no th ta fr : Nat → Nat} {co ss bu : Nat} (x y : Int32) (hI : XI li co dl wa ss bu) (sz : Nat) : Met l yX0_countWith (ws_ yX0_countWith cX0_countWith 5 (some .int)) (rmL 3) (muP D (tysX ck) (XW ad ck li kn dl wa no th ta fr co ss bu) [.ref (ad 0), .int x, .int y] sz) (muQ D (XQ ad ck li co (.int (aCountWith (bL li co) x.toInt y.toInt))) (va_A (XW ad ck li kn dl wa no th ta fr co ss bu) sz)) 0 0 (va_A (XW ad ck li kn dl wa no th ta fr co ss bu) sz) := by
  refine mu_i (lv0 := [(0, .ref (ad 0)), (1, .int x), (2, .int y)]) (by decide) (Nat.le_of_ble_eq_true rfl) rfl (fun X B M hret => ?_) sz
  obtain ⟨S, hN, hRm, rfl, rfl⟩ := B
  have S : fwC X cX0_countWith RX0 (tysX ck) := S
  refine fg_iload_n S 1 1 dX0_countWith_0 rfl rfl ?_
  refine cs_ S hRm 1 (met_X0_isLength (x)) q100 q101 q22 q102 ok_X0_isLength (by decide) rfl rfl (Nat.le_of_ble_eq_true rfl) dX0_countWith_1 ?_
  refine fg_if_ne S 9 dX0_countWith_4 (by decide) dec_lt (fun h_l => ?_) (fun h_l => ?_)
  · have h_l := dec_ne h_l
    obtain ⟨n, hn, rfl, ex⟩ := i_nat (x := x) (n := 9) h_l.1 h_l.2 (by omega)
    rw [ex] at hret
    have hp9 := p3_le9 hn
    have hp0 := p3_pos n
    refine fg_iload_n S 2 2 dX0_countWith_9 rfl rfl ?_
    refine fg_ifZ_lt S 19 dX0_countWith_10 (by decide) rfl (fun h_1 => ?_) (fun h_1 => ?_)
    · refine fg_bi (v := -2) S dX0_countWith_19 (by decide) ?_
      refine fg_topi (y := (aCountWith (bL li co) n y.toInt)) (by unfold aCountWith; rw [sLen_ok hn, if_pos (by omega)]) ?_
      exact hret _ _ _ _ dX0_countWith_21 ⟨rfl, kn, dl, wa, no, th, ta, fr, ss, bu, rfl, hI⟩
    · refine fg_iload_n S 2 2 dX0_countWith_13 rfl rfl ?_
      refine fg_bi (v := nI 9) S dX0_countWith_14 (by decide) ?_
      refine fg_icmpZ_le S 22 dX0_countWith_16 (by decide) rfl (nI_toInt (by omega)) (fun h_2 => ?_) (fun h_2 => ?_)
      · obtain ⟨k, hk, rfl, ey⟩ := i_nat (x := y) (n := 9) (by omega) (by omega) (by omega)
        rw [ey] at hret
        refine fg_aload_n S 0 0 dX0_countWith_22 rfl rfl ?_
        refine cx_mu S M hRm 0 (fun sz => met_X0_build hI.1 hI.2.2 sz) rfl q103 q105 qs1 q22 q106 ok_X0_build (by decide) rfl rfl (Nat.le_of_ble_eq_true rfl) dX0_countWith_23 ?_
        intro v_ w_ hp_
        obtain ⟨rfl, kv, dv, wv, sv, rfl, hbt⟩ := hp_
        show fwG X (XW ad ck li kv dv wv no th ta fr co sv 1) 26 [(0, .ref (ad 0)), (1, .int (nI n)), (2, .int (nI k))] []
        have hI2 : XI li co dv wv sv 1 := ⟨hI.1, hI.2.1, Or.inr ⟨rfl, hbt⟩⟩
        have ho := hbt.1
        have hss := ho.1
        refine fg_ic (v := nI 0) S dX0_countWith_26 (by decide) ?_
        refine fg_istore_n (lv' := [(0, .ref (ad 0)), (1, .int (nI n)), (2, .int (nI k)), (3, .int (nI 0))]) S [1, 2, 3, 0] dX0_countWith_27 rfl hN (by decide) rfl ?_
        have lA : ∀ (fuel : Nat) (i : Nat) (t1 : Nat → Nat), (i ≤ 260) → (∀ x, x < i → t1 x = 0) → (260 - i) < fuel → fwG X (XW ad ck li kv dv wv no th t1 fr co sv 1) 28 [(0, .ref (ad 0)), (1, .int (nI n)), (2, .int (nI k)), (3, .int (nI i))] [] := by
          intro fuel
          induction fuel with
          | zero => intro i t1 hi hA hfu; exact absurd hfu (Nat.not_lt_zero _)
          | succ fuel ih_lA =>
            intro i t1 hi hA hfu
            refine fg_iload_n S 3 3 dX0_countWith_28 rfl rfl ?_
            refine fg_si (v := nI 260) S dX0_countWith_29 (by decide) ?_
            refine fg_icmp_ge S 48 dX0_countWith_32 (by decide) (by omega) (by omega) (fun h_3 => ?_) (fun h_3 => ?_)
            · refine fg_aload_n S 0 0 dX0_countWith_48 rfl rfl ?_
              refine xg_ta S dX0_countWith_49 ?_
              refine fg_ic (v := nI 0) S dX0_countWith_52 (by decide) ?_
              refine fg_ic (v := nI 1) S dX0_countWith_53 (by decide) ?_
              refine xs_ta S M dX0_countWith_54 (by omega) ?_
              refine fg_ic (v := nI 0) S dX0_countWith_55 (by decide) ?_
              refine fg_istore_n (lv' := [(0, .ref (ad 0)), (1, .int (nI n)), (2, .int (nI k)), (3, .int (nI 0))]) S [1, 2, 3, 0] dX0_countWith_56 rfl hN (by decide) rfl ?_
              have lB : ∀ (fuel : Nat) (t : Nat) (t2 : Nat → Nat) (f2 : Nat → Nat), (t ≤ n) → (∀ u v, u < sv → v < 10 → t2 (10 * u + v) = tbF dv t u v) → (n - t) < fuel → fwG X (XW ad ck li kv dv wv no th t2 f2 co sv 1) 57 [(0, .ref (ad 0)), (1, .int (nI n)), (2, .int (nI k)), (3, .int (nI t))] [] := by
                intro fuel
                induction fuel with
                | zero => intro t t2 f2 ht hB hfu; exact absurd hfu (Nat.not_lt_zero _)
                | succ fuel ih_lB =>
                  intro t t2 f2 ht hB hfu
                  refine fg_iload_n S 3 3 dX0_countWith_57 rfl rfl ?_
                  refine fg_iload_n S 1 1 dX0_countWith_58 rfl rfl ?_
                  refine fg_icmp_ge S 72 dX0_countWith_59 (by decide) (by omega) (by omega) (fun h_4 => ?_) (fun h_4 => ?_)
                  · have et : t = n := by omega
                    subst et
                    refine fg_ic (v := nI 0) S dX0_countWith_72 (by decide) ?_
                    refine fg_istore_n (lv' := [(0, .ref (ad 0)), (1, .int (nI t)), (2, .int (nI k)), (3, .int (nI 0))]) S [1, 2, 3, 0] dX0_countWith_73 rfl hN (by decide) rfl ?_
                    refine fg_ic (v := nI 0) S dX0_countWith_74 (by decide) ?_
                    refine fg_istore (lv' := [(0, .ref (ad 0)), (1, .int (nI t)), (2, .int (nI k)), (3, .int (nI 0)), (4, .int (nI 0))]) S [1, 2, 3, 4, 0] dX0_countWith_75 hN (by decide) rfl ?_
                    have lC : ∀ (fuel : Nat) (s : Nat) (u : Nat), (s ≤ sv) → (u = sumF (fun s => t2 (10 * s + k)) s) → (sv - s) < fuel → fwG X (XW ad ck li kv dv wv no th t2 f2 co sv 1) 77 [(0, .ref (ad 0)), (1, .int (nI t)), (2, .int (nI k)), (3, .int (nI u)), (4, .int (nI s))] [] := by
                      intro fuel
                      induction fuel with
                      | zero => intro s u hs hu hfu; exact absurd hfu (Nat.not_lt_zero _)
                      | succ fuel ih_lC =>
                        intro s u hs hu hfu
                        refine fg_iload S 4 dX0_countWith_77 rfl ?_
                        refine fg_aload_n S 0 0 dX0_countWith_79 rfl rfl ?_
                        refine xg_ss S dX0_countWith_80 ?_
                        refine fg_icmp_ge S 107 dX0_countWith_83 (by decide) (by omega) (by omega) (fun h_5 => ?_) (fun h_5 => ?_)
                        · refine fg_iload_n S 3 3 dX0_countWith_107 rfl rfl ?_
                          refine fg_topi (y := (aCountWith (bL li co) t k)) (by unfold aCountWith; rw [sLen_ok hn, if_neg (by omega), Int.toNat_natCast, ← BT_with hbt (by omega) hB, hu, show s = sv by omega]) ?_
                          exact hret _ _ _ _ dX0_countWith_108 ⟨rfl, kv, dv, wv, no, th, t2, f2, sv, 1, rfl, hI2⟩
                        · refine fg_iload_n S 3 3 dX0_countWith_86 rfl rfl ?_
                          refine fg_aload_n S 0 0 dX0_countWith_87 rfl rfl ?_
                          refine xg_ta S dX0_countWith_88 ?_
                          refine fg_bi (v := nI 10) S dX0_countWith_91 (by decide) ?_
                          refine fg_iload S 4 dX0_countWith_93 rfl ?_
                          refine fg_imul S dX0_countWith_95 ?_
                          refine fg_iload_n S 2 2 dX0_countWith_96 rfl rfl ?_
                          refine fg_iadd S dX0_countWith_97 ?_
                          refine xl_ta S dX0_countWith_98 (by omega) ?_
                          refine fg_iadd S dX0_countWith_99 ?_
                          refine fg_istore_n (lv' := [(0, .ref (ad 0)), (1, .int (nI t)), (2, .int (nI k)), (3, .int (nI (u + (t2 ((10 * s) + k))))), (4, .int (nI s))]) S [1, 2, 3, 0, 4] dX0_countWith_100 rfl hN (by decide) rfl ?_
                          refine fg_iinc (lv' := [(0, .ref (ad 0)), (1, .int (nI t)), (2, .int (nI k)), (3, .int (nI (u + (t2 ((10 * s) + k))))), (4, .int (nI (s + 1)))]) S 4 [1, 2, 3, 4, 0] dX0_countWith_101 rfl (inc_1 _) hN (by decide) rfl ?_
                          refine fg_goto S 77 dX0_countWith_104 (by decide) ?_
                          exact ih_lC (s + 1) (u + t2 (10 * s + k)) (by omega) (by rw [hu]; rfl) (by omega)
                    exact lC ((sv - 0) + 1) 0 0 (Nat.zero_le _) rfl (Nat.lt_succ_self _)
                  · refine fg_aload_n S 0 0 dX0_countWith_62 rfl rfl ?_
                    refine cx_mu S M hRm 0 (fun sz => met_X0_spreadTable ho sz) rfl q132 q134 qs6 q22 q135 ok_X0_spreadTable (by decide) rfl rfl (Nat.le_of_ble_eq_true rfl) dX0_countWith_63 ?_
                    intro v_ w_ hp_
                    obtain ⟨rfl, t9, f9, rfl, hsp⟩ := hp_
                    show fwG X (XW ad ck li kv dv wv no th t9 f9 co sv 1) 66 [(0, .ref (ad 0)), (1, .int (nI n)), (2, .int (nI k)), (3, .int (nI t))] []
                    refine fg_iinc (lv' := [(0, .ref (ad 0)), (1, .int (nI n)), (2, .int (nI k)), (3, .int (nI (t + 1)))]) S 3 [1, 2, 3, 0] dX0_countWith_66 rfl (inc_1 _) hN (by decide) rfl ?_
                    refine fg_goto S 57 dX0_countWith_69 (by decide) ?_
                    exact ih_lB (t + 1) t9 f9 (by omega) (fun u v hu hv => by rw [hsp _ (by omega)]; exact spF_tb ho (by omega) hB hu hv) (by omega)
              exact lB ((n - 0) + 1) 0 (va_up t1 0 1) fr (Nat.zero_le _) (fun u v hu hv => by show _ = 0 + (if 0 = u ∧ 0 = v then 1 else 0); by_cases e : 10 * u + v = 0; (rw [e, up_eq, if_pos (by omega)]); (rw [up_ne e, hA _ (by omega), if_neg (by omega)])) (Nat.lt_succ_self _)
            · refine fg_aload_n S 0 0 dX0_countWith_35 rfl rfl ?_
              refine xg_ta S dX0_countWith_36 ?_
              refine fg_iload_n S 3 3 dX0_countWith_39 rfl rfl ?_
              refine fg_ic (v := nI 0) S dX0_countWith_40 (by decide) ?_
              refine xs_ta S M dX0_countWith_41 (by omega) ?_
              refine fg_iinc (lv' := [(0, .ref (ad 0)), (1, .int (nI n)), (2, .int (nI k)), (3, .int (nI (i + 1)))]) S 3 [1, 2, 3, 0] dX0_countWith_42 rfl (inc_1 _) hN (by decide) rfl ?_
              refine fg_goto S 28 dX0_countWith_45 (by decide) ?_
              exact ih_lA (i + 1) (va_up t1 i 0) (by omega) (fun x hx => by by_cases q : x = i; (subst q; exact up_eq); (rw [up_ne q]; exact hA x (by omega))) (by omega)
        exact lA ((260 - 0) + 1) 0 ta (Nat.zero_le _) (fun x hx => absurd hx (by omega)) (Nat.lt_succ_self _)
      · refine fg_bi (v := -2) S dX0_countWith_19 (by decide) ?_
        refine fg_topi (y := (aCountWith (bL li co) n y.toInt)) (by unfold aCountWith; rw [sLen_ok hn, if_pos (by omega)]) ?_
        exact hret _ _ _ _ dX0_countWith_21 ⟨rfl, kn, dl, wa, no, th, ta, fr, ss, bu, rfl, hI⟩
  · refine fg_ic (v := -1) S dX0_countWith_7 (by decide) ?_
    refine fg_topi (y := (aCountWith (bL li co) x.toInt y.toInt)) (sLen_bad (dec_eq h_l)).symm ?_
    exact hret _ _ _ _ dX0_countWith_8 ⟨rfl, kn, dl, wa, no, th, ta, fr, ss, bu, rfl, hI⟩
set_option maxHeartbeats 4000000 in
set_option maxRecDepth 100000 in
/-- word -/
theorem met_X0_word {l : Launch} {D : va_G} {ck : Nat → ClassId} {ad : Nat → Nat} {li kn dl wa no th ta fr : Nat → Nat} {co ss bu : Nat} (x y : Int32) (hI : XI li co dl wa ss bu) (sz : Nat) : Met l yX0_word (ws_ yX0_word cX0_word 3 (some .int)) (rmL 3) (muP D (tysX ck) (XW ad ck li kn dl wa no th ta fr co ss bu) [.ref (ad 0), .int x, .int y] sz) (muQ D (XQ ad ck li co (.int (aWord (bL li co) x.toInt y.toInt))) (va_A (XW ad ck li kn dl wa no th ta fr co ss bu) sz)) 0 0 (va_A (XW ad ck li kn dl wa no th ta fr co ss bu) sz) := by
  refine mu_i (lv0 := [(0, .ref (ad 0)), (1, .int x), (2, .int y)]) (by decide) (Nat.le_of_ble_eq_true rfl) rfl (fun X B M hret => ?_) sz
  obtain ⟨S, hN, hRm, rfl, rfl⟩ := B
  have S : fwC X cX0_word RX0 (tysX ck) := S
  refine fg_iload_n S 1 1 dX0_word_0 rfl rfl ?_
  refine cs_ S hRm 1 (met_X0_isLength (x)) q100 q101 q22 q102 ok_X0_isLength (by decide) rfl rfl (Nat.le_of_ble_eq_true rfl) dX0_word_1 ?_
  refine fg_if_ne S 9 dX0_word_4 (by decide) dec_lt (fun h_l => ?_) (fun h_l => ?_)
  · have h_l := dec_ne h_l
    obtain ⟨n, hn, rfl, ex⟩ := i_nat (x := x) (n := 9) h_l.1 h_l.2 (by omega)
    rw [ex] at hret
    have hp9 := p3_le9 hn
    have hp0 := p3_pos n
    refine fg_aload_n S 0 0 dX0_word_9 rfl rfl ?_
    refine cx_mu S M hRm 0 (fun sz => met_X0_build hI.1 hI.2.2 sz) rfl q103 q105 qs1 q22 q106 ok_X0_build (by decide) rfl rfl (Nat.le_of_ble_eq_true rfl) dX0_word_10 ?_
    intro v_ w_ hp_
    obtain ⟨rfl, kv, dv, wv, sv, rfl, hbt⟩ := hp_
    show fwG X (XW ad ck li kv dv wv no th ta fr co sv 1) 13 [(0, .ref (ad 0)), (1, .int (nI n)), (2, .int y)] []
    have hI2 : XI li co dv wv sv 1 := ⟨hI.1, hI.2.1, Or.inr ⟨rfl, hbt⟩⟩
    have ho := hbt.1
    have hss := ho.1
    have hct := BT_count hbt (n := n) (by omega)
    have hcl := cnt_le (goodF (bL li co) n) (p3 n)
    refine fg_iload_n S 2 2 dX0_word_13 rfl rfl ?_
    refine fg_ifZ_lt S 32 dX0_word_14 (by decide) rfl (fun h_1 => ?_) (fun h_1 => ?_)
    · refine fg_bi (v := -2) S dX0_word_32 (by decide) ?_
      refine fg_topi (y := (aWord (bL li co) n y.toInt)) (by unfold aWord; rw [sLen_ok hn]; exact (sel_no (N := p3 n) (Or.inl (by omega)) _ 0 (by omega)).symm) ?_
      exact hret _ _ _ _ dX0_word_34 ⟨rfl, kv, dv, wv, no, th, ta, fr, sv, 1, rfl, hI2⟩
    · obtain ⟨i, hi, rfl, ey⟩ := i_natU (x := y) (by omega)
      rw [ey] at hret
      refine fg_iload_n S 2 2 dX0_word_17 rfl rfl ?_
      refine fg_i2l S dX0_word_18 (by omega) ?_
      refine fg_aload_n S 0 0 dX0_word_19 rfl rfl ?_
      refine xg_wa S dX0_word_20 ?_
      refine fg_bi (v := nI 26) S dX0_word_23 (by decide) ?_
      refine fg_iload_n S 1 1 dX0_word_25 rfl rfl ?_
      refine fg_imul S dX0_word_26 ?_
      refine xl_wa S dX0_word_27 (by omega) ?_
      refine fg_lcmp_lt S 35 dX0_word_28 dX0_word_29 (by decide) (by omega) (by omega) (fun h_2 => ?_) (fun h_2 => ?_)
      · refine fg_aload_n S 0 0 dX0_word_35 rfl rfl ?_
        refine fg_iload_n S 1 1 dX0_word_36 rfl rfl ?_
        refine fg_iload_n S 2 2 dX0_word_37 rfl rfl ?_
        refine cx_ro S hRm 2 (met_X0_unrank n i ho (by omega) (by omega) (cnt_bound hbt)) rfl q148 q150 qs8 q22 q151 ok_X0_unrank (by decide) rfl rfl (Nat.le_of_ble_eq_true rfl) dX0_word_38 ?_
        have hu := BT_unrank hbt (n := n) (i := i) (by omega) (by omega)
        refine fg_topi (y := (aWord (bL li co) n i)) (by unfold aWord; rw [sLen_ok hn]; exact (sel_of hu.2.1 hu.2.2 _ 0 (Nat.zero_le _) (by omega)).symm) ?_
        exact hret _ _ _ _ dX0_word_41 ⟨rfl, kv, dv, wv, no, th, ta, fr, sv, 1, rfl, hI2⟩
      · refine fg_bi (v := -2) S dX0_word_32 (by decide) ?_
        refine fg_topi (y := (aWord (bL li co) n i)) (by unfold aWord; rw [sLen_ok hn]; exact (sel_no (N := p3 n) (Or.inr (by omega)) _ 0 (by omega)).symm) ?_
        exact hret _ _ _ _ dX0_word_34 ⟨rfl, kv, dv, wv, no, th, ta, fr, sv, 1, rfl, hI2⟩
  · refine fg_ic (v := -1) S dX0_word_7 (by decide) ?_
    refine fg_topi (y := (aWord (bL li co) x.toInt y.toInt)) (sLen_bad (dec_eq h_l)).symm ?_
    exact hret _ _ _ _ dX0_word_8 ⟨rfl, kn, dl, wa, no, th, ta, fr, ss, bu, rfl, hI⟩
set_option maxHeartbeats 4000000 in
set_option maxRecDepth 100000 in
/-- next -/
theorem met_X0_next {l : Launch} {D : va_G} {ck : Nat → ClassId} {ad : Nat → Nat} {li kn dl wa no th ta fr : Nat → Nat} {co ss bu : Nat} (x y : Int32) (hI : XI li co dl wa ss bu) (sz : Nat) : Met l yX0_next (ws_ yX0_next cX0_next 5 (some .int)) (rmL 3) (muP D (tysX ck) (XW ad ck li kn dl wa no th ta fr co ss bu) [.ref (ad 0), .int x, .int y] sz) (muQ D (XQ ad ck li co (.int (aNext (bL li co) x.toInt y.toInt))) (va_A (XW ad ck li kn dl wa no th ta fr co ss bu) sz)) 0 0 (va_A (XW ad ck li kn dl wa no th ta fr co ss bu) sz) := by
  refine mu_i (lv0 := [(0, .ref (ad 0)), (1, .int x), (2, .int y)]) (by decide) (Nat.le_of_ble_eq_true rfl) rfl (fun X B M hret => ?_) sz
  obtain ⟨S, hN, hRm, rfl, rfl⟩ := B
  have S : fwC X cX0_next RX0 (tysX ck) := S
  refine fg_iload_n S 1 1 dX0_next_0 rfl rfl ?_
  refine cs_ S hRm 1 (met_X0_isLength (x)) q100 q101 q22 q102 ok_X0_isLength (by decide) rfl rfl (Nat.le_of_ble_eq_true rfl) dX0_next_1 ?_
  refine fg_if_ne S 9 dX0_next_4 (by decide) dec_lt (fun h_l => ?_) (fun h_l => ?_)
  · have h_l := dec_ne h_l
    obtain ⟨n, hn, rfl, ex⟩ := i_nat (x := x) (n := 9) h_l.1 h_l.2 (by omega)
    rw [ex] at hret
    have hp9 := p3_le9 hn
    have hp0 := p3_pos n
    refine fg_aload_n S 0 0 dX0_next_9 rfl rfl ?_
    refine cx_mu S M hRm 0 (fun sz => met_X0_build hI.1 hI.2.2 sz) rfl q103 q105 qs1 q22 q106 ok_X0_build (by decide) rfl rfl (Nat.le_of_ble_eq_true rfl) dX0_next_10 ?_
    intro v_ w_ hp_
    obtain ⟨rfl, kv, dv, wv, sv, rfl, hbt⟩ := hp_
    show fwG X (XW ad ck li kv dv wv no th ta fr co sv 1) 13 [(0, .ref (ad 0)), (1, .int (nI n)), (2, .int y)] []
    have hI2 : XI li co dv wv sv 1 := ⟨hI.1, hI.2.1, Or.inr ⟨rfl, hbt⟩⟩
    have ho := hbt.1
    have hss := ho.1
    have hct := BT_count hbt (n := n) (by omega)
    have hcl := cnt_le (goodF (bL li co) n) (p3 n)
    refine fg_iload_n S 1 1 dX0_next_13 rfl rfl ?_
    refine cs_ S hRm 1 (met_X0_power n (by omega)) q78 q79 q22 q80 ok_X0_power (by decide) rfl rfl (Nat.le_of_ble_eq_true rfl) dX0_next_14 ?_
    refine fg_istore_n (lv' := [(0, .ref (ad 0)), (1, .int (nI n)), (2, .int y), (3, .int (nI (p3 n)))]) S [1, 2, 3, 0] dX0_next_17 rfl hN (by decide) rfl ?_
    refine fg_ic (v := nI 0) S dX0_next_18 (by decide) ?_
    refine fg_istore (lv' := [(0, .ref (ad 0)), (1, .int (nI n)), (2, .int y), (3, .int (nI (p3 n))), (4, .int (nI 0))]) S [1, 2, 3, 4, 0] dX0_next_19 hN (by decide) rfl ?_
    refine fg_iload_n S 2 2 dX0_next_21 rfl rfl ?_
    refine fg_iload_n S 3 3 dX0_next_22 rfl rfl ?_
    refine fg_ic (v := nI 1) S dX0_next_23 (by decide) ?_
    refine fg_isub S dX0_next_24 (by omega) ?_
    refine fg_icmpZ_lt S 31 dX0_next_25 (by decide) rfl (nI_toInt (by omega)) (fun h_1 => ?_) (fun h_1 => ?_)
    · refine fg_iload_n S 2 2 dX0_next_31 rfl rfl ?_
      refine fg_ifZ_lt S 45 dX0_next_32 (by decide) rfl (fun h_2 => ?_) (fun h_2 => ?_)
      · have hm : ∀ x : Nat, y.toInt < (x : Int) ↔ 0 ≤ x := fun x => ⟨fun _ => Nat.zero_le _, fun _ => by omega⟩
        have hz0 : cnt (goodF (bL li co) n) 0 = 0 := rfl
        refine fg_iload S 4 dX0_next_45 rfl ?_
        refine fg_i2l S dX0_next_47 (by omega) ?_
        refine fg_aload_n S 0 0 dX0_next_48 rfl rfl ?_
        refine xg_wa S dX0_next_49 ?_
        refine fg_bi (v := nI 26) S dX0_next_52 (by decide) ?_
        refine fg_iload_n S 1 1 dX0_next_54 rfl rfl ?_
        refine fg_imul S dX0_next_55 ?_
        refine xl_wa S dX0_next_56 (by omega) ?_
        refine fg_lcmp_ge S 71 dX0_next_57 dX0_next_58 (by decide) (by omega) (by omega) (fun h_3 => ?_) (fun h_3 => ?_)
        · refine fg_bi (v := -2) S dX0_next_71 (by decide) ?_
          refine fg_topi (y := (aNext (bL li co) n y.toInt)) (by unfold aNext; rw [sLen_ok hn]; exact (nx_no hm (by omega)).symm) ?_
          exact hret _ _ _ _ dX0_next_73 ⟨rfl, kv, dv, wv, no, th, ta, fr, sv, 1, rfl, hI2⟩
        · refine fg_aload_n S 0 0 dX0_next_61 rfl rfl ?_
          refine fg_iload_n S 1 1 dX0_next_62 rfl rfl ?_
          refine fg_iload S 4 dX0_next_63 rfl ?_
          refine cx_ro S hRm 2 (met_X0_unrank n 0 ho (by omega) (by omega) (cnt_bound hbt)) rfl q148 q150 qs8 q22 q151 ok_X0_unrank (by decide) rfl rfl (Nat.le_of_ble_eq_true rfl) dX0_next_65 ?_
          refine fg_goto S 73 dX0_next_68 (by decide) ?_
          have hu := BT_unrank hbt (n := n) (i := 0) (by omega) (by omega)
          refine fg_topi (y := (aNext (bL li co) n y.toInt)) (by unfold aNext; rw [sLen_ok hn]; exact (nx_of hm hu.1 hu.2.1 (by rw [hu.2.2]; rfl)).symm) ?_
          exact hret _ _ _ _ dX0_next_73 ⟨rfl, kv, dv, wv, no, th, ta, fr, sv, 1, rfl, hI2⟩
      · obtain ⟨i, hi, rfl, ey⟩ := i_natU (x := y) (by omega)
        rw [ey] at hret
        have hm : ∀ x : Nat, ((i : Nat) : Int) < (x : Int) ↔ i + 1 ≤ x := fun x => by omega
        have hcb := cnt_le (goodF (bL li co) n) (i + 1)
        refine fg_aload_n S 0 0 dX0_next_35 rfl rfl ?_
        refine fg_iload_n S 1 1 dX0_next_36 rfl rfl ?_
        refine fg_iload_n S 2 2 dX0_next_37 rfl rfl ?_
        refine fg_ic (v := nI 1) S dX0_next_38 (by decide) ?_
        refine fg_iadd S dX0_next_39 ?_
        refine cx_ro S hRm 2 (met_X0_below n (i + 1) ho (by omega) (by omega)) rfl q140 q142 qs7 q22 q143 ok_X0_below (by decide) rfl rfl (Nat.le_of_ble_eq_true rfl) dX0_next_40 ?_
        refine fg_topn (b := cnt (goodF (bL li co) n) (i + 1)) (BT_below hbt (by omega) (by omega)) ?_
        refine fg_istore (lv' := [(0, .ref (ad 0)), (1, .int (nI n)), (2, .int (nI i)), (3, .int (nI (p3 n))), (4, .int (nI (cnt (goodF (bL li co) n) (i + 1))))]) S [1, 2, 3, 4, 0] dX0_next_43 hN (by decide) rfl ?_
        refine fg_iload S 4 dX0_next_45 rfl ?_
        refine fg_i2l S dX0_next_47 (by omega) ?_
        refine fg_aload_n S 0 0 dX0_next_48 rfl rfl ?_
        refine xg_wa S dX0_next_49 ?_
        refine fg_bi (v := nI 26) S dX0_next_52 (by decide) ?_
        refine fg_iload_n S 1 1 dX0_next_54 rfl rfl ?_
        refine fg_imul S dX0_next_55 ?_
        refine xl_wa S dX0_next_56 (by omega) ?_
        refine fg_lcmp_ge S 71 dX0_next_57 dX0_next_58 (by decide) (by omega) (by omega) (fun h_4 => ?_) (fun h_4 => ?_)
        · refine fg_bi (v := -2) S dX0_next_71 (by decide) ?_
          refine fg_topi (y := (aNext (bL li co) n i)) (by unfold aNext; rw [sLen_ok hn]; exact (nx_no hm (by omega)).symm) ?_
          exact hret _ _ _ _ dX0_next_73 ⟨rfl, kv, dv, wv, no, th, ta, fr, sv, 1, rfl, hI2⟩
        · refine fg_aload_n S 0 0 dX0_next_61 rfl rfl ?_
          refine fg_iload_n S 1 1 dX0_next_62 rfl rfl ?_
          refine fg_iload S 4 dX0_next_63 rfl ?_
          refine cx_ro S hRm 2 (met_X0_unrank n (cnt (goodF (bL li co) n) (i + 1)) ho (by omega) (by omega) (cnt_bound hbt)) rfl q148 q150 qs8 q22 q151 ok_X0_unrank (by decide) rfl rfl (Nat.le_of_ble_eq_true rfl) dX0_next_65 ?_
          refine fg_goto S 73 dX0_next_68 (by decide) ?_
          have hu := BT_unrank hbt (n := n) (i := cnt (goodF (bL li co) n) (i + 1)) (by omega) (by omega)
          refine fg_topi (y := (aNext (bL li co) n i)) (by unfold aNext; rw [sLen_ok hn]; exact (nx_of hm hu.1 hu.2.1 (by rw [hu.2.2])).symm) ?_
          exact hret _ _ _ _ dX0_next_73 ⟨rfl, kv, dv, wv, no, th, ta, fr, sv, 1, rfl, hI2⟩
    · refine fg_bi (v := -2) S dX0_next_28 (by decide) ?_
      refine fg_topi (y := (aNext (bL li co) n y.toInt)) (by unfold aNext; rw [sLen_ok hn]; exact (nxt_no (N := p3 n) (fun x hx hy => absurd hy (by omega)) _ 0 (by omega)).symm) ?_
      exact hret _ _ _ _ dX0_next_30 ⟨rfl, kv, dv, wv, no, th, ta, fr, sv, 1, rfl, hI2⟩
  · refine fg_ic (v := -1) S dX0_next_7 (by decide) ?_
    refine fg_topi (y := (aNext (bL li co) x.toInt y.toInt)) (sLen_bad (dec_eq h_l)).symm ?_
    exact hret _ _ _ _ dX0_next_8 ⟨rfl, kn, dl, wa, no, th, ta, fr, ss, bu, rfl, hI⟩
set_option maxHeartbeats 4000000 in
set_option maxRecDepth 100000 in
/-- beginning -/
theorem met_X0_beginning {l : Launch} {D : va_G} {ck : Nat → ClassId} {ad : Nat → Nat} {li kn dl wa no th ta fr : Nat → Nat} {co ss bu : Nat} (x y : Int32) (hI : XI li co dl wa ss bu) (sz : Nat) : Met l yX0_beginning (ws_ yX0_beginning cX0_beginning 5 (some .int)) (rmL 3) (muP D (tysX ck) (XW ad ck li kn dl wa no th ta fr co ss bu) [.ref (ad 0), .int x, .int y] sz) (muQ D (XQ ad ck li co (.int (aBeginning (bL li co) x.toInt y.toInt))) (va_A (XW ad ck li kn dl wa no th ta fr co ss bu) sz)) 0 0 (va_A (XW ad ck li kn dl wa no th ta fr co ss bu) sz) := by
  refine mu_i (lv0 := [(0, .ref (ad 0)), (1, .int x), (2, .int y)]) (by decide) (Nat.le_of_ble_eq_true rfl) rfl (fun X B M hret => ?_) sz
  obtain ⟨S, hN, hRm, rfl, rfl⟩ := B
  have S : fwC X cX0_beginning RX0 (tysX ck) := S
  refine fg_iload_n S 1 1 dX0_beginning_0 rfl rfl ?_
  refine cs_ S hRm 1 (met_X0_isLength (x)) q100 q101 q22 q102 ok_X0_isLength (by decide) rfl rfl (Nat.le_of_ble_eq_true rfl) dX0_beginning_1 ?_
  refine fg_if_ne S 9 dX0_beginning_4 (by decide) dec_lt (fun h_l => ?_) (fun h_l => ?_)
  · have h_l := dec_ne h_l
    obtain ⟨n, hn, rfl, ex⟩ := i_nat (x := x) (n := 9) h_l.1 h_l.2 (by omega)
    rw [ex] at hret
    have hp9 := p3_le9 hn
    have hp0 := p3_pos n
    refine fg_iload_n S 2 2 dX0_beginning_9 rfl rfl ?_
    refine cs_ S hRm 1 (met_X0_isPiece (y)) q72 q73 q22 q74 ok_X0_isPiece (by decide) rfl rfl (Nat.le_of_ble_eq_true rfl) dX0_beginning_10 ?_
    refine fg_if_ne S 19 dX0_beginning_13 (by decide) dec_lt (fun h_p => ?_) (fun h_p => ?_)
    · obtain ⟨p, k, rfl, ey, hlt, hsz, hk1, hk4, hp1, hp2, hp3⟩ := pc_of (dec_ne h_p)
      rw [ey] at hret
      rw [ey] at hlt hsz
      have hk : 1 ≤ k ∧ k ≤ 4 := ⟨hk1, hk4⟩
      have hp : p3 k ≤ p ∧ p < 2 * p3 k := ⟨hp1, hp2⟩
      refine fg_aload_n S 0 0 dX0_beginning_19 rfl rfl ?_
      refine cx_mu S M hRm 0 (fun sz => met_X0_build hI.1 hI.2.2 sz) rfl q103 q105 qs1 q22 q106 ok_X0_build (by decide) rfl rfl (Nat.le_of_ble_eq_true rfl) dX0_beginning_20 ?_
      intro v_ w_ hp_
      obtain ⟨rfl, kv, dv, wv, sv, rfl, hbt⟩ := hp_
      show fwG X (XW ad ck li kv dv wv no th ta fr co sv 1) 23 [(0, .ref (ad 0)), (1, .int (nI n)), (2, .int (nI p))] []
      have hI2 : XI li co dv wv sv 1 := ⟨hI.1, hI.2.1, Or.inr ⟨rfl, hbt⟩⟩
      have ho := hbt.1
      have hss := ho.1
      refine fg_iload_n S 2 2 dX0_beginning_23 rfl rfl ?_
      refine cs_ S hRm 1 (met_X0_sizeOfN p ⟨by omega, hsz⟩) q75 q76 q22 q77 ok_X0_sizeOf (by decide) rfl rfl (Nat.le_of_ble_eq_true rfl) dX0_beginning_24 ?_
      refine fg_istore_n (lv' := [(0, .ref (ad 0)), (1, .int (nI n)), (2, .int (nI p)), (3, .int (nI k))]) S [1, 2, 3, 0] dX0_beginning_27 rfl hN (by decide) rfl ?_
      refine fg_iload_n S 3 3 dX0_beginning_28 rfl rfl ?_
      refine fg_iload_n S 1 1 dX0_beginning_29 rfl rfl ?_
      refine fg_icmp_le S 35 dX0_beginning_30 (by decide) (by omega) (by omega) (fun h_1 => ?_) (fun h_1 => ?_)
      · have hin := runF_in ho k 0 (p - p3 k) (inS_0 ho)
        have hle := inS_lt ho hin
        have hbg := BT_begin hbt hn h_1 hp
        refine fg_aload_n S 0 0 dX0_beginning_35 rfl rfl ?_
        refine fg_ic (v := nI 0) S dX0_beginning_36 (by decide) ?_
        refine fg_iload_n S 3 3 dX0_beginning_37 rfl rfl ?_
        refine fg_iload_n S 2 2 dX0_beginning_38 rfl rfl ?_
        refine fg_iload_n S 3 3 dX0_beginning_39 rfl rfl ?_
        refine cs_ S hRm 1 (met_X0_power k (by omega)) q78 q79 q22 q80 ok_X0_power (by decide) rfl rfl (Nat.le_of_ble_eq_true rfl) dX0_beginning_40 ?_
        refine fg_isub S dX0_beginning_43 (by omega) ?_
        refine cx_ro S hRm 3 (met_X0_read 0 k (p - (p3 k)) ho (inS_0 ho) (by omega) (by omega)) rfl q119 q121 qs5 q22 q122 ok_X0_read (by decide) rfl rfl (Nat.le_of_ble_eq_true rfl) dX0_beginning_44 ?_
        refine fg_istore (lv' := [(0, .ref (ad 0)), (1, .int (nI n)), (2, .int (nI p)), (3, .int (nI k)), (4, .int (nI (runF dv 0 k (p - (p3 k)))))]) S [1, 2, 3, 4, 0] dX0_beginning_47 hN (by decide) rfl ?_
        refine fg_iload S 4 dX0_beginning_49 rfl ?_
        refine fg_bi (v := nI 25) S dX0_beginning_51 (by decide) ?_
        refine fg_icmp_ne S 60 dX0_beginning_53 (by decide) (by omega) (by omega) (fun h_2 => ?_) (fun h_2 => ?_)
        · refine fg_aload_n S 0 0 dX0_beginning_60 rfl rfl ?_
          refine xg_wa S dX0_beginning_61 ?_
          refine fg_bi (v := nI 26) S dX0_beginning_64 (by decide) ?_
          refine fg_iload_n S 1 1 dX0_beginning_66 rfl rfl ?_
          refine fg_iload_n S 3 3 dX0_beginning_67 rfl rfl ?_
          refine fg_isub S dX0_beginning_68 (by omega) ?_
          refine fg_imul S dX0_beginning_69 ?_
          refine fg_iload S 4 dX0_beginning_70 rfl ?_
          refine fg_iadd S dX0_beginning_72 ?_
          refine xl_wa S dX0_beginning_73 (by omega) ?_
          refine fg_l2i S dX0_beginning_74 ?_
          refine fg_topi (y := (aBeginning (bL li co) n p)) (by unfold aBeginning; rw [sPc_ok hn hlt hk1, if_neg (by omega), hbg]) ?_
          exact hret _ _ _ _ dX0_beginning_75 ⟨rfl, kv, dv, wv, no, th, ta, fr, sv, 1, rfl, hI2⟩
        · refine fg_ic (v := nI 0) S dX0_beginning_56 (by decide) ?_
          refine fg_goto S 75 dX0_beginning_57 (by decide) ?_
          refine fg_topi (y := (aBeginning (bL li co) n p)) (by unfold aBeginning; rw [sPc_ok hn hlt hk1, if_neg (by omega), ← hbg, h_2, hbt.2.1 _ _ (by omega) (by omega), cntF_live ho _ _ (Or.inr rfl)]; rw [sumF_0 _ (fun j _ => by unfold lvF; rw [run_25 ho, if_pos rfl])]) ?_
          exact hret _ _ _ _ dX0_beginning_75 ⟨rfl, kv, dv, wv, no, th, ta, fr, sv, 1, rfl, hI2⟩
      · refine fg_ic (v := nI 0) S dX0_beginning_33 (by decide) ?_
        refine fg_topi (y := (aBeginning (bL li co) n p)) (by unfold aBeginning; rw [sPc_ok hn hlt hk1, if_pos (by omega)]) ?_
        exact hret _ _ _ _ dX0_beginning_34 ⟨rfl, kv, dv, wv, no, th, ta, fr, sv, 1, rfl, hI2⟩
    · refine fg_bi (v := -2) S dX0_beginning_16 (by decide) ?_
      refine fg_topi (y := (aBeginning (bL li co) n y.toInt)) (sPc_bad2 hn (by have := dec_eq h_p; omega)).symm ?_
      exact hret _ _ _ _ dX0_beginning_18 ⟨rfl, kn, dl, wa, no, th, ta, fr, ss, bu, rfl, hI⟩
  · refine fg_ic (v := -1) S dX0_beginning_7 (by decide) ?_
    refine fg_topi (y := (aBeginning (bL li co) x.toInt y.toInt)) (sPc_bad (dec_eq h_l)).symm ?_
    exact hret _ _ _ _ dX0_beginning_8 ⟨rfl, kn, dl, wa, no, th, ta, fr, ss, bu, rfl, hI⟩
set_option maxHeartbeats 4000000 in
set_option maxRecDepth 100000 in
/-- ending -/
theorem met_X0_ending {l : Launch} {D : va_G} {ck : Nat → ClassId} {ad : Nat → Nat} {li kn dl wa no th ta fr : Nat → Nat} {co ss bu : Nat} (x y : Int32) (hI : XI li co dl wa ss bu) (sz : Nat) : Met l yX0_ending (ws_ yX0_ending cX0_ending 4 (some .int)) (rmL 3) (muP D (tysX ck) (XW ad ck li kn dl wa no th ta fr co ss bu) [.ref (ad 0), .int x, .int y] sz) (muQ D (XQ ad ck li co (.int (aEnding (bL li co) x.toInt y.toInt))) (va_A (XW ad ck li kn dl wa no th ta fr co ss bu) sz)) 0 0 (va_A (XW ad ck li kn dl wa no th ta fr co ss bu) sz) := by
  refine mu_i (lv0 := [(0, .ref (ad 0)), (1, .int x), (2, .int y)]) (by decide) (Nat.le_of_ble_eq_true rfl) rfl (fun X B M hret => ?_) sz
  obtain ⟨S, hN, hRm, rfl, rfl⟩ := B
  have S : fwC X cX0_ending RX0 (tysX ck) := S
  refine fg_iload_n S 1 1 dX0_ending_0 rfl rfl ?_
  refine cs_ S hRm 1 (met_X0_isLength (x)) q100 q101 q22 q102 ok_X0_isLength (by decide) rfl rfl (Nat.le_of_ble_eq_true rfl) dX0_ending_1 ?_
  refine fg_if_ne S 9 dX0_ending_4 (by decide) dec_lt (fun h_l => ?_) (fun h_l => ?_)
  · have h_l := dec_ne h_l
    obtain ⟨n, hn, rfl, ex⟩ := i_nat (x := x) (n := 9) h_l.1 h_l.2 (by omega)
    rw [ex] at hret
    have hp9 := p3_le9 hn
    have hp0 := p3_pos n
    refine fg_iload_n S 2 2 dX0_ending_9 rfl rfl ?_
    refine cs_ S hRm 1 (met_X0_isPiece (y)) q72 q73 q22 q74 ok_X0_isPiece (by decide) rfl rfl (Nat.le_of_ble_eq_true rfl) dX0_ending_10 ?_
    refine fg_if_ne S 19 dX0_ending_13 (by decide) dec_lt (fun h_p => ?_) (fun h_p => ?_)
    · obtain ⟨p, k, rfl, ey, hlt, hsz, hk1, hk4, hp1, hp2, hp3⟩ := pc_of (dec_ne h_p)
      rw [ey] at hret
      rw [ey] at hlt hsz
      have hk : 1 ≤ k ∧ k ≤ 4 := ⟨hk1, hk4⟩
      have hp : p3 k ≤ p ∧ p < 2 * p3 k := ⟨hp1, hp2⟩
      refine fg_aload_n S 0 0 dX0_ending_19 rfl rfl ?_
      refine cx_mu S M hRm 0 (fun sz => met_X0_build hI.1 hI.2.2 sz) rfl q103 q105 qs1 q22 q106 ok_X0_build (by decide) rfl rfl (Nat.le_of_ble_eq_true rfl) dX0_ending_20 ?_
      intro v_ w_ hp_
      obtain ⟨rfl, kv, dv, wv, sv, rfl, hbt⟩ := hp_
      show fwG X (XW ad ck li kv dv wv no th ta fr co sv 1) 23 [(0, .ref (ad 0)), (1, .int (nI n)), (2, .int (nI p))] []
      have hI2 : XI li co dv wv sv 1 := ⟨hI.1, hI.2.1, Or.inr ⟨rfl, hbt⟩⟩
      have ho := hbt.1
      have hss := ho.1
      refine fg_iload_n S 2 2 dX0_ending_23 rfl rfl ?_
      refine cs_ S hRm 1 (met_X0_sizeOfN p ⟨by omega, hsz⟩) q75 q76 q22 q77 ok_X0_sizeOf (by decide) rfl rfl (Nat.le_of_ble_eq_true rfl) dX0_ending_24 ?_
      refine fg_istore_n (lv' := [(0, .ref (ad 0)), (1, .int (nI n)), (2, .int (nI p)), (3, .int (nI k))]) S [1, 2, 3, 0] dX0_ending_27 rfl hN (by decide) rfl ?_
      refine fg_iload_n S 3 3 dX0_ending_28 rfl rfl ?_
      refine fg_iload_n S 1 1 dX0_ending_29 rfl rfl ?_
      refine fg_icmp_le S 37 dX0_ending_30 (by decide) (by omega) (by omega) (fun h_1 => ?_) (fun h_1 => ?_)
      · refine fg_aload_n S 0 0 dX0_ending_37 rfl rfl ?_
        refine fg_iload_n S 1 1 dX0_ending_38 rfl rfl ?_
        refine fg_iload_n S 3 3 dX0_ending_39 rfl rfl ?_
        refine fg_isub S dX0_ending_40 (by omega) ?_
        refine fg_iload_n S 2 2 dX0_ending_41 rfl rfl ?_
        refine fg_ic (v := nI 0) S dX0_ending_42 (by decide) ?_
        refine cx_mu S M hRm 3 (fun sz => met_X0_through (n - k) p 0 k ho (by omega) (by omega) hk hp sz) rfl q164 q166 qs9 q22 q167 ok_X0_through (by decide) rfl rfl (Nat.le_of_ble_eq_true rfl) dX0_ending_43 ?_
        intro v_ w_ hp_
        obtain ⟨rfl, n9, t9, rfl⟩ := hp_
        show fwG X (XW ad ck li kv dv wv n9 t9 ta fr co sv 1) 46 [(0, .ref (ad 0)), (1, .int (nI n)), (2, .int (nI p)), (3, .int (nI k))] [.long (lN (thF dv sv wv (n - k) k (p - p3 k) 0))]
        refine fg_l2i S dX0_ending_46 ?_
        refine fg_topi (y := (aEnding (bL li co) n p)) (by unfold aEnding; rw [sPc_ok hn hlt hk1, ← BT_ending hbt h_1 hp]) ?_
        exact hret _ _ _ _ dX0_ending_47 ⟨rfl, kv, dv, wv, n9, t9, ta, fr, sv, 1, rfl, hI2⟩
      · refine fg_ic (v := nI 0) S dX0_ending_33 (by decide) ?_
        refine fg_goto S 47 dX0_ending_34 (by decide) ?_
        refine fg_topi (y := (aEnding (bL li co) n p)) (by unfold aEnding; rw [sPc_ok hn hlt hk1]; rw [show cnt (fun c => stB n c p k && goodF (bL li co) n c) (p3 n) = 0 from sumF_0 _ (fun c _ => by have e : stB n c p k = false := decide_eq_false (fun z => by omega); show (stB n c p k && goodF (bL li co) n c).toNat = 0; rw [e]; rfl)]) ?_
        exact hret _ _ _ _ dX0_ending_47 ⟨rfl, kv, dv, wv, no, th, ta, fr, sv, 1, rfl, hI2⟩
    · refine fg_bi (v := -2) S dX0_ending_16 (by decide) ?_
      refine fg_topi (y := (aEnding (bL li co) n y.toInt)) (sPc_bad2 hn (by have := dec_eq h_p; omega)).symm ?_
      exact hret _ _ _ _ dX0_ending_18 ⟨rfl, kn, dl, wa, no, th, ta, fr, ss, bu, rfl, hI⟩
  · refine fg_ic (v := -1) S dX0_ending_7 (by decide) ?_
    refine fg_topi (y := (aEnding (bL li co) x.toInt y.toInt)) (sPc_bad (dec_eq h_l)).symm ?_
    exact hret _ _ _ _ dX0_ending_8 ⟨rfl, kn, dl, wa, no, th, ta, fr, ss, bu, rfl, hI⟩
set_option maxHeartbeats 4000000 in
set_option maxRecDepth 100000 in
/-- standing -/
theorem met_X0_standing {l : Launch} {D : va_G} {ck : Nat → ClassId} {ad : Nat → Nat} {li kn dl wa no th ta fr : Nat → Nat} {co ss bu : Nat} (x y : Int32) (hI : XI li co dl wa ss bu) (sz : Nat) : Met l yX0_standing (ws_ yX0_standing cX0_standing 7 (some .int)) (rmL 3) (muP D (tysX ck) (XW ad ck li kn dl wa no th ta fr co ss bu) [.ref (ad 0), .int x, .int y] sz) (muQ D (XQ ad ck li co (.int (aStanding (bL li co) x.toInt y.toInt))) (va_A (XW ad ck li kn dl wa no th ta fr co ss bu) sz)) 0 0 (va_A (XW ad ck li kn dl wa no th ta fr co ss bu) sz) := by
  refine mu_i (lv0 := [(0, .ref (ad 0)), (1, .int x), (2, .int y)]) (by decide) (Nat.le_of_ble_eq_true rfl) rfl (fun X B M hret => ?_) sz
  obtain ⟨S, hN, hRm, rfl, rfl⟩ := B
  have S : fwC X cX0_standing RX0 (tysX ck) := S
  refine fg_iload_n S 1 1 dX0_standing_0 rfl rfl ?_
  refine cs_ S hRm 1 (met_X0_isLength (x)) q100 q101 q22 q102 ok_X0_isLength (by decide) rfl rfl (Nat.le_of_ble_eq_true rfl) dX0_standing_1 ?_
  refine fg_if_ne S 9 dX0_standing_4 (by decide) dec_lt (fun h_l => ?_) (fun h_l => ?_)
  · have h_l := dec_ne h_l
    obtain ⟨n, hn, rfl, ex⟩ := i_nat (x := x) (n := 9) h_l.1 h_l.2 (by omega)
    rw [ex] at hret
    have hp9 := p3_le9 hn
    have hp0 := p3_pos n
    refine fg_iload_n S 2 2 dX0_standing_9 rfl rfl ?_
    refine cs_ S hRm 1 (met_X0_isPiece (y)) q72 q73 q22 q74 ok_X0_isPiece (by decide) rfl rfl (Nat.le_of_ble_eq_true rfl) dX0_standing_10 ?_
    refine fg_if_ne S 19 dX0_standing_13 (by decide) dec_lt (fun h_p => ?_) (fun h_p => ?_)
    · obtain ⟨p, k, rfl, ey, hlt, hsz, hk1, hk4, hp1, hp2, hp3⟩ := pc_of (dec_ne h_p)
      rw [ey] at hret
      rw [ey] at hlt hsz
      have hk : 1 ≤ k ∧ k ≤ 4 := ⟨hk1, hk4⟩
      have hp : p3 k ≤ p ∧ p < 2 * p3 k := ⟨hp1, hp2⟩
      refine fg_aload_n S 0 0 dX0_standing_19 rfl rfl ?_
      refine cx_mu S M hRm 0 (fun sz => met_X0_build hI.1 hI.2.2 sz) rfl q103 q105 qs1 q22 q106 ok_X0_build (by decide) rfl rfl (Nat.le_of_ble_eq_true rfl) dX0_standing_20 ?_
      intro v_ w_ hp_
      obtain ⟨rfl, kv, dv, wv, sv, rfl, hbt⟩ := hp_
      show fwG X (XW ad ck li kv dv wv no th ta fr co sv 1) 23 [(0, .ref (ad 0)), (1, .int (nI n)), (2, .int (nI p))] []
      have hI2 : XI li co dv wv sv 1 := ⟨hI.1, hI.2.1, Or.inr ⟨rfl, hbt⟩⟩
      have ho := hbt.1
      have hss := ho.1
      refine fg_iload_n S 2 2 dX0_standing_23 rfl rfl ?_
      refine cs_ S hRm 1 (met_X0_sizeOfN p ⟨by omega, hsz⟩) q75 q76 q22 q77 ok_X0_sizeOf (by decide) rfl rfl (Nat.le_of_ble_eq_true rfl) dX0_standing_24 ?_
      refine fg_istore_n (lv' := [(0, .ref (ad 0)), (1, .int (nI n)), (2, .int (nI p)), (3, .int (nI k))]) S [1, 2, 3, 0] dX0_standing_27 rfl hN (by decide) rfl ?_
      refine fg_lc (v := lN 0) S dX0_standing_28 (by decide) ?_
      refine fg_lstore (lv' := [(0, .ref (ad 0)), (1, .int (nI n)), (2, .int (nI p)), (3, .int (nI k)), (4, .long (lN 0))]) S [1, 2, 3, 4, 0] dX0_standing_29 hN (by decide) rfl ?_
      refine fg_ic (v := nI 0) S dX0_standing_31 (by decide) ?_
      refine fg_istore (lv' := [(0, .ref (ad 0)), (1, .int (nI n)), (2, .int (nI p)), (3, .int (nI k)), (4, .long (lN 0)), (6, .int (nI 0))]) S [1, 2, 3, 4, 5, 0] dX0_standing_32 hN (by decide) rfl ?_
      have lp : ∀ (fuel : Nat) (b : Nat) (u : Nat) (n3 : Nat → Nat) (t3 : Nat → Nat), (b ≤ n + 1 - k) → (u = sumF (fun b => thF dv sv wv b k (p - p3 k) (n - k - b)) b) → (n + 1 - k - b) < fuel → fwG X (XW ad ck li kv dv wv n3 t3 ta fr co sv 1) 34 [(0, .ref (ad 0)), (1, .int (nI n)), (2, .int (nI p)), (3, .int (nI k)), (4, .long (lN u)), (6, .int (nI b))] [] := by
        intro fuel
        induction fuel with
        | zero => intro b u n3 t3 hb hu hfu; exact absurd hfu (Nat.not_lt_zero _)
        | succ fuel ih_lp =>
          intro b u n3 t3 hb hu hfu
          refine fg_iload S 5 dX0_standing_34 rfl ?_
          refine fg_iload_n S 3 3 dX0_standing_36 rfl rfl ?_
          refine fg_iadd S dX0_standing_37 ?_
          refine fg_iload_n S 1 1 dX0_standing_38 rfl rfl ?_
          refine fg_icmp_gt S 66 dX0_standing_39 (by decide) (by omega) (by omega) (fun h_1 => ?_) (fun h_1 => ?_)
          · refine fg_lload S 4 dX0_standing_66 rfl ?_
            refine fg_l2i S dX0_standing_68 ?_
            refine fg_topi (y := (aStanding (bL li co) n p)) (by unfold aStanding; rw [sPc_ok hn hlt hk1]; by_cases q : k ≤ n; (rw [← BT_standing hbt hn hk1 q hp, hu, show b = n - k + 1 by omega]); (rw [hu, show b = 0 by omega]; rw [sumF_0 (p3 n) (fun c _ => by split; (rw [plF_sum]; exact sumF_0 _ (fun j _ => by have e : stB (n - j) (c / p3 j) p k = false := decide_eq_false (fun z => by omega); show (stB (n - j) (c / p3 j) p k).toNat = 0; rw [e]; rfl)); rfl)]; rfl)) ?_
            exact hret _ _ _ _ dX0_standing_69 ⟨rfl, kv, dv, wv, n3, t3, ta, fr, sv, 1, rfl, hI2⟩
          · refine fg_lload S 4 dX0_standing_42 rfl ?_
            refine fg_aload_n S 0 0 dX0_standing_44 rfl rfl ?_
            refine fg_iload S 5 dX0_standing_45 rfl ?_
            refine fg_iload_n S 2 2 dX0_standing_47 rfl rfl ?_
            refine fg_iload_n S 1 1 dX0_standing_48 rfl rfl ?_
            refine fg_iload_n S 3 3 dX0_standing_49 rfl rfl ?_
            refine fg_isub S dX0_standing_50 (by omega) ?_
            refine fg_iload S 5 dX0_standing_51 rfl ?_
            refine fg_isub S dX0_standing_53 (by omega) ?_
            refine cx_mu S M hRm 3 (fun sz => met_X0_through b p ((n - k) - b) k ho (by omega) (by omega) hk hp sz) rfl q164 q166 qs9 q22 q167 ok_X0_through (by decide) rfl rfl (Nat.le_of_ble_eq_true rfl) dX0_standing_54 ?_
            intro v_ w_ hp_
            obtain ⟨rfl, n9, t9, rfl⟩ := hp_
            show fwG X (XW ad ck li kv dv wv n9 t9 ta fr co sv 1) 57 [(0, .ref (ad 0)), (1, .int (nI n)), (2, .int (nI p)), (3, .int (nI k)), (4, .long (lN u)), (6, .int (nI b))] [.long (lN (thF dv sv wv b k (p - p3 k) ((n - k) - b))), .long (lN u)]
            refine fg_ladd S dX0_standing_57 ?_
            refine fg_lstore (lv' := [(0, .ref (ad 0)), (1, .int (nI n)), (2, .int (nI p)), (3, .int (nI k)), (4, .long (lN (u + (thF dv sv wv b k (p - p3 k) ((n - k) - b))))), (6, .int (nI b))]) S [1, 2, 3, 4, 0, 5] dX0_standing_58 hN (by decide) rfl ?_
            refine fg_iinc (lv' := [(0, .ref (ad 0)), (1, .int (nI n)), (2, .int (nI p)), (3, .int (nI k)), (4, .long (lN (u + (thF dv sv wv b k (p - p3 k) ((n - k) - b))))), (6, .int (nI (b + 1)))]) S 5 [1, 2, 3, 4, 5, 0] dX0_standing_60 rfl (inc_1 _) hN (by decide) rfl ?_
            refine fg_goto S 34 dX0_standing_63 (by decide) ?_
            exact ih_lp (b + 1) (u + thF dv sv wv b k (p - p3 k) (n - k - b)) n9 t9 (by omega) (by rw [hu]; rfl) (by omega)
      exact lp ((n + 1 - k - 0) + 1) 0 0 no th (Nat.zero_le _) rfl (Nat.lt_succ_self _)
    · refine fg_bi (v := -2) S dX0_standing_16 (by decide) ?_
      refine fg_topi (y := (aStanding (bL li co) n y.toInt)) (sPc_bad2 hn (by have := dec_eq h_p; omega)).symm ?_
      exact hret _ _ _ _ dX0_standing_18 ⟨rfl, kn, dl, wa, no, th, ta, fr, ss, bu, rfl, hI⟩
  · refine fg_ic (v := -1) S dX0_standing_7 (by decide) ?_
    refine fg_topi (y := (aStanding (bL li co) x.toInt y.toInt)) (sPc_bad (dec_eq h_l)).symm ?_
    exact hret _ _ _ _ dX0_standing_8 ⟨rfl, kn, dl, wa, no, th, ta, fr, ss, bu, rfl, hI⟩
set_option maxHeartbeats 4000000 in
set_option maxRecDepth 100000 in
/-- longest -/
theorem met_X0_longest {l : Launch} {D : va_G} {ck : Nat → ClassId} {ad : Nat → Nat} {li kn dl wa no th ta fr : Nat → Nat} {co ss bu : Nat} (hI : XI li co dl wa ss bu) (sz : Nat) : Met l yX0_longest (ws_ yX0_longest cX0_longest 2 (some .int)) (rmL 3) (muP D (tysX ck) (XW ad ck li kn dl wa no th ta fr co ss bu) [.ref (ad 0)] sz) (muQ D (XQ ad ck li co (.int (aLongest (bL li co)))) (va_A (XW ad ck li kn dl wa no th ta fr co ss bu) sz)) 0 0 (va_A (XW ad ck li kn dl wa no th ta fr co ss bu) sz) := by
  refine mu_i (lv0 := [(0, .ref (ad 0))]) (by decide) (Nat.le_of_ble_eq_true rfl) rfl (fun X B M hret => ?_) sz
  obtain ⟨S, hN, hRm, rfl, rfl⟩ := B
  have S : fwC X cX0_longest RX0 (tysX ck) := S
  refine fg_aload_n S 0 0 dX0_longest_0 rfl rfl ?_
  refine cx_mu S M hRm 0 (fun sz => met_X0_build hI.1 hI.2.2 sz) rfl q103 q105 qs1 q22 q106 ok_X0_build (by decide) rfl rfl (Nat.le_of_ble_eq_true rfl) dX0_longest_1 ?_
  intro v_ w_ hp_
  obtain ⟨rfl, kv, dv, wv, sv, rfl, hbt⟩ := hp_
  show fwG X (XW ad ck li kv dv wv no th ta fr co sv 1) 4 [(0, .ref (ad 0))] []
  have hI2 : XI li co dv wv sv 1 := ⟨hI.1, hI.2.1, Or.inr ⟨rfl, hbt⟩⟩
  have ho := hbt.1
  have hss := ho.1
  refine fg_bi (v := nI 9) S dX0_longest_4 (by decide) ?_
  refine fg_istore_n (lv' := [(0, .ref (ad 0)), (1, .int (nI 9))]) S [1, 0] dX0_longest_6 rfl hN (by decide) rfl ?_
  have lp : ∀ (fuel : Nat) (n : Nat), (n ≤ 9) → (lgF (bL li co) n = lgF (bL li co) 9) → (n) < fuel → fwG X (XW ad ck li kv dv wv no th ta fr co sv 1) 7 [(0, .ref (ad 0)), (1, .int (nI n))] [] := by
    intro fuel
    induction fuel with
    | zero => intro n hn hl hfu; exact absurd hfu (Nat.not_lt_zero _)
    | succ fuel ih_lp =>
      intro n hn hl hfu
      refine fg_iload_n S 1 1 dX0_longest_7 rfl rfl ?_
      refine fg_if_le S 31 dX0_longest_8 (by decide) (by omega) (fun h_1 => ?_) (fun h_1 => ?_)
      · refine fg_iload_n S 1 1 dX0_longest_31 rfl rfl ?_
        refine fg_topi (y := (aLongest (bL li co))) (by unfold aLongest; rw [← hl, show n = 0 by omega]; rfl) ?_
        exact hret _ _ _ _ dX0_longest_32 ⟨rfl, kv, dv, wv, no, th, ta, fr, sv, 1, rfl, hI2⟩
      · have hct := BT_count hbt (n := n) (by omega)
        have hcb := cnt_bound hbt (26 * n) (by omega)
        obtain ⟨j, rfl⟩ : ∃ j, n = j + 1 := ⟨n - 1, by omega⟩
        refine fg_aload_n S 0 0 dX0_longest_11 rfl rfl ?_
        refine xg_wa S dX0_longest_12 ?_
        refine fg_bi (v := nI 26) S dX0_longest_15 (by decide) ?_
        refine fg_iload_n S 1 1 dX0_longest_17 rfl rfl ?_
        refine fg_imul S dX0_longest_18 ?_
        refine xl_wa S dX0_longest_19 (by omega) ?_
        refine fg_lc (v := lN 0) S dX0_longest_20 (by decide) ?_
        refine fg_lcmp_ne S 31 dX0_longest_21 dX0_longest_22 (by decide) (by omega) (by omega) (fun h_2 => ?_) (fun h_2 => ?_)
        · refine fg_iload_n S 1 1 dX0_longest_31 rfl rfl ?_
          refine fg_topi (y := (aLongest (bL li co))) (by unfold aLongest; rw [← hl]; rw [show lgF (bL li co) (j + 1) = j + 1 from if_pos (by omega)]) ?_
          exact hret _ _ _ _ dX0_longest_32 ⟨rfl, kv, dv, wv, no, th, ta, fr, sv, 1, rfl, hI2⟩
        · refine fg_iinc (lv' := [(0, .ref (ad 0)), (1, .int (nI j))]) S 1 [1, 0] dX0_longest_25 rfl (dec_n rfl) hN (by decide) rfl ?_
          refine fg_goto S 7 dX0_longest_28 (by decide) ?_
          exact ih_lp j (by omega) (by rw [← hl]; exact (if_neg (by omega)).symm) (by omega)
  exact lp (9 + 1) 9 (Nat.le_refl _) rfl (Nat.lt_succ_self _)
set_option maxHeartbeats 4000000 in
set_option maxRecDepth 100000 in
/-- mirrored -/
theorem met_X0_mirrored {l : Launch} {D : va_G} {ck : Nat → ClassId} {ad : Nat → Nat} {li kn dl wa no th ta fr : Nat → Nat} {co ss bu : Nat} (x : Int32) (hI : XI li co dl wa ss bu) (sz : Nat) : Met l yX0_mirrored (ws_ yX0_mirrored cX0_mirrored 8 (some .int)) (rmL 3) (muP D (tysX ck) (XW ad ck li kn dl wa no th ta fr co ss bu) [.ref (ad 0), .int x] sz) (muQ D (XQ ad ck li co (.int (aMirrored (bL li co) x.toInt))) (va_A (XW ad ck li kn dl wa no th ta fr co ss bu) sz)) 0 0 (va_A (XW ad ck li kn dl wa no th ta fr co ss bu) sz) := by
  refine mu_i (lv0 := [(0, .ref (ad 0)), (1, .int x)]) (by decide) (Nat.le_of_ble_eq_true rfl) rfl (fun X B M hret => ?_) sz
  obtain ⟨S, hN, hRm, rfl, rfl⟩ := B
  have S : fwC X cX0_mirrored RX0 (tysX ck) := S
  refine fg_iload_n S 1 1 dX0_mirrored_0 rfl rfl ?_
  refine cs_ S hRm 1 (met_X0_isLength (x)) q100 q101 q22 q102 ok_X0_isLength (by decide) rfl rfl (Nat.le_of_ble_eq_true rfl) dX0_mirrored_1 ?_
  refine fg_if_ne S 9 dX0_mirrored_4 (by decide) dec_lt (fun h_l => ?_) (fun h_l => ?_)
  · have h_l := dec_ne h_l
    obtain ⟨n, hn, rfl, ex⟩ := i_nat (x := x) (n := 9) h_l.1 h_l.2 (by omega)
    rw [ex] at hret
    have hp9 := p3_le9 hn
    have hp0 := p3_pos n
    refine fg_aload_n S 0 0 dX0_mirrored_9 rfl rfl ?_
    refine cx_mu S M hRm 0 (fun sz => met_X0_build hI.1 hI.2.2 sz) rfl q103 q105 qs1 q22 q106 ok_X0_build (by decide) rfl rfl (Nat.le_of_ble_eq_true rfl) dX0_mirrored_10 ?_
    intro v_ w_ hp_
    obtain ⟨rfl, kv, dv, wv, sv, rfl, hbt⟩ := hp_
    show fwG X (XW ad ck li kv dv wv no th ta fr co sv 1) 13 [(0, .ref (ad 0)), (1, .int (nI n))] []
    have hI2 : XI li co dv wv sv 1 := ⟨hI.1, hI.2.1, Or.inr ⟨rfl, hbt⟩⟩
    have ho := hbt.1
    have hss := ho.1
    refine fg_iload_n S 1 1 dX0_mirrored_13 rfl rfl ?_
    refine fg_ic (v := nI 1) S dX0_mirrored_14 (by decide) ?_
    refine fg_iadd S dX0_mirrored_15 ?_
    refine fg_ic (v := nI 1) S dX0_mirrored_16 (by decide) ?_
    refine fg_ishrR (v := (nI ((n + 1) / 2))) S dX0_mirrored_17 (pk_shrN (by omega) _ 1 (by decide)) ?_
    generalize ehf : (n + 1) / 2 = hf
    have hct := BT_count hbt (n := hf) (by omega)
    have hcl := cnt_le (goodF (bL li co) hf) (p3 hf)
    have hph := p3_le9 (n := hf) (by omega)
    refine fg_istore_n (lv' := [(0, .ref (ad 0)), (1, .int (nI n)), (2, .int (nI hf))]) S [1, 2, 0] dX0_mirrored_18 rfl hN (by decide) rfl ?_
    refine fg_aload_n S 0 0 dX0_mirrored_19 rfl rfl ?_
    refine xg_wa S dX0_mirrored_20 ?_
    refine fg_bi (v := nI 26) S dX0_mirrored_23 (by decide) ?_
    refine fg_iload_n S 2 2 dX0_mirrored_25 rfl rfl ?_
    refine fg_imul S dX0_mirrored_26 ?_
    refine xl_wa S dX0_mirrored_27 (by omega) ?_
    refine fg_l2i S dX0_mirrored_28 ?_
    refine fg_topn (b := cnt (goodF (bL li co) hf) (p3 hf)) hct ?_
    refine fg_istore_n (lv' := [(0, .ref (ad 0)), (1, .int (nI n)), (2, .int (nI hf)), (3, .int (nI (cnt (goodF (bL li co) hf) (p3 hf))))]) S [1, 2, 3, 0] dX0_mirrored_29 rfl hN (by decide) rfl ?_
    refine fg_ic (v := nI 0) S dX0_mirrored_30 (by decide) ?_
    refine fg_istore (lv' := [(0, .ref (ad 0)), (1, .int (nI n)), (2, .int (nI hf)), (3, .int (nI (cnt (goodF (bL li co) hf) (p3 hf)))), (4, .int (nI 0))]) S [1, 2, 3, 4, 0] dX0_mirrored_31 hN (by decide) rfl ?_
    refine fg_ic (v := nI 0) S dX0_mirrored_33 (by decide) ?_
    refine fg_istore (lv' := [(0, .ref (ad 0)), (1, .int (nI n)), (2, .int (nI hf)), (3, .int (nI (cnt (goodF (bL li co) hf) (p3 hf)))), (4, .int (nI 0)), (5, .int (nI 0))]) S [1, 2, 3, 4, 5, 0] dX0_mirrored_34 hN (by decide) rfl ?_
    have lp : ∀ (fuel : Nat) (i : Nat) (u : Nat), (i ≤ cnt (goodF (bL li co) hf) (p3 hf)) → (u = sumF (fun i => (goodF (bL li co) n (rfF (unF dv wv 0 i 0 hf) (if n % 2 = 1 then unF dv wv 0 i 0 hf / 3 else unF dv wv 0 i 0 hf) (n - hf))).toNat) i) → (cnt (goodF (bL li co) hf) (p3 hf) - i) < fuel → fwG X (XW ad ck li kv dv wv no th ta fr co sv 1) 36 [(0, .ref (ad 0)), (1, .int (nI n)), (2, .int (nI hf)), (3, .int (nI (cnt (goodF (bL li co) hf) (p3 hf)))), (4, .int (nI u)), (5, .int (nI i))] [] := by
      intro fuel
      induction fuel with
      | zero => intro i u hi hu hfu; exact absurd hfu (Nat.not_lt_zero _)
      | succ fuel ih_lp =>
        intro i u hi hu hfu
        refine fg_iload S 5 dX0_mirrored_36 rfl ?_
        refine fg_iload_n S 3 3 dX0_mirrored_38 rfl rfl ?_
        refine fg_icmp_ge S 89 dX0_mirrored_39 (by decide) (by omega) (by omega) (fun h_1 => ?_) (fun h_1 => ?_)
        · refine fg_iload S 4 dX0_mirrored_89 rfl ?_
          refine fg_topi (y := (aMirrored (bL li co) n)) (by unfold aMirrored; rw [sLen_ok hn, ← BT_mirror hbt hn ehf.symm, hu, show i = cnt (goodF (bL li co) hf) (p3 hf) by omega]) ?_
          exact hret _ _ _ _ dX0_mirrored_91 ⟨rfl, kv, dv, wv, no, th, ta, fr, sv, 1, rfl, hI2⟩
        · have hun := BT_unrank hbt (n := hf) (i := i) (by omega) (by omega)
          refine fg_aload_n S 0 0 dX0_mirrored_42 rfl rfl ?_
          refine fg_iload_n S 2 2 dX0_mirrored_43 rfl rfl ?_
          refine fg_iload S 5 dX0_mirrored_44 rfl ?_
          refine cx_ro S hRm 2 (met_X0_unrank hf i ho (by omega) (by omega) (cnt_bound hbt)) rfl q148 q150 qs8 q22 q151 ok_X0_unrank (by decide) rfl rfl (Nat.le_of_ble_eq_true rfl) dX0_mirrored_46 ?_
          generalize ex : unF dv wv 0 i 0 hf = x at hun
          have hrf : rfF x (if n % 2 = 1 then x / 3 else x) (n - hf) < 2 ^ 31 := by
            have h1 := bk_lt (n - hf) (if n % 2 = 1 then x / 3 else x)
            have h2 := hi_lt hun.1 h1
            rw [← rfF_bk, show hf + (n - hf) = n by omega] at h2
            omega
          refine fg_istore (lv' := [(0, .ref (ad 0)), (1, .int (nI n)), (2, .int (nI hf)), (3, .int (nI (cnt (goodF (bL li co) hf) (p3 hf)))), (4, .int (nI u)), (5, .int (nI i)), (6, .int (nI x))]) S [1, 2, 3, 4, 5, 6, 0] dX0_mirrored_49 hN (by decide) rfl ?_
          refine fg_iload S 6 dX0_mirrored_51 rfl ?_
          refine fg_iload_n S 2 2 dX0_mirrored_53 rfl rfl ?_
          refine fg_iload_n S 1 1 dX0_mirrored_54 rfl rfl ?_
          refine cs_ S hRm 3 (met_X0_reflect x hf n (by omega) (by omega) (by omega)) q184 q185 q22 q186 ok_X0_reflect (by decide) rfl rfl (Nat.le_of_ble_eq_true rfl) dX0_mirrored_55 ?_
          generalize ew : rfF x (if n % 2 = 1 then x / 3 else x) (n - hf) = w at hrf
          have hle := inS_lt ho (runF_in ho n 0 w (inS_0 ho))
          refine fg_istore (lv' := [(0, .ref (ad 0)), (1, .int (nI n)), (2, .int (nI hf)), (3, .int (nI (cnt (goodF (bL li co) hf) (p3 hf)))), (4, .int (nI u)), (5, .int (nI i)), (6, .int (nI x)), (7, .int (nI w))]) S [1, 2, 3, 4, 5, 6, 7, 0] dX0_mirrored_58 hN (by decide) rfl ?_
          refine fg_iload S 4 dX0_mirrored_60 rfl ?_
          refine fg_aload_n S 0 0 dX0_mirrored_62 rfl rfl ?_
          refine fg_ic (v := nI 0) S dX0_mirrored_63 (by decide) ?_
          refine fg_iload_n S 1 1 dX0_mirrored_64 rfl rfl ?_
          refine fg_iload S 7 dX0_mirrored_65 rfl ?_
          refine cx_ro S hRm 3 (met_X0_read 0 n w ho (inS_0 ho) (by omega) (by omega)) rfl q119 q121 qs5 q22 q122 ok_X0_read (by decide) rfl rfl (Nat.le_of_ble_eq_true rfl) dX0_mirrored_67 ?_
          refine fg_bi (v := nI 25) S dX0_mirrored_70 (by decide) ?_
          refine fg_icmp_ne S 79 dX0_mirrored_72 (by decide) (by omega) (by omega) (fun h_2 => ?_) (fun h_2 => ?_)
          · refine fg_ic (v := nI 1) S dX0_mirrored_79 (by decide) ?_
            refine fg_iadd S dX0_mirrored_80 ?_
            refine fg_istore (lv' := [(0, .ref (ad 0)), (1, .int (nI n)), (2, .int (nI hf)), (3, .int (nI (cnt (goodF (bL li co) hf) (p3 hf)))), (4, .int (nI (u + 1))), (5, .int (nI i)), (6, .int (nI x)), (7, .int (nI w))]) S [1, 2, 3, 4, 0, 5, 6, 7] dX0_mirrored_81 hN (by decide) rfl ?_
            refine fg_iinc (lv' := [(0, .ref (ad 0)), (1, .int (nI n)), (2, .int (nI hf)), (3, .int (nI (cnt (goodF (bL li co) hf) (p3 hf)))), (4, .int (nI (u + 1))), (5, .int (nI (i + 1))), (6, .int (nI x)), (7, .int (nI w))]) S 5 [1, 2, 3, 4, 5, 0, 6, 7] dX0_mirrored_83 rfl (inc_1 _) hN (by decide) rfl ?_
            refine fg_goto S 36 dX0_mirrored_86 (by decide) ?_
            refine fg_perm (lv' := [(0, .ref (ad 0)), (1, .int (nI n)), (2, .int (nI hf)), (3, .int (nI (cnt (goodF (bL li co) hf) (p3 hf)))), (4, .int (nI (u + 1))), (5, .int (nI (i + 1)))]) [0, 1, 2, 3, 4, 5] rfl ?_
            exact ih_lp (i + 1) (u + 1) (by omega) (by rw [hu]; show _ = _ + (goodF (bL li co) n (rfF (unF dv wv 0 i 0 hf) (if n % 2 = 1 then unF dv wv 0 i 0 hf / 3 else unF dv wv 0 i 0 hf) (n - hf))).toNat; rw [ex, ew, ← lv_good hbt]; unfold lvF; rw [if_neg h_2]) (by omega)
          · refine fg_ic (v := nI 0) S dX0_mirrored_75 (by decide) ?_
            refine fg_goto S 80 dX0_mirrored_76 (by decide) ?_
            refine fg_iadd S dX0_mirrored_80 ?_
            refine fg_istore (lv' := [(0, .ref (ad 0)), (1, .int (nI n)), (2, .int (nI hf)), (3, .int (nI (cnt (goodF (bL li co) hf) (p3 hf)))), (4, .int (nI (u + 0))), (5, .int (nI i)), (6, .int (nI x)), (7, .int (nI w))]) S [1, 2, 3, 4, 0, 5, 6, 7] dX0_mirrored_81 hN (by decide) rfl ?_
            refine fg_iinc (lv' := [(0, .ref (ad 0)), (1, .int (nI n)), (2, .int (nI hf)), (3, .int (nI (cnt (goodF (bL li co) hf) (p3 hf)))), (4, .int (nI (u + 0))), (5, .int (nI (i + 1))), (6, .int (nI x)), (7, .int (nI w))]) S 5 [1, 2, 3, 4, 5, 0, 6, 7] dX0_mirrored_83 rfl (inc_1 _) hN (by decide) rfl ?_
            refine fg_goto S 36 dX0_mirrored_86 (by decide) ?_
            refine fg_perm (lv' := [(0, .ref (ad 0)), (1, .int (nI n)), (2, .int (nI hf)), (3, .int (nI (cnt (goodF (bL li co) hf) (p3 hf)))), (4, .int (nI (u + 0))), (5, .int (nI (i + 1)))]) [0, 1, 2, 3, 4, 5] rfl ?_
            exact ih_lp (i + 1) (u + 0) (by omega) (by rw [hu]; show _ = _ + (goodF (bL li co) n (rfF (unF dv wv 0 i 0 hf) (if n % 2 = 1 then unF dv wv 0 i 0 hf / 3 else unF dv wv 0 i 0 hf) (n - hf))).toNat; rw [ex, ew, ← lv_good hbt]; unfold lvF; rw [if_pos h_2]) (by omega)
    exact lp ((cnt (goodF (bL li co) hf) (p3 hf) - 0) + 1) 0 0 (Nat.zero_le _) rfl (Nat.lt_succ_self _)
  · refine fg_ic (v := -1) S dX0_mirrored_7 (by decide) ?_
    refine fg_topi (y := (aMirrored (bL li co) x.toInt)) (sLen_bad (dec_eq h_l)).symm ?_
    exact hret _ _ _ _ dX0_mirrored_8 ⟨rfl, kn, dl, wa, no, th, ta, fr, ss, bu, rfl, hI⟩
end
section
set_option maxRecDepth 100000
theorem tn_0 {b : Bool} (h : b.toNat = 0) : b = false := by cases b with
  | false => rfl
  | true => cases h
theorem tn_1 {b : Bool} (h : b.toNat ≠ 0) : b = true := by cases b with
  | true => rfl
  | false => exact absurd rfl h
theorem endF_t {ba : Nat → Bool} {left r : Nat} (h : ba (3 + r % 3) = true ∨ (1 < left ∧ ba (9 + r % 9) = true) ∨ (2 < left ∧ ba (27 + r % 27) = true) ∨ (3 < left ∧ ba (81 + r % 81) = true)) : endF ba left r = true := by
  unfold endF
  simp only [Bool.or_eq_true, Bool.and_eq_true, decide_eq_true_eq]
  rcases h with h | h | h | h
  · exact Or.inl (Or.inl (Or.inl h))
  · exact Or.inl (Or.inl (Or.inr h))
  · exact Or.inl (Or.inr h)
  · exact Or.inr h
theorem endF_f {ba : Nat → Bool} {left r : Nat} (h1 : ba (3 + r % 3) = false) (h2 : 1 < left → ba (9 + r % 9) = false) (h3 : 2 < left → ba (27 + r % 27) = false) (h4 : 3 < left → ba (81 + r % 81) = false) : endF ba left r = false := by
  cases e : endF ba left r with
  | false => rfl
  | true =>
    unfold endF at e
    simp only [Bool.or_eq_true, Bool.and_eq_true, decide_eq_true_eq] at e
    rcases e with ((e | e) | e) | e
    · rw [h1] at e; cases e
    · rw [h2 e.1] at e; exact absurd e.2 (by decide)
    · rw [h3 e.1] at e; exact absurd e.2 (by decide)
    · rw [h4 e.1] at e; exact absurd e.2 (by decide)
theorem goodF_t {ba : Nat → Bool} {n r : Nat} (h : endF ba (n + 1) r = true) : goodF ba (n + 1) r = false := if_pos h
theorem goodF_n {ba : Nat → Bool} {n r : Nat} (h : endF ba (n + 1) r = false) : goodF ba (n + 1) r = goodF ba n (r / 3) := if_neg (by rw [h]; decide)
def grT (ba : Nat → Bool) (nw : Nat → Nat) (x k a : Nat) : Nat := if goodF ba 4 (3 * k + a) = true ∧ (3 * k + a) % 27 = x then nw k else 0
def grF (ba : Nat → Bool) (nw : Nat → Nat) (x : Nat) : Nat := sumF (fun k => sumF (fun a => grT ba nw x k a) 3) 27
def gcF (ba : Nat → Bool) (n k : Nat) : Nat := sumF (fun c => if goodF ba n c = true ∧ c % 27 = k then 1 else 0) (p3 n)
theorem good_last {ba : Nat → Bool} {n c a : Nat} (hn : 3 ≤ n) (ha : a < 3) : goodF ba (n + 1) (3 * c + a) = (goodF ba n c && goodF ba 4 (3 * (c % 27) + a)) := by
  have e1 : 3 * (c % 27) + a = (3 * c + a) % p3 4 := by show _ = _ % 81; omega
  have e2 : endF ba (n + 1) (3 * c + a) = endF ba (3 + 1) (3 * c + a) := Bool.eq_iff_iff.mpr (by
    rw [endF_iff, endF_iff]
    constructor
    · rintro ⟨m, a1, a2, a3, a4⟩; exact ⟨m, a1, a2, by omega, a4⟩
    · rintro ⟨m, a1, a2, a3, a4⟩; exact ⟨m, a1, a2, by omega, a4⟩)
  have e3 : goodF ba 4 (3 * (c % 27) + a) = (!endF ba (3 + 1) (3 * c + a) && goodF ba 3 c) := by
    rw [goodF_s, e1, endF_mod (by omega), ← e1, show (3 * (c % 27) + a) / 3 = c % p3 3 by show _ = c % 27; omega, goodF_mod 3 3 c (by omega)]
  rw [goodF_s, show (3 * c + a) / 3 = c by omega, e2, e3]
  cases h : goodF ba n c with
  | false => rw [Bool.and_false, Bool.false_and]
  | true => rw [good_suf 3 n c hn h, Bool.and_true, Bool.true_and]
theorem gc_3 {ba : Nat → Bool} {k : Nat} (hk : k < 27) : gcF ba 3 k = (goodF ba 3 k).toNat := by
  have e : p3 3 = 27 := rfl
  unfold gcF
  rw [e, sumF_one (k0 := k) 27 hk (fun c hc hne => if_neg (fun q => by omega))]
  cases h : goodF ba 3 k with
  | false => rw [if_neg (fun q => by cases q.1)]; rfl
  | true => rw [if_pos ⟨rfl, by omega⟩]; rfl
theorem gr_gc {ba : Nat → Bool} {nw : Nat → Nat} {n x : Nat} (hn : 3 ≤ n) (h : ∀ k, k < 27 → nw k = gcF ba n k) : grF ba nw x = gcF ba (n + 1) x := by
  have e1 : grF ba nw x = sumF (fun k => gcF ba n k * sumF (fun a => if goodF ba 4 (3 * k + a) = true ∧ (3 * k + a) % 27 = x then 1 else 0) 3) 27 := by
    refine sumF_ext 27 (fun k hk => ?_)
    rw [← sumF_cmul]
    refine sumF_ext 3 (fun a _ => ?_)
    unfold grT
    rw [h k hk]
    split <;> omega
  have e2 : sumF (fun k => gcF ba n k * sumF (fun a => if goodF ba 4 (3 * k + a) = true ∧ (3 * k + a) % 27 = x then 1 else 0) 3) 27 = sumF (fun c => sumF (fun k => (if goodF ba n c = true ∧ c % 27 = k then 1 else 0) * sumF (fun a => if goodF ba 4 (3 * k + a) = true ∧ (3 * k + a) % 27 = x then 1 else 0) 3) 27) (p3 n) := by
    rw [← sumF_comm]
    refine sumF_ext 27 (fun k _ => ?_)
    rw [sumF_mulc]; rfl
  rw [e1, e2]
  unfold gcF
  rw [p3_s, Nat.mul_comm 3, sumF_mul]
  refine sumF_ext _ (fun c _ => ?_)
  rw [sumF_one (k0 := c % 27) 27 (Nat.mod_lt _ (by omega)) (fun k _ hk => by rw [if_neg (fun q => hk q.2.symm), Nat.zero_mul])]
  by_cases g : goodF ba n c = true
  · rw [if_pos ⟨g, rfl⟩, Nat.one_mul]
    refine sumF_ext 3 (fun a ha => ?_)
    rw [show c * 3 + a = 3 * c + a by omega, good_last hn ha, g, Bool.true_and, show (3 * (c % 27) + a) % 27 = (3 * c + a) % 27 by omega]
  · rw [if_neg (fun q => g q.1), Nat.zero_mul]
    symm
    refine sumF_0 3 (fun a ha => if_neg (fun q => ?_))
    have q1 := q.1
    rw [show c * 3 + a = 3 * c + a by omega, good_last hn ha, Bool.and_eq_true] at q1
    exact g q1.1
theorem gc_sum {ba : Nat → Bool} (n : Nat) : sumF (fun k => gcF ba n k) 27 = cnt (goodF ba n) (p3 n) := by
  unfold gcF
  rw [sumF_comm]
  refine sumF_ext _ (fun c _ => ?_)
  show _ = (goodF ba n c).toNat
  rw [sumF_one (k0 := c % 27) 27 (Nat.mod_lt _ (by omega)) (fun k _ hk => if_neg (fun q => hk q.2.symm))]
  cases goodF ba n c with
  | false => rw [if_neg (fun q => by cases q.1)]; rfl
  | true => rw [if_pos ⟨rfl, rfl⟩]; rfl
set_option maxHeartbeats 4000000 in
set_option maxRecDepth 100000 in
/-- power: 3 to the n -/
theorem met_X1_power {l : Launch} {D : va_G} {ck : Nat → ClassId} {bd : Nat → Nat} {ba : Nat → Bool} {nw lt : Nat → Nat} {hd : Nat} (n : Nat) (hn : n ≤ 10) : Met l yX1_power (ws_ yX1_power cX1_power 4 (some .int)) (rmL 0) (roP D (tysX ck) (MW bd ck ba nw lt hd) [.ref (bd 0), .int (nI n)]) (roQ (.int (nI (p3 n)))) 0 0 (fun _ => False) := by
  refine ro_i (lv0 := [(0, .ref (bd 0)), (1, .int (nI n))]) (by decide) (Nat.le_of_ble_eq_true rfl) rfl (fun X B hret => ?_)
  obtain ⟨S, hN, hRm, rfl, rfl⟩ := B
  have S : fwC X cX1_power RX1 (tysX ck) := S
  refine fg_ic (v := nI 1) S dX1_power_0 (by decide) ?_
  refine fg_istore_n (lv' := [(0, .ref (bd 0)), (1, .int (nI n)), (2, .int (nI 1))]) S [1, 2, 0] dX1_power_1 rfl hN (by decide) rfl ?_
  refine fg_ic (v := nI 0) S dX1_power_2 (by decide) ?_
  refine fg_istore_n (lv' := [(0, .ref (bd 0)), (1, .int (nI n)), (2, .int (nI 1)), (3, .int (nI 0))]) S [1, 2, 3, 0] dX1_power_3 rfl hN (by decide) rfl ?_
  have lp : ∀ (fuel : Nat) (k : Nat), (k ≤ n) → (n - k) < fuel → fwG X (MW bd ck ba nw lt hd) 4 [(0, .ref (bd 0)), (1, .int (nI n)), (2, .int (nI (p3 k))), (3, .int (nI k))] [] := by
    intro fuel
    induction fuel with
    | zero => intro k hk hfu; exact absurd hfu (Nat.not_lt_zero _)
    | succ fuel ih_lp =>
      intro k hk hfu
      refine fg_iload_n S 3 3 dX1_power_4 rfl rfl ?_
      refine fg_iload_n S 1 1 dX1_power_5 rfl rfl ?_
      refine fg_icmp_ge S 19 dX1_power_6 (by decide) (by omega) (by omega) (fun h_1 => ?_) (fun h_1 => ?_)
      · refine fg_iload_n S 2 2 dX1_power_19 rfl rfl ?_
        have e_k : k = n := by omega
        subst e_k
        exact hret _ _ dX1_power_20
      · refine fg_ic (v := nI 3) S dX1_power_9 (by decide) ?_
        refine fg_iload_n S 2 2 dX1_power_10 rfl rfl ?_
        refine fg_imul S dX1_power_11 ?_
        refine fg_topn (b := p3 (k + 1)) rfl ?_
        refine fg_istore_n (lv' := [(0, .ref (bd 0)), (1, .int (nI n)), (2, .int (nI (p3 (k + 1)))), (3, .int (nI k))]) S [1, 2, 0, 3] dX1_power_12 rfl hN (by decide) rfl ?_
        refine fg_iinc (lv' := [(0, .ref (bd 0)), (1, .int (nI n)), (2, .int (nI (p3 (k + 1)))), (3, .int (nI (k + 1)))]) S 3 [1, 2, 3, 0] dX1_power_13 rfl (inc_1 _) hN (by decide) rfl ?_
        refine fg_goto S 4 dX1_power_16 (by decide) ?_
        exact ih_lp (k + 1) (by omega) (by omega)
  exact lp ((n - 0) + 1) 0 (Nat.zero_le _) (Nat.lt_succ_self _)
set_option maxHeartbeats 4000000 in
set_option maxRecDepth 100000 in
/-- letters -/
theorem met_X1_letters {l : Launch} {D : va_G} {ck : Nat → ClassId} {bd : Nat → Nat} {ba : Nat → Bool} {nw lt : Nat → Nat} {hd : Nat} (x : Int32) : Met l yX1_letters (ws_ yX1_letters cX1_letters 2 (some .int)) (rmL 0) (roP D (tysX ck) (MW bd ck ba nw lt hd) [.ref (bd 0), .int x]) (roQ (.int (nI (ltF x.toInt)))) 0 0 (fun _ => False) := by
  refine ro_i (lv0 := [(0, .ref (bd 0)), (1, .int x)]) (by decide) (Nat.le_of_ble_eq_true rfl) rfl (fun X B hret => ?_)
  obtain ⟨S, hN, hRm, rfl, rfl⟩ := B
  have S : fwC X cX1_letters RX1 (tysX ck) := S
  have k58 : (¬ (2 < x.toInt ∧ x.toInt < 6)) → (¬ (8 < x.toInt ∧ x.toInt < 18)) → (¬ (26 < x.toInt ∧ x.toInt < 54)) → (¬ (80 < x.toInt ∧ x.toInt < 162)) → fwG X (MW bd ck ba nw lt hd) 58 [(0, .ref (bd 0)), (1, .int x)] [] := by
    intro g1 g2 g3 g4
    refine fg_ic (v := nI 0) S dX1_letters_58 (by decide) ?_
    refine fg_topn (b := ltF x.toInt) (by unfold ltF; rw [if_neg g1, if_neg g2, if_neg g3, if_neg g4]) ?_
    exact hret _ _ dX1_letters_59
  have k41 : (¬ (2 < x.toInt ∧ x.toInt < 6)) → (¬ (8 < x.toInt ∧ x.toInt < 18)) → (¬ (26 < x.toInt ∧ x.toInt < 54)) → fwG X (MW bd ck ba nw lt hd) 41 [(0, .ref (bd 0)), (1, .int x)] [] := by
    intro g1 g2 g3
    refine fg_iload_n S 1 1 dX1_letters_41 rfl rfl ?_
    refine fg_bi (v := nI 80) S dX1_letters_42 (by decide) ?_
    refine fg_icmpZ_le S 58 dX1_letters_44 (by decide) rfl (nI_toInt (by omega)) (fun h_1 => ?_) (fun h_1 => ?_)
    · exact k58 g1 g2 g3 (by omega)
    · refine fg_iload_n S 1 1 dX1_letters_47 rfl rfl ?_
      refine fg_si (v := nI 162) S dX1_letters_48 (by decide) ?_
      refine fg_icmpZ_ge S 58 dX1_letters_51 (by decide) rfl (nI_toInt (by omega)) (fun h_2 => ?_) (fun h_2 => ?_)
      · exact k58 g1 g2 g3 (by omega)
      · refine fg_ic (v := nI 4) S dX1_letters_54 (by decide) ?_
        refine fg_goto S 59 dX1_letters_55 (by decide) ?_
        refine fg_topn (b := ltF x.toInt) (by unfold ltF; rw [if_neg g1, if_neg g2, if_neg g3, if_pos (by omega)]) ?_
        exact hret _ _ dX1_letters_59
  have k27 : (¬ (2 < x.toInt ∧ x.toInt < 6)) → (¬ (8 < x.toInt ∧ x.toInt < 18)) → fwG X (MW bd ck ba nw lt hd) 27 [(0, .ref (bd 0)), (1, .int x)] [] := by
    intro g1 g2
    refine fg_iload_n S 1 1 dX1_letters_27 rfl rfl ?_
    refine fg_bi (v := nI 26) S dX1_letters_28 (by decide) ?_
    refine fg_icmpZ_le S 41 dX1_letters_30 (by decide) rfl (nI_toInt (by omega)) (fun h_3 => ?_) (fun h_3 => ?_)
    · exact k41 g1 g2 (by omega)
    · refine fg_iload_n S 1 1 dX1_letters_33 rfl rfl ?_
      refine fg_bi (v := nI 54) S dX1_letters_34 (by decide) ?_
      refine fg_icmpZ_ge S 41 dX1_letters_36 (by decide) rfl (nI_toInt (by omega)) (fun h_4 => ?_) (fun h_4 => ?_)
      · exact k41 g1 g2 (by omega)
      · refine fg_ic (v := nI 3) S dX1_letters_39 (by decide) ?_
        refine fg_topn (b := ltF x.toInt) (by unfold ltF; rw [if_neg g1, if_neg g2, if_pos (by omega)]) ?_
        exact hret _ _ dX1_letters_40
  have k13 : (¬ (2 < x.toInt ∧ x.toInt < 6)) → fwG X (MW bd ck ba nw lt hd) 13 [(0, .ref (bd 0)), (1, .int x)] [] := by
    intro g1
    refine fg_iload_n S 1 1 dX1_letters_13 rfl rfl ?_
    refine fg_bi (v := nI 8) S dX1_letters_14 (by decide) ?_
    refine fg_icmpZ_le S 27 dX1_letters_16 (by decide) rfl (nI_toInt (by omega)) (fun h_5 => ?_) (fun h_5 => ?_)
    · exact k27 g1 (by omega)
    · refine fg_iload_n S 1 1 dX1_letters_19 rfl rfl ?_
      refine fg_bi (v := nI 18) S dX1_letters_20 (by decide) ?_
      refine fg_icmpZ_ge S 27 dX1_letters_22 (by decide) rfl (nI_toInt (by omega)) (fun h_6 => ?_) (fun h_6 => ?_)
      · exact k27 g1 (by omega)
      · refine fg_ic (v := nI 2) S dX1_letters_25 (by decide) ?_
        refine fg_topn (b := ltF x.toInt) (by unfold ltF; rw [if_neg g1, if_pos (by omega)]) ?_
        exact hret _ _ dX1_letters_26
  refine fg_iload_n S 1 1 dX1_letters_0 rfl rfl ?_
  refine fg_ic (v := nI 2) S dX1_letters_1 (by decide) ?_
  refine fg_icmpZ_le S 13 dX1_letters_2 (by decide) rfl (nI_toInt (by omega)) (fun h_7 => ?_) (fun h_7 => ?_)
  · exact k13 (by omega)
  · refine fg_iload_n S 1 1 dX1_letters_5 rfl rfl ?_
    refine fg_bi (v := nI 6) S dX1_letters_6 (by decide) ?_
    refine fg_icmpZ_ge S 13 dX1_letters_8 (by decide) rfl (nI_toInt (by omega)) (fun h_8 => ?_) (fun h_8 => ?_)
    · exact k13 (by omega)
    · refine fg_ic (v := nI 1) S dX1_letters_11 (by decide) ?_
      refine fg_topn (b := ltF x.toInt) (by unfold ltF; rw [if_pos (by omega)]) ?_
      exact hret _ _ dX1_letters_12
set_option maxHeartbeats 4000000 in
set_option maxRecDepth 100000 in
/-- badLength -/
theorem met_X1_badLength {l : Launch} {D : va_G} {ck : Nat → ClassId} {bd : Nat → Nat} {ba : Nat → Bool} {nw lt : Nat → Nat} {hd : Nat} (x : Int32) : Met l yX1_badLength (ws_ yX1_badLength cX1_badLength 2 (some .boolean)) (rmL 0) (roP D (tysX ck) (MW bd ck ba nw lt hd) [.ref (bd 0), .int x]) (roQ (.int (nI (decide (¬ (0 ≤ x.toInt ∧ x.toInt ≤ 9))).toNat))) 0 0 (fun _ => False) := by
  refine ro_z (lv0 := [(0, .ref (bd 0)), (1, .int x)]) (by decide) (Nat.le_of_ble_eq_true rfl) rfl (fun X B hret => ?_)
  obtain ⟨S, hN, hRm, rfl, rfl⟩ := B
  have S : fwC X cX1_badLength RX1 (tysX ck) := S
  refine fg_iload_n S 1 1 dX1_badLength_0 rfl rfl ?_
  refine fg_ifZ_lt S 10 dX1_badLength_1 (by decide) rfl (fun h_1 => ?_) (fun h_1 => ?_)
  · refine fg_ic (v := nI 1) S dX1_badLength_10 (by decide) ?_
    refine fg_goto S 15 dX1_badLength_11 (by decide) ?_
    refine fg_topn (b := (decide (¬ (0 ≤ x.toInt ∧ x.toInt ≤ 9))).toNat) (by rw [decide_eq_true (by omega)]; rfl) ?_
    exact hret _ _ dX1_badLength_15
  · refine fg_iload_n S 1 1 dX1_badLength_4 rfl rfl ?_
    refine fg_bi (v := nI 9) S dX1_badLength_5 (by decide) ?_
    refine fg_icmpZ_le S 14 dX1_badLength_7 (by decide) rfl (nI_toInt (by omega)) (fun h_2 => ?_) (fun h_2 => ?_)
    · refine fg_ic (v := nI 0) S dX1_badLength_14 (by decide) ?_
      refine fg_topn (b := (decide (¬ (0 ≤ x.toInt ∧ x.toInt ≤ 9))).toNat) (by rw [decide_eq_false (by omega)]; rfl) ?_
      exact hret _ _ dX1_badLength_15
    · refine fg_ic (v := nI 1) S dX1_badLength_10 (by decide) ?_
      refine fg_goto S 15 dX1_badLength_11 (by decide) ?_
      refine fg_topn (b := (decide (¬ (0 ≤ x.toInt ∧ x.toInt ≤ 9))).toNat) (by rw [decide_eq_true (by omega)]; rfl) ?_
      exact hret _ _ dX1_badLength_15
set_option maxHeartbeats 4000000 in
set_option maxRecDepth 100000 in
/-- badCode -/
theorem met_X1_badCode {l : Launch} {D : va_G} {ck : Nat → ClassId} {bd : Nat → Nat} {ba : Nat → Bool} {nw lt : Nat → Nat} {hd : Nat} (n : Nat) (y : Int32) (hn : n ≤ 9) : Met l yX1_badCode (ws_ yX1_badCode cX1_badCode 3 (some .boolean)) (rmL 1) (roP D (tysX ck) (MW bd ck ba nw lt hd) [.ref (bd 0), .int (nI n), .int y]) (roQ (.int (nI (decide (y.toInt < 0 ∨ (p3 n : Int) ≤ y.toInt)).toNat))) 0 0 (fun _ => False) := by
  refine ro_z (lv0 := [(0, .ref (bd 0)), (1, .int (nI n)), (2, .int y)]) (by decide) (Nat.le_of_ble_eq_true rfl) rfl (fun X B hret => ?_)
  obtain ⟨S, hN, hRm, rfl, rfl⟩ := B
  have S : fwC X cX1_badCode RX1 (tysX ck) := S
  have hp := p3_le9 hn
  refine fg_iload_n S 2 2 dX1_badCode_0 rfl rfl ?_
  refine fg_ifZ_lt S 13 dX1_badCode_1 (by decide) rfl (fun h_1 => ?_) (fun h_1 => ?_)
  · refine fg_ic (v := nI 1) S dX1_badCode_13 (by decide) ?_
    refine fg_goto S 18 dX1_badCode_14 (by decide) ?_
    refine fg_topn (b := (decide (y.toInt < 0 ∨ (p3 n : Int) ≤ y.toInt)).toNat) (by rw [decide_eq_true (by omega)]; rfl) ?_
    exact hret _ _ dX1_badCode_18
  · refine fg_iload_n S 2 2 dX1_badCode_4 rfl rfl ?_
    refine fg_aload_n S 0 0 dX1_badCode_5 rfl rfl ?_
    refine fg_iload_n S 1 1 dX1_badCode_6 rfl rfl ?_
    refine cm_ro S hRm 1 (met_X1_power n (by omega)) rfl q235 q237 qs13 q23 q238 ok_X1_power (by decide) rfl rfl (Nat.le_of_ble_eq_true rfl) dX1_badCode_7 ?_
    refine fg_icmpZ_lt S 17 dX1_badCode_10 (by decide) rfl (nI_toInt (by omega)) (fun h_2 => ?_) (fun h_2 => ?_)
    · refine fg_ic (v := nI 0) S dX1_badCode_17 (by decide) ?_
      refine fg_topn (b := (decide (y.toInt < 0 ∨ (p3 n : Int) ≤ y.toInt)).toNat) (by rw [decide_eq_false (by omega)]; rfl) ?_
      exact hret _ _ dX1_badCode_18
    · refine fg_ic (v := nI 1) S dX1_badCode_13 (by decide) ?_
      refine fg_goto S 18 dX1_badCode_14 (by decide) ?_
      refine fg_topn (b := (decide (y.toInt < 0 ∨ (p3 n : Int) ≤ y.toInt)).toNat) (by rw [decide_eq_true (by omega)]; rfl) ?_
      exact hret _ _ dX1_badCode_18
set_option maxHeartbeats 4000000 in
set_option maxRecDepth 100000 in
/-- good -/
theorem met_X1_good {l : Launch} {D : va_G} {ck : Nat → ClassId} {bd : Nat → Nat} {ba : Nat → Bool} {nw lt : Nat → Nat} {hd : Nat} (n c : Nat) (hn : n ≤ 10) (hc : c < 2 ^ 31) : Met l yX1_good (ws_ yX1_good cX1_good 5 (some .boolean)) (rmL 0) (roP D (tysX ck) (MW bd ck ba nw lt hd) [.ref (bd 0), .int (nI n), .int (nI c)]) (roQ (.int (nI (goodF ba n c).toNat))) 0 0 (fun _ => False) := by
  refine ro_z (lv0 := [(0, .ref (bd 0)), (1, .int (nI n)), (2, .int (nI c))]) (by decide) (Nat.le_of_ble_eq_true rfl) rfl (fun X B hret => ?_)
  obtain ⟨S, hN, hRm, rfl, rfl⟩ := B
  have S : fwC X cX1_good RX1 (tysX ck) := S
  refine fg_iload_n S 2 2 dX1_good_0 rfl rfl ?_
  refine fg_istore_n (lv' := [(0, .ref (bd 0)), (1, .int (nI n)), (2, .int (nI c)), (3, .int (nI c))]) S [1, 2, 3, 0] dX1_good_1 rfl hN (by decide) rfl ?_
  refine fg_iload_n S 1 1 dX1_good_2 rfl rfl ?_
  refine fg_istore (lv' := [(0, .ref (bd 0)), (1, .int (nI n)), (2, .int (nI c)), (3, .int (nI c)), (4, .int (nI n))]) S [1, 2, 3, 4, 0] dX1_good_3 hN (by decide) rfl ?_
  have lp : ∀ (fuel : Nat) (q : Nat) (left : Nat), (q < 2 ^ 31) → (left ≤ 10) → (goodF ba left q = goodF ba n c) → (left) < fuel → fwG X (MW bd ck ba nw lt hd) 5 [(0, .ref (bd 0)), (1, .int (nI n)), (2, .int (nI c)), (3, .int (nI q)), (4, .int (nI left))] [] := by
    intro fuel
    induction fuel with
    | zero => intro q left hq hl he hfu; exact absurd hfu (Nat.not_lt_zero _)
    | succ fuel ih_lp =>
      intro q left hq hl he hfu
      refine fg_iload S 4 dX1_good_5 rfl ?_
      refine fg_if_le S 104 dX1_good_7 (by decide) (by omega) (fun h_1 => ?_) (fun h_1 => ?_)
      · refine fg_ic (v := nI 1) S dX1_good_104 (by decide) ?_
        refine fg_topn (b := (goodF ba n c).toNat) (by rw [← he, show left = 0 by omega]; rfl) ?_
        exact hret _ _ dX1_good_105
      · obtain ⟨j, rfl⟩ : ∃ j, left = j + 1 := ⟨left - 1, by omega⟩
        have k94 : (ba (3 + q % 3) = false) → (1 < j + 1 → ba (9 + q % 9) = false) → (2 < j + 1 → ba (27 + q % 27) = false) → (3 < j + 1 → ba (81 + q % 81) = false) → fwG X (MW bd ck ba nw lt hd) 94 [(0, .ref (bd 0)), (1, .int (nI n)), (2, .int (nI c)), (3, .int (nI q)), (4, .int (nI (j + 1)))] [] := by
          intro g1 g2 g3 g4
          refine fg_iload_n S 3 3 dX1_good_94 rfl rfl ?_
          refine fg_ic (v := nI 3) S dX1_good_95 (by decide) ?_
          refine fg_idiv S dX1_good_96 (by omega) (by omega) (by omega) ?_
          refine fg_istore_n (lv' := [(0, .ref (bd 0)), (1, .int (nI n)), (2, .int (nI c)), (3, .int (nI (q / 3))), (4, .int (nI (j + 1)))]) S [1, 2, 3, 0, 4] dX1_good_97 rfl hN (by decide) rfl ?_
          refine fg_iinc (lv' := [(0, .ref (bd 0)), (1, .int (nI n)), (2, .int (nI c)), (3, .int (nI (q / 3))), (4, .int (nI j))]) S 4 [1, 2, 3, 4, 0] dX1_good_98 rfl (dec_n rfl) hN (by decide) rfl ?_
          refine fg_goto S 5 dX1_good_101 (by decide) ?_
          exact ih_lp (q / 3) j (by omega) (by omega) (by rw [← he, goodF_n (endF_f g1 g2 g3 g4)]) (by omega)
        have k71 : (ba (3 + q % 3) = false) → (1 < j + 1 → ba (9 + q % 9) = false) → (2 < j + 1 → ba (27 + q % 27) = false) → fwG X (MW bd ck ba nw lt hd) 71 [(0, .ref (bd 0)), (1, .int (nI n)), (2, .int (nI c)), (3, .int (nI q)), (4, .int (nI (j + 1)))] [] := by
          intro g1 g2 g3
          refine fg_iload S 4 dX1_good_71 rfl ?_
          refine fg_ic (v := nI 3) S dX1_good_73 (by decide) ?_
          refine fg_icmp_le S 94 dX1_good_74 (by decide) (by omega) (by omega) (fun h_2 => ?_) (fun h_2 => ?_)
          · exact k94 g1 g2 g3 (fun w => absurd w (by omega))
          · refine fg_aload_n S 0 0 dX1_good_77 rfl rfl ?_
            refine mg_ba S dX1_good_78 ?_
            refine fg_bi (v := nI 81) S dX1_good_81 (by decide) ?_
            refine fg_iload_n S 3 3 dX1_good_83 rfl rfl ?_
            refine fg_bi (v := nI 81) S dX1_good_84 (by decide) ?_
            refine fg_irem S dX1_good_86 (by omega) (by omega) (by omega) ?_
            refine fg_iadd S dX1_good_87 ?_
            refine ml_ba S dX1_good_88 (by omega) ?_
            refine fg_if_eq S 94 dX1_good_89 (by decide) dec_lt (fun h_3 => ?_) (fun h_3 => ?_)
            · exact k94 g1 g2 g3 (fun _ => tn_0 h_3)
            · refine fg_ic (v := nI 0) S dX1_good_92 (by decide) ?_
              refine fg_topn (b := (goodF ba n c).toNat) (by rw [← he, goodF_t (endF_t (Or.inr (Or.inr (Or.inr ⟨by omega, tn_1 h_3⟩))))]; rfl) ?_
              exact hret _ _ dX1_good_93
        have k48 : (ba (3 + q % 3) = false) → (1 < j + 1 → ba (9 + q % 9) = false) → fwG X (MW bd ck ba nw lt hd) 48 [(0, .ref (bd 0)), (1, .int (nI n)), (2, .int (nI c)), (3, .int (nI q)), (4, .int (nI (j + 1)))] [] := by
          intro g1 g2
          refine fg_iload S 4 dX1_good_48 rfl ?_
          refine fg_ic (v := nI 2) S dX1_good_50 (by decide) ?_
          refine fg_icmp_le S 71 dX1_good_51 (by decide) (by omega) (by omega) (fun h_4 => ?_) (fun h_4 => ?_)
          · exact k71 g1 g2 (fun w => absurd w (by omega))
          · refine fg_aload_n S 0 0 dX1_good_54 rfl rfl ?_
            refine mg_ba S dX1_good_55 ?_
            refine fg_bi (v := nI 27) S dX1_good_58 (by decide) ?_
            refine fg_iload_n S 3 3 dX1_good_60 rfl rfl ?_
            refine fg_bi (v := nI 27) S dX1_good_61 (by decide) ?_
            refine fg_irem S dX1_good_63 (by omega) (by omega) (by omega) ?_
            refine fg_iadd S dX1_good_64 ?_
            refine ml_ba S dX1_good_65 (by omega) ?_
            refine fg_if_eq S 71 dX1_good_66 (by decide) dec_lt (fun h_5 => ?_) (fun h_5 => ?_)
            · exact k71 g1 g2 (fun _ => tn_0 h_5)
            · refine fg_ic (v := nI 0) S dX1_good_69 (by decide) ?_
              refine fg_topn (b := (goodF ba n c).toNat) (by rw [← he, goodF_t (endF_t (Or.inr (Or.inr (Or.inl ⟨by omega, tn_1 h_5⟩))))]; rfl) ?_
              exact hret _ _ dX1_good_70
        have k25 : (ba (3 + q % 3) = false) → fwG X (MW bd ck ba nw lt hd) 25 [(0, .ref (bd 0)), (1, .int (nI n)), (2, .int (nI c)), (3, .int (nI q)), (4, .int (nI (j + 1)))] [] := by
          intro g1
          refine fg_iload S 4 dX1_good_25 rfl ?_
          refine fg_ic (v := nI 1) S dX1_good_27 (by decide) ?_
          refine fg_icmp_le S 48 dX1_good_28 (by decide) (by omega) (by omega) (fun h_6 => ?_) (fun h_6 => ?_)
          · exact k48 g1 (fun w => absurd w (by omega))
          · refine fg_aload_n S 0 0 dX1_good_31 rfl rfl ?_
            refine mg_ba S dX1_good_32 ?_
            refine fg_bi (v := nI 9) S dX1_good_35 (by decide) ?_
            refine fg_iload_n S 3 3 dX1_good_37 rfl rfl ?_
            refine fg_bi (v := nI 9) S dX1_good_38 (by decide) ?_
            refine fg_irem S dX1_good_40 (by omega) (by omega) (by omega) ?_
            refine fg_iadd S dX1_good_41 ?_
            refine ml_ba S dX1_good_42 (by omega) ?_
            refine fg_if_eq S 48 dX1_good_43 (by decide) dec_lt (fun h_7 => ?_) (fun h_7 => ?_)
            · exact k48 g1 (fun _ => tn_0 h_7)
            · refine fg_ic (v := nI 0) S dX1_good_46 (by decide) ?_
              refine fg_topn (b := (goodF ba n c).toNat) (by rw [← he, goodF_t (endF_t (Or.inr (Or.inl ⟨by omega, tn_1 h_7⟩)))]; rfl) ?_
              exact hret _ _ dX1_good_47
        refine fg_aload_n S 0 0 dX1_good_10 rfl rfl ?_
        refine mg_ba S dX1_good_11 ?_
        refine fg_ic (v := nI 3) S dX1_good_14 (by decide) ?_
        refine fg_iload_n S 3 3 dX1_good_15 rfl rfl ?_
        refine fg_ic (v := nI 3) S dX1_good_16 (by decide) ?_
        refine fg_irem S dX1_good_17 (by omega) (by omega) (by omega) ?_
        refine fg_iadd S dX1_good_18 ?_
        refine ml_ba S dX1_good_19 (by omega) ?_
        refine fg_if_eq S 25 dX1_good_20 (by decide) dec_lt (fun h_8 => ?_) (fun h_8 => ?_)
        · exact k25 (tn_0 h_8)
        · refine fg_ic (v := nI 0) S dX1_good_23 (by decide) ?_
          refine fg_topn (b := (goodF ba n c).toNat) (by rw [← he, goodF_t (endF_t (Or.inl (tn_1 h_8)))]; rfl) ?_
          exact hret _ _ dX1_good_24
  exact lp (n + 1) c n hc hn rfl (Nat.lt_succ_self _)
set_option maxHeartbeats 4000000 in
set_option maxRecDepth 100000 in
/-- plainCount -/
theorem met_X1_plainCount {l : Launch} {D : va_G} {ck : Nat → ClassId} {bd : Nat → Nat} {ba : Nat → Bool} {nw lt : Nat → Nat} {hd : Nat} (n : Nat) (hn : n ≤ 9) : Met l yX1_plainCount (ws_ yX1_plainCount cX1_plainCount 5 (some .int)) (rmL 1) (roP D (tysX ck) (MW bd ck ba nw lt hd) [.ref (bd 0), .int (nI n)]) (roQ (.int (nI (cnt (goodF ba n) (p3 n))))) 0 0 (fun _ => False) := by
  refine ro_i (lv0 := [(0, .ref (bd 0)), (1, .int (nI n))]) (by decide) (Nat.le_of_ble_eq_true rfl) rfl (fun X B hret => ?_)
  obtain ⟨S, hN, hRm, rfl, rfl⟩ := B
  have S : fwC X cX1_plainCount RX1 (tysX ck) := S
  have hp := p3_le9 hn
  refine fg_aload_n S 0 0 dX1_plainCount_0 rfl rfl ?_
  refine fg_iload_n S 1 1 dX1_plainCount_1 rfl rfl ?_
  refine cm_ro S hRm 1 (met_X1_power n (by omega)) rfl q235 q237 qs13 q23 q238 ok_X1_power (by decide) rfl rfl (Nat.le_of_ble_eq_true rfl) dX1_plainCount_2 ?_
  refine fg_istore_n (lv' := [(0, .ref (bd 0)), (1, .int (nI n)), (2, .int (nI (p3 n)))]) S [1, 2, 0] dX1_plainCount_5 rfl hN (by decide) rfl ?_
  refine fg_ic (v := nI 0) S dX1_plainCount_6 (by decide) ?_
  refine fg_istore_n (lv' := [(0, .ref (bd 0)), (1, .int (nI n)), (2, .int (nI (p3 n))), (3, .int (nI 0))]) S [1, 2, 3, 0] dX1_plainCount_7 rfl hN (by decide) rfl ?_
  refine fg_ic (v := nI 0) S dX1_plainCount_8 (by decide) ?_
  refine fg_istore (lv' := [(0, .ref (bd 0)), (1, .int (nI n)), (2, .int (nI (p3 n))), (3, .int (nI 0)), (4, .int (nI 0))]) S [1, 2, 3, 4, 0] dX1_plainCount_9 hN (by decide) rfl ?_
  have lp : ∀ (fuel : Nat) (c : Nat) (f : Nat), (c ≤ p3 n) → (f = cnt (goodF ba n) c) → (p3 n - c) < fuel → fwG X (MW bd ck ba nw lt hd) 11 [(0, .ref (bd 0)), (1, .int (nI n)), (2, .int (nI (p3 n))), (3, .int (nI f)), (4, .int (nI c))] [] := by
    intro fuel
    induction fuel with
    | zero => intro c f hc hf hfu; exact absurd hfu (Nat.not_lt_zero _)
    | succ fuel ih_lp =>
      intro c f hc hf hfu
      refine fg_iload S 4 dX1_plainCount_11 rfl ?_
      refine fg_iload_n S 2 2 dX1_plainCount_13 rfl rfl ?_
      refine fg_icmp_ge S 36 dX1_plainCount_14 (by decide) (by omega) (by omega) (fun h_1 => ?_) (fun h_1 => ?_)
      · refine fg_iload_n S 3 3 dX1_plainCount_36 rfl rfl ?_
        refine fg_topn (b := cnt (goodF ba n) (p3 n)) (by rw [hf, show c = p3 n by omega]) ?_
        exact hret _ _ dX1_plainCount_37
      · refine fg_aload_n S 0 0 dX1_plainCount_17 rfl rfl ?_
        refine fg_iload_n S 1 1 dX1_plainCount_18 rfl rfl ?_
        refine fg_iload S 4 dX1_plainCount_19 rfl ?_
        refine cm_ro S hRm 2 (met_X1_good n c (by omega) (by omega)) rfl q239 q241 qs14 q23 q242 ok_X1_good (by decide) rfl rfl (Nat.le_of_ble_eq_true rfl) dX1_plainCount_21 ?_
        refine fg_if_eq S 30 dX1_plainCount_24 (by decide) dec_lt (fun h_2 => ?_) (fun h_2 => ?_)
        · refine fg_iinc (lv' := [(0, .ref (bd 0)), (1, .int (nI n)), (2, .int (nI (p3 n))), (3, .int (nI f)), (4, .int (nI (c + 1)))]) S 4 [1, 2, 3, 4, 0] dX1_plainCount_30 rfl (inc_1 _) hN (by decide) rfl ?_
          refine fg_goto S 11 dX1_plainCount_33 (by decide) ?_
          exact ih_lp (c + 1) f (by omega) (by rw [cnt_s, tn_0 h_2, hf]; rfl) (by omega)
        · refine fg_iinc (lv' := [(0, .ref (bd 0)), (1, .int (nI n)), (2, .int (nI (p3 n))), (3, .int (nI (f + 1))), (4, .int (nI c))]) S 3 [1, 2, 3, 0, 4] dX1_plainCount_27 rfl (inc_1 _) hN (by decide) rfl ?_
          refine fg_iinc (lv' := [(0, .ref (bd 0)), (1, .int (nI n)), (2, .int (nI (p3 n))), (3, .int (nI (f + 1))), (4, .int (nI (c + 1)))]) S 4 [1, 2, 3, 4, 0] dX1_plainCount_30 rfl (inc_1 _) hN (by decide) rfl ?_
          refine fg_goto S 11 dX1_plainCount_33 (by decide) ?_
          exact ih_lp (c + 1) (f + 1) (by omega) (by rw [cnt_s, tn_1 h_2, hf]; rfl) (by omega)
  exact lp ((p3 n - 0) + 1) 0 0 (Nat.zero_le _) rfl (Nat.lt_succ_self _)
set_option maxHeartbeats 4000000 in
set_option maxRecDepth 100000 in
/-- grow -/
theorem met_X1_grow {l : Launch} {D : va_G} {ck : Nat → ClassId} {bd : Nat → Nat} {ba : Nat → Bool} {nw lt : Nat → Nat} {hd : Nat}  (sz : Nat) : Met l yX1_grow (ws_ yX1_grow cX1_grow 3 none) (rmL 1) (muP D (tysX ck) (MW bd ck ba nw lt hd) [.ref (bd 0)] sz) (muQ D (fun v w => v = none ∧ ∃ n9 l9, w = MW bd ck ba n9 l9 hd ∧ ∀ x, x < 27 → n9 x = grF ba nw x) (va_A (MW bd ck ba nw lt hd) sz)) 0 0 (va_A (MW bd ck ba nw lt hd) sz) := by
  refine mu_v (lv0 := [(0, .ref (bd 0))]) (by decide) (Nat.le_of_ble_eq_true rfl) rfl (fun X B M hret => ?_) sz
  obtain ⟨S, hN, hRm, rfl, rfl⟩ := B
  have S : fwC X cX1_grow RX1 (tysX ck) := S
  refine fg_ic (v := nI 0) S dX1_grow_0 (by decide) ?_
  refine fg_istore_n (lv' := [(0, .ref (bd 0)), (1, .int (nI 0))]) S [1, 0] dX1_grow_1 rfl hN (by decide) rfl ?_
  have lA : ∀ (fuel : Nat) (i : Nat) (l1 : Nat → Nat), (i ≤ 27) → (∀ x, x < i → l1 x = 0) → (27 - i) < fuel → fwG X (MW bd ck ba nw l1 hd) 2 [(0, .ref (bd 0)), (1, .int (nI i))] [] := by
    intro fuel
    induction fuel with
    | zero => intro i l1 hi hA hfu; exact absurd hfu (Nat.not_lt_zero _)
    | succ fuel ih_lA =>
      intro i l1 hi hA hfu
      refine fg_iload_n S 1 1 dX1_grow_2 rfl rfl ?_
      refine fg_bi (v := nI 27) S dX1_grow_3 (by decide) ?_
      refine fg_icmp_ge S 21 dX1_grow_5 (by decide) (by omega) (by omega) (fun h_1 => ?_) (fun h_1 => ?_)
      · refine fg_ic (v := nI 0) S dX1_grow_21 (by decide) ?_
        refine fg_istore_n (lv' := [(0, .ref (bd 0)), (1, .int (nI 0))]) S [1, 0] dX1_grow_22 rfl hN (by decide) rfl ?_
        have lB : ∀ (fuel : Nat) (k : Nat) (l2 : Nat → Nat), (k ≤ 27) → (∀ x, x < 27 → l2 x = sumF (fun k => sumF (fun a => grT ba nw x k a) 3) k) → (27 - k) < fuel → fwG X (MW bd ck ba nw l2 hd) 23 [(0, .ref (bd 0)), (1, .int (nI k))] [] := by
          intro fuel
          induction fuel with
          | zero => intro k l2 hk hB hfu; exact absurd hfu (Nat.not_lt_zero _)
          | succ fuel ih_lB =>
            intro k l2 hk hB hfu
            refine fg_iload_n S 1 1 dX1_grow_23 rfl rfl ?_
            refine fg_bi (v := nI 27) S dX1_grow_24 (by decide) ?_
            refine fg_icmp_ge S 83 dX1_grow_26 (by decide) (by omega) (by omega) (fun h_2 => ?_) (fun h_2 => ?_)
            · have hB2 : ∀ x, x < 27 → l2 x = grF ba nw x := fun x hx => by rw [hB x hx, show k = 27 by omega]; rfl
              refine fg_ic (v := nI 0) S dX1_grow_83 (by decide) ?_
              refine fg_istore_n (lv' := [(0, .ref (bd 0)), (1, .int (nI 0))]) S [1, 0] dX1_grow_84 rfl hN (by decide) rfl ?_
              have lD : ∀ (fuel : Nat) (j : Nat) (n4 : Nat → Nat), (j ≤ 27) → (∀ x, x < j → n4 x = l2 x) → (27 - j) < fuel → fwG X (MW bd ck ba n4 l2 hd) 85 [(0, .ref (bd 0)), (1, .int (nI j))] [] := by
                intro fuel
                induction fuel with
                | zero => intro j n4 hj hD hfu; exact absurd hfu (Nat.not_lt_zero _)
                | succ fuel ih_lD =>
                  intro j n4 hj hD hfu
                  refine fg_iload_n S 1 1 dX1_grow_85 rfl rfl ?_
                  refine fg_bi (v := nI 27) S dX1_grow_86 (by decide) ?_
                  refine fg_icmp_ge S 109 dX1_grow_88 (by decide) (by omega) (by omega) (fun h_3 => ?_) (fun h_3 => ?_)
                  · exact hret _ _ _ dX1_grow_109 ⟨rfl, n4, l2, rfl, fun x hx => by rw [hD x (by omega)]; exact hB2 x hx⟩
                  · refine fg_aload_n S 0 0 dX1_grow_91 rfl rfl ?_
                    refine mg_nw S dX1_grow_92 ?_
                    refine fg_iload_n S 1 1 dX1_grow_95 rfl rfl ?_
                    refine fg_aload_n S 0 0 dX1_grow_96 rfl rfl ?_
                    refine mg_lt S dX1_grow_97 ?_
                    refine fg_iload_n S 1 1 dX1_grow_100 rfl rfl ?_
                    refine ml_lt S dX1_grow_101 (by omega) ?_
                    refine ms_nw S M dX1_grow_102 (by omega) ?_
                    refine fg_iinc (lv' := [(0, .ref (bd 0)), (1, .int (nI (j + 1)))]) S 1 [1, 0] dX1_grow_103 rfl (inc_1 _) hN (by decide) rfl ?_
                    refine fg_goto S 85 dX1_grow_106 (by decide) ?_
                    exact ih_lD (j + 1) (va_up n4 j (l2 j)) (by omega) (fun x hx => by by_cases q : x = j; (subst q; exact up_eq); (rw [up_ne q]; exact hD x (by omega))) (by omega)
              exact lD ((27 - 0) + 1) 0 nw (Nat.zero_le _) (fun x hx => absurd hx (by omega)) (Nat.lt_succ_self _)
            · refine fg_ic (v := nI 0) S dX1_grow_29 (by decide) ?_
              refine fg_istore_n (lv' := [(0, .ref (bd 0)), (1, .int (nI k)), (2, .int (nI 0))]) S [1, 2, 0] dX1_grow_30 rfl hN (by decide) rfl ?_
              have lC : ∀ (fuel : Nat) (c : Nat) (l3 : Nat → Nat), (c ≤ 3) → (∀ x, x < 27 → l3 x = sumF (fun k => sumF (fun a => grT ba nw x k a) 3) k + sumF (fun a => grT ba nw x k a) c) → (3 - c) < fuel → fwG X (MW bd ck ba nw l3 hd) 31 [(0, .ref (bd 0)), (1, .int (nI k)), (2, .int (nI c))] [] := by
                intro fuel
                induction fuel with
                | zero => intro c l3 hc hC hfu; exact absurd hfu (Nat.not_lt_zero _)
                | succ fuel ih_lC =>
                  intro c l3 hc hC hfu
                  refine fg_iload_n S 2 2 dX1_grow_31 rfl rfl ?_
                  refine fg_ic (v := nI 3) S dX1_grow_32 (by decide) ?_
                  refine fg_icmp_ge S 77 dX1_grow_33 (by decide) (by omega) (by omega) (fun h_4 => ?_) (fun h_4 => ?_)
                  · refine fg_iinc (lv' := [(0, .ref (bd 0)), (1, .int (nI (k + 1))), (2, .int (nI c))]) S 1 [1, 0, 2] dX1_grow_77 rfl (inc_1 _) hN (by decide) rfl ?_
                    refine fg_goto S 23 dX1_grow_80 (by decide) ?_
                    refine fg_perm (lv' := [(0, .ref (bd 0)), (1, .int (nI (k + 1)))]) [0, 1] rfl ?_
                    exact ih_lB (k + 1) l3 (by omega) (fun x hx => by rw [hC x hx, show c = 3 by omega]; rfl) (by omega)
                  · refine fg_aload_n S 0 0 dX1_grow_36 rfl rfl ?_
                    refine fg_ic (v := nI 4) S dX1_grow_37 (by decide) ?_
                    refine fg_ic (v := nI 3) S dX1_grow_38 (by decide) ?_
                    refine fg_iload_n S 1 1 dX1_grow_39 rfl rfl ?_
                    refine fg_imul S dX1_grow_40 ?_
                    refine fg_iload_n S 2 2 dX1_grow_41 rfl rfl ?_
                    refine fg_iadd S dX1_grow_42 ?_
                    refine cm_ro S hRm 2 (met_X1_good 4 ((3 * k) + c) (by omega) (by omega)) rfl q239 q241 qs14 q23 q242 ok_X1_good (by decide) rfl rfl (Nat.le_of_ble_eq_true rfl) dX1_grow_43 ?_
                    refine fg_if_eq S 71 dX1_grow_46 (by decide) dec_lt (fun h_5 => ?_) (fun h_5 => ?_)
                    · refine fg_iinc (lv' := [(0, .ref (bd 0)), (1, .int (nI k)), (2, .int (nI (c + 1)))]) S 2 [1, 2, 0] dX1_grow_71 rfl (inc_1 _) hN (by decide) rfl ?_
                      refine fg_goto S 31 dX1_grow_74 (by decide) ?_
                      exact ih_lC (c + 1) l3 (by omega) (fun x hx => by rw [hC x hx]; show _ = _ + (sumF _ c + grT ba nw x k c); rw [show grT ba nw x k c = 0 from if_neg (fun q => by rw [tn_0 h_5] at q; exact absurd q.1 (by decide))]; rfl) (by omega)
                    · refine fg_aload_n S 0 0 dX1_grow_49 rfl rfl ?_
                      refine mg_lt S dX1_grow_50 ?_
                      refine fg_ic (v := nI 3) S dX1_grow_53 (by decide) ?_
                      refine fg_iload_n S 1 1 dX1_grow_54 rfl rfl ?_
                      refine fg_imul S dX1_grow_55 ?_
                      refine fg_iload_n S 2 2 dX1_grow_56 rfl rfl ?_
                      refine fg_iadd S dX1_grow_57 ?_
                      refine fg_bi (v := nI 27) S dX1_grow_58 (by decide) ?_
                      refine fg_irem S dX1_grow_60 (by omega) (by omega) (by omega) ?_
                      refine fg_dup2 S dX1_grow_61 rfl rfl ?_
                      refine ml_lt S dX1_grow_62 (by omega) ?_
                      refine fg_aload_n S 0 0 dX1_grow_63 rfl rfl ?_
                      refine mg_nw S dX1_grow_64 ?_
                      refine fg_iload_n S 1 1 dX1_grow_67 rfl rfl ?_
                      refine ml_nw S dX1_grow_68 (by omega) ?_
                      refine fg_ladd S dX1_grow_69 ?_
                      refine ms_lt S M dX1_grow_70 (by omega) ?_
                      refine fg_iinc (lv' := [(0, .ref (bd 0)), (1, .int (nI k)), (2, .int (nI (c + 1)))]) S 2 [1, 2, 0] dX1_grow_71 rfl (inc_1 _) hN (by decide) rfl ?_
                      refine fg_goto S 31 dX1_grow_74 (by decide) ?_
                      exact ih_lC (c + 1) (va_up l3 ((3 * k + c) % 27) (l3 ((3 * k + c) % 27) + nw k)) (by omega) (fun x hx => by show _ = _ + (sumF _ c + grT ba nw x k c); by_cases q : x = (3 * k + c) % 27; (subst q; rw [up_eq, hC _ hx, show grT ba nw _ k c = nw k from if_pos ⟨tn_1 h_5, rfl⟩, Nat.add_assoc]); (rw [up_ne q, hC x hx, show grT ba nw x k c = 0 from if_neg (fun w => q w.2.symm)]; rfl)) (by omega)
              exact lC ((3 - 0) + 1) 0 l2 (Nat.zero_le _) (fun x hx => hB x hx) (Nat.lt_succ_self _)
        exact lB ((27 - 0) + 1) 0 l1 (Nat.zero_le _) (fun x hx => hA x (by omega)) (Nat.lt_succ_self _)
      · refine fg_aload_n S 0 0 dX1_grow_8 rfl rfl ?_
        refine mg_lt S dX1_grow_9 ?_
        refine fg_iload_n S 1 1 dX1_grow_12 rfl rfl ?_
        refine fg_lc (v := lN 0) S dX1_grow_13 (by decide) ?_
        refine ms_lt S M dX1_grow_14 (by omega) ?_
        refine fg_iinc (lv' := [(0, .ref (bd 0)), (1, .int (nI (i + 1)))]) S 1 [1, 0] dX1_grow_15 rfl (inc_1 _) hN (by decide) rfl ?_
        refine fg_goto S 2 dX1_grow_18 (by decide) ?_
        exact ih_lA (i + 1) (va_up l1 i 0) (by omega) (fun x hx => by by_cases q : x = i; (subst q; exact up_eq); (rw [up_ne q]; exact hA x (by omega))) (by omega)
  exact lA ((27 - 0) + 1) 0 lt (Nat.zero_le _) (fun x hx => absurd hx (by omega)) (Nat.lt_succ_self _)
set_option maxHeartbeats 4000000 in
set_option maxRecDepth 100000 in
/-- zeros -/
theorem met_X1_zeros {l : Launch} {D : va_G} {ck : Nat → ClassId} {bd : Nat → Nat} {ba : Nat → Bool} {nw lt : Nat → Nat} {hd : Nat} (n c : Nat) (hn : n ≤ 9) (hc : c < 2 ^ 31) : Met l yX1_zeros (ws_ yX1_zeros cX1_zeros 6 (some .int)) (rmL 0) (roP D (tysX ck) (MW bd ck ba nw lt hd) [.ref (bd 0), .int (nI n), .int (nI c)]) (roQ (.int (nI (zrF n c)))) 0 0 (fun _ => False) := by
  refine ro_i (lv0 := [(0, .ref (bd 0)), (1, .int (nI n)), (2, .int (nI c))]) (by decide) (Nat.le_of_ble_eq_true rfl) rfl (fun X B hret => ?_)
  obtain ⟨S, hN, hRm, rfl, rfl⟩ := B
  have S : fwC X cX1_zeros RX1 (tysX ck) := S
  refine fg_iload_n S 2 2 dX1_zeros_0 rfl rfl ?_
  refine fg_istore_n (lv' := [(0, .ref (bd 0)), (1, .int (nI n)), (2, .int (nI c)), (3, .int (nI c))]) S [1, 2, 3, 0] dX1_zeros_1 rfl hN (by decide) rfl ?_
  refine fg_ic (v := nI 0) S dX1_zeros_2 (by decide) ?_
  refine fg_istore (lv' := [(0, .ref (bd 0)), (1, .int (nI n)), (2, .int (nI c)), (3, .int (nI c)), (4, .int (nI 0))]) S [1, 2, 3, 4, 0] dX1_zeros_3 hN (by decide) rfl ?_
  refine fg_ic (v := nI 0) S dX1_zeros_5 (by decide) ?_
  refine fg_istore (lv' := [(0, .ref (bd 0)), (1, .int (nI n)), (2, .int (nI c)), (3, .int (nI c)), (4, .int (nI 0)), (5, .int (nI 0))]) S [1, 2, 3, 4, 5, 0] dX1_zeros_6 hN (by decide) rfl ?_
  have lp : ∀ (fuel : Nat) (q : Nat) (k : Nat) (i : Nat), (q < 2 ^ 31) → (i ≤ n) → (k + zrF (n - i) q = zrF n c) → (n - i) < fuel → fwG X (MW bd ck ba nw lt hd) 8 [(0, .ref (bd 0)), (1, .int (nI n)), (2, .int (nI c)), (3, .int (nI q)), (4, .int (nI k)), (5, .int (nI i))] [] := by
    intro fuel
    induction fuel with
    | zero => intro q k i hq hi he hfu; exact absurd hfu (Nat.not_lt_zero _)
    | succ fuel ih_lp =>
      intro q k i hq hi he hfu
      refine fg_iload S 5 dX1_zeros_8 rfl ?_
      refine fg_iload_n S 1 1 dX1_zeros_10 rfl rfl ?_
      refine fg_icmp_ge S 33 dX1_zeros_11 (by decide) (by omega) (by omega) (fun h_1 => ?_) (fun h_1 => ?_)
      · refine fg_iload S 4 dX1_zeros_33 rfl ?_
        refine fg_topn (b := zrF n c) (by rw [← he, show n - i = 0 by omega]; rfl) ?_
        exact hret _ _ dX1_zeros_35
      · obtain ⟨j, hj⟩ : ∃ j, n - i = j + 1 := ⟨n - i - 1, by omega⟩
        refine fg_iload_n S 3 3 dX1_zeros_14 rfl rfl ?_
        refine fg_ic (v := nI 3) S dX1_zeros_15 (by decide) ?_
        refine fg_irem S dX1_zeros_16 (by omega) (by omega) (by omega) ?_
        refine fg_if_ne S 23 dX1_zeros_17 (by decide) (by omega) (fun h_2 => ?_) (fun h_2 => ?_)
        · refine fg_iload_n S 3 3 dX1_zeros_23 rfl rfl ?_
          refine fg_ic (v := nI 3) S dX1_zeros_24 (by decide) ?_
          refine fg_idiv S dX1_zeros_25 (by omega) (by omega) (by omega) ?_
          refine fg_istore_n (lv' := [(0, .ref (bd 0)), (1, .int (nI n)), (2, .int (nI c)), (3, .int (nI (q / 3))), (4, .int (nI k)), (5, .int (nI i))]) S [1, 2, 3, 0, 4, 5] dX1_zeros_26 rfl hN (by decide) rfl ?_
          refine fg_iinc (lv' := [(0, .ref (bd 0)), (1, .int (nI n)), (2, .int (nI c)), (3, .int (nI (q / 3))), (4, .int (nI k)), (5, .int (nI (i + 1)))]) S 5 [1, 2, 3, 4, 5, 0] dX1_zeros_27 rfl (inc_1 _) hN (by decide) rfl ?_
          refine fg_goto S 8 dX1_zeros_30 (by decide) ?_
          exact ih_lp (q / 3) k (i + 1) (by omega) (by omega) (by rw [← he, hj, show n - (i + 1) = j by omega]; show _ = _ + (zc (q % 3) + zrF j (q / 3)); rw [show zc (q % 3) = 0 from if_neg h_2]; omega) (by omega)
        · refine fg_iinc (lv' := [(0, .ref (bd 0)), (1, .int (nI n)), (2, .int (nI c)), (3, .int (nI q)), (4, .int (nI (k + 1))), (5, .int (nI i))]) S 4 [1, 2, 3, 4, 0, 5] dX1_zeros_20 rfl (inc_1 _) hN (by decide) rfl ?_
          refine fg_iload_n S 3 3 dX1_zeros_23 rfl rfl ?_
          refine fg_ic (v := nI 3) S dX1_zeros_24 (by decide) ?_
          refine fg_idiv S dX1_zeros_25 (by omega) (by omega) (by omega) ?_
          refine fg_istore_n (lv' := [(0, .ref (bd 0)), (1, .int (nI n)), (2, .int (nI c)), (3, .int (nI (q / 3))), (4, .int (nI (k + 1))), (5, .int (nI i))]) S [1, 2, 3, 0, 4, 5] dX1_zeros_26 rfl hN (by decide) rfl ?_
          refine fg_iinc (lv' := [(0, .ref (bd 0)), (1, .int (nI n)), (2, .int (nI c)), (3, .int (nI (q / 3))), (4, .int (nI (k + 1))), (5, .int (nI (i + 1)))]) S 5 [1, 2, 3, 4, 5, 0] dX1_zeros_27 rfl (inc_1 _) hN (by decide) rfl ?_
          refine fg_goto S 8 dX1_zeros_30 (by decide) ?_
          exact ih_lp (q / 3) (k + 1) (i + 1) (by omega) (by omega) (by rw [← he, hj, show n - (i + 1) = j by omega]; show _ = _ + (zc (q % 3) + zrF j (q / 3)); rw [show zc (q % 3) = 1 from if_pos h_2]; omega) (by omega)
  exact lp ((n - 0) + 1) c 0 0 hc (Nat.zero_le _) (Nat.zero_add _) (Nat.lt_succ_self _)
set_option maxHeartbeats 4000000 in
set_option maxRecDepth 100000 in
/-- stands -/
theorem met_X1_stands {l : Launch} {D : va_G} {ck : Nat → ClassId} {bd : Nat → Nat} {ba : Nat → Bool} {nw lt : Nat → Nat} {hd : Nat} (lf q p k : Nat) (hl : lf ≤ 10) (hq : q < 2 ^ 31) (hk : 1 ≤ k ∧ k ≤ 4) (hp : p3 k ≤ p ∧ p < 2 * p3 k) : Met l yX1_stands (ws_ yX1_stands cX1_stands 6 (some .boolean)) (rmL 1) (roP D (tysX ck) (MW bd ck ba nw lt hd) [.ref (bd 0), .int (nI lf), .int (nI q), .int (nI p), .int (nI k)]) (roQ (.int (nI (stB lf q p k).toNat))) 0 0 (fun _ => False) := by
  refine ro_z (lv0 := [(0, .ref (bd 0)), (1, .int (nI lf)), (2, .int (nI q)), (3, .int (nI p)), (4, .int (nI k))]) (by decide) (Nat.le_of_ble_eq_true rfl) rfl (fun X B hret => ?_)
  obtain ⟨S, hN, hRm, rfl, rfl⟩ := B
  have S : fwC X cX1_stands RX1 (tysX ck) := S
  have h4 := p3_mono hk.2
  have e4 : p3 4 = 81 := rfl
  have h0 := p3_pos k
  have hm := Nat.mod_lt q h0
  refine fg_aload_n S 0 0 dX1_stands_0 rfl rfl ?_
  refine fg_iload S 4 dX1_stands_1 rfl ?_
  refine cm_ro S hRm 1 (met_X1_power k (by omega)) rfl q235 q237 qs13 q23 q238 ok_X1_power (by decide) rfl rfl (Nat.le_of_ble_eq_true rfl) dX1_stands_3 ?_
  refine fg_istore (lv' := [(0, .ref (bd 0)), (1, .int (nI lf)), (2, .int (nI q)), (3, .int (nI p)), (4, .int (nI k)), (5, .int (nI (p3 k)))]) S [1, 2, 3, 4, 5, 0] dX1_stands_6 hN (by decide) rfl ?_
  refine fg_iload_n S 1 1 dX1_stands_8 rfl rfl ?_
  refine fg_iload S 4 dX1_stands_9 rfl ?_
  refine fg_icmp_lt S 34 dX1_stands_11 (by decide) (by omega) (by omega) (fun h_1 => ?_) (fun h_1 => ?_)
  · refine fg_ic (v := nI 0) S dX1_stands_34 (by decide) ?_
    refine fg_topn (b := (stB lf q p k).toNat) (by unfold stB; rw [decide_eq_false (fun z => by omega)]; rfl) ?_
    exact hret _ _ dX1_stands_35
  · refine fg_iload S 5 dX1_stands_14 rfl ?_
    refine fg_if_le S 34 dX1_stands_16 (by decide) (by omega) (fun h_2 => ?_) (fun h_2 => ?_)
    · exact absurd h_2 (by omega)
    · refine fg_iload_n S 2 2 dX1_stands_19 rfl rfl ?_
      refine fg_iload S 5 dX1_stands_20 rfl ?_
      refine fg_irem S dX1_stands_22 (by omega) (by omega) (by omega) ?_
      refine fg_iload_n S 3 3 dX1_stands_23 rfl rfl ?_
      refine fg_iload S 5 dX1_stands_24 rfl ?_
      refine fg_isub S dX1_stands_26 (by omega) ?_
      refine fg_icmp_ne S 34 dX1_stands_27 (by decide) (by omega) (by omega) (fun h_3 => ?_) (fun h_3 => ?_)
      · refine fg_ic (v := nI 0) S dX1_stands_34 (by decide) ?_
        refine fg_topn (b := (stB lf q p k).toNat) (by unfold stB; rw [decide_eq_false (fun z => by omega)]; rfl) ?_
        exact hret _ _ dX1_stands_35
      · refine fg_ic (v := nI 1) S dX1_stands_30 (by decide) ?_
        refine fg_goto S 35 dX1_stands_31 (by decide) ?_
        refine fg_topn (b := (stB lf q p k).toNat) (by unfold stB; rw [decide_eq_true ⟨by omega, by omega⟩]; rfl) ?_
        exact hret _ _ dX1_stands_35
set_option maxHeartbeats 4000000 in
set_option maxRecDepth 100000 in
/-- places -/
theorem met_X1_places {l : Launch} {D : va_G} {ck : Nat → ClassId} {bd : Nat → Nat} {ba : Nat → Bool} {nw lt : Nat → Nat} {hd : Nat} (n c p k : Nat) (hn : n ≤ 10) (hc : c < 2 ^ 31) (hk : 1 ≤ k ∧ k ≤ 4) (hp : p3 k ≤ p ∧ p < 2 * p3 k) : Met l yX1_places (ws_ yX1_places cX1_places 8 (some .int)) (rmL 2) (roP D (tysX ck) (MW bd ck ba nw lt hd) [.ref (bd 0), .int (nI n), .int (nI c), .int (nI p), .int (nI k)]) (roQ (.int (nI (plF p k n c)))) 0 0 (fun _ => False) := by
  refine ro_i (lv0 := [(0, .ref (bd 0)), (1, .int (nI n)), (2, .int (nI c)), (3, .int (nI p)), (4, .int (nI k))]) (by decide) (Nat.le_of_ble_eq_true rfl) rfl (fun X B hret => ?_)
  obtain ⟨S, hN, hRm, rfl, rfl⟩ := B
  have S : fwC X cX1_places RX1 (tysX ck) := S
  refine fg_iload_n S 2 2 dX1_places_0 rfl rfl ?_
  refine fg_istore (lv' := [(0, .ref (bd 0)), (1, .int (nI n)), (2, .int (nI c)), (3, .int (nI p)), (4, .int (nI k)), (5, .int (nI c))]) S [1, 2, 3, 4, 5, 0] dX1_places_1 hN (by decide) rfl ?_
  refine fg_ic (v := nI 0) S dX1_places_3 (by decide) ?_
  refine fg_istore (lv' := [(0, .ref (bd 0)), (1, .int (nI n)), (2, .int (nI c)), (3, .int (nI p)), (4, .int (nI k)), (5, .int (nI c)), (6, .int (nI 0))]) S [1, 2, 3, 4, 5, 6, 0] dX1_places_4 hN (by decide) rfl ?_
  refine fg_iload_n S 1 1 dX1_places_6 rfl rfl ?_
  refine fg_istore (lv' := [(0, .ref (bd 0)), (1, .int (nI n)), (2, .int (nI c)), (3, .int (nI p)), (4, .int (nI k)), (5, .int (nI c)), (6, .int (nI 0)), (7, .int (nI n))]) S [1, 2, 3, 4, 5, 6, 7, 0] dX1_places_7 hN (by decide) rfl ?_
  have lp : ∀ (fuel : Nat) (q : Nat) (f : Nat) (left : Nat), (q < 2 ^ 31) → (left ≤ 10) → (f + plF p k left q = plF p k n c) → (left) < fuel → fwG X (MW bd ck ba nw lt hd) 9 [(0, .ref (bd 0)), (1, .int (nI n)), (2, .int (nI c)), (3, .int (nI p)), (4, .int (nI k)), (5, .int (nI q)), (6, .int (nI f)), (7, .int (nI left))] [] := by
    intro fuel
    induction fuel with
    | zero => intro q f left hq hl he hfu; exact absurd hfu (Nat.not_lt_zero _)
    | succ fuel ih_lp =>
      intro q f left hq hl he hfu
      refine fg_iload S 7 dX1_places_9 rfl ?_
      refine fg_if_le S 43 dX1_places_11 (by decide) (by omega) (fun h_1 => ?_) (fun h_1 => ?_)
      · refine fg_iload S 6 dX1_places_43 rfl ?_
        refine fg_topn (b := plF p k n c) (by rw [← he, show left = 0 by omega]; rfl) ?_
        exact hret _ _ dX1_places_45
      · obtain ⟨j, rfl⟩ : ∃ j, left = j + 1 := ⟨left - 1, by omega⟩
        refine fg_aload_n S 0 0 dX1_places_14 rfl rfl ?_
        refine fg_iload S 7 dX1_places_15 rfl ?_
        refine fg_iload S 5 dX1_places_17 rfl ?_
        refine fg_iload_n S 3 3 dX1_places_19 rfl rfl ?_
        refine fg_iload S 4 dX1_places_20 rfl ?_
        refine cm_ro S hRm 4 (met_X1_stands (j + 1) q p k (by omega) (by omega) hk hp) rfl q284 q286 qs18 q23 q287 ok_X1_stands (by decide) rfl rfl (Nat.le_of_ble_eq_true rfl) dX1_places_22 ?_
        refine fg_if_eq S 31 dX1_places_25 (by decide) dec_lt (fun h_2 => ?_) (fun h_2 => ?_)
        · refine fg_iload S 5 dX1_places_31 rfl ?_
          refine fg_ic (v := nI 3) S dX1_places_33 (by decide) ?_
          refine fg_idiv S dX1_places_34 (by omega) (by omega) (by omega) ?_
          refine fg_istore (lv' := [(0, .ref (bd 0)), (1, .int (nI n)), (2, .int (nI c)), (3, .int (nI p)), (4, .int (nI k)), (5, .int (nI (q / 3))), (6, .int (nI f)), (7, .int (nI (j + 1)))]) S [1, 2, 3, 4, 5, 0, 6, 7] dX1_places_35 hN (by decide) rfl ?_
          refine fg_iinc (lv' := [(0, .ref (bd 0)), (1, .int (nI n)), (2, .int (nI c)), (3, .int (nI p)), (4, .int (nI k)), (5, .int (nI (q / 3))), (6, .int (nI f)), (7, .int (nI j))]) S 7 [1, 2, 3, 4, 5, 6, 7, 0] dX1_places_37 rfl (dec_n rfl) hN (by decide) rfl ?_
          refine fg_goto S 9 dX1_places_40 (by decide) ?_
          exact ih_lp (q / 3) f j (by omega) (by omega) (by rw [← he]; show _ = _ + ((stB (j + 1) q p k).toNat + plF p k j (q / 3)); rw [tn_0 h_2]; show _ = f + (0 + _); omega) (by omega)
        · refine fg_iinc (lv' := [(0, .ref (bd 0)), (1, .int (nI n)), (2, .int (nI c)), (3, .int (nI p)), (4, .int (nI k)), (5, .int (nI q)), (6, .int (nI (f + 1))), (7, .int (nI (j + 1)))]) S 6 [1, 2, 3, 4, 5, 6, 0, 7] dX1_places_28 rfl (inc_1 _) hN (by decide) rfl ?_
          refine fg_iload S 5 dX1_places_31 rfl ?_
          refine fg_ic (v := nI 3) S dX1_places_33 (by decide) ?_
          refine fg_idiv S dX1_places_34 (by omega) (by omega) (by omega) ?_
          refine fg_istore (lv' := [(0, .ref (bd 0)), (1, .int (nI n)), (2, .int (nI c)), (3, .int (nI p)), (4, .int (nI k)), (5, .int (nI (q / 3))), (6, .int (nI (f + 1))), (7, .int (nI (j + 1)))]) S [1, 2, 3, 4, 5, 0, 6, 7] dX1_places_35 hN (by decide) rfl ?_
          refine fg_iinc (lv' := [(0, .ref (bd 0)), (1, .int (nI n)), (2, .int (nI c)), (3, .int (nI p)), (4, .int (nI k)), (5, .int (nI (q / 3))), (6, .int (nI (f + 1))), (7, .int (nI j))]) S 7 [1, 2, 3, 4, 5, 6, 7, 0] dX1_places_37 rfl (dec_n rfl) hN (by decide) rfl ?_
          refine fg_goto S 9 dX1_places_40 (by decide) ?_
          exact ih_lp (q / 3) (f + 1) j (by omega) (by omega) (by rw [← he]; show _ = _ + ((stB (j + 1) q p k).toNat + plF p k j (q / 3)); rw [tn_1 h_2]; show _ = f + (1 + _); omega) (by omega)
  exact lp (n + 1) c 0 n hc hn (Nat.zero_add _) (Nat.lt_succ_self _)
set_option maxHeartbeats 4000000 in
set_option maxRecDepth 100000 in
/-- backward -/
theorem met_X1_backward {l : Launch} {D : va_G} {ck : Nat → ClassId} {bd : Nat → Nat} {ba : Nat → Bool} {nw lt : Nat → Nat} {hd : Nat} (n c : Nat) (hn : n ≤ 9) (hc : c < 2 ^ 31) : Met l yX1_backward (ws_ yX1_backward cX1_backward 6 (some .int)) (rmL 0) (roP D (tysX ck) (MW bd ck ba nw lt hd) [.ref (bd 0), .int (nI n), .int (nI c)]) (roQ (.int (nI (rfF 0 c n)))) 0 0 (fun _ => False) := by
  refine ro_i (lv0 := [(0, .ref (bd 0)), (1, .int (nI n)), (2, .int (nI c))]) (by decide) (Nat.le_of_ble_eq_true rfl) rfl (fun X B hret => ?_)
  obtain ⟨S, hN, hRm, rfl, rfl⟩ := B
  have S : fwC X cX1_backward RX1 (tysX ck) := S
  refine fg_iload_n S 2 2 dX1_backward_0 rfl rfl ?_
  refine fg_istore_n (lv' := [(0, .ref (bd 0)), (1, .int (nI n)), (2, .int (nI c)), (3, .int (nI c))]) S [1, 2, 3, 0] dX1_backward_1 rfl hN (by decide) rfl ?_
  refine fg_ic (v := nI 0) S dX1_backward_2 (by decide) ?_
  refine fg_istore (lv' := [(0, .ref (bd 0)), (1, .int (nI n)), (2, .int (nI c)), (3, .int (nI c)), (4, .int (nI 0))]) S [1, 2, 3, 4, 0] dX1_backward_3 hN (by decide) rfl ?_
  refine fg_ic (v := nI 0) S dX1_backward_5 (by decide) ?_
  refine fg_istore (lv' := [(0, .ref (bd 0)), (1, .int (nI n)), (2, .int (nI c)), (3, .int (nI c)), (4, .int (nI 0)), (5, .int (nI 0))]) S [1, 2, 3, 4, 5, 0] dX1_backward_6 hN (by decide) rfl ?_
  have lp : ∀ (fuel : Nat) (q : Nat) (w : Nat) (i : Nat), (q < 2 ^ 31) → (i ≤ n) → (rfF w q (n - i) = rfF 0 c n) → (n - i) < fuel → fwG X (MW bd ck ba nw lt hd) 8 [(0, .ref (bd 0)), (1, .int (nI n)), (2, .int (nI c)), (3, .int (nI q)), (4, .int (nI w)), (5, .int (nI i))] [] := by
    intro fuel
    induction fuel with
    | zero => intro q w i hq hi he hfu; exact absurd hfu (Nat.not_lt_zero _)
    | succ fuel ih_lp =>
      intro q w i hq hi he hfu
      refine fg_iload S 5 dX1_backward_8 rfl ?_
      refine fg_iload_n S 1 1 dX1_backward_10 rfl rfl ?_
      refine fg_icmp_ge S 34 dX1_backward_11 (by decide) (by omega) (by omega) (fun h_1 => ?_) (fun h_1 => ?_)
      · refine fg_iload S 4 dX1_backward_34 rfl ?_
        refine fg_topn (b := rfF 0 c n) (by rw [← he, show n - i = 0 by omega]; rfl) ?_
        exact hret _ _ dX1_backward_36
      · obtain ⟨j, hj⟩ : ∃ j, n - i = j + 1 := ⟨n - i - 1, by omega⟩
        refine fg_ic (v := nI 3) S dX1_backward_14 (by decide) ?_
        refine fg_iload S 4 dX1_backward_15 rfl ?_
        refine fg_imul S dX1_backward_17 ?_
        refine fg_iload_n S 3 3 dX1_backward_18 rfl rfl ?_
        refine fg_ic (v := nI 3) S dX1_backward_19 (by decide) ?_
        refine fg_irem S dX1_backward_20 (by omega) (by omega) (by omega) ?_
        refine fg_iadd S dX1_backward_21 ?_
        refine fg_istore (lv' := [(0, .ref (bd 0)), (1, .int (nI n)), (2, .int (nI c)), (3, .int (nI q)), (4, .int (nI ((3 * w) + (q % 3)))), (5, .int (nI i))]) S [1, 2, 3, 4, 0, 5] dX1_backward_22 hN (by decide) rfl ?_
        refine fg_iload_n S 3 3 dX1_backward_24 rfl rfl ?_
        refine fg_ic (v := nI 3) S dX1_backward_25 (by decide) ?_
        refine fg_idiv S dX1_backward_26 (by omega) (by omega) (by omega) ?_
        refine fg_istore_n (lv' := [(0, .ref (bd 0)), (1, .int (nI n)), (2, .int (nI c)), (3, .int (nI (q / 3))), (4, .int (nI ((3 * w) + (q % 3)))), (5, .int (nI i))]) S [1, 2, 3, 0, 4, 5] dX1_backward_27 rfl hN (by decide) rfl ?_
        refine fg_iinc (lv' := [(0, .ref (bd 0)), (1, .int (nI n)), (2, .int (nI c)), (3, .int (nI (q / 3))), (4, .int (nI ((3 * w) + (q % 3)))), (5, .int (nI (i + 1)))]) S 5 [1, 2, 3, 4, 5, 0] dX1_backward_28 rfl (inc_1 _) hN (by decide) rfl ?_
        refine fg_goto S 8 dX1_backward_31 (by decide) ?_
        exact ih_lp (q / 3) (3 * w + q % 3) (i + 1) (by omega) (by omega) (by rw [← he, hj, show n - (i + 1) = j by omega]; rfl) (by omega)
  exact lp ((n - 0) + 1) c 0 0 hc (Nat.zero_le _) rfl (Nat.lt_succ_self _)
end
section
set_option maxRecDepth 100000
/-- the model's forbid and permit: the same answers, the pieces behind them -/
def MF (bd : Nat → Nat) (ck : Nat → ClassId) (ba : Nat → Bool) (nw lt : Nat → Nat) (he : Nat) (x : Int) : Option Value → va_W → Prop := fun v w => v = some (.int (aForbid ba he x)) ∧ ((okForbid ba he x ∧ w = MW bd ck (va_up ba x.toNat true) nw lt (he + 1)) ∨ (¬ okForbid ba he x ∧ w = MW bd ck ba nw lt he))
def MP_ (bd : Nat → Nat) (ck : Nat → ClassId) (ba : Nat → Bool) (nw lt : Nat → Nat) (he : Nat) (x : Int) : Option Value → va_W → Prop := fun v w => v = some (.int (aPermit ba he x)) ∧ ((okPermit ba x ∧ w = MW bd ck (va_up ba x.toNat false) nw lt (he - 1)) ∨ (¬ okPermit ba x ∧ w = MW bd ck ba nw lt he))
set_option maxHeartbeats 4000000 in
set_option maxRecDepth 100000 in
/-- forbid -/
theorem met_X1_forbid {l : Launch} {D : va_G} {ck : Nat → ClassId} {bd : Nat → Nat} {ba : Nat → Bool} {nw lt : Nat → Nat} {hd : Nat} (x : Int32) (hh : hd ≤ 6) (sz : Nat) : Met l yX1_forbid (ws_ yX1_forbid cX1_forbid 2 (some .int)) (rmL 3) (muP D (tysX ck) (MW bd ck ba nw lt hd) [.ref (bd 0), .int x] sz) (muQ D (MF bd ck ba nw lt hd x.toInt) (va_A (MW bd ck ba nw lt hd) sz)) 0 0 (va_A (MW bd ck ba nw lt hd) sz) := by
  refine mu_i (lv0 := [(0, .ref (bd 0)), (1, .int x)]) (by decide) (Nat.le_of_ble_eq_true rfl) rfl (fun X B M hret => ?_) sz
  obtain ⟨S, hN, hRm, rfl, rfl⟩ := B
  have S : fwC X cX1_forbid RX1 (tysX ck) := S
  have hlt4 : ltF x.toInt < 2 ^ 31 := by unfold ltF; split; omega; split; omega; split; omega; split <;> omega
  refine fg_aload_n S 0 0 dX1_forbid_0 rfl rfl ?_
  refine fg_iload_n S 1 1 dX1_forbid_1 rfl rfl ?_
  refine cm_ro S hRm 1 (met_X1_letters (x)) rfl q211 q213 qs10 q23 q214 ok_X1_letters (by decide) rfl rfl (Nat.le_of_ble_eq_true rfl) dX1_forbid_2 ?_
  refine fg_if_ne S 10 dX1_forbid_5 (by decide) (by omega) (fun h_1 => ?_) (fun h_1 => ?_)
  · obtain ⟨p, k, rfl, ex, hlt, hsz, hk1, hk4, hp1, hp2, hp3⟩ := pc_of (x := x) (by omega)
    have hz : ltF (nI p).toInt ≠ 0 := by omega
    have et : (nI p).toInt.toNat = p := by omega
    refine fg_aload_n S 0 0 dX1_forbid_10 rfl rfl ?_
    refine mg_ba S dX1_forbid_11 ?_
    refine fg_iload_n S 1 1 dX1_forbid_14 rfl rfl ?_
    refine ml_ba S dX1_forbid_15 (by omega) ?_
    refine fg_if_eq S 22 dX1_forbid_16 (by decide) dec_lt (fun h_2 => ?_) (fun h_2 => ?_)
    · have hin : ba (nI p).toInt.toNat = false := by rw [et]; exact tn_0 h_2
      refine fg_aload_n S 0 0 dX1_forbid_22 rfl rfl ?_
      refine mg_hd S dX1_forbid_23 ?_
      refine fg_ic (v := nI 5) S dX1_forbid_26 (by decide) ?_
      refine fg_icmp_le S 33 dX1_forbid_27 (by decide) (by omega) (by omega) (fun h_3 => ?_) (fun h_3 => ?_)
      · refine fg_aload_n S 0 0 dX1_forbid_33 rfl rfl ?_
        refine mg_ba S dX1_forbid_34 ?_
        refine fg_iload_n S 1 1 dX1_forbid_37 rfl rfl ?_
        refine fg_ic (v := nI 1) S dX1_forbid_38 (by decide) ?_
        refine ms_ba S M true dX1_forbid_39 (by omega) ?_
        refine fg_aload_n S 0 0 dX1_forbid_40 rfl rfl ?_
        refine fg_dup S dX1_forbid_41 rfl ?_
        refine mg_hd S dX1_forbid_42 ?_
        refine fg_ic (v := nI 1) S dX1_forbid_45 (by decide) ?_
        refine fg_iadd S dX1_forbid_46 ?_
        refine mp_hd S M dX1_forbid_47 ?_
        refine fg_aload_n S 0 0 dX1_forbid_50 rfl rfl ?_
        refine mg_hd S dX1_forbid_51 ?_
        refine fg_topi (y := (aForbid ba hd (nI p).toInt)) (by unfold aForbid; rw [if_neg hz, if_neg (by rw [hin]; decide), if_neg (by omega)]) ?_
        exact hret _ _ _ _ dX1_forbid_54 ⟨rfl, Or.inl ⟨⟨by omega, hin, by omega⟩, by rw [et]⟩⟩
      · refine fg_bi (v := -3) S dX1_forbid_30 (by decide) ?_
        refine fg_topi (y := (aForbid ba hd (nI p).toInt)) (by unfold aForbid; rw [if_neg hz, if_neg (by rw [hin]; decide), if_pos (by omega)]) ?_
        exact hret _ _ _ _ dX1_forbid_32 ⟨rfl, Or.inr ⟨fun q => by have := q.2.2; omega, rfl⟩⟩
    · have hin : ba (nI p).toInt.toNat = true := by rw [et]; exact tn_1 h_2
      refine fg_bi (v := -2) S dX1_forbid_19 (by decide) ?_
      refine fg_topi (y := (aForbid ba hd (nI p).toInt)) (by unfold aForbid; rw [if_neg hz, if_pos hin]) ?_
      exact hret _ _ _ _ dX1_forbid_21 ⟨rfl, Or.inr ⟨fun q => absurd (hin.symm.trans q.2.1) (by decide), rfl⟩⟩
  · refine fg_ic (v := -1) S dX1_forbid_8 (by decide) ?_
    refine fg_topi (y := (aForbid ba hd x.toInt)) (if_pos h_1).symm ?_
    exact hret _ _ _ _ dX1_forbid_9 ⟨rfl, Or.inr ⟨fun q => by have := q.1; omega, rfl⟩⟩
set_option maxHeartbeats 4000000 in
set_option maxRecDepth 100000 in
/-- permit -/
theorem met_X1_permit {l : Launch} {D : va_G} {ck : Nat → ClassId} {bd : Nat → Nat} {ba : Nat → Bool} {nw lt : Nat → Nat} {hd : Nat} (x : Int32) (hh : okPermit ba x.toInt → 1 ≤ hd) (hh6 : hd ≤ 6) (sz : Nat) : Met l yX1_permit (ws_ yX1_permit cX1_permit 2 (some .int)) (rmL 3) (muP D (tysX ck) (MW bd ck ba nw lt hd) [.ref (bd 0), .int x] sz) (muQ D (MP_ bd ck ba nw lt hd x.toInt) (va_A (MW bd ck ba nw lt hd) sz)) 0 0 (va_A (MW bd ck ba nw lt hd) sz) := by
  refine mu_i (lv0 := [(0, .ref (bd 0)), (1, .int x)]) (by decide) (Nat.le_of_ble_eq_true rfl) rfl (fun X B M hret => ?_) sz
  obtain ⟨S, hN, hRm, rfl, rfl⟩ := B
  have S : fwC X cX1_permit RX1 (tysX ck) := S
  have hlt4 : ltF x.toInt < 2 ^ 31 := by unfold ltF; split; omega; split; omega; split; omega; split <;> omega
  refine fg_aload_n S 0 0 dX1_permit_0 rfl rfl ?_
  refine fg_iload_n S 1 1 dX1_permit_1 rfl rfl ?_
  refine cm_ro S hRm 1 (met_X1_letters (x)) rfl q211 q213 qs10 q23 q214 ok_X1_letters (by decide) rfl rfl (Nat.le_of_ble_eq_true rfl) dX1_permit_2 ?_
  refine fg_if_eq S 17 dX1_permit_5 (by decide) (by omega) (fun h_1 => ?_) (fun h_1 => ?_)
  · refine fg_ic (v := -1) S dX1_permit_17 (by decide) ?_
    refine fg_topi (y := (aPermit ba hd x.toInt)) (if_pos (Or.inl h_1)).symm ?_
    exact hret _ _ _ _ dX1_permit_18 ⟨rfl, Or.inr ⟨fun q => by have := q.1; omega, rfl⟩⟩
  · obtain ⟨p, k, rfl, ex, hlt, hsz, hk1, hk4, hp1, hp2, hp3⟩ := pc_of (x := x) (by omega)
    have hz : ltF (nI p).toInt ≠ 0 := by omega
    have et : (nI p).toInt.toNat = p := by omega
    refine fg_aload_n S 0 0 dX1_permit_8 rfl rfl ?_
    refine mg_ba S dX1_permit_9 ?_
    refine fg_iload_n S 1 1 dX1_permit_12 rfl rfl ?_
    refine ml_ba S dX1_permit_13 (by omega) ?_
    refine fg_if_ne S 19 dX1_permit_14 (by decide) dec_lt (fun h_2 => ?_) (fun h_2 => ?_)
    · have hin : ba (nI p).toInt.toNat = true := by rw [et]; exact tn_1 h_2
      have hok : okPermit ba (nI p).toInt := ⟨by omega, hin⟩
      have h1 := hh hok
      refine fg_aload_n S 0 0 dX1_permit_19 rfl rfl ?_
      refine mg_ba S dX1_permit_20 ?_
      refine fg_iload_n S 1 1 dX1_permit_23 rfl rfl ?_
      refine fg_ic (v := nI 0) S dX1_permit_24 (by decide) ?_
      refine ms_ba S M false dX1_permit_25 (by omega) ?_
      refine fg_aload_n S 0 0 dX1_permit_26 rfl rfl ?_
      refine fg_dup S dX1_permit_27 rfl ?_
      refine mg_hd S dX1_permit_28 ?_
      refine fg_ic (v := nI 1) S dX1_permit_31 (by decide) ?_
      refine fg_isub S dX1_permit_32 (by omega) ?_
      refine mp_hd S M dX1_permit_33 ?_
      refine fg_aload_n S 0 0 dX1_permit_36 rfl rfl ?_
      refine mg_hd S dX1_permit_37 ?_
      refine fg_topi (y := (aPermit ba hd (nI p).toInt)) (by unfold aPermit; rw [if_neg (fun q => by rcases q with z | z; (exact hz z); (rw [hin] at z; cases z))]) ?_
      exact hret _ _ _ _ dX1_permit_40 ⟨rfl, Or.inl ⟨hok, by rw [et]⟩⟩
    · have hin : ba (nI p).toInt.toNat = false := by rw [et]; exact tn_0 h_2
      refine fg_ic (v := -1) S dX1_permit_17 (by decide) ?_
      refine fg_topi (y := (aPermit ba hd (nI p).toInt)) (if_pos (Or.inr hin)).symm ?_
      exact hret _ _ _ _ dX1_permit_18 ⟨rfl, Or.inr ⟨fun q => absurd (hin.symm.trans q.2) (by decide), rfl⟩⟩
set_option maxHeartbeats 4000000 in
set_option maxRecDepth 100000 in
/-- pieces -/
theorem met_X1_pieces {l : Launch} {D : va_G} {ck : Nat → ClassId} {bd : Nat → Nat} {ba : Nat → Bool} {nw lt : Nat → Nat} {hd : Nat}  : Met l yX1_pieces (ws_ yX1_pieces cX1_pieces 1 (some .int)) (rmL 0) (roP D (tysX ck) (MW bd ck ba nw lt hd) [.ref (bd 0)]) (roQ (.int (nI hd))) 0 0 (fun _ => False) := by
  refine ro_i (lv0 := [(0, .ref (bd 0))]) (by decide) (Nat.le_of_ble_eq_true rfl) rfl (fun X B hret => ?_)
  obtain ⟨S, hN, hRm, rfl, rfl⟩ := B
  have S : fwC X cX1_pieces RX1 (tysX ck) := S
  refine fg_aload_n S 0 0 dX1_pieces_0 rfl rfl ?_
  refine mg_hd S dX1_pieces_1 ?_
  exact hret _ _ dX1_pieces_4
set_option maxHeartbeats 4000000 in
set_option maxRecDepth 100000 in
/-- allowed -/
theorem met_X1_allowed {l : Launch} {D : va_G} {ck : Nat → ClassId} {bd : Nat → Nat} {ba : Nat → Bool} {nw lt : Nat → Nat} {hd : Nat} (x y : Int32) : Met l yX1_allowed (ws_ yX1_allowed cX1_allowed 3 (some .int)) (rmL 3) (roP D (tysX ck) (MW bd ck ba nw lt hd) [.ref (bd 0), .int x, .int y]) (roQ (.int (aAllowed ba x.toInt y.toInt))) 0 0 (fun _ => False) := by
  refine ro_i (lv0 := [(0, .ref (bd 0)), (1, .int x), (2, .int y)]) (by decide) (Nat.le_of_ble_eq_true rfl) rfl (fun X B hret => ?_)
  obtain ⟨S, hN, hRm, rfl, rfl⟩ := B
  have S : fwC X cX1_allowed RX1 (tysX ck) := S
  refine fg_aload_n S 0 0 dX1_allowed_0 rfl rfl ?_
  refine fg_iload_n S 1 1 dX1_allowed_1 rfl rfl ?_
  refine cm_ro S hRm 1 (met_X1_badLength (x)) rfl q227 q229 qs11 q23 q230 ok_X1_badLength (by decide) rfl rfl (Nat.le_of_ble_eq_true rfl) dX1_allowed_2 ?_
  refine fg_if_eq S 10 dX1_allowed_5 (by decide) dec_lt (fun h_l => ?_) (fun h_l => ?_)
  · have h_l : 0 ≤ x.toInt ∧ x.toInt ≤ 9 := by have := dec_eq h_l; omega
    obtain ⟨n, hn, rfl, ex⟩ := i_nat (x := x) (n := 9) h_l.1 h_l.2 (by omega)
    rw [ex] at hret
    have hp9 := p3_le9 hn
    refine fg_aload_n S 0 0 dX1_allowed_10 rfl rfl ?_
    refine fg_iload_n S 1 1 dX1_allowed_11 rfl rfl ?_
    refine fg_iload_n S 2 2 dX1_allowed_12 rfl rfl ?_
    refine cm_ro S hRm 2 (met_X1_badCode n (y) (by omega)) rfl q231 q233 qs12 q23 q234 ok_X1_badCode (by decide) rfl rfl (Nat.le_of_ble_eq_true rfl) dX1_allowed_13 ?_
    refine fg_if_eq S 22 dX1_allowed_16 (by decide) dec_lt (fun h_c => ?_) (fun h_c => ?_)
    · have h_c := dec_eq h_c
      obtain ⟨c, hc, rfl, ey⟩ := i_nat (x := y) (n := 19682) (by omega) (by omega) (by omega)
      rw [ey] at hret h_c
      have hc : c < p3 n := by omega
      refine fg_aload_n S 0 0 dX1_allowed_22 rfl rfl ?_
      refine fg_iload_n S 1 1 dX1_allowed_23 rfl rfl ?_
      refine fg_iload_n S 2 2 dX1_allowed_24 rfl rfl ?_
      refine cm_ro S hRm 2 (met_X1_good n c (by omega) (by omega)) rfl q239 q241 qs14 q23 q242 ok_X1_good (by decide) rfl rfl (Nat.le_of_ble_eq_true rfl) dX1_allowed_25 ?_
      refine fg_if_eq S 35 dX1_allowed_28 (by decide) dec_lt (fun h_1 => ?_) (fun h_1 => ?_)
      · refine fg_ic (v := nI 0) S dX1_allowed_35 (by decide) ?_
        refine fg_topi (y := (aAllowed ba n c)) (by unfold aAllowed; rw [sRef_ok hn hc, tn_0 h_1]; rfl) ?_
        exact hret _ _ dX1_allowed_36
      · refine fg_ic (v := nI 1) S dX1_allowed_31 (by decide) ?_
        refine fg_goto S 36 dX1_allowed_32 (by decide) ?_
        refine fg_topi (y := (aAllowed ba n c)) (by unfold aAllowed; rw [sRef_ok hn hc, tn_1 h_1]; rfl) ?_
        exact hret _ _ dX1_allowed_36
    · have h_c := dec_ne h_c
      have er : refF n y.toInt = -2 := refF_2 (by omega) (by rw [Int.toNat_natCast]; exact h_c)
      refine fg_bi (v := -2) S dX1_allowed_19 (by decide) ?_
      refine fg_topi (y := (aAllowed ba n y.toInt)) (by unfold aAllowed; rw [sRef_bad (by rw [er]; decide), er]) ?_
      exact hret _ _ dX1_allowed_21
  · refine fg_ic (v := -1) S dX1_allowed_8 (by decide) ?_
    refine fg_topi (y := (aAllowed ba x.toInt y.toInt)) (by unfold aAllowed; rw [sRef_bad (by rw [refF_1 (dec_ne h_l)]; decide), refF_1 (dec_ne h_l)]) ?_
    exact hret _ _ dX1_allowed_9
set_option maxHeartbeats 4000000 in
set_option maxRecDepth 100000 in
/-- rank -/
theorem met_X1_rank {l : Launch} {D : va_G} {ck : Nat → ClassId} {bd : Nat → Nat} {ba : Nat → Bool} {nw lt : Nat → Nat} {hd : Nat} (x y : Int32) : Met l yX1_rank (ws_ yX1_rank cX1_rank 5 (some .int)) (rmL 3) (roP D (tysX ck) (MW bd ck ba nw lt hd) [.ref (bd 0), .int x, .int y]) (roQ (.int (aRank ba x.toInt y.toInt))) 0 0 (fun _ => False) := by
  refine ro_i (lv0 := [(0, .ref (bd 0)), (1, .int x), (2, .int y)]) (by decide) (Nat.le_of_ble_eq_true rfl) rfl (fun X B hret => ?_)
  obtain ⟨S, hN, hRm, rfl, rfl⟩ := B
  have S : fwC X cX1_rank RX1 (tysX ck) := S
  refine fg_aload_n S 0 0 dX1_rank_0 rfl rfl ?_
  refine fg_iload_n S 1 1 dX1_rank_1 rfl rfl ?_
  refine cm_ro S hRm 1 (met_X1_badLength (x)) rfl q227 q229 qs11 q23 q230 ok_X1_badLength (by decide) rfl rfl (Nat.le_of_ble_eq_true rfl) dX1_rank_2 ?_
  refine fg_if_eq S 10 dX1_rank_5 (by decide) dec_lt (fun h_l => ?_) (fun h_l => ?_)
  · have h_l : 0 ≤ x.toInt ∧ x.toInt ≤ 9 := by have := dec_eq h_l; omega
    obtain ⟨n, hn, rfl, ex⟩ := i_nat (x := x) (n := 9) h_l.1 h_l.2 (by omega)
    rw [ex] at hret
    have hp9 := p3_le9 hn
    refine fg_aload_n S 0 0 dX1_rank_10 rfl rfl ?_
    refine fg_iload_n S 1 1 dX1_rank_11 rfl rfl ?_
    refine fg_iload_n S 2 2 dX1_rank_12 rfl rfl ?_
    refine cm_ro S hRm 2 (met_X1_badCode n (y) (by omega)) rfl q231 q233 qs12 q23 q234 ok_X1_badCode (by decide) rfl rfl (Nat.le_of_ble_eq_true rfl) dX1_rank_13 ?_
    refine fg_if_eq S 22 dX1_rank_16 (by decide) dec_lt (fun h_c => ?_) (fun h_c => ?_)
    · have h_c := dec_eq h_c
      obtain ⟨c, hc, rfl, ey⟩ := i_nat (x := y) (n := 19682) (by omega) (by omega) (by omega)
      rw [ey] at hret h_c
      have hc : c < p3 n := by omega
      refine fg_ic (v := nI 0) S dX1_rank_22 (by decide) ?_
      refine fg_istore_n (lv' := [(0, .ref (bd 0)), (1, .int (nI n)), (2, .int (nI c)), (3, .int (nI 0))]) S [1, 2, 3, 0] dX1_rank_23 rfl hN (by decide) rfl ?_
      refine fg_ic (v := nI 0) S dX1_rank_24 (by decide) ?_
      refine fg_istore (lv' := [(0, .ref (bd 0)), (1, .int (nI n)), (2, .int (nI c)), (3, .int (nI 0)), (4, .int (nI 0))]) S [1, 2, 3, 4, 0] dX1_rank_25 hN (by decide) rfl ?_
      have lp : ∀ (fuel : Nat) (c_ : Nat) (f : Nat), (c_ ≤ c) → (f = cnt (goodF ba n) c_) → (c - c_) < fuel → fwG X (MW bd ck ba nw lt hd) 27 [(0, .ref (bd 0)), (1, .int (nI n)), (2, .int (nI c)), (3, .int (nI f)), (4, .int (nI c_))] [] := by
        intro fuel
        induction fuel with
        | zero => intro c_ f hc_ hf hfu; exact absurd hfu (Nat.not_lt_zero _)
        | succ fuel ih_lp =>
          intro c_ f hc_ hf hfu
          refine fg_iload S 4 dX1_rank_27 rfl ?_
          refine fg_iload_n S 2 2 dX1_rank_29 rfl rfl ?_
          refine fg_icmp_ge S 52 dX1_rank_30 (by decide) (by omega) (by omega) (fun h_1 => ?_) (fun h_1 => ?_)
          · refine fg_iload_n S 3 3 dX1_rank_52 rfl rfl ?_
            refine fg_topi (y := (aRank ba n c)) (by unfold aRank; rw [sRef_ok hn hc, hf, show c_ = c by omega]) ?_
            exact hret _ _ dX1_rank_53
          · refine fg_aload_n S 0 0 dX1_rank_33 rfl rfl ?_
            refine fg_iload_n S 1 1 dX1_rank_34 rfl rfl ?_
            refine fg_iload S 4 dX1_rank_35 rfl ?_
            refine cm_ro S hRm 2 (met_X1_good n c_ (by omega) (by omega)) rfl q239 q241 qs14 q23 q242 ok_X1_good (by decide) rfl rfl (Nat.le_of_ble_eq_true rfl) dX1_rank_37 ?_
            refine fg_if_eq S 46 dX1_rank_40 (by decide) dec_lt (fun h_2 => ?_) (fun h_2 => ?_)
            · refine fg_iinc (lv' := [(0, .ref (bd 0)), (1, .int (nI n)), (2, .int (nI c)), (3, .int (nI f)), (4, .int (nI (c_ + 1)))]) S 4 [1, 2, 3, 4, 0] dX1_rank_46 rfl (inc_1 _) hN (by decide) rfl ?_
              refine fg_goto S 27 dX1_rank_49 (by decide) ?_
              exact ih_lp (c_ + 1) f (by omega) (by rw [cnt_s, hf]; rw [tn_0 h_2]; rfl) (by omega)
            · refine fg_iinc (lv' := [(0, .ref (bd 0)), (1, .int (nI n)), (2, .int (nI c)), (3, .int (nI (f + 1))), (4, .int (nI c_))]) S 3 [1, 2, 3, 0, 4] dX1_rank_43 rfl (inc_1 _) hN (by decide) rfl ?_
              refine fg_iinc (lv' := [(0, .ref (bd 0)), (1, .int (nI n)), (2, .int (nI c)), (3, .int (nI (f + 1))), (4, .int (nI (c_ + 1)))]) S 4 [1, 2, 3, 4, 0] dX1_rank_46 rfl (inc_1 _) hN (by decide) rfl ?_
              refine fg_goto S 27 dX1_rank_49 (by decide) ?_
              exact ih_lp (c_ + 1) (f + 1) (by omega) (by rw [cnt_s, hf]; rw [tn_1 h_2]; rfl) (by omega)
      exact lp ((c - 0) + 1) 0 0 (Nat.zero_le _) rfl (Nat.lt_succ_self _)
    · have h_c := dec_ne h_c
      have er : refF n y.toInt = -2 := refF_2 (by omega) (by rw [Int.toNat_natCast]; exact h_c)
      refine fg_bi (v := -2) S dX1_rank_19 (by decide) ?_
      refine fg_topi (y := (aRank ba n y.toInt)) (by unfold aRank; rw [sRef_bad (by rw [er]; decide), er]) ?_
      exact hret _ _ dX1_rank_21
  · refine fg_ic (v := -1) S dX1_rank_8 (by decide) ?_
    refine fg_topi (y := (aRank ba x.toInt y.toInt)) (by unfold aRank; rw [sRef_bad (by rw [refF_1 (dec_ne h_l)]; decide), refF_1 (dec_ne h_l)]) ?_
    exact hret _ _ dX1_rank_9
set_option maxHeartbeats 4000000 in
set_option maxRecDepth 100000 in
/-- choices -/
theorem met_X1_choices {l : Launch} {D : va_G} {ck : Nat → ClassId} {bd : Nat → Nat} {ba : Nat → Bool} {nw lt : Nat → Nat} {hd : Nat} (x y : Int32) : Met l yX1_choices (ws_ yX1_choices cX1_choices 5 (some .int)) (rmL 3) (roP D (tysX ck) (MW bd ck ba nw lt hd) [.ref (bd 0), .int x, .int y]) (roQ (.int (aChoices ba x.toInt y.toInt))) 0 0 (fun _ => False) := by
  refine ro_i (lv0 := [(0, .ref (bd 0)), (1, .int x), (2, .int y)]) (by decide) (Nat.le_of_ble_eq_true rfl) rfl (fun X B hret => ?_)
  obtain ⟨S, hN, hRm, rfl, rfl⟩ := B
  have S : fwC X cX1_choices RX1 (tysX ck) := S
  refine fg_aload_n S 0 0 dX1_choices_0 rfl rfl ?_
  refine fg_iload_n S 1 1 dX1_choices_1 rfl rfl ?_
  refine cm_ro S hRm 1 (met_X1_badLength (x)) rfl q227 q229 qs11 q23 q230 ok_X1_badLength (by decide) rfl rfl (Nat.le_of_ble_eq_true rfl) dX1_choices_2 ?_
  refine fg_if_eq S 10 dX1_choices_5 (by decide) dec_lt (fun h_l => ?_) (fun h_l => ?_)
  · have h_l : 0 ≤ x.toInt ∧ x.toInt ≤ 9 := by have := dec_eq h_l; omega
    obtain ⟨n, hn, rfl, ex⟩ := i_nat (x := x) (n := 9) h_l.1 h_l.2 (by omega)
    rw [ex] at hret
    have hp9 := p3_le9 hn
    refine fg_aload_n S 0 0 dX1_choices_10 rfl rfl ?_
    refine fg_iload_n S 1 1 dX1_choices_11 rfl rfl ?_
    refine fg_iload_n S 2 2 dX1_choices_12 rfl rfl ?_
    refine cm_ro S hRm 2 (met_X1_badCode n (y) (by omega)) rfl q231 q233 qs12 q23 q234 ok_X1_badCode (by decide) rfl rfl (Nat.le_of_ble_eq_true rfl) dX1_choices_13 ?_
    refine fg_if_eq S 22 dX1_choices_16 (by decide) dec_lt (fun h_c => ?_) (fun h_c => ?_)
    · have h_c := dec_eq h_c
      obtain ⟨c, hc, rfl, ey⟩ := i_nat (x := y) (n := 19682) (by omega) (by omega) (by omega)
      rw [ey] at hret h_c
      have hc : c < p3 n := by omega
      refine fg_ic (v := nI 0) S dX1_choices_22 (by decide) ?_
      refine fg_istore_n (lv' := [(0, .ref (bd 0)), (1, .int (nI n)), (2, .int (nI c)), (3, .int (nI 0))]) S [1, 2, 3, 0] dX1_choices_23 rfl hN (by decide) rfl ?_
      refine fg_ic (v := nI 0) S dX1_choices_24 (by decide) ?_
      refine fg_istore (lv' := [(0, .ref (bd 0)), (1, .int (nI n)), (2, .int (nI c)), (3, .int (nI 0)), (4, .int (nI 0))]) S [1, 2, 3, 4, 0] dX1_choices_25 hN (by decide) rfl ?_
      have lp : ∀ (fuel : Nat) (c_ : Nat) (f : Nat), (c_ ≤ 3) → (f = cnt (fun a => goodF ba n c && goodF ba (n + 1) (3 * c + a)) c_) → (3 - c_) < fuel → fwG X (MW bd ck ba nw lt hd) 27 [(0, .ref (bd 0)), (1, .int (nI n)), (2, .int (nI c)), (3, .int (nI f)), (4, .int (nI c_))] [] := by
        intro fuel
        induction fuel with
        | zero => intro c_ f hc_ hf hfu; exact absurd hfu (Nat.not_lt_zero _)
        | succ fuel ih_lp =>
          intro c_ f hc_ hf hfu
          refine fg_iload S 4 dX1_choices_27 rfl ?_
          refine fg_ic (v := nI 3) S dX1_choices_29 (by decide) ?_
          refine fg_icmp_ge S 67 dX1_choices_30 (by decide) (by omega) (by omega) (fun h_1 => ?_) (fun h_1 => ?_)
          · refine fg_iload_n S 3 3 dX1_choices_67 rfl rfl ?_
            refine fg_topi (y := (aChoices ba n c)) (by unfold aChoices; rw [sRef_ok hn hc, hf, show c_ = 3 by omega]) ?_
            exact hret _ _ dX1_choices_68
          · refine fg_aload_n S 0 0 dX1_choices_33 rfl rfl ?_
            refine fg_iload_n S 1 1 dX1_choices_34 rfl rfl ?_
            refine fg_iload_n S 2 2 dX1_choices_35 rfl rfl ?_
            refine cm_ro S hRm 2 (met_X1_good n c (by omega) (by omega)) rfl q239 q241 qs14 q23 q242 ok_X1_good (by decide) rfl rfl (Nat.le_of_ble_eq_true rfl) dX1_choices_36 ?_
            refine fg_if_eq S 61 dX1_choices_39 (by decide) dec_lt (fun h_2 => ?_) (fun h_2 => ?_)
            · refine fg_iinc (lv' := [(0, .ref (bd 0)), (1, .int (nI n)), (2, .int (nI c)), (3, .int (nI f)), (4, .int (nI (c_ + 1)))]) S 4 [1, 2, 3, 4, 0] dX1_choices_61 rfl (inc_1 _) hN (by decide) rfl ?_
              refine fg_goto S 27 dX1_choices_64 (by decide) ?_
              exact ih_lp (c_ + 1) f (by omega) (by rw [cnt_s, hf]; rw [show (goodF ba n c && goodF ba (n + 1) (3 * c + c_)) = false by rw [tn_0 h_2, Bool.false_and]]; rfl) (by omega)
            · refine fg_aload_n S 0 0 dX1_choices_42 rfl rfl ?_
              refine fg_iload_n S 1 1 dX1_choices_43 rfl rfl ?_
              refine fg_ic (v := nI 1) S dX1_choices_44 (by decide) ?_
              refine fg_iadd S dX1_choices_45 ?_
              refine fg_ic (v := nI 3) S dX1_choices_46 (by decide) ?_
              refine fg_iload_n S 2 2 dX1_choices_47 rfl rfl ?_
              refine fg_imul S dX1_choices_48 ?_
              refine fg_iload S 4 dX1_choices_49 rfl ?_
              refine fg_iadd S dX1_choices_51 ?_
              refine cm_ro S hRm 2 (met_X1_good (n + 1) ((3 * c) + c_) (by omega) (by omega)) rfl q239 q241 qs14 q23 q242 ok_X1_good (by decide) rfl rfl (Nat.le_of_ble_eq_true rfl) dX1_choices_52 ?_
              refine fg_if_eq S 61 dX1_choices_55 (by decide) dec_lt (fun h_3 => ?_) (fun h_3 => ?_)
              · refine fg_iinc (lv' := [(0, .ref (bd 0)), (1, .int (nI n)), (2, .int (nI c)), (3, .int (nI f)), (4, .int (nI (c_ + 1)))]) S 4 [1, 2, 3, 4, 0] dX1_choices_61 rfl (inc_1 _) hN (by decide) rfl ?_
                refine fg_goto S 27 dX1_choices_64 (by decide) ?_
                exact ih_lp (c_ + 1) f (by omega) (by rw [cnt_s, hf]; rw [show (goodF ba n c && goodF ba (n + 1) (3 * c + c_)) = false by rw [tn_0 h_3, Bool.and_false]]; rfl) (by omega)
              · refine fg_iinc (lv' := [(0, .ref (bd 0)), (1, .int (nI n)), (2, .int (nI c)), (3, .int (nI (f + 1))), (4, .int (nI c_))]) S 3 [1, 2, 3, 0, 4] dX1_choices_58 rfl (inc_1 _) hN (by decide) rfl ?_
                refine fg_iinc (lv' := [(0, .ref (bd 0)), (1, .int (nI n)), (2, .int (nI c)), (3, .int (nI (f + 1))), (4, .int (nI (c_ + 1)))]) S 4 [1, 2, 3, 4, 0] dX1_choices_61 rfl (inc_1 _) hN (by decide) rfl ?_
                refine fg_goto S 27 dX1_choices_64 (by decide) ?_
                exact ih_lp (c_ + 1) (f + 1) (by omega) (by rw [cnt_s, hf]; rw [show (goodF ba n c && goodF ba (n + 1) (3 * c + c_)) = true by rw [tn_1 h_2, tn_1 h_3]; rfl]; rfl) (by omega)
      exact lp ((3 - 0) + 1) 0 0 (Nat.zero_le _) rfl (Nat.lt_succ_self _)
    · have h_c := dec_ne h_c
      have er : refF n y.toInt = -2 := refF_2 (by omega) (by rw [Int.toNat_natCast]; exact h_c)
      refine fg_bi (v := -2) S dX1_choices_19 (by decide) ?_
      refine fg_topi (y := (aChoices ba n y.toInt)) (by unfold aChoices; rw [sRef_bad (by rw [er]; decide), er]) ?_
      exact hret _ _ dX1_choices_21
  · refine fg_ic (v := -1) S dX1_choices_8 (by decide) ?_
    refine fg_topi (y := (aChoices ba x.toInt y.toInt)) (by unfold aChoices; rw [sRef_bad (by rw [refF_1 (dec_ne h_l)]; decide), refF_1 (dec_ne h_l)]) ?_
    exact hret _ _ dX1_choices_9
set_option maxHeartbeats 4000000 in
set_option maxRecDepth 100000 in
/-- countWith -/
theorem met_X1_countWith {l : Launch} {D : va_G} {ck : Nat → ClassId} {bd : Nat → Nat} {ba : Nat → Bool} {nw lt : Nat → Nat} {hd : Nat} (x y : Int32) : Met l yX1_countWith (ws_ yX1_countWith cX1_countWith 6 (some .int)) (rmL 3) (roP D (tysX ck) (MW bd ck ba nw lt hd) [.ref (bd 0), .int x, .int y]) (roQ (.int (aCountWith ba x.toInt y.toInt))) 0 0 (fun _ => False) := by
  refine ro_i (lv0 := [(0, .ref (bd 0)), (1, .int x), (2, .int y)]) (by decide) (Nat.le_of_ble_eq_true rfl) rfl (fun X B hret => ?_)
  obtain ⟨S, hN, hRm, rfl, rfl⟩ := B
  have S : fwC X cX1_countWith RX1 (tysX ck) := S
  refine fg_aload_n S 0 0 dX1_countWith_0 rfl rfl ?_
  refine fg_iload_n S 1 1 dX1_countWith_1 rfl rfl ?_
  refine cm_ro S hRm 1 (met_X1_badLength (x)) rfl q227 q229 qs11 q23 q230 ok_X1_badLength (by decide) rfl rfl (Nat.le_of_ble_eq_true rfl) dX1_countWith_2 ?_
  refine fg_if_eq S 10 dX1_countWith_5 (by decide) dec_lt (fun h_l => ?_) (fun h_l => ?_)
  · have h_l : 0 ≤ x.toInt ∧ x.toInt ≤ 9 := by have := dec_eq h_l; omega
    obtain ⟨n, hn, rfl, ex⟩ := i_nat (x := x) (n := 9) h_l.1 h_l.2 (by omega)
    rw [ex] at hret
    have hp9 := p3_le9 hn
    have hp0 := p3_pos n
    refine fg_iload_n S 2 2 dX1_countWith_10 rfl rfl ?_
    refine fg_ifZ_lt S 20 dX1_countWith_11 (by decide) rfl (fun h_1 => ?_) (fun h_1 => ?_)
    · refine fg_bi (v := -2) S dX1_countWith_20 (by decide) ?_
      refine fg_topi (y := (aCountWith ba n y.toInt)) (by unfold aCountWith; rw [sLen_ok hn, if_pos (by omega)]) ?_
      exact hret _ _ dX1_countWith_22
    · refine fg_iload_n S 2 2 dX1_countWith_14 rfl rfl ?_
      refine fg_bi (v := nI 9) S dX1_countWith_15 (by decide) ?_
      refine fg_icmpZ_le S 23 dX1_countWith_17 (by decide) rfl (nI_toInt (by omega)) (fun h_2 => ?_) (fun h_2 => ?_)
      · obtain ⟨k, hk, rfl, ey⟩ := i_nat (x := y) (n := 9) (by omega) (by omega) (by omega)
        rw [ey] at hret
        refine fg_aload_n S 0 0 dX1_countWith_23 rfl rfl ?_
        refine fg_iload_n S 1 1 dX1_countWith_24 rfl rfl ?_
        refine cm_ro S hRm 1 (met_X1_power n (by omega)) rfl q235 q237 qs13 q23 q238 ok_X1_power (by decide) rfl rfl (Nat.le_of_ble_eq_true rfl) dX1_countWith_25 ?_
        refine fg_istore_n (lv' := [(0, .ref (bd 0)), (1, .int (nI n)), (2, .int (nI k)), (3, .int (nI (p3 n)))]) S [1, 2, 3, 0] dX1_countWith_28 rfl hN (by decide) rfl ?_
        refine fg_ic (v := nI 0) S dX1_countWith_29 (by decide) ?_
        refine fg_istore (lv' := [(0, .ref (bd 0)), (1, .int (nI n)), (2, .int (nI k)), (3, .int (nI (p3 n))), (4, .int (nI 0))]) S [1, 2, 3, 4, 0] dX1_countWith_30 hN (by decide) rfl ?_
        refine fg_ic (v := nI 0) S dX1_countWith_32 (by decide) ?_
        refine fg_istore (lv' := [(0, .ref (bd 0)), (1, .int (nI n)), (2, .int (nI k)), (3, .int (nI (p3 n))), (4, .int (nI 0)), (5, .int (nI 0))]) S [1, 2, 3, 4, 5, 0] dX1_countWith_33 hN (by decide) rfl ?_
        have lp : ∀ (fuel : Nat) (c_ : Nat) (f : Nat), (c_ ≤ p3 n) → (f = cnt (fun c => decide (zrF n c = k) && goodF ba n c) c_) → (p3 n - c_) < fuel → fwG X (MW bd ck ba nw lt hd) 35 [(0, .ref (bd 0)), (1, .int (nI n)), (2, .int (nI k)), (3, .int (nI (p3 n))), (4, .int (nI f)), (5, .int (nI c_))] [] := by
          intro fuel
          induction fuel with
          | zero => intro c_ f hc_ hf hfu; exact absurd hfu (Nat.not_lt_zero _)
          | succ fuel ih_lp =>
            intro c_ f hc_ hf hfu
            refine fg_iload S 5 dX1_countWith_35 rfl ?_
            refine fg_iload_n S 3 3 dX1_countWith_37 rfl rfl ?_
            refine fg_icmp_ge S 71 dX1_countWith_38 (by decide) (by omega) (by omega) (fun h_3 => ?_) (fun h_3 => ?_)
            · refine fg_iload S 4 dX1_countWith_71 rfl ?_
              refine fg_topi (y := (aCountWith ba n k)) (by unfold aCountWith; rw [sLen_ok hn, if_neg (by omega), Int.toNat_natCast, hf, show c_ = p3 n by omega]) ?_
              exact hret _ _ dX1_countWith_73
            · have hzr := zrF_le n c_
              refine fg_aload_n S 0 0 dX1_countWith_41 rfl rfl ?_
              refine fg_iload_n S 1 1 dX1_countWith_42 rfl rfl ?_
              refine fg_iload S 5 dX1_countWith_43 rfl ?_
              refine cm_ro S hRm 2 (met_X1_zeros n c_ (by omega) (by omega)) rfl q260 q262 qs17 q23 q263 ok_X1_zeros (by decide) rfl rfl (Nat.le_of_ble_eq_true rfl) dX1_countWith_45 ?_
              refine fg_iload_n S 2 2 dX1_countWith_48 rfl rfl ?_
              refine fg_icmp_ne S 65 dX1_countWith_49 (by decide) (by omega) (by omega) (fun h_4 => ?_) (fun h_4 => ?_)
              · refine fg_iinc (lv' := [(0, .ref (bd 0)), (1, .int (nI n)), (2, .int (nI k)), (3, .int (nI (p3 n))), (4, .int (nI f)), (5, .int (nI (c_ + 1)))]) S 5 [1, 2, 3, 4, 5, 0] dX1_countWith_65 rfl (inc_1 _) hN (by decide) rfl ?_
                refine fg_goto S 35 dX1_countWith_68 (by decide) ?_
                exact ih_lp (c_ + 1) f (by omega) (by rw [cnt_s, hf]; rw [show (decide (zrF n c_ = k) && goodF ba n c_) = false by rw [decide_eq_false h_4, Bool.false_and]]; rfl) (by omega)
              · refine fg_aload_n S 0 0 dX1_countWith_52 rfl rfl ?_
                refine fg_iload_n S 1 1 dX1_countWith_53 rfl rfl ?_
                refine fg_iload S 5 dX1_countWith_54 rfl ?_
                refine cm_ro S hRm 2 (met_X1_good n c_ (by omega) (by omega)) rfl q239 q241 qs14 q23 q242 ok_X1_good (by decide) rfl rfl (Nat.le_of_ble_eq_true rfl) dX1_countWith_56 ?_
                refine fg_if_eq S 65 dX1_countWith_59 (by decide) dec_lt (fun h_5 => ?_) (fun h_5 => ?_)
                · refine fg_iinc (lv' := [(0, .ref (bd 0)), (1, .int (nI n)), (2, .int (nI k)), (3, .int (nI (p3 n))), (4, .int (nI f)), (5, .int (nI (c_ + 1)))]) S 5 [1, 2, 3, 4, 5, 0] dX1_countWith_65 rfl (inc_1 _) hN (by decide) rfl ?_
                  refine fg_goto S 35 dX1_countWith_68 (by decide) ?_
                  exact ih_lp (c_ + 1) f (by omega) (by rw [cnt_s, hf]; rw [show (decide (zrF n c_ = k) && goodF ba n c_) = false by rw [tn_0 h_5, Bool.and_false]]; rfl) (by omega)
                · refine fg_iinc (lv' := [(0, .ref (bd 0)), (1, .int (nI n)), (2, .int (nI k)), (3, .int (nI (p3 n))), (4, .int (nI (f + 1))), (5, .int (nI c_))]) S 4 [1, 2, 3, 4, 0, 5] dX1_countWith_62 rfl (inc_1 _) hN (by decide) rfl ?_
                  refine fg_iinc (lv' := [(0, .ref (bd 0)), (1, .int (nI n)), (2, .int (nI k)), (3, .int (nI (p3 n))), (4, .int (nI (f + 1))), (5, .int (nI (c_ + 1)))]) S 5 [1, 2, 3, 4, 5, 0] dX1_countWith_65 rfl (inc_1 _) hN (by decide) rfl ?_
                  refine fg_goto S 35 dX1_countWith_68 (by decide) ?_
                  exact ih_lp (c_ + 1) (f + 1) (by omega) (by rw [cnt_s, hf]; rw [show (decide (zrF n c_ = k) && goodF ba n c_) = true by rw [tn_1 h_5, decide_eq_true h_4]; rfl]; rfl) (by omega)
        exact lp ((p3 n - 0) + 1) 0 0 (Nat.zero_le _) rfl (Nat.lt_succ_self _)
      · refine fg_bi (v := -2) S dX1_countWith_20 (by decide) ?_
        refine fg_topi (y := (aCountWith ba n y.toInt)) (by unfold aCountWith; rw [sLen_ok hn, if_pos (by omega)]) ?_
        exact hret _ _ dX1_countWith_22
  · refine fg_ic (v := -1) S dX1_countWith_8 (by decide) ?_
    refine fg_topi (y := (aCountWith ba x.toInt y.toInt)) (sLen_bad (dec_ne h_l)).symm ?_
    exact hret _ _ dX1_countWith_9
set_option maxHeartbeats 4000000 in
set_option maxRecDepth 100000 in
/-- word -/
theorem met_X1_word {l : Launch} {D : va_G} {ck : Nat → ClassId} {bd : Nat → Nat} {ba : Nat → Bool} {nw lt : Nat → Nat} {hd : Nat} (x y : Int32) : Met l yX1_word (ws_ yX1_word cX1_word 6 (some .int)) (rmL 3) (roP D (tysX ck) (MW bd ck ba nw lt hd) [.ref (bd 0), .int x, .int y]) (roQ (.int (aWord ba x.toInt y.toInt))) 0 0 (fun _ => False) := by
  refine ro_i (lv0 := [(0, .ref (bd 0)), (1, .int x), (2, .int y)]) (by decide) (Nat.le_of_ble_eq_true rfl) rfl (fun X B hret => ?_)
  obtain ⟨S, hN, hRm, rfl, rfl⟩ := B
  have S : fwC X cX1_word RX1 (tysX ck) := S
  refine fg_aload_n S 0 0 dX1_word_0 rfl rfl ?_
  refine fg_iload_n S 1 1 dX1_word_1 rfl rfl ?_
  refine cm_ro S hRm 1 (met_X1_badLength (x)) rfl q227 q229 qs11 q23 q230 ok_X1_badLength (by decide) rfl rfl (Nat.le_of_ble_eq_true rfl) dX1_word_2 ?_
  refine fg_if_eq S 10 dX1_word_5 (by decide) dec_lt (fun h_l => ?_) (fun h_l => ?_)
  · have h_l : 0 ≤ x.toInt ∧ x.toInt ≤ 9 := by have := dec_eq h_l; omega
    obtain ⟨n, hn, rfl, ex⟩ := i_nat (x := x) (n := 9) h_l.1 h_l.2 (by omega)
    rw [ex] at hret
    have hp9 := p3_le9 hn
    have hp0 := p3_pos n
    refine fg_aload_n S 0 0 dX1_word_10 rfl rfl ?_
    refine fg_iload_n S 1 1 dX1_word_11 rfl rfl ?_
    refine cm_ro S hRm 1 (met_X1_power n (by omega)) rfl q235 q237 qs13 q23 q238 ok_X1_power (by decide) rfl rfl (Nat.le_of_ble_eq_true rfl) dX1_word_12 ?_
    refine fg_istore_n (lv' := [(0, .ref (bd 0)), (1, .int (nI n)), (2, .int y), (3, .int (nI (p3 n)))]) S [1, 2, 3, 0] dX1_word_15 rfl hN (by decide) rfl ?_
    refine fg_ic (v := nI 0) S dX1_word_16 (by decide) ?_
    refine fg_istore (lv' := [(0, .ref (bd 0)), (1, .int (nI n)), (2, .int y), (3, .int (nI (p3 n))), (4, .int (nI 0))]) S [1, 2, 3, 4, 0] dX1_word_17 hN (by decide) rfl ?_
    refine fg_ic (v := nI 0) S dX1_word_19 (by decide) ?_
    refine fg_istore (lv' := [(0, .ref (bd 0)), (1, .int (nI n)), (2, .int y), (3, .int (nI (p3 n))), (4, .int (nI 0)), (5, .int (nI 0))]) S [1, 2, 3, 4, 5, 0] dX1_word_20 hN (by decide) rfl ?_
    have lp : ∀ (fuel : Nat) (c : Nat) (f : Nat), (c ≤ p3 n) → (f = cnt (goodF ba n) c) → (selF (goodF ba n) y.toInt c (p3 n - c) = selF (goodF ba n) y.toInt 0 (p3 n)) → (p3 n - c) < fuel → fwG X (MW bd ck ba nw lt hd) 22 [(0, .ref (bd 0)), (1, .int (nI n)), (2, .int y), (3, .int (nI (p3 n))), (4, .int (nI f)), (5, .int (nI c))] [] := by
      intro fuel
      induction fuel with
      | zero => intro c f hc hf he hfu; exact absurd hfu (Nat.not_lt_zero _)
      | succ fuel ih_lp =>
        intro c f hc hf he hfu
        have hcl := cnt_le (goodF ba n) c
        refine fg_iload S 5 dX1_word_22 rfl ?_
        refine fg_iload_n S 3 3 dX1_word_24 rfl rfl ?_
        refine fg_icmp_ge S 56 dX1_word_25 (by decide) (by omega) (by omega) (fun h_1 => ?_) (fun h_1 => ?_)
        · refine fg_bi (v := -2) S dX1_word_56 (by decide) ?_
          refine fg_topi (y := (aWord ba n y.toInt)) (by unfold aWord; rw [sLen_ok hn, ← he, show p3 n - c = 0 by omega]; rfl) ?_
          exact hret _ _ dX1_word_58
        · obtain ⟨j, hj⟩ : ∃ j, p3 n - c = j + 1 := ⟨p3 n - c - 1, by omega⟩
          have hst : selF (goodF ba n) y.toInt c (p3 n - c) = if goodF ba n c = true ∧ (cnt (goodF ba n) c : Int) = y.toInt then nI c else selF (goodF ba n) y.toInt (c + 1) (p3 n - (c + 1)) := by rw [hj, show p3 n - (c + 1) = j by omega]; rfl
          refine fg_aload_n S 0 0 dX1_word_28 rfl rfl ?_
          refine fg_iload_n S 1 1 dX1_word_29 rfl rfl ?_
          refine fg_iload S 5 dX1_word_30 rfl ?_
          refine cm_ro S hRm 2 (met_X1_good n c (by omega) (by omega)) rfl q239 q241 qs14 q23 q242 ok_X1_good (by decide) rfl rfl (Nat.le_of_ble_eq_true rfl) dX1_word_32 ?_
          refine fg_if_eq S 50 dX1_word_35 (by decide) dec_lt (fun h_2 => ?_) (fun h_2 => ?_)
          · refine fg_iinc (lv' := [(0, .ref (bd 0)), (1, .int (nI n)), (2, .int y), (3, .int (nI (p3 n))), (4, .int (nI f)), (5, .int (nI (c + 1)))]) S 5 [1, 2, 3, 4, 5, 0] dX1_word_50 rfl (inc_1 _) hN (by decide) rfl ?_
            refine fg_goto S 22 dX1_word_53 (by decide) ?_
            exact ih_lp (c + 1) f (by omega) (by rw [cnt_s, tn_0 h_2, hf]; rfl) (by rw [← he, hst, if_neg (fun q => by rw [tn_0 h_2] at q; exact absurd q.1 (by decide))]) (by omega)
          · refine fg_iload S 4 dX1_word_38 rfl ?_
            refine fg_iload_n S 2 2 dX1_word_40 rfl rfl ?_
            refine fg_icmpZ_ne S 47 dX1_word_41 (by decide) (nI_toInt (by omega)) rfl (fun h_3 => ?_) (fun h_3 => ?_)
            · refine fg_iinc (lv' := [(0, .ref (bd 0)), (1, .int (nI n)), (2, .int y), (3, .int (nI (p3 n))), (4, .int (nI (f + 1))), (5, .int (nI c))]) S 4 [1, 2, 3, 4, 0, 5] dX1_word_47 rfl (inc_1 _) hN (by decide) rfl ?_
              refine fg_iinc (lv' := [(0, .ref (bd 0)), (1, .int (nI n)), (2, .int y), (3, .int (nI (p3 n))), (4, .int (nI (f + 1))), (5, .int (nI (c + 1)))]) S 5 [1, 2, 3, 4, 5, 0] dX1_word_50 rfl (inc_1 _) hN (by decide) rfl ?_
              refine fg_goto S 22 dX1_word_53 (by decide) ?_
              exact ih_lp (c + 1) (f + 1) (by omega) (by rw [cnt_s, tn_1 h_2, hf]; rfl) (by rw [← he, hst, if_neg (fun q => h_3 (by rw [hf]; exact q.2))]) (by omega)
            · refine fg_iload S 5 dX1_word_44 rfl ?_
              refine fg_topi (y := (aWord ba n y.toInt)) (by unfold aWord; rw [sLen_ok hn, ← he, hst, if_pos ⟨tn_1 h_2, by rw [← hf]; exact h_3⟩]) ?_
              exact hret _ _ dX1_word_46
    exact lp ((p3 n - 0) + 1) 0 0 (Nat.zero_le _) rfl rfl (Nat.lt_succ_self _)
  · refine fg_ic (v := -1) S dX1_word_8 (by decide) ?_
    refine fg_topi (y := (aWord ba x.toInt y.toInt)) (sLen_bad (dec_ne h_l)).symm ?_
    exact hret _ _ dX1_word_9
set_option maxHeartbeats 4000000 in
set_option maxRecDepth 100000 in
/-- next -/
theorem met_X1_next {l : Launch} {D : va_G} {ck : Nat → ClassId} {bd : Nat → Nat} {ba : Nat → Bool} {nw lt : Nat → Nat} {hd : Nat} (x y : Int32) : Met l yX1_next (ws_ yX1_next cX1_next 5 (some .int)) (rmL 3) (roP D (tysX ck) (MW bd ck ba nw lt hd) [.ref (bd 0), .int x, .int y]) (roQ (.int (aNext ba x.toInt y.toInt))) 0 0 (fun _ => False) := by
  refine ro_i (lv0 := [(0, .ref (bd 0)), (1, .int x), (2, .int y)]) (by decide) (Nat.le_of_ble_eq_true rfl) rfl (fun X B hret => ?_)
  obtain ⟨S, hN, hRm, rfl, rfl⟩ := B
  have S : fwC X cX1_next RX1 (tysX ck) := S
  refine fg_aload_n S 0 0 dX1_next_0 rfl rfl ?_
  refine fg_iload_n S 1 1 dX1_next_1 rfl rfl ?_
  refine cm_ro S hRm 1 (met_X1_badLength (x)) rfl q227 q229 qs11 q23 q230 ok_X1_badLength (by decide) rfl rfl (Nat.le_of_ble_eq_true rfl) dX1_next_2 ?_
  refine fg_if_eq S 10 dX1_next_5 (by decide) dec_lt (fun h_l => ?_) (fun h_l => ?_)
  · have h_l : 0 ≤ x.toInt ∧ x.toInt ≤ 9 := by have := dec_eq h_l; omega
    obtain ⟨n, hn, rfl, ex⟩ := i_nat (x := x) (n := 9) h_l.1 h_l.2 (by omega)
    rw [ex] at hret
    have hp9 := p3_le9 hn
    have hp0 := p3_pos n
    refine fg_aload_n S 0 0 dX1_next_10 rfl rfl ?_
    refine fg_iload_n S 1 1 dX1_next_11 rfl rfl ?_
    refine cm_ro S hRm 1 (met_X1_power n (by omega)) rfl q235 q237 qs13 q23 q238 ok_X1_power (by decide) rfl rfl (Nat.le_of_ble_eq_true rfl) dX1_next_12 ?_
    refine fg_istore_n (lv' := [(0, .ref (bd 0)), (1, .int (nI n)), (2, .int y), (3, .int (nI (p3 n)))]) S [1, 2, 3, 0] dX1_next_15 rfl hN (by decide) rfl ?_
    refine fg_ic (v := nI 0) S dX1_next_16 (by decide) ?_
    refine fg_istore (lv' := [(0, .ref (bd 0)), (1, .int (nI n)), (2, .int y), (3, .int (nI (p3 n))), (4, .int (nI 0))]) S [1, 2, 3, 4, 0] dX1_next_17 hN (by decide) rfl ?_
    have lp : ∀ (fuel : Nat) (c : Nat), (c ≤ p3 n) → (nxtF (goodF ba n) y.toInt c (p3 n - c) = nxtF (goodF ba n) y.toInt 0 (p3 n)) → (p3 n - c) < fuel → fwG X (MW bd ck ba nw lt hd) 19 [(0, .ref (bd 0)), (1, .int (nI n)), (2, .int y), (3, .int (nI (p3 n))), (4, .int (nI c))] [] := by
      intro fuel
      induction fuel with
      | zero => intro c hc he hfu; exact absurd hfu (Nat.not_lt_zero _)
      | succ fuel ih_lp =>
        intro c hc he hfu
        refine fg_iload S 4 dX1_next_19 rfl ?_
        refine fg_iload_n S 3 3 dX1_next_21 rfl rfl ?_
        refine fg_icmp_ge S 50 dX1_next_22 (by decide) (by omega) (by omega) (fun h_1 => ?_) (fun h_1 => ?_)
        · refine fg_bi (v := -2) S dX1_next_50 (by decide) ?_
          refine fg_topi (y := (aNext ba n y.toInt)) (by unfold aNext; rw [sLen_ok hn, ← he, show p3 n - c = 0 by omega]; rfl) ?_
          exact hret _ _ dX1_next_52
        · obtain ⟨j, hj⟩ : ∃ j, p3 n - c = j + 1 := ⟨p3 n - c - 1, by omega⟩
          have hst : nxtF (goodF ba n) y.toInt c (p3 n - c) = if y.toInt < (c : Int) ∧ goodF ba n c = true then nI c else nxtF (goodF ba n) y.toInt (c + 1) (p3 n - (c + 1)) := by rw [hj, show p3 n - (c + 1) = j by omega]; rfl
          refine fg_iload S 4 dX1_next_25 rfl ?_
          refine fg_iload_n S 2 2 dX1_next_27 rfl rfl ?_
          refine fg_icmpZ_le S 44 dX1_next_28 (by decide) (nI_toInt (by omega)) rfl (fun h_2 => ?_) (fun h_2 => ?_)
          · refine fg_iinc (lv' := [(0, .ref (bd 0)), (1, .int (nI n)), (2, .int y), (3, .int (nI (p3 n))), (4, .int (nI (c + 1)))]) S 4 [1, 2, 3, 4, 0] dX1_next_44 rfl (inc_1 _) hN (by decide) rfl ?_
            refine fg_goto S 19 dX1_next_47 (by decide) ?_
            exact ih_lp (c + 1) (by omega) (by rw [← he, hst, if_neg (fun q => by have := q.1; omega)]) (by omega)
          · refine fg_aload_n S 0 0 dX1_next_31 rfl rfl ?_
            refine fg_iload_n S 1 1 dX1_next_32 rfl rfl ?_
            refine fg_iload S 4 dX1_next_33 rfl ?_
            refine cm_ro S hRm 2 (met_X1_good n c (by omega) (by omega)) rfl q239 q241 qs14 q23 q242 ok_X1_good (by decide) rfl rfl (Nat.le_of_ble_eq_true rfl) dX1_next_35 ?_
            refine fg_if_eq S 44 dX1_next_38 (by decide) dec_lt (fun h_3 => ?_) (fun h_3 => ?_)
            · refine fg_iinc (lv' := [(0, .ref (bd 0)), (1, .int (nI n)), (2, .int y), (3, .int (nI (p3 n))), (4, .int (nI (c + 1)))]) S 4 [1, 2, 3, 4, 0] dX1_next_44 rfl (inc_1 _) hN (by decide) rfl ?_
              refine fg_goto S 19 dX1_next_47 (by decide) ?_
              exact ih_lp (c + 1) (by omega) (by rw [← he, hst, if_neg (fun q => by rw [tn_0 h_3] at q; exact absurd q.2 (by decide))]) (by omega)
            · refine fg_iload S 4 dX1_next_41 rfl ?_
              refine fg_topi (y := (aNext ba n y.toInt)) (by unfold aNext; rw [sLen_ok hn, ← he, hst, if_pos ⟨h_2, tn_1 h_3⟩]) ?_
              exact hret _ _ dX1_next_43
    exact lp ((p3 n - 0) + 1) 0 (Nat.zero_le _) rfl (Nat.lt_succ_self _)
  · refine fg_ic (v := -1) S dX1_next_8 (by decide) ?_
    refine fg_topi (y := (aNext ba x.toInt y.toInt)) (sLen_bad (dec_ne h_l)).symm ?_
    exact hret _ _ dX1_next_9
set_option maxHeartbeats 4000000 in
set_option maxRecDepth 100000 in
/-- beginning -/
theorem met_X1_beginning {l : Launch} {D : va_G} {ck : Nat → ClassId} {bd : Nat → Nat} {ba : Nat → Bool} {nw lt : Nat → Nat} {hd : Nat} (x y : Int32) : Met l yX1_beginning (ws_ yX1_beginning cX1_beginning 8 (some .int)) (rmL 3) (roP D (tysX ck) (MW bd ck ba nw lt hd) [.ref (bd 0), .int x, .int y]) (roQ (.int (aBeginning ba x.toInt y.toInt))) 0 0 (fun _ => False) := by
  refine ro_i (lv0 := [(0, .ref (bd 0)), (1, .int x), (2, .int y)]) (by decide) (Nat.le_of_ble_eq_true rfl) rfl (fun X B hret => ?_)
  obtain ⟨S, hN, hRm, rfl, rfl⟩ := B
  have S : fwC X cX1_beginning RX1 (tysX ck) := S
  refine fg_aload_n S 0 0 dX1_beginning_0 rfl rfl ?_
  refine fg_iload_n S 1 1 dX1_beginning_1 rfl rfl ?_
  refine cm_ro S hRm 1 (met_X1_badLength (x)) rfl q227 q229 qs11 q23 q230 ok_X1_badLength (by decide) rfl rfl (Nat.le_of_ble_eq_true rfl) dX1_beginning_2 ?_
  refine fg_if_eq S 10 dX1_beginning_5 (by decide) dec_lt (fun h_l => ?_) (fun h_l => ?_)
  · have h_l : 0 ≤ x.toInt ∧ x.toInt ≤ 9 := by have := dec_eq h_l; omega
    obtain ⟨n, hn, rfl, ex⟩ := i_nat (x := x) (n := 9) h_l.1 h_l.2 (by omega)
    rw [ex] at hret
    have hp9 := p3_le9 hn
    have hp0 := p3_pos n
    have hlt4 : ltF y.toInt < 2 ^ 31 := by unfold ltF; split; omega; split; omega; split; omega; split <;> omega
    refine fg_aload_n S 0 0 dX1_beginning_10 rfl rfl ?_
    refine fg_iload_n S 2 2 dX1_beginning_11 rfl rfl ?_
    refine cm_ro S hRm 1 (met_X1_letters (y)) rfl q211 q213 qs10 q23 q214 ok_X1_letters (by decide) rfl rfl (Nat.le_of_ble_eq_true rfl) dX1_beginning_12 ?_
    refine fg_istore_n (lv' := [(0, .ref (bd 0)), (1, .int (nI n)), (2, .int y), (3, .int (nI (ltF (y).toInt)))]) S [1, 2, 3, 0] dX1_beginning_15 rfl hN (by decide) rfl ?_
    refine fg_iload_n S 3 3 dX1_beginning_16 rfl rfl ?_
    refine fg_if_ne S 23 dX1_beginning_17 (by decide) (by omega) (fun h_p => ?_) (fun h_p => ?_)
    · obtain ⟨p, k, rfl, ey, hlt, hsz, hk1, hk4, hp1, hp2, hp3⟩ := pc_of (x := y) (by omega)
      rw [ey] at hret
      rw [hlt]
      rw [ey] at hlt hsz
      have hk : 1 ≤ k ∧ k ≤ 4 := ⟨hk1, hk4⟩
      have hp : p3 k ≤ p ∧ p < 2 * p3 k := ⟨hp1, hp2⟩
      refine fg_iload_n S 1 1 dX1_beginning_23 rfl rfl ?_
      refine fg_iload_n S 3 3 dX1_beginning_24 rfl rfl ?_
      refine fg_icmp_ge S 30 dX1_beginning_25 (by decide) (by omega) (by omega) (fun h_1 => ?_) (fun h_1 => ?_)
      · have hmul : (p - p3 k + 1) * p3 (n - k) ≤ p3 n := by rw [show n = k + (n - k) by omega, p3_add, show k + (n - k) - k = n - k by omega]; exact Nat.mul_le_mul_right _ (by omega)
        rw [Nat.succ_mul] at hmul
        refine fg_aload_n S 0 0 dX1_beginning_30 rfl rfl ?_
        refine fg_iload_n S 1 1 dX1_beginning_31 rfl rfl ?_
        refine fg_iload_n S 3 3 dX1_beginning_32 rfl rfl ?_
        refine fg_isub S dX1_beginning_33 (by omega) ?_
        refine cm_ro S hRm 1 (met_X1_power (n - k) (by omega)) rfl q235 q237 qs13 q23 q238 ok_X1_power (by decide) rfl rfl (Nat.le_of_ble_eq_true rfl) dX1_beginning_34 ?_
        refine fg_istore (lv' := [(0, .ref (bd 0)), (1, .int (nI n)), (2, .int (nI p)), (3, .int (nI k)), (4, .int (nI (p3 (n - k))))]) S [1, 2, 3, 4, 0] dX1_beginning_37 hN (by decide) rfl ?_
        refine fg_iload_n S 2 2 dX1_beginning_39 rfl rfl ?_
        refine fg_aload_n S 0 0 dX1_beginning_40 rfl rfl ?_
        refine fg_iload_n S 3 3 dX1_beginning_41 rfl rfl ?_
        refine cm_ro S hRm 1 (met_X1_power k (by omega)) rfl q235 q237 qs13 q23 q238 ok_X1_power (by decide) rfl rfl (Nat.le_of_ble_eq_true rfl) dX1_beginning_42 ?_
        refine fg_isub S dX1_beginning_45 (by omega) ?_
        refine fg_istore (lv' := [(0, .ref (bd 0)), (1, .int (nI n)), (2, .int (nI p)), (3, .int (nI k)), (4, .int (nI (p3 (n - k)))), (5, .int (nI (p - (p3 k))))]) S [1, 2, 3, 4, 5, 0] dX1_beginning_46 hN (by decide) rfl ?_
        refine fg_ic (v := nI 0) S dX1_beginning_48 (by decide) ?_
        refine fg_istore (lv' := [(0, .ref (bd 0)), (1, .int (nI n)), (2, .int (nI p)), (3, .int (nI k)), (4, .int (nI (p3 (n - k)))), (5, .int (nI (p - (p3 k)))), (6, .int (nI 0))]) S [1, 2, 3, 4, 5, 6, 0] dX1_beginning_49 hN (by decide) rfl ?_
        refine fg_iload S 5 dX1_beginning_51 rfl ?_
        refine fg_iload S 4 dX1_beginning_53 rfl ?_
        refine fg_imul S dX1_beginning_55 ?_
        refine fg_istore (lv' := [(0, .ref (bd 0)), (1, .int (nI n)), (2, .int (nI p)), (3, .int (nI k)), (4, .int (nI (p3 (n - k)))), (5, .int (nI (p - (p3 k)))), (6, .int (nI 0)), (7, .int (nI ((p - (p3 k)) * (p3 (n - k)))))]) S [1, 2, 3, 4, 5, 6, 7, 0] dX1_beginning_56 hN (by decide) rfl ?_
        have lp : ∀ (fuel : Nat) (c_ : Nat) (f : Nat), (c_ ≤ p3 (n - k)) → (f = cnt (fun c => goodF ba n ((p - p3 k) * p3 (n - k) + c)) c_) → (p3 (n - k) - c_) < fuel → fwG X (MW bd ck ba nw lt hd) 58 [(0, .ref (bd 0)), (1, .int (nI n)), (2, .int (nI p)), (3, .int (nI k)), (4, .int (nI (p3 (n - k)))), (5, .int (nI (p - p3 k))), (6, .int (nI f)), (7, .int (nI ((p - p3 k) * p3 (n - k) + c_)))] [] := by
          intro fuel
          induction fuel with
          | zero => intro c_ f hc_ hf hfu; exact absurd hfu (Nat.not_lt_zero _)
          | succ fuel ih_lp =>
            intro c_ f hc_ hf hfu
            refine fg_iload S 7 dX1_beginning_58 rfl ?_
            refine fg_iload S 5 dX1_beginning_60 rfl ?_
            refine fg_ic (v := nI 1) S dX1_beginning_62 (by decide) ?_
            refine fg_iadd S dX1_beginning_63 ?_
            refine fg_iload S 4 dX1_beginning_64 rfl ?_
            refine fg_imul S dX1_beginning_66 ?_
            refine fg_topn (b := (p - p3 k) * p3 (n - k) + p3 (n - k)) (Nat.succ_mul _ _) ?_
            refine fg_icmp_ge S 89 dX1_beginning_67 (by decide) (by omega) (by omega) (fun h_2 => ?_) (fun h_2 => ?_)
            · refine fg_iload S 6 dX1_beginning_89 rfl ?_
              refine fg_topi (y := (aBeginning ba n p)) (by unfold aBeginning; rw [sPc_ok hn hlt hk1, if_neg (by omega), hf, show c_ = p3 (n - k) by omega]) ?_
              exact hret _ _ dX1_beginning_91
            · refine fg_aload_n S 0 0 dX1_beginning_70 rfl rfl ?_
              refine fg_iload_n S 1 1 dX1_beginning_71 rfl rfl ?_
              refine fg_iload S 7 dX1_beginning_72 rfl ?_
              refine cm_ro S hRm 2 (met_X1_good n ((p - p3 k) * p3 (n - k) + c_) (by omega) (by omega)) rfl q239 q241 qs14 q23 q242 ok_X1_good (by decide) rfl rfl (Nat.le_of_ble_eq_true rfl) dX1_beginning_74 ?_
              refine fg_if_eq S 83 dX1_beginning_77 (by decide) dec_lt (fun h_3 => ?_) (fun h_3 => ?_)
              · refine fg_iinc (lv' := [(0, .ref (bd 0)), (1, .int (nI n)), (2, .int (nI p)), (3, .int (nI k)), (4, .int (nI (p3 (n - k)))), (5, .int (nI (p - p3 k))), (6, .int (nI f)), (7, .int (nI ((p - p3 k) * p3 (n - k) + c_ + 1)))]) S 7 [1, 2, 3, 4, 5, 6, 7, 0] dX1_beginning_83 rfl (inc_1 _) hN (by decide) rfl ?_
                refine fg_goto S 58 dX1_beginning_86 (by decide) ?_
                exact ih_lp (c_ + 1) f (by omega) (by rw [cnt_s, hf]; rw [tn_0 h_3]; rfl) (by omega)
              · refine fg_iinc (lv' := [(0, .ref (bd 0)), (1, .int (nI n)), (2, .int (nI p)), (3, .int (nI k)), (4, .int (nI (p3 (n - k)))), (5, .int (nI (p - p3 k))), (6, .int (nI (f + 1))), (7, .int (nI ((p - p3 k) * p3 (n - k) + c_)))]) S 6 [1, 2, 3, 4, 5, 6, 0, 7] dX1_beginning_80 rfl (inc_1 _) hN (by decide) rfl ?_
                refine fg_iinc (lv' := [(0, .ref (bd 0)), (1, .int (nI n)), (2, .int (nI p)), (3, .int (nI k)), (4, .int (nI (p3 (n - k)))), (5, .int (nI (p - p3 k))), (6, .int (nI (f + 1))), (7, .int (nI ((p - p3 k) * p3 (n - k) + c_ + 1)))]) S 7 [1, 2, 3, 4, 5, 6, 7, 0] dX1_beginning_83 rfl (inc_1 _) hN (by decide) rfl ?_
                refine fg_goto S 58 dX1_beginning_86 (by decide) ?_
                exact ih_lp (c_ + 1) (f + 1) (by omega) (by rw [cnt_s, hf]; rw [tn_1 h_3]; rfl) (by omega)
        exact lp ((p3 (n - k) - 0) + 1) 0 0 (Nat.zero_le _) rfl (Nat.lt_succ_self _)
      · refine fg_ic (v := nI 0) S dX1_beginning_28 (by decide) ?_
        refine fg_topi (y := (aBeginning ba n p)) (by unfold aBeginning; rw [sPc_ok hn hlt hk1, if_pos (by omega)]) ?_
        exact hret _ _ dX1_beginning_29
    · refine fg_bi (v := -2) S dX1_beginning_20 (by decide) ?_
      refine fg_topi (y := (aBeginning ba n y.toInt)) (sPc_bad2 hn h_p).symm ?_
      exact hret _ _ dX1_beginning_22
  · refine fg_ic (v := -1) S dX1_beginning_8 (by decide) ?_
    refine fg_topi (y := (aBeginning ba x.toInt y.toInt)) (sPc_bad (dec_ne h_l)).symm ?_
    exact hret _ _ dX1_beginning_9
set_option maxHeartbeats 4000000 in
set_option maxRecDepth 100000 in
/-- ending -/
theorem met_X1_ending {l : Launch} {D : va_G} {ck : Nat → ClassId} {bd : Nat → Nat} {ba : Nat → Bool} {nw lt : Nat → Nat} {hd : Nat} (x y : Int32) : Met l yX1_ending (ws_ yX1_ending cX1_ending 7 (some .int)) (rmL 3) (roP D (tysX ck) (MW bd ck ba nw lt hd) [.ref (bd 0), .int x, .int y]) (roQ (.int (aEnding ba x.toInt y.toInt))) 0 0 (fun _ => False) := by
  refine ro_i (lv0 := [(0, .ref (bd 0)), (1, .int x), (2, .int y)]) (by decide) (Nat.le_of_ble_eq_true rfl) rfl (fun X B hret => ?_)
  obtain ⟨S, hN, hRm, rfl, rfl⟩ := B
  have S : fwC X cX1_ending RX1 (tysX ck) := S
  refine fg_aload_n S 0 0 dX1_ending_0 rfl rfl ?_
  refine fg_iload_n S 1 1 dX1_ending_1 rfl rfl ?_
  refine cm_ro S hRm 1 (met_X1_badLength (x)) rfl q227 q229 qs11 q23 q230 ok_X1_badLength (by decide) rfl rfl (Nat.le_of_ble_eq_true rfl) dX1_ending_2 ?_
  refine fg_if_eq S 10 dX1_ending_5 (by decide) dec_lt (fun h_l => ?_) (fun h_l => ?_)
  · have h_l : 0 ≤ x.toInt ∧ x.toInt ≤ 9 := by have := dec_eq h_l; omega
    obtain ⟨n, hn, rfl, ex⟩ := i_nat (x := x) (n := 9) h_l.1 h_l.2 (by omega)
    rw [ex] at hret
    have hp9 := p3_le9 hn
    have hp0 := p3_pos n
    have hlt4 : ltF y.toInt < 2 ^ 31 := by unfold ltF; split; omega; split; omega; split; omega; split <;> omega
    refine fg_aload_n S 0 0 dX1_ending_10 rfl rfl ?_
    refine fg_iload_n S 2 2 dX1_ending_11 rfl rfl ?_
    refine cm_ro S hRm 1 (met_X1_letters (y)) rfl q211 q213 qs10 q23 q214 ok_X1_letters (by decide) rfl rfl (Nat.le_of_ble_eq_true rfl) dX1_ending_12 ?_
    refine fg_istore_n (lv' := [(0, .ref (bd 0)), (1, .int (nI n)), (2, .int y), (3, .int (nI (ltF (y).toInt)))]) S [1, 2, 3, 0] dX1_ending_15 rfl hN (by decide) rfl ?_
    refine fg_iload_n S 3 3 dX1_ending_16 rfl rfl ?_
    refine fg_if_ne S 23 dX1_ending_17 (by decide) (by omega) (fun h_p => ?_) (fun h_p => ?_)
    · obtain ⟨p, k, rfl, ey, hlt, hsz, hk1, hk4, hp1, hp2, hp3⟩ := pc_of (x := y) (by omega)
      rw [ey] at hret
      rw [hlt]
      rw [ey] at hlt hsz
      have hk : 1 ≤ k ∧ k ≤ 4 := ⟨hk1, hk4⟩
      have hp : p3 k ≤ p ∧ p < 2 * p3 k := ⟨hp1, hp2⟩
      refine fg_aload_n S 0 0 dX1_ending_23 rfl rfl ?_
      refine fg_iload_n S 1 1 dX1_ending_24 rfl rfl ?_
      refine cm_ro S hRm 1 (met_X1_power n (by omega)) rfl q235 q237 qs13 q23 q238 ok_X1_power (by decide) rfl rfl (Nat.le_of_ble_eq_true rfl) dX1_ending_25 ?_
      refine fg_istore (lv' := [(0, .ref (bd 0)), (1, .int (nI n)), (2, .int (nI p)), (3, .int (nI k)), (4, .int (nI (p3 n)))]) S [1, 2, 3, 4, 0] dX1_ending_28 hN (by decide) rfl ?_
      refine fg_ic (v := nI 0) S dX1_ending_30 (by decide) ?_
      refine fg_istore (lv' := [(0, .ref (bd 0)), (1, .int (nI n)), (2, .int (nI p)), (3, .int (nI k)), (4, .int (nI (p3 n))), (5, .int (nI 0))]) S [1, 2, 3, 4, 5, 0] dX1_ending_31 hN (by decide) rfl ?_
      refine fg_ic (v := nI 0) S dX1_ending_33 (by decide) ?_
      refine fg_istore (lv' := [(0, .ref (bd 0)), (1, .int (nI n)), (2, .int (nI p)), (3, .int (nI k)), (4, .int (nI (p3 n))), (5, .int (nI 0)), (6, .int (nI 0))]) S [1, 2, 3, 4, 5, 6, 0] dX1_ending_34 hN (by decide) rfl ?_
      have lp : ∀ (fuel : Nat) (c_ : Nat) (f : Nat), (c_ ≤ p3 n) → (f = cnt (fun c => stB n c p k && goodF ba n c) c_) → (p3 n - c_) < fuel → fwG X (MW bd ck ba nw lt hd) 36 [(0, .ref (bd 0)), (1, .int (nI n)), (2, .int (nI p)), (3, .int (nI k)), (4, .int (nI (p3 n))), (5, .int (nI f)), (6, .int (nI c_))] [] := by
        intro fuel
        induction fuel with
        | zero => intro c_ f hc_ hf hfu; exact absurd hfu (Nat.not_lt_zero _)
        | succ fuel ih_lp =>
          intro c_ f hc_ hf hfu
          refine fg_iload S 6 dX1_ending_36 rfl ?_
          refine fg_iload S 4 dX1_ending_38 rfl ?_
          refine fg_icmp_ge S 74 dX1_ending_40 (by decide) (by omega) (by omega) (fun h_1 => ?_) (fun h_1 => ?_)
          · refine fg_iload S 5 dX1_ending_74 rfl ?_
            refine fg_topi (y := (aEnding ba n p)) (by unfold aEnding; rw [sPc_ok hn hlt hk1, hf, show c_ = p3 n by omega]) ?_
            exact hret _ _ dX1_ending_76
          · refine fg_aload_n S 0 0 dX1_ending_43 rfl rfl ?_
            refine fg_iload_n S 1 1 dX1_ending_44 rfl rfl ?_
            refine fg_iload S 6 dX1_ending_45 rfl ?_
            refine fg_iload_n S 2 2 dX1_ending_47 rfl rfl ?_
            refine fg_iload_n S 3 3 dX1_ending_48 rfl rfl ?_
            refine cm_ro S hRm 4 (met_X1_stands n c_ p k (by omega) (by omega) hk hp) rfl q284 q286 qs18 q23 q287 ok_X1_stands (by decide) rfl rfl (Nat.le_of_ble_eq_true rfl) dX1_ending_49 ?_
            refine fg_if_eq S 68 dX1_ending_52 (by decide) dec_lt (fun h_2 => ?_) (fun h_2 => ?_)
            · refine fg_iinc (lv' := [(0, .ref (bd 0)), (1, .int (nI n)), (2, .int (nI p)), (3, .int (nI k)), (4, .int (nI (p3 n))), (5, .int (nI f)), (6, .int (nI (c_ + 1)))]) S 6 [1, 2, 3, 4, 5, 6, 0] dX1_ending_68 rfl (inc_1 _) hN (by decide) rfl ?_
              refine fg_goto S 36 dX1_ending_71 (by decide) ?_
              exact ih_lp (c_ + 1) f (by omega) (by rw [cnt_s, hf]; rw [show (stB n c_ p k && goodF ba n c_) = false by rw [tn_0 h_2, Bool.false_and]]; rfl) (by omega)
            · refine fg_aload_n S 0 0 dX1_ending_55 rfl rfl ?_
              refine fg_iload_n S 1 1 dX1_ending_56 rfl rfl ?_
              refine fg_iload S 6 dX1_ending_57 rfl ?_
              refine cm_ro S hRm 2 (met_X1_good n c_ (by omega) (by omega)) rfl q239 q241 qs14 q23 q242 ok_X1_good (by decide) rfl rfl (Nat.le_of_ble_eq_true rfl) dX1_ending_59 ?_
              refine fg_if_eq S 68 dX1_ending_62 (by decide) dec_lt (fun h_3 => ?_) (fun h_3 => ?_)
              · refine fg_iinc (lv' := [(0, .ref (bd 0)), (1, .int (nI n)), (2, .int (nI p)), (3, .int (nI k)), (4, .int (nI (p3 n))), (5, .int (nI f)), (6, .int (nI (c_ + 1)))]) S 6 [1, 2, 3, 4, 5, 6, 0] dX1_ending_68 rfl (inc_1 _) hN (by decide) rfl ?_
                refine fg_goto S 36 dX1_ending_71 (by decide) ?_
                exact ih_lp (c_ + 1) f (by omega) (by rw [cnt_s, hf]; rw [show (stB n c_ p k && goodF ba n c_) = false by rw [tn_0 h_3, Bool.and_false]]; rfl) (by omega)
              · refine fg_iinc (lv' := [(0, .ref (bd 0)), (1, .int (nI n)), (2, .int (nI p)), (3, .int (nI k)), (4, .int (nI (p3 n))), (5, .int (nI (f + 1))), (6, .int (nI c_))]) S 5 [1, 2, 3, 4, 5, 0, 6] dX1_ending_65 rfl (inc_1 _) hN (by decide) rfl ?_
                refine fg_iinc (lv' := [(0, .ref (bd 0)), (1, .int (nI n)), (2, .int (nI p)), (3, .int (nI k)), (4, .int (nI (p3 n))), (5, .int (nI (f + 1))), (6, .int (nI (c_ + 1)))]) S 6 [1, 2, 3, 4, 5, 6, 0] dX1_ending_68 rfl (inc_1 _) hN (by decide) rfl ?_
                refine fg_goto S 36 dX1_ending_71 (by decide) ?_
                exact ih_lp (c_ + 1) (f + 1) (by omega) (by rw [cnt_s, hf]; rw [show (stB n c_ p k && goodF ba n c_) = true by rw [tn_1 h_2, tn_1 h_3]; rfl]; rfl) (by omega)
      exact lp ((p3 n - 0) + 1) 0 0 (Nat.zero_le _) rfl (Nat.lt_succ_self _)
    · refine fg_bi (v := -2) S dX1_ending_20 (by decide) ?_
      refine fg_topi (y := (aEnding ba n y.toInt)) (sPc_bad2 hn h_p).symm ?_
      exact hret _ _ dX1_ending_22
  · refine fg_ic (v := -1) S dX1_ending_8 (by decide) ?_
    refine fg_topi (y := (aEnding ba x.toInt y.toInt)) (sPc_bad (dec_ne h_l)).symm ?_
    exact hret _ _ dX1_ending_9
set_option maxHeartbeats 4000000 in
set_option maxRecDepth 100000 in
/-- standing -/
theorem met_X1_standing {l : Launch} {D : va_G} {ck : Nat → ClassId} {bd : Nat → Nat} {ba : Nat → Bool} {nw lt : Nat → Nat} {hd : Nat} (x y : Int32) : Met l yX1_standing (ws_ yX1_standing cX1_standing 7 (some .int)) (rmL 3) (roP D (tysX ck) (MW bd ck ba nw lt hd) [.ref (bd 0), .int x, .int y]) (roQ (.int (aStanding ba x.toInt y.toInt))) 0 0 (fun _ => False) := by
  refine ro_i (lv0 := [(0, .ref (bd 0)), (1, .int x), (2, .int y)]) (by decide) (Nat.le_of_ble_eq_true rfl) rfl (fun X B hret => ?_)
  obtain ⟨S, hN, hRm, rfl, rfl⟩ := B
  have S : fwC X cX1_standing RX1 (tysX ck) := S
  refine fg_aload_n S 0 0 dX1_standing_0 rfl rfl ?_
  refine fg_iload_n S 1 1 dX1_standing_1 rfl rfl ?_
  refine cm_ro S hRm 1 (met_X1_badLength (x)) rfl q227 q229 qs11 q23 q230 ok_X1_badLength (by decide) rfl rfl (Nat.le_of_ble_eq_true rfl) dX1_standing_2 ?_
  refine fg_if_eq S 10 dX1_standing_5 (by decide) dec_lt (fun h_l => ?_) (fun h_l => ?_)
  · have h_l : 0 ≤ x.toInt ∧ x.toInt ≤ 9 := by have := dec_eq h_l; omega
    obtain ⟨n, hn, rfl, ex⟩ := i_nat (x := x) (n := 9) h_l.1 h_l.2 (by omega)
    rw [ex] at hret
    have hp9 := p3_le9 hn
    have hp0 := p3_pos n
    have hlt4 : ltF y.toInt < 2 ^ 31 := by unfold ltF; split; omega; split; omega; split; omega; split <;> omega
    refine fg_aload_n S 0 0 dX1_standing_10 rfl rfl ?_
    refine fg_iload_n S 2 2 dX1_standing_11 rfl rfl ?_
    refine cm_ro S hRm 1 (met_X1_letters (y)) rfl q211 q213 qs10 q23 q214 ok_X1_letters (by decide) rfl rfl (Nat.le_of_ble_eq_true rfl) dX1_standing_12 ?_
    refine fg_istore_n (lv' := [(0, .ref (bd 0)), (1, .int (nI n)), (2, .int y), (3, .int (nI (ltF (y).toInt)))]) S [1, 2, 3, 0] dX1_standing_15 rfl hN (by decide) rfl ?_
    refine fg_iload_n S 3 3 dX1_standing_16 rfl rfl ?_
    refine fg_if_ne S 23 dX1_standing_17 (by decide) (by omega) (fun h_p => ?_) (fun h_p => ?_)
    · obtain ⟨p, k, rfl, ey, hlt, hsz, hk1, hk4, hp1, hp2, hp3⟩ := pc_of (x := y) (by omega)
      rw [ey] at hret
      rw [hlt]
      rw [ey] at hlt hsz
      have hk : 1 ≤ k ∧ k ≤ 4 := ⟨hk1, hk4⟩
      have hp : p3 k ≤ p ∧ p < 2 * p3 k := ⟨hp1, hp2⟩
      refine fg_aload_n S 0 0 dX1_standing_23 rfl rfl ?_
      refine fg_iload_n S 1 1 dX1_standing_24 rfl rfl ?_
      refine cm_ro S hRm 1 (met_X1_power n (by omega)) rfl q235 q237 qs13 q23 q238 ok_X1_power (by decide) rfl rfl (Nat.le_of_ble_eq_true rfl) dX1_standing_25 ?_
      refine fg_istore (lv' := [(0, .ref (bd 0)), (1, .int (nI n)), (2, .int (nI p)), (3, .int (nI k)), (4, .int (nI (p3 n)))]) S [1, 2, 3, 4, 0] dX1_standing_28 hN (by decide) rfl ?_
      refine fg_ic (v := nI 0) S dX1_standing_30 (by decide) ?_
      refine fg_istore (lv' := [(0, .ref (bd 0)), (1, .int (nI n)), (2, .int (nI p)), (3, .int (nI k)), (4, .int (nI (p3 n))), (5, .int (nI 0))]) S [1, 2, 3, 4, 5, 0] dX1_standing_31 hN (by decide) rfl ?_
      refine fg_ic (v := nI 0) S dX1_standing_33 (by decide) ?_
      refine fg_istore (lv' := [(0, .ref (bd 0)), (1, .int (nI n)), (2, .int (nI p)), (3, .int (nI k)), (4, .int (nI (p3 n))), (5, .int (nI 0)), (6, .int (nI 0))]) S [1, 2, 3, 4, 5, 6, 0] dX1_standing_34 hN (by decide) rfl ?_
      have lp : ∀ (fuel : Nat) (c : Nat) (f : Nat), (c ≤ p3 n) → (f = sumF (fun c => if goodF ba n c = true then plF p k n c else 0) c) → (p3 n - c) < fuel → fwG X (MW bd ck ba nw lt hd) 36 [(0, .ref (bd 0)), (1, .int (nI n)), (2, .int (nI p)), (3, .int (nI k)), (4, .int (nI (p3 n))), (5, .int (nI f)), (6, .int (nI c))] [] := by
        intro fuel
        induction fuel with
        | zero => intro c f hc hf hfu; exact absurd hfu (Nat.not_lt_zero _)
        | succ fuel ih_lp =>
          intro c f hc hf hfu
          refine fg_iload S 6 dX1_standing_36 rfl ?_
          refine fg_iload S 4 dX1_standing_38 rfl ?_
          refine fg_icmp_ge S 73 dX1_standing_40 (by decide) (by omega) (by omega) (fun h_1 => ?_) (fun h_1 => ?_)
          · refine fg_iload S 5 dX1_standing_73 rfl ?_
            refine fg_topi (y := (aStanding ba n p)) (by unfold aStanding; rw [sPc_ok hn hlt hk1, hf, show c = p3 n by omega]) ?_
            exact hret _ _ dX1_standing_75
          · refine fg_aload_n S 0 0 dX1_standing_43 rfl rfl ?_
            refine fg_iload_n S 1 1 dX1_standing_44 rfl rfl ?_
            refine fg_iload S 6 dX1_standing_45 rfl ?_
            refine cm_ro S hRm 2 (met_X1_good n c (by omega) (by omega)) rfl q239 q241 qs14 q23 q242 ok_X1_good (by decide) rfl rfl (Nat.le_of_ble_eq_true rfl) dX1_standing_47 ?_
            refine fg_if_eq S 67 dX1_standing_50 (by decide) dec_lt (fun h_2 => ?_) (fun h_2 => ?_)
            · refine fg_iinc (lv' := [(0, .ref (bd 0)), (1, .int (nI n)), (2, .int (nI p)), (3, .int (nI k)), (4, .int (nI (p3 n))), (5, .int (nI f)), (6, .int (nI (c + 1)))]) S 6 [1, 2, 3, 4, 5, 6, 0] dX1_standing_67 rfl (inc_1 _) hN (by decide) rfl ?_
              refine fg_goto S 36 dX1_standing_70 (by decide) ?_
              exact ih_lp (c + 1) f (by omega) (by rw [sumF_s, hf]; rw [if_neg (by rw [tn_0 h_2]; decide)]; rfl) (by omega)
            · refine fg_iload S 5 dX1_standing_53 rfl ?_
              refine fg_aload_n S 0 0 dX1_standing_55 rfl rfl ?_
              refine fg_iload_n S 1 1 dX1_standing_56 rfl rfl ?_
              refine fg_iload S 6 dX1_standing_57 rfl ?_
              refine fg_iload_n S 2 2 dX1_standing_59 rfl rfl ?_
              refine fg_iload_n S 3 3 dX1_standing_60 rfl rfl ?_
              refine cm_ro S hRm 4 (met_X1_places n c p k (by omega) (by omega) hk hp) rfl q292 q294 qs19 q23 q295 ok_X1_places (by decide) rfl rfl (Nat.le_of_ble_eq_true rfl) dX1_standing_61 ?_
              refine fg_iadd S dX1_standing_64 ?_
              refine fg_istore (lv' := [(0, .ref (bd 0)), (1, .int (nI n)), (2, .int (nI p)), (3, .int (nI k)), (4, .int (nI (p3 n))), (5, .int (nI (f + (plF p k n c)))), (6, .int (nI c))]) S [1, 2, 3, 4, 5, 0, 6] dX1_standing_65 hN (by decide) rfl ?_
              refine fg_iinc (lv' := [(0, .ref (bd 0)), (1, .int (nI n)), (2, .int (nI p)), (3, .int (nI k)), (4, .int (nI (p3 n))), (5, .int (nI (f + (plF p k n c)))), (6, .int (nI (c + 1)))]) S 6 [1, 2, 3, 4, 5, 6, 0] dX1_standing_67 rfl (inc_1 _) hN (by decide) rfl ?_
              refine fg_goto S 36 dX1_standing_70 (by decide) ?_
              exact ih_lp (c + 1) (f + plF p k n c) (by omega) (by rw [sumF_s, hf]; rw [if_pos (tn_1 h_2)]) (by omega)
      exact lp ((p3 n - 0) + 1) 0 0 (Nat.zero_le _) rfl (Nat.lt_succ_self _)
    · refine fg_bi (v := -2) S dX1_standing_20 (by decide) ?_
      refine fg_topi (y := (aStanding ba n y.toInt)) (sPc_bad2 hn h_p).symm ?_
      exact hret _ _ dX1_standing_22
  · refine fg_ic (v := -1) S dX1_standing_8 (by decide) ?_
    refine fg_topi (y := (aStanding ba x.toInt y.toInt)) (sPc_bad (dec_ne h_l)).symm ?_
    exact hret _ _ dX1_standing_9
set_option maxHeartbeats 4000000 in
set_option maxRecDepth 100000 in
/-- longest -/
theorem met_X1_longest {l : Launch} {D : va_G} {ck : Nat → ClassId} {bd : Nat → Nat} {ba : Nat → Bool} {nw lt : Nat → Nat} {hd : Nat}  : Met l yX1_longest (ws_ yX1_longest cX1_longest 3 (some .int)) (rmL 3) (roP D (tysX ck) (MW bd ck ba nw lt hd) [.ref (bd 0)]) (roQ (.int (aLongest ba))) 0 0 (fun _ => False) := by
  refine ro_i (lv0 := [(0, .ref (bd 0))]) (by decide) (Nat.le_of_ble_eq_true rfl) rfl (fun X B hret => ?_)
  obtain ⟨S, hN, hRm, rfl, rfl⟩ := B
  have S : fwC X cX1_longest RX1 (tysX ck) := S
  refine fg_ic (v := nI 0) S dX1_longest_0 (by decide) ?_
  refine fg_istore_n (lv' := [(0, .ref (bd 0)), (1, .int (nI 0))]) S [1, 0] dX1_longest_1 rfl hN (by decide) rfl ?_
  refine fg_ic (v := nI 1) S dX1_longest_2 (by decide) ?_
  refine fg_istore_n (lv' := [(0, .ref (bd 0)), (1, .int (nI 0)), (2, .int (nI 1))]) S [1, 2, 0] dX1_longest_3 rfl hN (by decide) rfl ?_
  have lp : ∀ (fuel : Nat) (j : Nat), (j ≤ 9) → (9 - j) < fuel → fwG X (MW bd ck ba nw lt hd) 4 [(0, .ref (bd 0)), (1, .int (nI (lgF ba j))), (2, .int (nI (j + 1)))] [] := by
    intro fuel
    induction fuel with
    | zero => intro j hj hfu; exact absurd hfu (Nat.not_lt_zero _)
    | succ fuel ih_lp =>
      intro j hj hfu
      refine fg_iload_n S 2 2 dX1_longest_4 rfl rfl ?_
      refine fg_bi (v := nI 10) S dX1_longest_5 (by decide) ?_
      refine fg_icmp_ge S 26 dX1_longest_7 (by decide) (by omega) (by omega) (fun h_1 => ?_) (fun h_1 => ?_)
      · refine fg_iload_n S 1 1 dX1_longest_26 rfl rfl ?_
        refine fg_topi (y := (aLongest ba)) (by unfold aLongest; rw [show j = 9 by omega]) ?_
        exact hret _ _ dX1_longest_27
      · have hcl := cnt_le (goodF ba (j + 1)) (p3 (j + 1))
        have hpj := p3_le9 (n := j + 1) (by omega)
        refine fg_aload_n S 0 0 dX1_longest_10 rfl rfl ?_
        refine fg_iload_n S 2 2 dX1_longest_11 rfl rfl ?_
        refine cm_ro S hRm 1 (met_X1_plainCount (j + 1) (by omega)) rfl q248 q250 qs15 q23 q251 ok_X1_plainCount (by decide) rfl rfl (Nat.le_of_ble_eq_true rfl) dX1_longest_12 ?_
        refine fg_if_le S 20 dX1_longest_15 (by decide) (by omega) (fun h_2 => ?_) (fun h_2 => ?_)
        · rw [show lgF ba j = lgF ba (j + 1) from (if_neg (by omega)).symm]
          refine fg_iinc (lv' := [(0, .ref (bd 0)), (1, .int (nI (lgF ba (j + 1)))), (2, .int (nI (j + 1 + 1)))]) S 2 [1, 2, 0] dX1_longest_20 rfl (inc_1 _) hN (by decide) rfl ?_
          refine fg_goto S 4 dX1_longest_23 (by decide) ?_
          exact ih_lp (j + 1) (by omega) (by omega)
        · refine fg_iload_n S 2 2 dX1_longest_18 rfl rfl ?_
          refine fg_topn (b := lgF ba (j + 1)) (if_pos (by omega)).symm ?_
          refine fg_istore_n (lv' := [(0, .ref (bd 0)), (1, .int (nI (lgF ba (j + 1)))), (2, .int (nI (j + 1)))]) S [1, 0, 2] dX1_longest_19 rfl hN (by decide) rfl ?_
          refine fg_iinc (lv' := [(0, .ref (bd 0)), (1, .int (nI (lgF ba (j + 1)))), (2, .int (nI (j + 1 + 1)))]) S 2 [1, 2, 0] dX1_longest_20 rfl (inc_1 _) hN (by decide) rfl ?_
          refine fg_goto S 4 dX1_longest_23 (by decide) ?_
          exact ih_lp (j + 1) (by omega) (by omega)
  exact lp ((9 - 0) + 1) 0 (Nat.zero_le _) (Nat.lt_succ_self _)
set_option maxHeartbeats 4000000 in
set_option maxRecDepth 100000 in
/-- mirrored -/
theorem met_X1_mirrored {l : Launch} {D : va_G} {ck : Nat → ClassId} {bd : Nat → Nat} {ba : Nat → Bool} {nw lt : Nat → Nat} {hd : Nat} (x : Int32) : Met l yX1_mirrored (ws_ yX1_mirrored cX1_mirrored 5 (some .int)) (rmL 3) (roP D (tysX ck) (MW bd ck ba nw lt hd) [.ref (bd 0), .int x]) (roQ (.int (aMirrored ba x.toInt))) 0 0 (fun _ => False) := by
  refine ro_i (lv0 := [(0, .ref (bd 0)), (1, .int x)]) (by decide) (Nat.le_of_ble_eq_true rfl) rfl (fun X B hret => ?_)
  obtain ⟨S, hN, hRm, rfl, rfl⟩ := B
  have S : fwC X cX1_mirrored RX1 (tysX ck) := S
  refine fg_aload_n S 0 0 dX1_mirrored_0 rfl rfl ?_
  refine fg_iload_n S 1 1 dX1_mirrored_1 rfl rfl ?_
  refine cm_ro S hRm 1 (met_X1_badLength (x)) rfl q227 q229 qs11 q23 q230 ok_X1_badLength (by decide) rfl rfl (Nat.le_of_ble_eq_true rfl) dX1_mirrored_2 ?_
  refine fg_if_eq S 10 dX1_mirrored_5 (by decide) dec_lt (fun h_l => ?_) (fun h_l => ?_)
  · have h_l : 0 ≤ x.toInt ∧ x.toInt ≤ 9 := by have := dec_eq h_l; omega
    obtain ⟨n, hn, rfl, ex⟩ := i_nat (x := x) (n := 9) h_l.1 h_l.2 (by omega)
    rw [ex] at hret
    have hp9 := p3_le9 hn
    have hp0 := p3_pos n
    refine fg_aload_n S 0 0 dX1_mirrored_10 rfl rfl ?_
    refine fg_iload_n S 1 1 dX1_mirrored_11 rfl rfl ?_
    refine cm_ro S hRm 1 (met_X1_power n (by omega)) rfl q235 q237 qs13 q23 q238 ok_X1_power (by decide) rfl rfl (Nat.le_of_ble_eq_true rfl) dX1_mirrored_12 ?_
    refine fg_istore_n (lv' := [(0, .ref (bd 0)), (1, .int (nI n)), (2, .int (nI (p3 n)))]) S [1, 2, 0] dX1_mirrored_15 rfl hN (by decide) rfl ?_
    refine fg_ic (v := nI 0) S dX1_mirrored_16 (by decide) ?_
    refine fg_istore_n (lv' := [(0, .ref (bd 0)), (1, .int (nI n)), (2, .int (nI (p3 n))), (3, .int (nI 0))]) S [1, 2, 3, 0] dX1_mirrored_17 rfl hN (by decide) rfl ?_
    refine fg_ic (v := nI 0) S dX1_mirrored_18 (by decide) ?_
    refine fg_istore (lv' := [(0, .ref (bd 0)), (1, .int (nI n)), (2, .int (nI (p3 n))), (3, .int (nI 0)), (4, .int (nI 0))]) S [1, 2, 3, 4, 0] dX1_mirrored_19 hN (by decide) rfl ?_
    have lp : ∀ (fuel : Nat) (c_ : Nat) (f : Nat), (c_ ≤ p3 n) → (f = cnt (fun c => decide (rfF 0 c n = c) && goodF ba n c) c_) → (p3 n - c_) < fuel → fwG X (MW bd ck ba nw lt hd) 21 [(0, .ref (bd 0)), (1, .int (nI n)), (2, .int (nI (p3 n))), (3, .int (nI f)), (4, .int (nI c_))] [] := by
      intro fuel
      induction fuel with
      | zero => intro c_ f hc_ hf hfu; exact absurd hfu (Nat.not_lt_zero _)
      | succ fuel ih_lp =>
        intro c_ f hc_ hf hfu
        refine fg_iload S 4 dX1_mirrored_21 rfl ?_
        refine fg_iload_n S 2 2 dX1_mirrored_23 rfl rfl ?_
        refine fg_icmp_ge S 58 dX1_mirrored_24 (by decide) (by omega) (by omega) (fun h_1 => ?_) (fun h_1 => ?_)
        · refine fg_iload_n S 3 3 dX1_mirrored_58 rfl rfl ?_
          refine fg_topi (y := (aMirrored ba n)) (by unfold aMirrored; rw [sLen_ok hn, hf, show c_ = p3 n by omega]) ?_
          exact hret _ _ dX1_mirrored_59
        · have hb : rfF 0 c_ n < p3 n := by rw [rfF_bk]; have := bk_lt n c_; omega
          refine fg_aload_n S 0 0 dX1_mirrored_27 rfl rfl ?_
          refine fg_iload_n S 1 1 dX1_mirrored_28 rfl rfl ?_
          refine fg_iload S 4 dX1_mirrored_29 rfl ?_
          refine cm_ro S hRm 2 (met_X1_backward n c_ (by omega) (by omega)) rfl q308 q310 qs20 q23 q311 ok_X1_backward (by decide) rfl rfl (Nat.le_of_ble_eq_true rfl) dX1_mirrored_31 ?_
          refine fg_iload S 4 dX1_mirrored_34 rfl ?_
          refine fg_icmp_ne S 52 dX1_mirrored_36 (by decide) (by omega) (by omega) (fun h_2 => ?_) (fun h_2 => ?_)
          · refine fg_iinc (lv' := [(0, .ref (bd 0)), (1, .int (nI n)), (2, .int (nI (p3 n))), (3, .int (nI f)), (4, .int (nI (c_ + 1)))]) S 4 [1, 2, 3, 4, 0] dX1_mirrored_52 rfl (inc_1 _) hN (by decide) rfl ?_
            refine fg_goto S 21 dX1_mirrored_55 (by decide) ?_
            exact ih_lp (c_ + 1) f (by omega) (by rw [cnt_s, hf]; rw [show (decide (rfF 0 c_ n = c_) && goodF ba n c_) = false by rw [decide_eq_false h_2, Bool.false_and]]; rfl) (by omega)
          · refine fg_aload_n S 0 0 dX1_mirrored_39 rfl rfl ?_
            refine fg_iload_n S 1 1 dX1_mirrored_40 rfl rfl ?_
            refine fg_iload S 4 dX1_mirrored_41 rfl ?_
            refine cm_ro S hRm 2 (met_X1_good n c_ (by omega) (by omega)) rfl q239 q241 qs14 q23 q242 ok_X1_good (by decide) rfl rfl (Nat.le_of_ble_eq_true rfl) dX1_mirrored_43 ?_
            refine fg_if_eq S 52 dX1_mirrored_46 (by decide) dec_lt (fun h_3 => ?_) (fun h_3 => ?_)
            · refine fg_iinc (lv' := [(0, .ref (bd 0)), (1, .int (nI n)), (2, .int (nI (p3 n))), (3, .int (nI f)), (4, .int (nI (c_ + 1)))]) S 4 [1, 2, 3, 4, 0] dX1_mirrored_52 rfl (inc_1 _) hN (by decide) rfl ?_
              refine fg_goto S 21 dX1_mirrored_55 (by decide) ?_
              exact ih_lp (c_ + 1) f (by omega) (by rw [cnt_s, hf]; rw [show (decide (rfF 0 c_ n = c_) && goodF ba n c_) = false by rw [tn_0 h_3, Bool.and_false]]; rfl) (by omega)
            · refine fg_iinc (lv' := [(0, .ref (bd 0)), (1, .int (nI n)), (2, .int (nI (p3 n))), (3, .int (nI (f + 1))), (4, .int (nI c_))]) S 3 [1, 2, 3, 0, 4] dX1_mirrored_49 rfl (inc_1 _) hN (by decide) rfl ?_
              refine fg_iinc (lv' := [(0, .ref (bd 0)), (1, .int (nI n)), (2, .int (nI (p3 n))), (3, .int (nI (f + 1))), (4, .int (nI (c_ + 1)))]) S 4 [1, 2, 3, 4, 0] dX1_mirrored_52 rfl (inc_1 _) hN (by decide) rfl ?_
              refine fg_goto S 21 dX1_mirrored_55 (by decide) ?_
              exact ih_lp (c_ + 1) (f + 1) (by omega) (by rw [cnt_s, hf]; rw [show (decide (rfF 0 c_ n = c_) && goodF ba n c_) = true by rw [tn_1 h_3, decide_eq_true h_2]; rfl]; rfl) (by omega)
    exact lp ((p3 n - 0) + 1) 0 0 (Nat.zero_le _) rfl (Nat.lt_succ_self _)
  · refine fg_ic (v := -1) S dX1_mirrored_8 (by decide) ?_
    refine fg_topi (y := (aMirrored ba x.toInt)) (sLen_bad (dec_ne h_l)).symm ?_
    exact hret _ _ dX1_mirrored_9
set_option maxHeartbeats 4000000 in
set_option maxRecDepth 100000 in
/-- count -/
theorem met_X1_count {l : Launch} {D : va_G} {ck : Nat → ClassId} {bd : Nat → Nat} {ba : Nat → Bool} {nw lt : Nat → Nat} {hd : Nat} (x : Int32) (sz : Nat) : Met l yX1_count (ws_ yX1_count cX1_count 5 (some .long)) (rmL 3) (muP D (tysX ck) (MW bd ck ba nw lt hd) [.ref (bd 0), .int x] sz) (muQ D (fun v w => v = some (.long (aCount ba x.toInt)) ∧ ∃ n9 l9, w = MW bd ck ba n9 l9 hd) (va_A (MW bd ck ba nw lt hd) sz)) 0 0 (va_A (MW bd ck ba nw lt hd) sz) := by
  refine mu_l (lv0 := [(0, .ref (bd 0)), (1, .int x)]) (by decide) (Nat.le_of_ble_eq_true rfl) rfl (fun X B M hret => ?_) sz
  obtain ⟨S, hN, hRm, rfl, rfl⟩ := B
  have S : fwC X cX1_count RX1 (tysX ck) := S
  refine fg_iload_n S 1 1 dX1_count_0 rfl rfl ?_
  refine fg_ifZ_lt S 10 dX1_count_1 (by decide) rfl (fun h_1 => ?_) (fun h_1 => ?_)
  · refine fg_ldc2 (v := -1) S dX1_count_10 q247 ?_
    refine fg_toplR (y := aCount ba  x.toInt) (if_pos (by omega)).symm ?_
    exact hret _ _ _ _ dX1_count_13 ⟨rfl, nw, lt, rfl⟩
  · refine fg_iload_n S 1 1 dX1_count_4 rfl rfl ?_
    refine fg_bi (v := nI 30) S dX1_count_5 (by decide) ?_
    refine fg_icmpZ_le S 14 dX1_count_7 (by decide) rfl (nI_toInt (by omega)) (fun h_2 => ?_) (fun h_2 => ?_)
    · obtain ⟨n, hn, rfl, ex⟩ := i_nat (x := x) (n := 30) (by omega) (by omega) (by omega)
      rw [ex] at hret
      refine fg_iload_n S 1 1 dX1_count_14 rfl rfl ?_
      refine fg_ic (v := nI 4) S dX1_count_15 (by decide) ?_
      refine fg_icmp_ge S 26 dX1_count_16 (by decide) (by omega) (by omega) (fun h_3 => ?_) (fun h_3 => ?_)
      · refine fg_ic (v := nI 0) S dX1_count_26 (by decide) ?_
        refine fg_istore_n (lv' := [(0, .ref (bd 0)), (1, .int (nI n)), (2, .int (nI 0))]) S [1, 2, 0] dX1_count_27 rfl hN (by decide) rfl ?_
        have lA : ∀ (fuel : Nat) (k : Nat) (n1 : Nat → Nat), (k ≤ 27) → (∀ z, z < k → n1 z = (goodF ba 3 z).toNat) → (27 - k) < fuel → fwG X (MW bd ck ba n1 lt hd) 28 [(0, .ref (bd 0)), (1, .int (nI n)), (2, .int (nI k))] [] := by
          intro fuel
          induction fuel with
          | zero => intro k n1 hk hA hfu; exact absurd hfu (Nat.not_lt_zero _)
          | succ fuel ih_lA =>
            intro k n1 hk hA hfu
            refine fg_iload_n S 2 2 dX1_count_28 rfl rfl ?_
            refine fg_bi (v := nI 27) S dX1_count_29 (by decide) ?_
            refine fg_icmp_ge S 60 dX1_count_31 (by decide) (by omega) (by omega) (fun h_4 => ?_) (fun h_4 => ?_)
            · refine fg_ic (v := nI 3) S dX1_count_60 (by decide) ?_
              refine fg_istore_n (lv' := [(0, .ref (bd 0)), (1, .int (nI n)), (2, .int (nI 3))]) S [1, 2, 0] dX1_count_61 rfl hN (by decide) rfl ?_
              have lB : ∀ (fuel : Nat) (i : Nat) (n2 : Nat → Nat) (l2 : Nat → Nat), (3 ≤ i) → (i ≤ n) → (∀ k, k < 27 → n2 k = gcF ba i k) → (n - i) < fuel → fwG X (MW bd ck ba n2 l2 hd) 62 [(0, .ref (bd 0)), (1, .int (nI n)), (2, .int (nI i))] [] := by
                intro fuel
                induction fuel with
                | zero => intro i n2 l2 hi3 hi hB hfu; exact absurd hfu (Nat.not_lt_zero _)
                | succ fuel ih_lB =>
                  intro i n2 l2 hi3 hi hB hfu
                  refine fg_iload_n S 2 2 dX1_count_62 rfl rfl ?_
                  refine fg_iload_n S 1 1 dX1_count_63 rfl rfl ?_
                  refine fg_icmp_ge S 77 dX1_count_64 (by decide) (by omega) (by omega) (fun h_5 => ?_) (fun h_5 => ?_)
                  · have ei : i = n := by omega
                    subst ei
                    refine fg_lc (v := lN 0) S dX1_count_77 (by decide) ?_
                    refine fg_lstore_n (lv' := [(0, .ref (bd 0)), (1, .int (nI i)), (2, .long (lN 0))]) S [1, 2, 0] dX1_count_78 rfl hN (by decide) rfl ?_
                    refine fg_ic (v := nI 0) S dX1_count_79 (by decide) ?_
                    refine fg_istore (lv' := [(0, .ref (bd 0)), (1, .int (nI i)), (2, .long (lN 0)), (4, .int (nI 0))]) S [1, 2, 3, 0] dX1_count_80 hN (by decide) rfl ?_
                    have lC : ∀ (fuel : Nat) (j : Nat) (u : Nat), (j ≤ 27) → (u = sumF (fun k => n2 k) j) → (27 - j) < fuel → fwG X (MW bd ck ba n2 l2 hd) 82 [(0, .ref (bd 0)), (1, .int (nI i)), (2, .long (lN u)), (4, .int (nI j))] [] := by
                      intro fuel
                      induction fuel with
                      | zero => intro j u hj hu hfu; exact absurd hfu (Nat.not_lt_zero _)
                      | succ fuel ih_lC =>
                        intro j u hj hu hfu
                        refine fg_iload S 3 dX1_count_82 rfl ?_
                        refine fg_bi (v := nI 27) S dX1_count_84 (by decide) ?_
                        refine fg_icmp_ge S 105 dX1_count_86 (by decide) (by omega) (by omega) (fun h_6 => ?_) (fun h_6 => ?_)
                        · refine fg_lload_n S 2 2 dX1_count_105 rfl rfl ?_
                          refine fg_toplR (y := aCount ba  i) (by unfold aCount; rw [if_neg (by omega), Int.toNat_natCast, ← gc_sum, hu, show j = 27 by omega]; rw [sumF_ext 27 (fun k hk => hB k hk)]) ?_
                          exact hret _ _ _ _ dX1_count_106 ⟨rfl, n2, l2, rfl⟩
                        · refine fg_lload_n S 2 2 dX1_count_89 rfl rfl ?_
                          refine fg_aload_n S 0 0 dX1_count_90 rfl rfl ?_
                          refine mg_nw S dX1_count_91 ?_
                          refine fg_iload S 3 dX1_count_94 rfl ?_
                          refine ml_nw S dX1_count_96 (by omega) ?_
                          refine fg_ladd S dX1_count_97 ?_
                          refine fg_lstore_n (lv' := [(0, .ref (bd 0)), (1, .int (nI i)), (2, .long (lN (u + (n2 j)))), (4, .int (nI j))]) S [1, 2, 0, 3] dX1_count_98 rfl hN (by decide) rfl ?_
                          refine fg_iinc (lv' := [(0, .ref (bd 0)), (1, .int (nI i)), (2, .long (lN (u + (n2 j)))), (4, .int (nI (j + 1)))]) S 3 [1, 2, 3, 0] dX1_count_99 rfl (inc_1 _) hN (by decide) rfl ?_
                          refine fg_goto S 82 dX1_count_102 (by decide) ?_
                          exact ih_lC (j + 1) (u + n2 j) (by omega) (by rw [hu]; rfl) (by omega)
                    exact lC ((27 - 0) + 1) 0 0 (Nat.zero_le _) rfl (Nat.lt_succ_self _)
                  · refine fg_aload_n S 0 0 dX1_count_67 rfl rfl ?_
                    refine cm_mu S M hRm 0 (fun sz => met_X1_grow sz) rfl q252 q254 qs16 q23 q255 ok_X1_grow (by decide) rfl rfl (Nat.le_of_ble_eq_true rfl) dX1_count_68 ?_
                    intro v_ w_ hp_
                    obtain ⟨rfl, n9, l9, rfl, hgr⟩ := hp_
                    show fwG X (MW bd ck ba n9 l9 hd) 71 [(0, .ref (bd 0)), (1, .int (nI n)), (2, .int (nI i))] []
                    refine fg_iinc (lv' := [(0, .ref (bd 0)), (1, .int (nI n)), (2, .int (nI (i + 1)))]) S 2 [1, 2, 0] dX1_count_71 rfl (inc_1 _) hN (by decide) rfl ?_
                    refine fg_goto S 62 dX1_count_74 (by decide) ?_
                    exact ih_lB (i + 1) n9 l9 (by omega) (by omega) (fun k hk => by rw [hgr k hk]; exact gr_gc hi3 hB) (by omega)
              exact lB ((n - 3) + 1) 3 n1 lt (Nat.le_refl _) (by omega) (fun k hk => by rw [hA k (by omega), gc_3 hk]) (Nat.lt_succ_self _)
            · refine fg_aload_n S 0 0 dX1_count_34 rfl rfl ?_
              refine mg_nw S dX1_count_35 ?_
              refine fg_iload_n S 2 2 dX1_count_38 rfl rfl ?_
              refine fg_aload_n S 0 0 dX1_count_39 rfl rfl ?_
              refine fg_ic (v := nI 3) S dX1_count_40 (by decide) ?_
              refine fg_iload_n S 2 2 dX1_count_41 rfl rfl ?_
              refine cm_ro S hRm 2 (met_X1_good 3 k (by omega) (by omega)) rfl q239 q241 qs14 q23 q242 ok_X1_good (by decide) rfl rfl (Nat.le_of_ble_eq_true rfl) dX1_count_42 ?_
              refine fg_if_eq S 52 dX1_count_45 (by decide) dec_lt (fun h_7 => ?_) (fun h_7 => ?_)
              · refine fg_lc (v := lN 0) S dX1_count_52 (by decide) ?_
                refine ms_nw S M dX1_count_53 (by omega) ?_
                refine fg_iinc (lv' := [(0, .ref (bd 0)), (1, .int (nI n)), (2, .int (nI (k + 1)))]) S 2 [1, 2, 0] dX1_count_54 rfl (inc_1 _) hN (by decide) rfl ?_
                refine fg_goto S 28 dX1_count_57 (by decide) ?_
                exact ih_lA (k + 1) (va_up n1 k 0) (by omega) (fun z hz => by by_cases q : z = k; (subst q; rw [up_eq, tn_0 h_7]; rfl); (rw [up_ne q]; exact hA z (by omega))) (by omega)
              · refine fg_lc (v := lN 1) S dX1_count_48 (by decide) ?_
                refine fg_goto S 53 dX1_count_49 (by decide) ?_
                refine ms_nw S M dX1_count_53 (by omega) ?_
                refine fg_iinc (lv' := [(0, .ref (bd 0)), (1, .int (nI n)), (2, .int (nI (k + 1)))]) S 2 [1, 2, 0] dX1_count_54 rfl (inc_1 _) hN (by decide) rfl ?_
                refine fg_goto S 28 dX1_count_57 (by decide) ?_
                exact ih_lA (k + 1) (va_up n1 k 1) (by omega) (fun z hz => by by_cases q : z = k; (subst q; rw [up_eq, tn_1 h_7]; rfl); (rw [up_ne q]; exact hA z (by omega))) (by omega)
        exact lA ((27 - 0) + 1) 0 nw (Nat.zero_le _) (fun z hz => absurd hz (by omega)) (Nat.lt_succ_self _)
      · have hcl := cnt_le (goodF ba n) (p3 n)
        have hpj := p3_le9 (n := n) (by omega)
        refine fg_aload_n S 0 0 dX1_count_19 rfl rfl ?_
        refine fg_iload_n S 1 1 dX1_count_20 rfl rfl ?_
        refine cm_ro S hRm 1 (met_X1_plainCount n (by omega)) rfl q248 q250 qs15 q23 q251 ok_X1_plainCount (by decide) rfl rfl (Nat.le_of_ble_eq_true rfl) dX1_count_21 ?_
        refine fg_i2l S dX1_count_24 (by omega) ?_
        refine fg_toplR (y := aCount ba  n) (by unfold aCount; rw [if_neg (by omega), Int.toNat_natCast]) ?_
        exact hret _ _ _ _ dX1_count_25 ⟨rfl, nw, lt, rfl⟩
    · refine fg_ldc2 (v := -1) S dX1_count_10 q247 ?_
      refine fg_toplR (y := aCount ba  x.toInt) (if_pos (by omega)).symm ?_
      exact hret _ _ _ _ dX1_count_13 ⟨rfl, nw, lt, rfl⟩
end
section
set_option maxRecDepth 100000
/-- what the constructor leaves -/
def BX0_init (D : va_G) (A : Nat → Prop) (h0 : Nat) (u : (Nat → Nat) × (Nat → ClassId)) (t : State) : Prop := u.1 0 = h0 ∧ va_P D vwCl (XW u.1 u.2 (fun _ => 0) (fun _ => 0) (fun _ => 0) (fun _ => 0) (fun _ => 0) (fun _ => 0) (fun _ => 0) (fun _ => 0) 0 0 0) t.heap ∧ va_K D vwCl [(u.2 0, .int), (u.2 1, .int), (u.2 2, .int), (u.2 3, .long), (u.2 4, .long), (u.2 5, .long), (u.2 6, .int), (u.2 7, .int)] t ∧ va_D A (XW u.1 u.2 (fun _ => 0) (fun _ => 0) (fun _ => 0) (fun _ => 0) (fun _ => 0) (fun _ => 0) (fun _ => 0) (fun _ => 0) 0 0 0)
set_option maxHeartbeats 4000000 in
theorem met_X0_init (l : Launch) (D : va_G) (h0 sz : Nat) : Met l yX0_init (ws_ yX0_init cX0_init 1 none) ({ frames := 1, cells := 8, slots := 1488, locals := 12 }) (va_Pc [.ref h0] (fun U => U.heap.size = sz ∧ va_P D vwCl [(h0, .inr (0, [.null, .null, .null, .null, .null, .null, .null, .null, .int 0, .int 0, .int 0]))] U.heap ∧ va_K D vwCl [] U ∧ va_D (fun _ => True) [(h0, .inr (0, [.null, .null, .null, .null, .null, .null, .null, .null, .int 0, .int 0, .int 0]))])) (va_Qv (fun _ => True) (BX0_init D (va_A [(h0, .inr (0, [.null, .null, .null, .null, .null, .null, .null, .null, .int 0, .int 0, .int 0]))] sz) h0) (va_A [(h0, .inr (0, [.null, .null, .null, .null, .null, .null, .null, .null, .int 0, .int 0, .int 0]))] sz)) 8 1488 (va_A [(h0, .inr (0, [.null, .null, .null, .null, .null, .null, .null, .null, .int 0, .int 0, .int 0]))] sz) := by
  refine Met.ofW (cc := cX0_init) (maxL := 1) (ret := none) (by decide) rfl ?_
  intro p e s m args below meth c s₁ B hml hv
  obtain ⟨rfl, hsz, hP, hK, hD0⟩ := hv
  have hx := B.exec
  have hb := B.bytes
  have hr := B.returns
  have hts := atoms_spec (ws := ws_ yX0_init cX0_init 1 none) B.pre
  have hts : ∀ w ∈ lw_all, w.before _ s = true := fun w h => hts w (List.mem_cons_of_mem _ h)
  have hown : s.vm.findClass RX0 = some m.cls := findClass_of_methodNamed B.named
  have hlocks := B.notSynchronized
  have hin : meth.name = "<init>" := (name_of_methodNamed B.named B.method).1
  subst hsz
  have hD := hD0.self (sz := s.heap.size)
  generalize hAe : va_A [(h0, .inr (0, [.null, .null, .null, .null, .null, .null, .null, .null, .int 0, .int 0, .int 0]))] s.heap.size = A at hD ⊢
  have hA : ∀ q : Nat, s.heap.size ≤ q → A q := fun q h => by rw [← hAe]; exact Or.inr h
  have hS : va_S A s.heap s.heap [] := va_S.rf
  have hP : va_P D vwCl [(h0, .inr (0, [.null, .null, .null, .null, .null, .null, .null, .null, .int 0, .int 0, .int 0]))] s.heap := hP
  have hl := lv_entry ([.ref h0]) (n := 1) (Nat.le_of_ble_eq_true rfl)
  rw [lg_entry_eq]
  generalize (lg_sl ([.ref h0]) ++ List.replicate (1 - (lg_sl ([.ref h0])).length) Slot.unset).toArray = ls at hl ⊢
  have hl : lv_has ls 1 [(0, .ref h0)] := hl
  refine lv_aload_n hx hb dX0_init_0 rfl (lv_at hl 0 rfl) ?_
  refine W.objInit hx hb hown (hts _ q29) (hts _ q30) (hts _ q31) rfl (by rw [hml]; exact hl.1) rfl dX0_init_1 (Nat.le_of_ble_eq_true rfl) (Nat.le_of_ble_eq_true rfl) ?_
  refine W.eq (g2 := F0 m 4 ls []) rfl ?_
  refine lv_aload_n hx hb dX0_init_4 rfl (lv_at hl 0 rfl) ?_
  refine lv_bipush (v := nI 6) hx hb dX0_init_5 (by decide) ?_
  refine va_newa (D := D) (atype := .int) (ty := .int) (N' := 6) (a0 := (6, .inl (nA (fun _ => 0)))) hx hb (hts _ q66) rfl hK hP hD hS hA (fun _ => rfl) (nI_pos (by decide)) (nI_clamp (by decide)) (by decide) (by decide) (by decide) dX0_init_7 (fun a1 c1 H hK hP hD hS => ?_)
  have hP : va_P D vwCl [(h0, .inr (0, [.null, .null, .null, .null, .null, .null, .null, .null, .int 0, .int 0, .int 0])), (a1, .inl (c1, 6, .inl (nA (fun _ => 0))))] H := hP
  have hD : va_D A [(h0, .inr (0, [.null, .null, .null, .null, .null, .null, .null, .null, .int 0, .int 0, .int 0])), (a1, .inl (c1, 6, .inl (nA (fun _ => 0))))] := hD
  have hK : va_K D vwCl [(c1, .int)] s := hK
  refine va_putF (D := D) (ci := 0) (v := .ref a1) (ty := .array .int) (C := RX0) (T := TX0) (N := 11) hx hb hts in_X0 tyX0 tyX0_ok nmX0 hown hK hP hD hS 0 rfl rfl 0 (by decide) (hts _ q32) (fun _ h9 => h9) rfl hin rfl (by decide +kernel) rfl rfl (Nat.le_of_ble_eq_true rfl) dX0_init_9 (fun H locs hP hD hS => ?_)
  have hP : va_P D vwCl [(h0, .inr (0, [.ref a1, .null, .null, .null, .null, .null, .null, .null, .int 0, .int 0, .int 0])), (a1, .inl (c1, 6, .inl (nA (fun _ => 0))))] H := hP
  have hD : va_D A [(h0, .inr (0, [.ref a1, .null, .null, .null, .null, .null, .null, .null, .int 0, .int 0, .int 0])), (a1, .inl (c1, 6, .inl (nA (fun _ => 0))))] := hD
  refine lv_aload_n hx hb dX0_init_12 rfl (lv_at hl 0 rfl) ?_
  refine lv_bipush (v := nI 26) hx hb dX0_init_13 (by decide) ?_
  refine va_newa (D := D) (atype := .int) (ty := .int) (N' := 26) (a0 := (26, .inl (nA (fun _ => 0)))) hx hb (hts _ q66) rfl hK hP hD hS hA (fun _ => rfl) (nI_pos (by decide)) (nI_clamp (by decide)) (by decide) (by decide) (by decide) dX0_init_15 (fun a2 c2 H hK hP hD hS => ?_)
  have hP : va_P D vwCl [(h0, .inr (0, [.ref a1, .null, .null, .null, .null, .null, .null, .null, .int 0, .int 0, .int 0])), (a1, .inl (c1, 6, .inl (nA (fun _ => 0)))), (a2, .inl (c2, 26, .inl (nA (fun _ => 0))))] H := hP
  have hD : va_D A [(h0, .inr (0, [.ref a1, .null, .null, .null, .null, .null, .null, .null, .int 0, .int 0, .int 0])), (a1, .inl (c1, 6, .inl (nA (fun _ => 0)))), (a2, .inl (c2, 26, .inl (nA (fun _ => 0))))] := hD
  have hK : va_K D vwCl [(c1, .int), (c2, .int)] s := hK
  refine va_putF (D := D) (ci := 0) (v := .ref a2) (ty := .array .int) (C := RX0) (T := TX0) (N := 11) hx hb hts in_X0 tyX0 tyX0_ok nmX0 hown hK hP hD hS 0 rfl rfl 1 (by decide) (hts _ q33) (fun _ h9 => h9) rfl hin rfl (by decide +kernel) rfl rfl (Nat.le_of_ble_eq_true rfl) dX0_init_17 (fun H locs hP hD hS => ?_)
  have hP : va_P D vwCl [(h0, .inr (0, [.ref a1, .ref a2, .null, .null, .null, .null, .null, .null, .int 0, .int 0, .int 0])), (a1, .inl (c1, 6, .inl (nA (fun _ => 0)))), (a2, .inl (c2, 26, .inl (nA (fun _ => 0))))] H := hP
  have hD : va_D A [(h0, .inr (0, [.ref a1, .ref a2, .null, .null, .null, .null, .null, .null, .int 0, .int 0, .int 0])), (a1, .inl (c1, 6, .inl (nA (fun _ => 0)))), (a2, .inl (c2, 26, .inl (nA (fun _ => 0))))] := hD
  refine lv_aload_n hx hb dX0_init_20 rfl (lv_at hl 0 rfl) ?_
  refine lv_bipush (v := nI 78) hx hb dX0_init_21 (by decide) ?_
  refine va_newa (D := D) (atype := .int) (ty := .int) (N' := 78) (a0 := (78, .inl (nA (fun _ => 0)))) hx hb (hts _ q66) rfl hK hP hD hS hA (fun _ => rfl) (nI_pos (by decide)) (nI_clamp (by decide)) (by decide) (by decide) (by decide) dX0_init_23 (fun a3 c3 H hK hP hD hS => ?_)
  have hP : va_P D vwCl [(h0, .inr (0, [.ref a1, .ref a2, .null, .null, .null, .null, .null, .null, .int 0, .int 0, .int 0])), (a1, .inl (c1, 6, .inl (nA (fun _ => 0)))), (a2, .inl (c2, 26, .inl (nA (fun _ => 0)))), (a3, .inl (c3, 78, .inl (nA (fun _ => 0))))] H := hP
  have hD : va_D A [(h0, .inr (0, [.ref a1, .ref a2, .null, .null, .null, .null, .null, .null, .int 0, .int 0, .int 0])), (a1, .inl (c1, 6, .inl (nA (fun _ => 0)))), (a2, .inl (c2, 26, .inl (nA (fun _ => 0)))), (a3, .inl (c3, 78, .inl (nA (fun _ => 0))))] := hD
  have hK : va_K D vwCl [(c1, .int), (c2, .int), (c3, .int)] s := hK
  refine va_putF (D := D) (ci := 0) (v := .ref a3) (ty := .array .int) (C := RX0) (T := TX0) (N := 11) hx hb hts in_X0 tyX0 tyX0_ok nmX0 hown hK hP hD hS 0 rfl rfl 2 (by decide) (hts _ q34) (fun _ h9 => h9) rfl hin rfl (by decide +kernel) rfl rfl (Nat.le_of_ble_eq_true rfl) dX0_init_25 (fun H locs hP hD hS => ?_)
  have hP : va_P D vwCl [(h0, .inr (0, [.ref a1, .ref a2, .ref a3, .null, .null, .null, .null, .null, .int 0, .int 0, .int 0])), (a1, .inl (c1, 6, .inl (nA (fun _ => 0)))), (a2, .inl (c2, 26, .inl (nA (fun _ => 0)))), (a3, .inl (c3, 78, .inl (nA (fun _ => 0))))] H := hP
  have hD : va_D A [(h0, .inr (0, [.ref a1, .ref a2, .ref a3, .null, .null, .null, .null, .null, .int 0, .int 0, .int 0])), (a1, .inl (c1, 6, .inl (nA (fun _ => 0)))), (a2, .inl (c2, 26, .inl (nA (fun _ => 0)))), (a3, .inl (c3, 78, .inl (nA (fun _ => 0))))] := hD
  refine lv_aload_n hx hb dX0_init_28 rfl (lv_at hl 0 rfl) ?_
  refine lv_sipush (v := nI 806) hx hb dX0_init_29 (by decide) ?_
  refine va_newa (D := D) (atype := .long) (ty := .long) (N' := 806) (a0 := (806, .inr (.inl (lA (fun _ => 0))))) hx hb (hts _ q67) rfl hK hP hD hS hA (fun _ => rfl) (nI_pos (by decide)) (nI_clamp (by decide)) (by decide) (by decide) (by decide) dX0_init_32 (fun a4 c4 H hK hP hD hS => ?_)
  have hP : va_P D vwCl [(h0, .inr (0, [.ref a1, .ref a2, .ref a3, .null, .null, .null, .null, .null, .int 0, .int 0, .int 0])), (a1, .inl (c1, 6, .inl (nA (fun _ => 0)))), (a2, .inl (c2, 26, .inl (nA (fun _ => 0)))), (a3, .inl (c3, 78, .inl (nA (fun _ => 0)))), (a4, .inl (c4, 806, .inr (.inl (lA (fun _ => 0)))))] H := hP
  have hD : va_D A [(h0, .inr (0, [.ref a1, .ref a2, .ref a3, .null, .null, .null, .null, .null, .int 0, .int 0, .int 0])), (a1, .inl (c1, 6, .inl (nA (fun _ => 0)))), (a2, .inl (c2, 26, .inl (nA (fun _ => 0)))), (a3, .inl (c3, 78, .inl (nA (fun _ => 0)))), (a4, .inl (c4, 806, .inr (.inl (lA (fun _ => 0)))))] := hD
  have hK : va_K D vwCl [(c1, .int), (c2, .int), (c3, .int), (c4, .long)] s := hK
  refine va_putF (D := D) (ci := 0) (v := .ref a4) (ty := .array .long) (C := RX0) (T := TX0) (N := 11) hx hb hts in_X0 tyX0 tyX0_ok nmX0 hown hK hP hD hS 0 rfl rfl 3 (by decide) (hts _ q35) (fun _ h9 => h9) rfl hin rfl (by decide +kernel) rfl rfl (Nat.le_of_ble_eq_true rfl) dX0_init_34 (fun H locs hP hD hS => ?_)
  have hP : va_P D vwCl [(h0, .inr (0, [.ref a1, .ref a2, .ref a3, .ref a4, .null, .null, .null, .null, .int 0, .int 0, .int 0])), (a1, .inl (c1, 6, .inl (nA (fun _ => 0)))), (a2, .inl (c2, 26, .inl (nA (fun _ => 0)))), (a3, .inl (c3, 78, .inl (nA (fun _ => 0)))), (a4, .inl (c4, 806, .inr (.inl (lA (fun _ => 0)))))] H := hP
  have hD : va_D A [(h0, .inr (0, [.ref a1, .ref a2, .ref a3, .ref a4, .null, .null, .null, .null, .int 0, .int 0, .int 0])), (a1, .inl (c1, 6, .inl (nA (fun _ => 0)))), (a2, .inl (c2, 26, .inl (nA (fun _ => 0)))), (a3, .inl (c3, 78, .inl (nA (fun _ => 0)))), (a4, .inl (c4, 806, .inr (.inl (lA (fun _ => 0)))))] := hD
  refine lv_aload_n hx hb dX0_init_37 rfl (lv_at hl 0 rfl) ?_
  refine lv_bipush (v := nI 26) hx hb dX0_init_38 (by decide) ?_
  refine va_newa (D := D) (atype := .long) (ty := .long) (N' := 26) (a0 := (26, .inr (.inl (lA (fun _ => 0))))) hx hb (hts _ q67) rfl hK hP hD hS hA (fun _ => rfl) (nI_pos (by decide)) (nI_clamp (by decide)) (by decide) (by decide) (by decide) dX0_init_40 (fun a5 c5 H hK hP hD hS => ?_)
  have hP : va_P D vwCl [(h0, .inr (0, [.ref a1, .ref a2, .ref a3, .ref a4, .null, .null, .null, .null, .int 0, .int 0, .int 0])), (a1, .inl (c1, 6, .inl (nA (fun _ => 0)))), (a2, .inl (c2, 26, .inl (nA (fun _ => 0)))), (a3, .inl (c3, 78, .inl (nA (fun _ => 0)))), (a4, .inl (c4, 806, .inr (.inl (lA (fun _ => 0))))), (a5, .inl (c5, 26, .inr (.inl (lA (fun _ => 0)))))] H := hP
  have hD : va_D A [(h0, .inr (0, [.ref a1, .ref a2, .ref a3, .ref a4, .null, .null, .null, .null, .int 0, .int 0, .int 0])), (a1, .inl (c1, 6, .inl (nA (fun _ => 0)))), (a2, .inl (c2, 26, .inl (nA (fun _ => 0)))), (a3, .inl (c3, 78, .inl (nA (fun _ => 0)))), (a4, .inl (c4, 806, .inr (.inl (lA (fun _ => 0))))), (a5, .inl (c5, 26, .inr (.inl (lA (fun _ => 0)))))] := hD
  have hK : va_K D vwCl [(c1, .int), (c2, .int), (c3, .int), (c4, .long), (c5, .long)] s := hK
  refine va_putF (D := D) (ci := 0) (v := .ref a5) (ty := .array .long) (C := RX0) (T := TX0) (N := 11) hx hb hts in_X0 tyX0 tyX0_ok nmX0 hown hK hP hD hS 0 rfl rfl 4 (by decide) (hts _ q36) (fun _ h9 => h9) rfl hin rfl (by decide +kernel) rfl rfl (Nat.le_of_ble_eq_true rfl) dX0_init_42 (fun H locs hP hD hS => ?_)
  have hP : va_P D vwCl [(h0, .inr (0, [.ref a1, .ref a2, .ref a3, .ref a4, .ref a5, .null, .null, .null, .int 0, .int 0, .int 0])), (a1, .inl (c1, 6, .inl (nA (fun _ => 0)))), (a2, .inl (c2, 26, .inl (nA (fun _ => 0)))), (a3, .inl (c3, 78, .inl (nA (fun _ => 0)))), (a4, .inl (c4, 806, .inr (.inl (lA (fun _ => 0))))), (a5, .inl (c5, 26, .inr (.inl (lA (fun _ => 0)))))] H := hP
  have hD : va_D A [(h0, .inr (0, [.ref a1, .ref a2, .ref a3, .ref a4, .ref a5, .null, .null, .null, .int 0, .int 0, .int 0])), (a1, .inl (c1, 6, .inl (nA (fun _ => 0)))), (a2, .inl (c2, 26, .inl (nA (fun _ => 0)))), (a3, .inl (c3, 78, .inl (nA (fun _ => 0)))), (a4, .inl (c4, 806, .inr (.inl (lA (fun _ => 0))))), (a5, .inl (c5, 26, .inr (.inl (lA (fun _ => 0)))))] := hD
  refine lv_aload_n hx hb dX0_init_45 rfl (lv_at hl 0 rfl) ?_
  refine lv_bipush (v := nI 26) hx hb dX0_init_46 (by decide) ?_
  refine va_newa (D := D) (atype := .long) (ty := .long) (N' := 26) (a0 := (26, .inr (.inl (lA (fun _ => 0))))) hx hb (hts _ q67) rfl hK hP hD hS hA (fun _ => rfl) (nI_pos (by decide)) (nI_clamp (by decide)) (by decide) (by decide) (by decide) dX0_init_48 (fun a6 c6 H hK hP hD hS => ?_)
  have hP : va_P D vwCl [(h0, .inr (0, [.ref a1, .ref a2, .ref a3, .ref a4, .ref a5, .null, .null, .null, .int 0, .int 0, .int 0])), (a1, .inl (c1, 6, .inl (nA (fun _ => 0)))), (a2, .inl (c2, 26, .inl (nA (fun _ => 0)))), (a3, .inl (c3, 78, .inl (nA (fun _ => 0)))), (a4, .inl (c4, 806, .inr (.inl (lA (fun _ => 0))))), (a5, .inl (c5, 26, .inr (.inl (lA (fun _ => 0))))), (a6, .inl (c6, 26, .inr (.inl (lA (fun _ => 0)))))] H := hP
  have hD : va_D A [(h0, .inr (0, [.ref a1, .ref a2, .ref a3, .ref a4, .ref a5, .null, .null, .null, .int 0, .int 0, .int 0])), (a1, .inl (c1, 6, .inl (nA (fun _ => 0)))), (a2, .inl (c2, 26, .inl (nA (fun _ => 0)))), (a3, .inl (c3, 78, .inl (nA (fun _ => 0)))), (a4, .inl (c4, 806, .inr (.inl (lA (fun _ => 0))))), (a5, .inl (c5, 26, .inr (.inl (lA (fun _ => 0))))), (a6, .inl (c6, 26, .inr (.inl (lA (fun _ => 0)))))] := hD
  have hK : va_K D vwCl [(c1, .int), (c2, .int), (c3, .int), (c4, .long), (c5, .long), (c6, .long)] s := hK
  refine va_putF (D := D) (ci := 0) (v := .ref a6) (ty := .array .long) (C := RX0) (T := TX0) (N := 11) hx hb hts in_X0 tyX0 tyX0_ok nmX0 hown hK hP hD hS 0 rfl rfl 5 (by decide) (hts _ q37) (fun _ h9 => h9) rfl hin rfl (by decide +kernel) rfl rfl (Nat.le_of_ble_eq_true rfl) dX0_init_50 (fun H locs hP hD hS => ?_)
  have hP : va_P D vwCl [(h0, .inr (0, [.ref a1, .ref a2, .ref a3, .ref a4, .ref a5, .ref a6, .null, .null, .int 0, .int 0, .int 0])), (a1, .inl (c1, 6, .inl (nA (fun _ => 0)))), (a2, .inl (c2, 26, .inl (nA (fun _ => 0)))), (a3, .inl (c3, 78, .inl (nA (fun _ => 0)))), (a4, .inl (c4, 806, .inr (.inl (lA (fun _ => 0))))), (a5, .inl (c5, 26, .inr (.inl (lA (fun _ => 0))))), (a6, .inl (c6, 26, .inr (.inl (lA (fun _ => 0)))))] H := hP
  have hD : va_D A [(h0, .inr (0, [.ref a1, .ref a2, .ref a3, .ref a4, .ref a5, .ref a6, .null, .null, .int 0, .int 0, .int 0])), (a1, .inl (c1, 6, .inl (nA (fun _ => 0)))), (a2, .inl (c2, 26, .inl (nA (fun _ => 0)))), (a3, .inl (c3, 78, .inl (nA (fun _ => 0)))), (a4, .inl (c4, 806, .inr (.inl (lA (fun _ => 0))))), (a5, .inl (c5, 26, .inr (.inl (lA (fun _ => 0))))), (a6, .inl (c6, 26, .inr (.inl (lA (fun _ => 0)))))] := hD
  refine lv_aload_n hx hb dX0_init_53 rfl (lv_at hl 0 rfl) ?_
  refine lv_sipush (v := nI 260) hx hb dX0_init_54 (by decide) ?_
  refine va_newa (D := D) (atype := .int) (ty := .int) (N' := 260) (a0 := (260, .inl (nA (fun _ => 0)))) hx hb (hts _ q66) rfl hK hP hD hS hA (fun _ => rfl) (nI_pos (by decide)) (nI_clamp (by decide)) (by decide) (by decide) (by decide) dX0_init_57 (fun a7 c7 H hK hP hD hS => ?_)
  have hP : va_P D vwCl [(h0, .inr (0, [.ref a1, .ref a2, .ref a3, .ref a4, .ref a5, .ref a6, .null, .null, .int 0, .int 0, .int 0])), (a1, .inl (c1, 6, .inl (nA (fun _ => 0)))), (a2, .inl (c2, 26, .inl (nA (fun _ => 0)))), (a3, .inl (c3, 78, .inl (nA (fun _ => 0)))), (a4, .inl (c4, 806, .inr (.inl (lA (fun _ => 0))))), (a5, .inl (c5, 26, .inr (.inl (lA (fun _ => 0))))), (a6, .inl (c6, 26, .inr (.inl (lA (fun _ => 0))))), (a7, .inl (c7, 260, .inl (nA (fun _ => 0))))] H := hP
  have hD : va_D A [(h0, .inr (0, [.ref a1, .ref a2, .ref a3, .ref a4, .ref a5, .ref a6, .null, .null, .int 0, .int 0, .int 0])), (a1, .inl (c1, 6, .inl (nA (fun _ => 0)))), (a2, .inl (c2, 26, .inl (nA (fun _ => 0)))), (a3, .inl (c3, 78, .inl (nA (fun _ => 0)))), (a4, .inl (c4, 806, .inr (.inl (lA (fun _ => 0))))), (a5, .inl (c5, 26, .inr (.inl (lA (fun _ => 0))))), (a6, .inl (c6, 26, .inr (.inl (lA (fun _ => 0))))), (a7, .inl (c7, 260, .inl (nA (fun _ => 0))))] := hD
  have hK : va_K D vwCl [(c1, .int), (c2, .int), (c3, .int), (c4, .long), (c5, .long), (c6, .long), (c7, .int)] s := hK
  refine va_putF (D := D) (ci := 0) (v := .ref a7) (ty := .array .int) (C := RX0) (T := TX0) (N := 11) hx hb hts in_X0 tyX0 tyX0_ok nmX0 hown hK hP hD hS 0 rfl rfl 6 (by decide) (hts _ q38) (fun _ h9 => h9) rfl hin rfl (by decide +kernel) rfl rfl (Nat.le_of_ble_eq_true rfl) dX0_init_59 (fun H locs hP hD hS => ?_)
  have hP : va_P D vwCl [(h0, .inr (0, [.ref a1, .ref a2, .ref a3, .ref a4, .ref a5, .ref a6, .ref a7, .null, .int 0, .int 0, .int 0])), (a1, .inl (c1, 6, .inl (nA (fun _ => 0)))), (a2, .inl (c2, 26, .inl (nA (fun _ => 0)))), (a3, .inl (c3, 78, .inl (nA (fun _ => 0)))), (a4, .inl (c4, 806, .inr (.inl (lA (fun _ => 0))))), (a5, .inl (c5, 26, .inr (.inl (lA (fun _ => 0))))), (a6, .inl (c6, 26, .inr (.inl (lA (fun _ => 0))))), (a7, .inl (c7, 260, .inl (nA (fun _ => 0))))] H := hP
  have hD : va_D A [(h0, .inr (0, [.ref a1, .ref a2, .ref a3, .ref a4, .ref a5, .ref a6, .ref a7, .null, .int 0, .int 0, .int 0])), (a1, .inl (c1, 6, .inl (nA (fun _ => 0)))), (a2, .inl (c2, 26, .inl (nA (fun _ => 0)))), (a3, .inl (c3, 78, .inl (nA (fun _ => 0)))), (a4, .inl (c4, 806, .inr (.inl (lA (fun _ => 0))))), (a5, .inl (c5, 26, .inr (.inl (lA (fun _ => 0))))), (a6, .inl (c6, 26, .inr (.inl (lA (fun _ => 0))))), (a7, .inl (c7, 260, .inl (nA (fun _ => 0))))] := hD
  refine lv_aload_n hx hb dX0_init_62 rfl (lv_at hl 0 rfl) ?_
  refine lv_sipush (v := nI 260) hx hb dX0_init_63 (by decide) ?_
  refine va_newa (D := D) (atype := .int) (ty := .int) (N' := 260) (a0 := (260, .inl (nA (fun _ => 0)))) hx hb (hts _ q66) rfl hK hP hD hS hA (fun _ => rfl) (nI_pos (by decide)) (nI_clamp (by decide)) (by decide) (by decide) (by decide) dX0_init_66 (fun a8 c8 H hK hP hD hS => ?_)
  have hP : va_P D vwCl [(h0, .inr (0, [.ref a1, .ref a2, .ref a3, .ref a4, .ref a5, .ref a6, .ref a7, .null, .int 0, .int 0, .int 0])), (a1, .inl (c1, 6, .inl (nA (fun _ => 0)))), (a2, .inl (c2, 26, .inl (nA (fun _ => 0)))), (a3, .inl (c3, 78, .inl (nA (fun _ => 0)))), (a4, .inl (c4, 806, .inr (.inl (lA (fun _ => 0))))), (a5, .inl (c5, 26, .inr (.inl (lA (fun _ => 0))))), (a6, .inl (c6, 26, .inr (.inl (lA (fun _ => 0))))), (a7, .inl (c7, 260, .inl (nA (fun _ => 0)))), (a8, .inl (c8, 260, .inl (nA (fun _ => 0))))] H := hP
  have hD : va_D A [(h0, .inr (0, [.ref a1, .ref a2, .ref a3, .ref a4, .ref a5, .ref a6, .ref a7, .null, .int 0, .int 0, .int 0])), (a1, .inl (c1, 6, .inl (nA (fun _ => 0)))), (a2, .inl (c2, 26, .inl (nA (fun _ => 0)))), (a3, .inl (c3, 78, .inl (nA (fun _ => 0)))), (a4, .inl (c4, 806, .inr (.inl (lA (fun _ => 0))))), (a5, .inl (c5, 26, .inr (.inl (lA (fun _ => 0))))), (a6, .inl (c6, 26, .inr (.inl (lA (fun _ => 0))))), (a7, .inl (c7, 260, .inl (nA (fun _ => 0)))), (a8, .inl (c8, 260, .inl (nA (fun _ => 0))))] := hD
  have hK : va_K D vwCl [(c1, .int), (c2, .int), (c3, .int), (c4, .long), (c5, .long), (c6, .long), (c7, .int), (c8, .int)] s := hK
  refine va_putF (D := D) (ci := 0) (v := .ref a8) (ty := .array .int) (C := RX0) (T := TX0) (N := 11) hx hb hts in_X0 tyX0 tyX0_ok nmX0 hown hK hP hD hS 0 rfl rfl 7 (by decide) (hts _ q39) (fun _ h9 => h9) rfl hin rfl (by decide +kernel) rfl rfl (Nat.le_of_ble_eq_true rfl) dX0_init_68 (fun H locs hP hD hS => ?_)
  have hP : va_P D vwCl [(h0, .inr (0, [.ref a1, .ref a2, .ref a3, .ref a4, .ref a5, .ref a6, .ref a7, .ref a8, .int 0, .int 0, .int 0])), (a1, .inl (c1, 6, .inl (nA (fun _ => 0)))), (a2, .inl (c2, 26, .inl (nA (fun _ => 0)))), (a3, .inl (c3, 78, .inl (nA (fun _ => 0)))), (a4, .inl (c4, 806, .inr (.inl (lA (fun _ => 0))))), (a5, .inl (c5, 26, .inr (.inl (lA (fun _ => 0))))), (a6, .inl (c6, 26, .inr (.inl (lA (fun _ => 0))))), (a7, .inl (c7, 260, .inl (nA (fun _ => 0)))), (a8, .inl (c8, 260, .inl (nA (fun _ => 0))))] H := hP
  have hD : va_D A [(h0, .inr (0, [.ref a1, .ref a2, .ref a3, .ref a4, .ref a5, .ref a6, .ref a7, .ref a8, .int 0, .int 0, .int 0])), (a1, .inl (c1, 6, .inl (nA (fun _ => 0)))), (a2, .inl (c2, 26, .inl (nA (fun _ => 0)))), (a3, .inl (c3, 78, .inl (nA (fun _ => 0)))), (a4, .inl (c4, 806, .inr (.inl (lA (fun _ => 0))))), (a5, .inl (c5, 26, .inr (.inl (lA (fun _ => 0))))), (a6, .inl (c6, 26, .inr (.inl (lA (fun _ => 0))))), (a7, .inl (c7, 260, .inl (nA (fun _ => 0)))), (a8, .inl (c8, 260, .inl (nA (fun _ => 0))))] := hD
  refine lv_aload_n hx hb dX0_init_71 rfl (lv_at hl 0 rfl) ?_
  refine lv_iconst (v := 0) hx hb dX0_init_72 (by decide) ?_
  refine va_put (D := D) (ci := 0) (v := .int 0) (ty := .boolean) (C := RX0) (T := TX0) (N := 11) hx hb hts in_X0 tyX0 tyX0_ok nmX0 hown hK hP hD hS 0 rfl rfl 10 (by decide) (hts _ q42) (fun _ h9 => h9) rfl (by decide +kernel) rfl rfl (Nat.le_of_ble_eq_true rfl) dX0_init_73 (fun H locs hP hD hS => ?_)
  have hP : va_P D vwCl [(h0, .inr (0, [.ref a1, .ref a2, .ref a3, .ref a4, .ref a5, .ref a6, .ref a7, .ref a8, .int 0, .int 0, .int 0])), (a1, .inl (c1, 6, .inl (nA (fun _ => 0)))), (a2, .inl (c2, 26, .inl (nA (fun _ => 0)))), (a3, .inl (c3, 78, .inl (nA (fun _ => 0)))), (a4, .inl (c4, 806, .inr (.inl (lA (fun _ => 0))))), (a5, .inl (c5, 26, .inr (.inl (lA (fun _ => 0))))), (a6, .inl (c6, 26, .inr (.inl (lA (fun _ => 0))))), (a7, .inl (c7, 260, .inl (nA (fun _ => 0)))), (a8, .inl (c8, 260, .inl (nA (fun _ => 0))))] H := hP
  have hD : va_D A [(h0, .inr (0, [.ref a1, .ref a2, .ref a3, .ref a4, .ref a5, .ref a6, .ref a7, .ref a8, .int 0, .int 0, .int 0])), (a1, .inl (c1, 6, .inl (nA (fun _ => 0)))), (a2, .inl (c2, 26, .inl (nA (fun _ => 0)))), (a3, .inl (c3, 78, .inl (nA (fun _ => 0)))), (a4, .inl (c4, 806, .inr (.inl (lA (fun _ => 0))))), (a5, .inl (c5, 26, .inr (.inl (lA (fun _ => 0))))), (a6, .inl (c6, 26, .inr (.inl (lA (fun _ => 0))))), (a7, .inl (c7, 260, .inl (nA (fun _ => 0)))), (a8, .inl (c8, 260, .inl (nA (fun _ => 0))))] := hD
  refine W.widen (k := 8) (n := 1488) (by decide) (by decide) ?_
  exact W.vret hx hb hr (fun t ht hW => ⟨⟨(fun k => match k with | 0 => h0 | 1 => a1 | 2 => a2 | 3 => a3 | 4 => a4 | 5 => a5 | 6 => a6 | 7 => a7 | _ => a8, fun k => match k with | 0 => c1 | 1 => c2 | 2 => c3 | 3 => c4 | 4 => c5 | 5 => c6 | 6 => c7 | _ => c8), rfl, trivial, rfl, by rw [ht]; exact hP, va_K.moved hW.alike hK, hD⟩, hS.F ht⟩) hS.2.2 dX0_init_76
/-- what the constructor leaves -/
def BX1_init (D : va_G) (A : Nat → Prop) (h0 : Nat) (u : (Nat → Nat) × (Nat → ClassId)) (t : State) : Prop := u.1 0 = h0 ∧ va_P D vwCl (MW u.1 u.2 (fun _ => false) (fun _ => 0) (fun _ => 0) 0) t.heap ∧ va_K D vwCl [(u.2 8, .boolean), (u.2 9, .long), (u.2 10, .long)] t ∧ va_D A (MW u.1 u.2 (fun _ => false) (fun _ => 0) (fun _ => 0) 0)
set_option maxHeartbeats 4000000 in
theorem met_X1_init (l : Launch) (D : va_G) (h0 sz : Nat) : Met l yX1_init (ws_ yX1_init cX1_init 1 none) ({ frames := 1, cells := 3, slots := 216, locals := 12 }) (va_Pc [.ref h0] (fun U => U.heap.size = sz ∧ va_P D vwCl [(h0, .inr (1, [.int 0, .null, .null, .null]))] U.heap ∧ va_K D vwCl [] U ∧ va_D (fun _ => True) [(h0, .inr (1, [.int 0, .null, .null, .null]))])) (va_Qv (fun _ => True) (BX1_init D (va_A [(h0, .inr (1, [.int 0, .null, .null, .null]))] sz) h0) (va_A [(h0, .inr (1, [.int 0, .null, .null, .null]))] sz)) 3 216 (va_A [(h0, .inr (1, [.int 0, .null, .null, .null]))] sz) := by
  refine Met.ofW (cc := cX1_init) (maxL := 1) (ret := none) (by decide) rfl ?_
  intro p e s m args below meth c s₁ B hml hv
  obtain ⟨rfl, hsz, hP, hK, hD0⟩ := hv
  have hx := B.exec
  have hb := B.bytes
  have hr := B.returns
  have hts := atoms_spec (ws := ws_ yX1_init cX1_init 1 none) B.pre
  have hts : ∀ w ∈ lw_all, w.before _ s = true := fun w h => hts w (List.mem_cons_of_mem _ h)
  have hown : s.vm.findClass RX1 = some m.cls := findClass_of_methodNamed B.named
  have hlocks := B.notSynchronized
  have hin : meth.name = "<init>" := (name_of_methodNamed B.named B.method).1
  subst hsz
  have hD := hD0.self (sz := s.heap.size)
  generalize hAe : va_A [(h0, .inr (1, [.int 0, .null, .null, .null]))] s.heap.size = A at hD ⊢
  have hA : ∀ q : Nat, s.heap.size ≤ q → A q := fun q h => by rw [← hAe]; exact Or.inr h
  have hS : va_S A s.heap s.heap [] := va_S.rf
  have hP : va_P D vwCl [(h0, .inr (1, [.int 0, .null, .null, .null]))] s.heap := hP
  have hl := lv_entry ([.ref h0]) (n := 1) (Nat.le_of_ble_eq_true rfl)
  rw [lg_entry_eq]
  generalize (lg_sl ([.ref h0]) ++ List.replicate (1 - (lg_sl ([.ref h0])).length) Slot.unset).toArray = ls at hl ⊢
  have hl : lv_has ls 1 [(0, .ref h0)] := hl
  refine lv_aload_n hx hb dX1_init_0 rfl (lv_at hl 0 rfl) ?_
  refine W.objInit hx hb hown (hts _ q192) (hts _ q30) (hts _ q31) rfl (by rw [hml]; exact hl.1) rfl dX1_init_1 (Nat.le_of_ble_eq_true rfl) (Nat.le_of_ble_eq_true rfl) ?_
  refine W.eq (g2 := F0 m 4 ls []) rfl ?_
  refine lv_aload_n hx hb dX1_init_4 rfl (lv_at hl 0 rfl) ?_
  refine lv_sipush (v := nI 162) hx hb dX1_init_5 (by decide) ?_
  refine va_newa (D := D) (atype := .boolean) (ty := .boolean) (N' := 162) (a0 := (162, .inl (zA (fun _ => false)))) hx hb (hts _ q206) rfl hK hP hD hS hA (fun _ => rfl) (nI_pos (by decide)) (nI_clamp (by decide)) (by decide) (by decide) (by decide) dX1_init_8 (fun a1 c1 H hK hP hD hS => ?_)
  have hP : va_P D vwCl [(h0, .inr (1, [.int 0, .null, .null, .null])), (a1, .inl (c1, 162, .inl (zA (fun _ => false))))] H := hP
  have hD : va_D A [(h0, .inr (1, [.int 0, .null, .null, .null])), (a1, .inl (c1, 162, .inl (zA (fun _ => false))))] := hD
  have hK : va_K D vwCl [(c1, .boolean)] s := hK
  refine va_put (D := D) (ci := 1) (v := .ref a1) (ty := .array .boolean) (C := RX1) (T := TX1) (N := 4) hx hb hts in_X1 tyX1 tyX1_ok nmX1 hown hK hP hD hS 0 rfl rfl 1 (by decide) (hts _ q194) (fun _ h9 => h9) rfl (by decide +kernel) rfl rfl (Nat.le_of_ble_eq_true rfl) dX1_init_10 (fun H locs hP hD hS => ?_)
  have hP : va_P D vwCl [(h0, .inr (1, [.int 0, .ref a1, .null, .null])), (a1, .inl (c1, 162, .inl (zA (fun _ => false))))] H := hP
  have hD : va_D A [(h0, .inr (1, [.int 0, .ref a1, .null, .null])), (a1, .inl (c1, 162, .inl (zA (fun _ => false))))] := hD
  refine lv_aload_n hx hb dX1_init_13 rfl (lv_at hl 0 rfl) ?_
  refine lv_bipush (v := nI 27) hx hb dX1_init_14 (by decide) ?_
  refine va_newa (D := D) (atype := .long) (ty := .long) (N' := 27) (a0 := (27, .inr (.inl (lA (fun _ => 0))))) hx hb (hts _ q67) rfl hK hP hD hS hA (fun _ => rfl) (nI_pos (by decide)) (nI_clamp (by decide)) (by decide) (by decide) (by decide) dX1_init_16 (fun a2 c2 H hK hP hD hS => ?_)
  have hP : va_P D vwCl [(h0, .inr (1, [.int 0, .ref a1, .null, .null])), (a1, .inl (c1, 162, .inl (zA (fun _ => false)))), (a2, .inl (c2, 27, .inr (.inl (lA (fun _ => 0)))))] H := hP
  have hD : va_D A [(h0, .inr (1, [.int 0, .ref a1, .null, .null])), (a1, .inl (c1, 162, .inl (zA (fun _ => false)))), (a2, .inl (c2, 27, .inr (.inl (lA (fun _ => 0)))))] := hD
  have hK : va_K D vwCl [(c1, .boolean), (c2, .long)] s := hK
  refine va_put (D := D) (ci := 1) (v := .ref a2) (ty := .array .long) (C := RX1) (T := TX1) (N := 4) hx hb hts in_X1 tyX1 tyX1_ok nmX1 hown hK hP hD hS 0 rfl rfl 2 (by decide) (hts _ q195) (fun _ h9 => h9) rfl (by decide +kernel) rfl rfl (Nat.le_of_ble_eq_true rfl) dX1_init_18 (fun H locs hP hD hS => ?_)
  have hP : va_P D vwCl [(h0, .inr (1, [.int 0, .ref a1, .ref a2, .null])), (a1, .inl (c1, 162, .inl (zA (fun _ => false)))), (a2, .inl (c2, 27, .inr (.inl (lA (fun _ => 0)))))] H := hP
  have hD : va_D A [(h0, .inr (1, [.int 0, .ref a1, .ref a2, .null])), (a1, .inl (c1, 162, .inl (zA (fun _ => false)))), (a2, .inl (c2, 27, .inr (.inl (lA (fun _ => 0)))))] := hD
  refine lv_aload_n hx hb dX1_init_21 rfl (lv_at hl 0 rfl) ?_
  refine lv_bipush (v := nI 27) hx hb dX1_init_22 (by decide) ?_
  refine va_newa (D := D) (atype := .long) (ty := .long) (N' := 27) (a0 := (27, .inr (.inl (lA (fun _ => 0))))) hx hb (hts _ q67) rfl hK hP hD hS hA (fun _ => rfl) (nI_pos (by decide)) (nI_clamp (by decide)) (by decide) (by decide) (by decide) dX1_init_24 (fun a3 c3 H hK hP hD hS => ?_)
  have hP : va_P D vwCl [(h0, .inr (1, [.int 0, .ref a1, .ref a2, .null])), (a1, .inl (c1, 162, .inl (zA (fun _ => false)))), (a2, .inl (c2, 27, .inr (.inl (lA (fun _ => 0))))), (a3, .inl (c3, 27, .inr (.inl (lA (fun _ => 0)))))] H := hP
  have hD : va_D A [(h0, .inr (1, [.int 0, .ref a1, .ref a2, .null])), (a1, .inl (c1, 162, .inl (zA (fun _ => false)))), (a2, .inl (c2, 27, .inr (.inl (lA (fun _ => 0))))), (a3, .inl (c3, 27, .inr (.inl (lA (fun _ => 0)))))] := hD
  have hK : va_K D vwCl [(c1, .boolean), (c2, .long), (c3, .long)] s := hK
  refine va_put (D := D) (ci := 1) (v := .ref a3) (ty := .array .long) (C := RX1) (T := TX1) (N := 4) hx hb hts in_X1 tyX1 tyX1_ok nmX1 hown hK hP hD hS 0 rfl rfl 3 (by decide) (hts _ q196) (fun _ h9 => h9) rfl (by decide +kernel) rfl rfl (Nat.le_of_ble_eq_true rfl) dX1_init_26 (fun H locs hP hD hS => ?_)
  have hP : va_P D vwCl [(h0, .inr (1, [.int 0, .ref a1, .ref a2, .ref a3])), (a1, .inl (c1, 162, .inl (zA (fun _ => false)))), (a2, .inl (c2, 27, .inr (.inl (lA (fun _ => 0))))), (a3, .inl (c3, 27, .inr (.inl (lA (fun _ => 0)))))] H := hP
  have hD : va_D A [(h0, .inr (1, [.int 0, .ref a1, .ref a2, .ref a3])), (a1, .inl (c1, 162, .inl (zA (fun _ => false)))), (a2, .inl (c2, 27, .inr (.inl (lA (fun _ => 0))))), (a3, .inl (c3, 27, .inr (.inl (lA (fun _ => 0)))))] := hD
  refine W.widen (k := 3) (n := 216) (by decide) (by decide) ?_
  exact W.vret hx hb hr (fun t ht hW => ⟨⟨(fun k => match k with | 0 => h0 | 1 => a1 | 2 => a2 | _ => a3, fun k => match k with | 8 => c1 | 9 => c2 | _ => c3), rfl, trivial, rfl, by rw [ht]; exact hP, va_K.moved hW.alike hK, hD⟩, hS.F ht⟩) hS.2.2 dX1_init_29
end
section
set_option maxRecDepth 100000
section AP
variable {D : va_G} {cl : List vw_C} {A : Nat → Prop} {wA wB : va_W} {H : Heap}
theorem ap_l {k : Nat} {q : Nat × va_E} (h : wA[k]? = some q) : (wA ++ wB)[k]? = some q := by
  rw [List.getElem?_append_left (List.getElem?_eq_some_iff.mp h).1]; exact h
theorem ap_r {k : Nat} {q : Nat × va_E} (h : wB[k]? = some q) : (wA ++ wB)[wA.length + k]? = some q := by
  rw [List.getElem?_append_right (Nat.le_add_right _ _), Nat.add_sub_cancel_left]; exact h
theorem apP_l (h : va_P D cl (wA ++ wB) H) : va_P D cl wA H := fun k q hk => h k q (ap_l hk)
theorem apP_r (h : va_P D cl (wA ++ wB) H) : va_P D cl wB H := fun k q hk => h _ q (ap_r hk)
theorem apD_l (h : va_D A (wA ++ wB)) : va_D A wA := ⟨fun i j p q hp hq e => h.1 i j p q (ap_l hp) (ap_l hq) e, fun k q hk => h.2 k q (ap_l hk)⟩
theorem apD_r (h : va_D A (wA ++ wB)) : va_D A wB := ⟨fun i j p q hp hq e => Nat.add_left_cancel (h.1 _ _ p q (ap_r hp) (ap_r hq) e), fun k q hk => h.2 _ q (ap_r hk)⟩
theorem apD_x (h : va_D A (wA ++ wB)) {i j : Nat} {p q : Nat × va_E} (hp : wA[i]? = some p) (hq : wB[j]? = some q) : p.1 ≠ q.1 := by
  intro e
  have h1 := h.1 _ _ p q (ap_l hp) (ap_r hq) e
  have h2 := (List.getElem?_eq_some_iff.mp hp).1
  omega
end AP
def fwSc (X : fwX) (b L : Nat) (xs : Nat → Int32) : Prop := match X with
  | (_, _, _, _, s, _, _, _, _, _, _, _, A, V, _, _, _) => V = va_S A s.heap ∧ va_X b L xs s s.heap ∧ b < s.heap.size ∧ ¬ A b
section LR
variable {X : fwX} {cc : ByteArray} {own : String} {tys : List (ClassId × FieldType)} {ws : va_W} {pc : Nat} {lv : List (Nat × Value)} {st st0 : List Value}
theorem fg_sld (S : fwC X cc own tys) {b L i : Nat} {xs : Nat → Int32} (Sc : fwSc X b L xs) (hL : L < 2 ^ 31) (hi : i < L) (hdg : decode cc pc = .ok (.iaload, 1)) (k : fwG X ws (pc + 1) lv (.int (xs i) :: st)) : fwG X ws pc lv (.int (nI i) :: .ref b :: st) := by
  obtain ⟨p, l, e, R, s, m, args, below, meth, c, nL, D, A, V, cells, slots, Q⟩ := X
  obtain ⟨⟨hx, hb, hml, hown, hts⟩, hK, hcs⟩ := S
  obtain ⟨rfl, hX, hbl, hbA⟩ := Sc
  intro H locs ls hP hD hV hl
  refine va_sld hx hb hX hbl hbA hV (vp_in_nI hi hL) hdg ?_
  rw [nI_clamp (by omega)]
  exact k H locs ls hP hD hV hl
theorem fg_slen (S : fwC X cc own tys) {b L : Nat} {xs : Nat → Int32} (Sc : fwSc X b L xs) (hdg : decode cc pc = .ok (.arraylength, 1)) (k : fwG X ws (pc + 1) lv (.int (nI L) :: st)) : fwG X ws pc lv (.ref b :: st) := by
  obtain ⟨p, l, e, R, s, m, args, below, meth, c, nL, D, A, V, cells, slots, Q⟩ := X
  obtain ⟨⟨hx, hb, hml, hown, hts⟩, hK, hcs⟩ := S
  obtain ⟨rfl, hX, hbl, hbA⟩ := Sc
  intro H locs ls hP hD hV hl
  exact va_slen hx hb hX hbl hbA hV hdg (k H locs ls hP hD hV hl)
theorem fg_tsIn (S : fwC X cc own tys) {dflt lo hi : Int} {offs : Array Int} {len : Nat} {x : Int32} {off : Int} (tgt : Nat) (hdg : decode cc pc = .ok (.tableswitch dflt lo hi offs, len)) (h1 : ¬ x.toInt < lo) (h2 : ¬ hi < x.toInt) (ho : offs[(x.toInt - lo).toNat]? = some off) (ht : (pc : Int) + off = (tgt : Int)) (k : fwG X ws tgt lv st) : fwG X ws pc lv (.int x :: st) := by
  obtain ⟨p, l, e, R, s, m, args, below, meth, c, nL, D, A, V, cells, slots, Q⟩ := X
  obtain ⟨⟨hx, hb, hml, hown, hts⟩, hK, hcs⟩ := S
  intro H locs ls hP hD hV hl
  exact lv_tableIn hx hb hdg h1 h2 ho ht (k H locs ls hP hD hV hl)
theorem fg_tsOut (S : fwC X cc own tys) {dflt lo hi : Int} {offs : Array Int} {len : Nat} {x : Int32} (tgt : Nat) (hdg : decode cc pc = .ok (.tableswitch dflt lo hi offs, len)) (h : x.toInt < lo ∨ hi < x.toInt) (ht : (pc : Int) + dflt = (tgt : Int)) (k : fwG X ws tgt lv st) : fwG X ws pc lv (.int x :: st) := by
  obtain ⟨p, l, e, R, s, m, args, below, meth, c, nL, D, A, V, cells, slots, Q⟩ := X
  obtain ⟨⟨hx, hb, hml, hown, hts⟩, hK, hcs⟩ := S
  intro H locs ls hP hD hV hl
  exact lv_tableOut hx hb hdg h ht (k H locs ls hP hD hV hl)
variable {index maxL : Nat} {y : MethodName} {bytes : ByteArray} {ret : Option FieldType} {rm : Room} {wA wB : va_W} {As : List Value}
/-- a call that changes the first part of the world -/
theorem fg_muL (S : fwC X cc own tys) (M : fwMu X) (n : Nat) {b ci q0 : Nat} {C : String} {T : u_T} {N : Nat} {fs : List Value} {post : Option Value → va_W → Prop} (hM : ∀ sz, Met (fwLa X) y (ws_ y bytes maxL ret) rm (muP (fwDD X) tys wA (.ref b :: As) sz) (muQ (fwDD X) post (va_A wA sz)) 0 0 (va_A wA sz)) (hy : y.cls = C) (hc : vwCl[ci]? = some (C, T, N)) (he : wA[q0]? = some (b, .inr (ci, fs)))
    (q1 : Cond.methodLink own index y ∈ lw_all) (q2 : Cond.instanceMethod y ∈ lw_all) (q3 : Cond.selects C y y ∈ lw_all) (q4 : Cond.initialized C ∈ lw_all) (q5 : Cond.code y bytes maxL ret ∈ lw_all) (hY : fwY X y maxL n rm st)
    (hn : As.length = n) (hst : st0 = As.reverse ++ .ref b :: st) (hdg : decode cc pc = .ok (.invokevirtual index, 3))
    (k : ∀ (v : Option Value) (w : va_W), post v w → fwG X (w ++ wB) (pc + 3) lv (v.toList ++ st)) : fwG X (wA ++ wB) pc lv st0 := by
  obtain ⟨p, l, e, R, s, m, args, below, meth, c, nL, D, A, V, cells, slots, Q⟩ := X
  obtain ⟨⟨hx, hb, hml, hown, hts⟩, hK, hcs⟩ := S
  obtain ⟨hd, hR, ⟨hrc, hrs⟩, hW⟩ := hY
  obtain ⟨rfl, hA⟩ := M
  intro H locs ls hP hD hV hl
  have hPc := apP_l hP
  have hDc := apD_l hD
  have hF : ∀ q, va_A wA H.size q → A q := by
    intro q h
    rcases h with ⟨k, e, h⟩ | h
    · exact hDc.2 k _ h
    · exact hA q (Nat.le_trans hV.1 h)
  refine fw_muW (va_runV (As := As) (rest := st) ⟨hx, hb, hml, hown, hts⟩ (hM H.size) (cwV n hts (lw_V q1 q2 q3 q4 q5) rfl hrc hrs ⟨hy, hd⟩ hR) ⟨muP_blind, va_recv hK hPc hc he, fun U hU hW => ⟨rfl, by rw [hU], by rw [hU]; exact hPc, va_K.moved hW.alike hK, hDc.weaken (fun _ _ _ _ => trivial)⟩⟩ rfl hn hl.1 hst (lv_room hW) hdg hcs) hV hF (fun v w H1 locs1 hp hP1 hD1 hz hk hS => ?_)
  have hno : ∀ (j : Nat) (q : Nat × va_E), wB[j]? = some q → ¬ va_A wA H.size q.1 := by
    intro j q hq z
    rcases z with ⟨i, e, z⟩ | z
    · exact apD_x hD z hq rfl
    · exact absurd ((apP_r hP) j q hq).lt (by omega)
  refine k v w hp H1 locs1 ls (hP1.app ((apP_r hP).kept (fun j q hq => hk q.1 ((apP_r hP) j q hq).lt (hno j q hq)))) (va_D.app (hD1.weaken (fun k q _ h => hF q.1 h)) (apD_r hD) (fun i j x y hx hy e => hno j y hy (e ▸ hD1.2 i x hx))) hS hl
/-- a call that changes the second part of the world -/
theorem fg_muR (S : fwC X cc own tys) (M : fwMu X) (n : Nat) {b ci q0 : Nat} {C : String} {T : u_T} {N : Nat} {fs : List Value} {post : Option Value → va_W → Prop} (hM : ∀ sz, Met (fwLa X) y (ws_ y bytes maxL ret) rm (muP (fwDD X) tys wB (.ref b :: As) sz) (muQ (fwDD X) post (va_A wB sz)) 0 0 (va_A wB sz)) (hy : y.cls = C) (hc : vwCl[ci]? = some (C, T, N)) (he : wB[q0]? = some (b, .inr (ci, fs)))
    (q1 : Cond.methodLink own index y ∈ lw_all) (q2 : Cond.instanceMethod y ∈ lw_all) (q3 : Cond.selects C y y ∈ lw_all) (q4 : Cond.initialized C ∈ lw_all) (q5 : Cond.code y bytes maxL ret ∈ lw_all) (hY : fwY X y maxL n rm st)
    (hn : As.length = n) (hst : st0 = As.reverse ++ .ref b :: st) (hdg : decode cc pc = .ok (.invokevirtual index, 3))
    (k : ∀ (v : Option Value) (w : va_W), post v w → fwG X (wA ++ w) (pc + 3) lv (v.toList ++ st)) : fwG X (wA ++ wB) pc lv st0 := by
  obtain ⟨p, l, e, R, s, m, args, below, meth, c, nL, D, A, V, cells, slots, Q⟩ := X
  obtain ⟨⟨hx, hb, hml, hown, hts⟩, hK, hcs⟩ := S
  obtain ⟨hd, hR, ⟨hrc, hrs⟩, hW⟩ := hY
  obtain ⟨rfl, hA⟩ := M
  intro H locs ls hP hD hV hl
  have hPc := apP_r hP
  have hDc := apD_r hD
  have hF : ∀ q, va_A wB H.size q → A q := by
    intro q h
    rcases h with ⟨k, e, h⟩ | h
    · exact hDc.2 k _ h
    · exact hA q (Nat.le_trans hV.1 h)
  refine fw_muW (va_runV (As := As) (rest := st) ⟨hx, hb, hml, hown, hts⟩ (hM H.size) (cwV n hts (lw_V q1 q2 q3 q4 q5) rfl hrc hrs ⟨hy, hd⟩ hR) ⟨muP_blind, va_recv hK hPc hc he, fun U hU hW => ⟨rfl, by rw [hU], by rw [hU]; exact hPc, va_K.moved hW.alike hK, hDc.weaken (fun _ _ _ _ => trivial)⟩⟩ rfl hn hl.1 hst (lv_room hW) hdg hcs) hV hF (fun v w H1 locs1 hp hP1 hD1 hz hk hS => ?_)
  have hno : ∀ (j : Nat) (q : Nat × va_E), wA[j]? = some q → ¬ va_A wB H.size q.1 := by
    intro j q hq z
    rcases z with ⟨i, e, z⟩ | z
    · exact apD_x hD hq z rfl
    · exact absurd ((apP_l hP) j q hq).lt (by omega)
  refine k v w hp H1 locs1 ls (((apP_l hP).kept (fun j q hq => hk q.1 ((apP_l hP) j q hq).lt (hno j q hq))).app hP1) (va_D.app (apD_l hD) (hD1.weaken (fun k q _ h => hF q.1 h)) (fun i j x y hx hy e => hno i x hx (e.symm ▸ hD1.2 j y hy))) hS hl
end LR
/-! the two sides, together -/
def LI (ad bd : Nat → Nat) (ck : Nat → ClassId) (ws : va_W) : Prop := ∃ (li kn dl wa no th ta fr : Nat → Nat) (co ss bu : Nat) (ba : Nat → Bool) (nw lt : Nat → Nat) (hd : Nat), ws = XW ad ck li kn dl wa no th ta fr co ss bu ++ MW bd ck ba nw lt hd ∧ XI li co dl wa ss bu ∧ hd = co ∧ ∀ p, p < 162 → ba p = bL li co p
section CC
variable {ba bb : Nat → Bool}
theorem aAllowed_c (h : ∀ p, p < 162 → ba p = bb p) (x y : Int) : aAllowed bb x y = aAllowed ba x y := by unfold aAllowed; rw [goodF_fun h]
theorem aRank_c (h : ∀ p, p < 162 → ba p = bb p) (x y : Int) : aRank bb x y = aRank ba x y := by unfold aRank; rw [goodF_fun h]
theorem aChoices_c (h : ∀ p, p < 162 → ba p = bb p) (x y : Int) : aChoices bb x y = aChoices ba x y := by unfold aChoices; rw [goodF_fun h]
theorem aCount_c (h : ∀ p, p < 162 → ba p = bb p) (x : Int) : aCount bb x = aCount ba x := by unfold aCount; rw [goodF_fun h]
theorem aCountWith_c (h : ∀ p, p < 162 → ba p = bb p) (x y : Int) : aCountWith bb x y = aCountWith ba x y := by unfold aCountWith; rw [goodF_fun h]
theorem aWord_c (h : ∀ p, p < 162 → ba p = bb p) (x y : Int) : aWord bb x y = aWord ba x y := by unfold aWord; rw [goodF_fun h]
theorem aNext_c (h : ∀ p, p < 162 → ba p = bb p) (x y : Int) : aNext bb x y = aNext ba x y := by unfold aNext; rw [goodF_fun h]
theorem aBeginning_c (h : ∀ p, p < 162 → ba p = bb p) (x y : Int) : aBeginning bb x y = aBeginning ba x y := by unfold aBeginning; rw [goodF_fun h]
theorem aEnding_c (h : ∀ p, p < 162 → ba p = bb p) (x y : Int) : aEnding bb x y = aEnding ba x y := by unfold aEnding; rw [goodF_fun h]
theorem aStanding_c (h : ∀ p, p < 162 → ba p = bb p) (x y : Int) : aStanding bb x y = aStanding ba x y := by unfold aStanding; rw [goodF_fun h]
theorem aMirrored_c (h : ∀ p, p < 162 → ba p = bb p) (x : Int) : aMirrored bb x = aMirrored ba x := by unfold aMirrored; rw [goodF_fun h]
theorem lgF_c (h : ∀ p, p < 162 → ba p = bb p) : ∀ n, lgF bb n = lgF ba n
  | 0 => rfl
  | n + 1 => by
    show (if 0 < cnt (goodF bb (n + 1)) (p3 (n + 1)) then n + 1 else lgF bb n) = (if 0 < cnt (goodF ba (n + 1)) (p3 (n + 1)) then n + 1 else lgF ba n)
    rw [goodF_fun h, lgF_c h n]
theorem aLongest_c (h : ∀ p, p < 162 → ba p = bb p) : aLongest bb = aLongest ba := by unfold aLongest; rw [lgF_c h]
theorem ltF_lt {x : Int} (h : 0 < ltF x) : x.toNat < 162 := by
  have h1 := (ltF_sz x).mp h
  have h2 := p3_mono (szF_in x).2
  have e4 : p3 4 = 81 := rfl
  omega
theorem aForbid_c (h : ∀ p, p < 162 → ba p = bb p) (he : Nat) (x : Int) : aForbid bb he x = aForbid ba he x := by
  unfold aForbid
  by_cases q : ltF x = 0
  · rw [if_pos q, if_pos q]
  · rw [if_neg q, if_neg q, h _ (ltF_lt (by omega))]
theorem okForbid_c (h : ∀ p, p < 162 → ba p = bb p) (he : Nat) (x : Int) : okForbid bb he x ↔ okForbid ba he x := by
  unfold okForbid
  constructor
  · rintro ⟨a, b, c⟩; exact ⟨a, by rw [h _ (ltF_lt a)]; exact b, c⟩
  · rintro ⟨a, b, c⟩; exact ⟨a, by rw [← h _ (ltF_lt a)]; exact b, c⟩
theorem aPermit_c (h : ∀ p, p < 162 → ba p = bb p) (he : Nat) (x : Int) : aPermit bb he x = aPermit ba he x := by
  unfold aPermit
  by_cases q : ltF x = 0
  · rw [if_pos (Or.inl q), if_pos (Or.inl q)]
  · rw [h _ (ltF_lt (by omega))]
theorem okPermit_c (h : ∀ p, p < 162 → ba p = bb p) (x : Int) : okPermit bb x ↔ okPermit ba x := by
  unfold okPermit
  constructor
  · rintro ⟨a, b⟩; exact ⟨a, by rw [h _ (ltF_lt a)]; exact b⟩
  · rintro ⟨a, b⟩; exact ⟨a, by rw [← h _ (ltF_lt a)]; exact b⟩
theorem up_c (h : ∀ p, p < 162 → ba p = bb p) (k : Nat) (v : Bool) : ∀ p, p < 162 → va_up ba k v p = va_up bb k v p := by
  intro p hp
  by_cases e : p = k
  · subst e; rw [up_eq, up_eq]
  · rw [up_ne e, up_ne e, h p hp]
end CC
/-! THE CLAIM OUT OF ONE WALK OF THE LAW'S BODY. Your part is whole_start (and what it stands on); all else here is the same for every law, but numbers. -/
def R_law : String := "FactorFreeWordsLaw"
def lw_P (b : Addr) (xs : List Int32) (args : Array Value) (s : State) : Prop := args = #[.ref b] ∧ s.IntsAt b xs ∧ xs.length ≤ 192 ∧ (Jvm.Cond.and given_1 narrow_1).before args s = true
def lw_Q (_ : Array Value) (s : State) (o : Outcome) (t : State) : Prop := o = .returned (some (.int 1)) ∧ Framed s o t [] 600000 7290000
def lw_Z (below : List Frame) (a : Array Value) (s : State) : State → Prop := fun t => ∃ o, t.status = .running ∧ Ended t below o ∧ lw_Q a s o t
/-- the law's own end, with 1 on the stack, nothing written that was there before, its room as the claim has it -/
theorem lw_ret {p : Program} {l : Launch} {e : Env} {s : State} {m : MethodId} {below : List Frame} {meth : Method} {c : Code} {b : Nat} (hx : p.tables.exec = Jvm.exec) (hb : c.code = code) (hr : meth.sig.returnType = ret) (hlocks : meth.locks = false) {pc : Nat} {H : Heap} {ls : Array Slot} (hdg : decode code pc = .ok (.ireturn, 1)) : W p l e room_1 s m #[Value.ref b] below meth c H [] 600000 7290000 (lw_Z below #[Value.ref b] s) (F0 m pc ls [.int 1]) := by
  intro T hT X
  obtain ⟨fs, hret, hrun, hended, hW, hframe⟩ := X.leave (v := some (.int 1)) (hlocks := hlocks) (fun h => by rw [hr] at h; cases h)
  have hmeth' : T.vm.method? m = some meth := X.method'
  refine ⟨T.setFrames fs, ?_, .returned (some (.int 1)), hrun, hended, rfl, ⟨_, rfl⟩, hW, hframe⟩
  jvm_step X.here [X.here.top, hx, hb, hdg, hmeth', hr, ret, narrow_b1]
  (try refine ⟨rfl, ?_⟩); (try refine ⟨rfl, ?_⟩)
  first | (intro acts; rw [hret _ acts rfl rfl rfl]) | rw [hret _ _ rfl rfl rfl]
  exact Steps.refl _
/-- what holds at the law's entry: the machine, the code, the tables' words (any of lw_tbl by 'hts w (by decide +kernel)'), the script of L ints xs at the cell b, what the Statement gives of the start (any of its parts by flat_of_before) -/
def lw_At (p : Program) (s : State) (m : MethodId) (meth : Method) (c : Code) (b L : Nat) (xs : Nat → Int32) : Prop :=
  p.tables.exec = Jvm.exec ∧ c.code = code ∧ meth.sig.returnType = ret ∧ c.maxLocals = 4 ∧ s.vm.findClass R_law = some m.cls ∧ (∀ w ∈ lw_tbl, w.before #[Value.ref b] s = true) ∧ va_X b L xs s s.heap ∧ b < s.heap.size ∧ meth.locks = false ∧ (Jvm.Cond.and given_1 narrow_1).before #[Value.ref b] s = true
end
section
set_option maxRecDepth 100000
set_option maxHeartbeats 4000000 in
theorem lc_forbid {X : fwX} {b L i : Nat} {xs : Nat → Int32} {ad bd : Nat → Nat} {ck : Nat → ClassId} (S : fwC X cL_law R_law (tysX ck)) (hN : fwN X = 4) (M : fwMu X) (Sc : fwSc X b L xs) (hRm : fwRm X = room_1) (hL : L ≤ 192) (hi : i + 3 ≤ L) {ws : va_W} (h : LI ad bd ck ws) (K : ∀ ws, LI ad bd ck ws → fwG X ws 524 [(0, .ref b), (1, .ref (ad 0)), (2, .ref (bd 0)), (3, .int (nI i))] []) : fwG X ws 108 [(0, .ref b), (1, .ref (ad 0)), (2, .ref (bd 0)), (3, .int (nI i))] [] := by
  obtain ⟨li, kn, dl, wa, no, th, ta, fr, co, ss, bu, ba, nw, lt, hd, rfl, hI, hh, hb⟩ := h
  subst hh
  have hco := hI.1.1
  refine fg_aload_n S 1 1 dL_law_108 rfl rfl ?_
  refine fg_aload_n S 0 0 dL_law_109 rfl rfl ?_
  refine fg_iload_n S 3 3 dL_law_110 rfl rfl ?_
  refine fg_ic (v := nI 1) S dL_law_111 (by decide) ?_
  refine fg_iadd S dL_law_112 ?_
  refine fg_sld S Sc (by omega) (by omega) dL_law_113 ?_
  refine fg_muL (ci := 0) (q0 := 0) S M 1 (fun sz => met_X0_forbid (xs (i + 1)) hI sz) rfl rfl rfl q68 q69 q70 q22 q71 ⟨ok_X0_forbid, by rw [hRm]; decide, ⟨rfl, rfl⟩, Nat.le_of_ble_eq_true rfl⟩ rfl rfl dL_law_114 ?_
  intro v_ w_ hp_
  obtain ⟨rfl, lv, kv, dv, wv, nv, tv, uv, fv, cv, sv, bv, rfl, hI2, hcase⟩ := hp_
  show fwG X (XW ad ck lv kv dv wv nv tv uv fv cv sv bv ++ MW bd ck ba nw lt hd) 117 [(0, .ref b), (1, .ref (ad 0)), (2, .ref (bd 0)), (3, .int (nI i))] [.int (aForbid (bL li hd) hd (xs (i + 1)).toInt)]
  refine fg_aload_n S 2 2 dL_law_117 rfl rfl ?_
  refine fg_aload_n S 0 0 dL_law_118 rfl rfl ?_
  refine fg_iload_n S 3 3 dL_law_119 rfl rfl ?_
  refine fg_ic (v := nI 1) S dL_law_120 (by decide) ?_
  refine fg_iadd S dL_law_121 ?_
  refine fg_sld S Sc (by omega) (by omega) dL_law_122 ?_
  refine fg_muR (ci := 1) (q0 := 0) S M 1 (fun sz => met_X1_forbid (xs (i + 1)) hco sz) rfl rfl rfl q207 q208 q209 q23 q210 ⟨ok_X1_forbid, by rw [hRm]; decide, ⟨rfl, rfl⟩, Nat.le_of_ble_eq_true rfl⟩ rfl rfl dL_law_123 ?_
  intro v_ w_ hp_
  obtain ⟨rfl, hcase2⟩ := hp_
  refine fg_icmpR_eq S 524 dL_law_126 (by decide) (fun _ => ?_) (fun q => absurd (aForbid_c hb _ _) q)
  rcases hcase with ⟨a1, a2, a3⟩ | ⟨a1, a2, a3⟩
  · rcases hcase2 with ⟨b1, rfl⟩ | ⟨b1, -⟩
    · exact K _ ⟨lv, kv, dv, wv, nv, tv, uv, fv, cv, sv, bv, _, nw, lt, _, rfl, hI2, a2.symm, fun p hp => by rw [a3 p]; exact up_c hb _ _ p hp⟩
    · exact absurd ((okForbid_c hb _ _).mp a1) b1
  · rcases hcase2 with ⟨b1, -⟩ | ⟨b1, rfl⟩
    · exact absurd ((okForbid_c hb _ _).mpr b1) a1
    · subst a2; subst a3; exact K _ ⟨_, kv, dv, wv, nv, tv, uv, fv, _, sv, bv, _, nw, lt, _, rfl, hI2, rfl, hb⟩
set_option maxHeartbeats 4000000 in
theorem lc_permit {X : fwX} {b L i : Nat} {xs : Nat → Int32} {ad bd : Nat → Nat} {ck : Nat → ClassId} (S : fwC X cL_law R_law (tysX ck)) (hN : fwN X = 4) (M : fwMu X) (Sc : fwSc X b L xs) (hRm : fwRm X = room_1) (hL : L ≤ 192) (hi : i + 3 ≤ L) {ws : va_W} (h : LI ad bd ck ws) (K : ∀ ws, LI ad bd ck ws → fwG X ws 524 [(0, .ref b), (1, .ref (ad 0)), (2, .ref (bd 0)), (3, .int (nI i))] []) : fwG X ws 131 [(0, .ref b), (1, .ref (ad 0)), (2, .ref (bd 0)), (3, .int (nI i))] [] := by
  obtain ⟨li, kn, dl, wa, no, th, ta, fr, co, ss, bu, ba, nw, lt, hd, rfl, hI, hh, hb⟩ := h
  subst hh
  have hco := hI.1.1
  refine fg_aload_n S 1 1 dL_law_131 rfl rfl ?_
  refine fg_aload_n S 0 0 dL_law_132 rfl rfl ?_
  refine fg_iload_n S 3 3 dL_law_133 rfl rfl ?_
  refine fg_ic (v := nI 1) S dL_law_134 (by decide) ?_
  refine fg_iadd S dL_law_135 ?_
  refine fg_sld S Sc (by omega) (by omega) dL_law_136 ?_
  refine fg_muL (ci := 0) (q0 := 0) S M 1 (fun sz => met_X0_permit (xs (i + 1)) hI sz) rfl rfl rfl q85 q86 q87 q22 q88 ⟨ok_X0_permit, by rw [hRm]; decide, ⟨rfl, rfl⟩, Nat.le_of_ble_eq_true rfl⟩ rfl rfl dL_law_137 ?_
  intro v_ w_ hp_
  obtain ⟨rfl, lv, kv, dv, wv, nv, tv, uv, fv, cv, sv, bv, rfl, hI2, hcase⟩ := hp_
  show fwG X (XW ad ck lv kv dv wv nv tv uv fv cv sv bv ++ MW bd ck ba nw lt hd) 140 [(0, .ref b), (1, .ref (ad 0)), (2, .ref (bd 0)), (3, .int (nI i))] [.int (aPermit (bL li hd) hd (xs (i + 1)).toInt)]
  refine fg_aload_n S 2 2 dL_law_140 rfl rfl ?_
  refine fg_aload_n S 0 0 dL_law_141 rfl rfl ?_
  refine fg_iload_n S 3 3 dL_law_142 rfl rfl ?_
  refine fg_ic (v := nI 1) S dL_law_143 (by decide) ?_
  refine fg_iadd S dL_law_144 ?_
  refine fg_sld S Sc (by omega) (by omega) dL_law_145 ?_
  refine fg_muR (ci := 1) (q0 := 0) S M 1 (fun sz => met_X1_permit (xs (i + 1)) (fun q => by obtain ⟨k, k1, -⟩ := (bL_iff hd).mp ((okPermit_c hb _).mpr q).2; omega) hco sz) rfl rfl rfl q215 q216 q217 q23 q218 ⟨ok_X1_permit, by rw [hRm]; decide, ⟨rfl, rfl⟩, Nat.le_of_ble_eq_true rfl⟩ rfl rfl dL_law_146 ?_
  intro v_ w_ hp_
  obtain ⟨rfl, hcase2⟩ := hp_
  refine fg_icmpR_eq S 524 dL_law_149 (by decide) (fun _ => ?_) (fun q => absurd (aPermit_c hb _ _) q)
  rcases hcase with ⟨a1, a2, a3⟩ | ⟨a1, a2, a3⟩
  · rcases hcase2 with ⟨b1, rfl⟩ | ⟨b1, -⟩
    · exact K _ ⟨lv, kv, dv, wv, nv, tv, uv, fv, cv, sv, bv, _, nw, lt, _, rfl, hI2, by omega, fun p hp => by rw [a3 p]; exact up_c hb _ _ p hp⟩
    · exact absurd ((okPermit_c hb _).mp a1) b1
  · rcases hcase2 with ⟨b1, -⟩ | ⟨b1, rfl⟩
    · exact absurd ((okPermit_c hb _).mpr b1) a1
    · subst a2; subst a3; exact K _ ⟨_, kv, dv, wv, nv, tv, uv, fv, _, sv, bv, _, nw, lt, _, rfl, hI2, rfl, hb⟩
set_option maxHeartbeats 4000000 in
theorem lc_pieces {X : fwX} {b L i : Nat} {xs : Nat → Int32} {ad bd : Nat → Nat} {ck : Nat → ClassId} (S : fwC X cL_law R_law (tysX ck)) (hN : fwN X = 4) (M : fwMu X) (Sc : fwSc X b L xs) (hRm : fwRm X = room_1) (hL : L ≤ 192) (hi : i + 3 ≤ L) {ws : va_W} (h : LI ad bd ck ws) (K : ∀ ws, LI ad bd ck ws → fwG X ws 524 [(0, .ref b), (1, .ref (ad 0)), (2, .ref (bd 0)), (3, .int (nI i))] []) : fwG X ws 154 [(0, .ref b), (1, .ref (ad 0)), (2, .ref (bd 0)), (3, .int (nI i))] [] := by
  obtain ⟨li, kn, dl, wa, no, th, ta, fr, co, ss, bu, ba, nw, lt, hd, rfl, hI, hh, hb⟩ := h
  subst hh
  have hco := hI.1.1
  refine fg_aload_n S 1 1 dL_law_154 rfl rfl ?_
  refine fg_roV (ci := 0) (q0 := 0) S 0 (met_X0_pieces) rfl rfl rfl q89 q90 q91 q22 q92 ⟨ok_X0_pieces, by rw [hRm]; decide, ⟨rfl, rfl⟩, Nat.le_of_ble_eq_true rfl⟩ [0, 1, 2, 3, 4, 5, 6, 7, 8] rfl rfl rfl rfl rfl dL_law_155 ?_
  refine fg_aload_n S 2 2 dL_law_158 rfl rfl ?_
  refine fg_roV (ci := 1) (q0 := 0) S 0 (met_X1_pieces ) rfl rfl rfl q219 q220 q221 q23 q222 ⟨ok_X1_pieces, by rw [hRm]; decide, ⟨rfl, rfl⟩, Nat.le_of_ble_eq_true rfl⟩ [9, 10, 11, 12] rfl rfl rfl rfl rfl dL_law_159 ?_
  refine fg_icmpR_eq S 524 dL_law_162 (by decide) (fun _ => ?_) (fun q => absurd rfl q)
  exact K _ ⟨li, kn, dl, wa, no, th, ta, fr, _, ss, bu, ba, nw, lt, _, rfl, hI, rfl, hb⟩
set_option maxHeartbeats 4000000 in
theorem lc_allowed {X : fwX} {b L i : Nat} {xs : Nat → Int32} {ad bd : Nat → Nat} {ck : Nat → ClassId} (S : fwC X cL_law R_law (tysX ck)) (hN : fwN X = 4) (M : fwMu X) (Sc : fwSc X b L xs) (hRm : fwRm X = room_1) (hL : L ≤ 192) (hi : i + 3 ≤ L) {ws : va_W} (h : LI ad bd ck ws) (K : ∀ ws, LI ad bd ck ws → fwG X ws 524 [(0, .ref b), (1, .ref (ad 0)), (2, .ref (bd 0)), (3, .int (nI i))] []) : fwG X ws 167 [(0, .ref b), (1, .ref (ad 0)), (2, .ref (bd 0)), (3, .int (nI i))] [] := by
  obtain ⟨li, kn, dl, wa, no, th, ta, fr, co, ss, bu, ba, nw, lt, hd, rfl, hI, hh, hb⟩ := h
  subst hh
  have hco := hI.1.1
  refine fg_aload_n S 1 1 dL_law_167 rfl rfl ?_
  refine fg_aload_n S 0 0 dL_law_168 rfl rfl ?_
  refine fg_iload_n S 3 3 dL_law_169 rfl rfl ?_
  refine fg_ic (v := nI 1) S dL_law_170 (by decide) ?_
  refine fg_iadd S dL_law_171 ?_
  refine fg_sld S Sc (by omega) (by omega) dL_law_172 ?_
  refine fg_aload_n S 0 0 dL_law_173 rfl rfl ?_
  refine fg_iload_n S 3 3 dL_law_174 rfl rfl ?_
  refine fg_ic (v := nI 2) S dL_law_175 (by decide) ?_
  refine fg_iadd S dL_law_176 ?_
  refine fg_sld S Sc (by omega) (by omega) dL_law_177 ?_
  refine fg_muL (ci := 0) (q0 := 0) S M 2 (fun sz => met_X0_allowed (xs (i + 1)) (xs (i + 2)) hI sz) rfl rfl rfl q93 q94 q95 q22 q96 ⟨ok_X0_allowed, by rw [hRm]; decide, ⟨rfl, rfl⟩, Nat.le_of_ble_eq_true rfl⟩ rfl rfl dL_law_178 ?_
  intro v_ w_ hp_
  obtain ⟨rfl, kv, dv, wv, nv, tv, uv, fv, sv, bv, rfl, hI2⟩ := hp_
  show fwG X (XW ad ck li kv dv wv nv tv uv fv hd sv bv ++ MW bd ck ba nw lt hd) 181 [(0, .ref b), (1, .ref (ad 0)), (2, .ref (bd 0)), (3, .int (nI i))] [.int (aAllowed (bL li hd) (xs (i + 1)).toInt (xs (i + 2)).toInt)]
  refine fg_aload_n S 2 2 dL_law_181 rfl rfl ?_
  refine fg_aload_n S 0 0 dL_law_182 rfl rfl ?_
  refine fg_iload_n S 3 3 dL_law_183 rfl rfl ?_
  refine fg_ic (v := nI 1) S dL_law_184 (by decide) ?_
  refine fg_iadd S dL_law_185 ?_
  refine fg_sld S Sc (by omega) (by omega) dL_law_186 ?_
  refine fg_aload_n S 0 0 dL_law_187 rfl rfl ?_
  refine fg_iload_n S 3 3 dL_law_188 rfl rfl ?_
  refine fg_ic (v := nI 2) S dL_law_189 (by decide) ?_
  refine fg_iadd S dL_law_190 ?_
  refine fg_sld S Sc (by omega) (by omega) dL_law_191 ?_
  refine fg_roV (ci := 1) (q0 := 0) S 2 (met_X1_allowed (xs (i + 1)) (xs (i + 2))) rfl rfl rfl q223 q224 q225 q23 q226 ⟨ok_X1_allowed, by rw [hRm]; decide, ⟨rfl, rfl⟩, Nat.le_of_ble_eq_true rfl⟩ [9, 10, 11, 12] rfl rfl rfl rfl rfl dL_law_192 ?_
  refine fg_icmpR_eq S 524 dL_law_195 (by decide) (fun _ => ?_) (fun q => absurd (aAllowed_c hb _ _) q)
  exact K _ ⟨li, kv, dv, wv, nv, tv, uv, fv, _, sv, bv, ba, nw, lt, _, rfl, hI2, rfl, hb⟩
set_option maxHeartbeats 4000000 in
theorem lc_count {X : fwX} {b L i : Nat} {xs : Nat → Int32} {ad bd : Nat → Nat} {ck : Nat → ClassId} (S : fwC X cL_law R_law (tysX ck)) (hN : fwN X = 4) (M : fwMu X) (Sc : fwSc X b L xs) (hRm : fwRm X = room_1) (hL : L ≤ 192) (hi : i + 3 ≤ L) {ws : va_W} (h : LI ad bd ck ws) (K : ∀ ws, LI ad bd ck ws → fwG X ws 524 [(0, .ref b), (1, .ref (ad 0)), (2, .ref (bd 0)), (3, .int (nI i))] []) : fwG X ws 200 [(0, .ref b), (1, .ref (ad 0)), (2, .ref (bd 0)), (3, .int (nI i))] [] := by
  obtain ⟨li, kn, dl, wa, no, th, ta, fr, co, ss, bu, ba, nw, lt, hd, rfl, hI, hh, hb⟩ := h
  subst hh
  have hco := hI.1.1
  refine fg_aload_n S 1 1 dL_law_200 rfl rfl ?_
  refine fg_aload_n S 0 0 dL_law_201 rfl rfl ?_
  refine fg_iload_n S 3 3 dL_law_202 rfl rfl ?_
  refine fg_ic (v := nI 1) S dL_law_203 (by decide) ?_
  refine fg_iadd S dL_law_204 ?_
  refine fg_sld S Sc (by omega) (by omega) dL_law_205 ?_
  refine fg_muL (ci := 0) (q0 := 0) S M 1 (fun sz => met_X0_count (xs (i + 1)) hI sz) rfl rfl rfl q123 q124 q125 q22 q126 ⟨ok_X0_count, by rw [hRm]; decide, ⟨rfl, rfl⟩, Nat.le_of_ble_eq_true rfl⟩ rfl rfl dL_law_206 ?_
  intro v_ w_ hp_
  obtain ⟨rfl, kv, dv, wv, nv, tv, uv, fv, sv, bv, rfl, hI2⟩ := hp_
  show fwG X (XW ad ck li kv dv wv nv tv uv fv hd sv bv ++ MW bd ck ba nw lt hd) 209 [(0, .ref b), (1, .ref (ad 0)), (2, .ref (bd 0)), (3, .int (nI i))] [.long (aCount (bL li hd) (xs (i + 1)).toInt)]
  refine fg_aload_n S 2 2 dL_law_209 rfl rfl ?_
  refine fg_aload_n S 0 0 dL_law_210 rfl rfl ?_
  refine fg_iload_n S 3 3 dL_law_211 rfl rfl ?_
  refine fg_ic (v := nI 1) S dL_law_212 (by decide) ?_
  refine fg_iadd S dL_law_213 ?_
  refine fg_sld S Sc (by omega) (by omega) dL_law_214 ?_
  refine fg_muR (ci := 1) (q0 := 0) S M 1 (fun sz => met_X1_count (xs (i + 1)) sz) rfl rfl rfl q243 q244 q245 q23 q246 ⟨ok_X1_count, by rw [hRm]; decide, ⟨rfl, rfl⟩, Nat.le_of_ble_eq_true rfl⟩ rfl rfl dL_law_215 ?_
  intro v_ w_ hp_
  obtain ⟨rfl, n9, l9, rfl⟩ := hp_
  show fwG X (XW ad ck li kv dv wv nv tv uv fv hd sv bv ++ MW bd ck ba n9 l9 hd) 218 [(0, .ref b), (1, .ref (ad 0)), (2, .ref (bd 0)), (3, .int (nI i))] [.long (aCount ba (xs (i + 1)).toInt), .long (aCount (bL li hd) (xs (i + 1)).toInt)]
  refine fg_lcmpR S dL_law_218 ?_
  refine fg_ifR_eq S 524 dL_law_219 (by decide) (fun _ => ?_) (fun q => absurd ((lg_cmp_eq _ _).mpr (aCount_c hb _)) q)
  exact K _ ⟨li, kv, dv, wv, nv, tv, uv, fv, _, sv, bv, ba, n9, l9, _, rfl, hI2, rfl, hb⟩
set_option maxHeartbeats 4000000 in
theorem lc_countWith {X : fwX} {b L i : Nat} {xs : Nat → Int32} {ad bd : Nat → Nat} {ck : Nat → ClassId} (S : fwC X cL_law R_law (tysX ck)) (hN : fwN X = 4) (M : fwMu X) (Sc : fwSc X b L xs) (hRm : fwRm X = room_1) (hL : L ≤ 192) (hi : i + 3 ≤ L) {ws : va_W} (h : LI ad bd ck ws) (K : ∀ ws, LI ad bd ck ws → fwG X ws 524 [(0, .ref b), (1, .ref (ad 0)), (2, .ref (bd 0)), (3, .int (nI i))] []) : fwG X ws 224 [(0, .ref b), (1, .ref (ad 0)), (2, .ref (bd 0)), (3, .int (nI i))] [] := by
  obtain ⟨li, kn, dl, wa, no, th, ta, fr, co, ss, bu, ba, nw, lt, hd, rfl, hI, hh, hb⟩ := h
  subst hh
  have hco := hI.1.1
  refine fg_aload_n S 1 1 dL_law_224 rfl rfl ?_
  refine fg_aload_n S 0 0 dL_law_225 rfl rfl ?_
  refine fg_iload_n S 3 3 dL_law_226 rfl rfl ?_
  refine fg_ic (v := nI 1) S dL_law_227 (by decide) ?_
  refine fg_iadd S dL_law_228 ?_
  refine fg_sld S Sc (by omega) (by omega) dL_law_229 ?_
  refine fg_aload_n S 0 0 dL_law_230 rfl rfl ?_
  refine fg_iload_n S 3 3 dL_law_231 rfl rfl ?_
  refine fg_ic (v := nI 2) S dL_law_232 (by decide) ?_
  refine fg_iadd S dL_law_233 ?_
  refine fg_sld S Sc (by omega) (by omega) dL_law_234 ?_
  refine fg_muL (ci := 0) (q0 := 0) S M 2 (fun sz => met_X0_countWith (xs (i + 1)) (xs (i + 2)) hI sz) rfl rfl rfl q128 q129 q130 q22 q131 ⟨ok_X0_countWith, by rw [hRm]; decide, ⟨rfl, rfl⟩, Nat.le_of_ble_eq_true rfl⟩ rfl rfl dL_law_235 ?_
  intro v_ w_ hp_
  obtain ⟨rfl, kv, dv, wv, nv, tv, uv, fv, sv, bv, rfl, hI2⟩ := hp_
  show fwG X (XW ad ck li kv dv wv nv tv uv fv hd sv bv ++ MW bd ck ba nw lt hd) 238 [(0, .ref b), (1, .ref (ad 0)), (2, .ref (bd 0)), (3, .int (nI i))] [.int (aCountWith (bL li hd) (xs (i + 1)).toInt (xs (i + 2)).toInt)]
  refine fg_aload_n S 2 2 dL_law_238 rfl rfl ?_
  refine fg_aload_n S 0 0 dL_law_239 rfl rfl ?_
  refine fg_iload_n S 3 3 dL_law_240 rfl rfl ?_
  refine fg_ic (v := nI 1) S dL_law_241 (by decide) ?_
  refine fg_iadd S dL_law_242 ?_
  refine fg_sld S Sc (by omega) (by omega) dL_law_243 ?_
  refine fg_aload_n S 0 0 dL_law_244 rfl rfl ?_
  refine fg_iload_n S 3 3 dL_law_245 rfl rfl ?_
  refine fg_ic (v := nI 2) S dL_law_246 (by decide) ?_
  refine fg_iadd S dL_law_247 ?_
  refine fg_sld S Sc (by omega) (by omega) dL_law_248 ?_
  refine fg_roV (ci := 1) (q0 := 0) S 2 (met_X1_countWith (xs (i + 1)) (xs (i + 2))) rfl rfl rfl q256 q257 q258 q23 q259 ⟨ok_X1_countWith, by rw [hRm]; decide, ⟨rfl, rfl⟩, Nat.le_of_ble_eq_true rfl⟩ [9, 10, 11, 12] rfl rfl rfl rfl rfl dL_law_249 ?_
  refine fg_icmpR_eq S 524 dL_law_252 (by decide) (fun _ => ?_) (fun q => absurd (aCountWith_c hb _ _) q)
  exact K _ ⟨li, kv, dv, wv, nv, tv, uv, fv, _, sv, bv, ba, nw, lt, _, rfl, hI2, rfl, hb⟩
set_option maxHeartbeats 4000000 in
theorem lc_rank {X : fwX} {b L i : Nat} {xs : Nat → Int32} {ad bd : Nat → Nat} {ck : Nat → ClassId} (S : fwC X cL_law R_law (tysX ck)) (hN : fwN X = 4) (M : fwMu X) (Sc : fwSc X b L xs) (hRm : fwRm X = room_1) (hL : L ≤ 192) (hi : i + 3 ≤ L) {ws : va_W} (h : LI ad bd ck ws) (K : ∀ ws, LI ad bd ck ws → fwG X ws 524 [(0, .ref b), (1, .ref (ad 0)), (2, .ref (bd 0)), (3, .int (nI i))] []) : fwG X ws 257 [(0, .ref b), (1, .ref (ad 0)), (2, .ref (bd 0)), (3, .int (nI i))] [] := by
  obtain ⟨li, kn, dl, wa, no, th, ta, fr, co, ss, bu, ba, nw, lt, hd, rfl, hI, hh, hb⟩ := h
  subst hh
  have hco := hI.1.1
  refine fg_aload_n S 1 1 dL_law_257 rfl rfl ?_
  refine fg_aload_n S 0 0 dL_law_258 rfl rfl ?_
  refine fg_iload_n S 3 3 dL_law_259 rfl rfl ?_
  refine fg_ic (v := nI 1) S dL_law_260 (by decide) ?_
  refine fg_iadd S dL_law_261 ?_
  refine fg_sld S Sc (by omega) (by omega) dL_law_262 ?_
  refine fg_aload_n S 0 0 dL_law_263 rfl rfl ?_
  refine fg_iload_n S 3 3 dL_law_264 rfl rfl ?_
  refine fg_ic (v := nI 2) S dL_law_265 (by decide) ?_
  refine fg_iadd S dL_law_266 ?_
  refine fg_sld S Sc (by omega) (by omega) dL_law_267 ?_
  refine fg_muL (ci := 0) (q0 := 0) S M 2 (fun sz => met_X0_rank (xs (i + 1)) (xs (i + 2)) hI sz) rfl rfl rfl q136 q137 q138 q22 q139 ⟨ok_X0_rank, by rw [hRm]; decide, ⟨rfl, rfl⟩, Nat.le_of_ble_eq_true rfl⟩ rfl rfl dL_law_268 ?_
  intro v_ w_ hp_
  obtain ⟨rfl, kv, dv, wv, nv, tv, uv, fv, sv, bv, rfl, hI2⟩ := hp_
  show fwG X (XW ad ck li kv dv wv nv tv uv fv hd sv bv ++ MW bd ck ba nw lt hd) 271 [(0, .ref b), (1, .ref (ad 0)), (2, .ref (bd 0)), (3, .int (nI i))] [.int (aRank (bL li hd) (xs (i + 1)).toInt (xs (i + 2)).toInt)]
  refine fg_aload_n S 2 2 dL_law_271 rfl rfl ?_
  refine fg_aload_n S 0 0 dL_law_272 rfl rfl ?_
  refine fg_iload_n S 3 3 dL_law_273 rfl rfl ?_
  refine fg_ic (v := nI 1) S dL_law_274 (by decide) ?_
  refine fg_iadd S dL_law_275 ?_
  refine fg_sld S Sc (by omega) (by omega) dL_law_276 ?_
  refine fg_aload_n S 0 0 dL_law_277 rfl rfl ?_
  refine fg_iload_n S 3 3 dL_law_278 rfl rfl ?_
  refine fg_ic (v := nI 2) S dL_law_279 (by decide) ?_
  refine fg_iadd S dL_law_280 ?_
  refine fg_sld S Sc (by omega) (by omega) dL_law_281 ?_
  refine fg_roV (ci := 1) (q0 := 0) S 2 (met_X1_rank (xs (i + 1)) (xs (i + 2))) rfl rfl rfl q264 q265 q266 q23 q267 ⟨ok_X1_rank, by rw [hRm]; decide, ⟨rfl, rfl⟩, Nat.le_of_ble_eq_true rfl⟩ [9, 10, 11, 12] rfl rfl rfl rfl rfl dL_law_282 ?_
  refine fg_icmpR_eq S 524 dL_law_285 (by decide) (fun _ => ?_) (fun q => absurd (aRank_c hb _ _) q)
  exact K _ ⟨li, kv, dv, wv, nv, tv, uv, fv, _, sv, bv, ba, nw, lt, _, rfl, hI2, rfl, hb⟩
set_option maxHeartbeats 4000000 in
theorem lc_word {X : fwX} {b L i : Nat} {xs : Nat → Int32} {ad bd : Nat → Nat} {ck : Nat → ClassId} (S : fwC X cL_law R_law (tysX ck)) (hN : fwN X = 4) (M : fwMu X) (Sc : fwSc X b L xs) (hRm : fwRm X = room_1) (hL : L ≤ 192) (hi : i + 3 ≤ L) {ws : va_W} (h : LI ad bd ck ws) (K : ∀ ws, LI ad bd ck ws → fwG X ws 524 [(0, .ref b), (1, .ref (ad 0)), (2, .ref (bd 0)), (3, .int (nI i))] []) : fwG X ws 290 [(0, .ref b), (1, .ref (ad 0)), (2, .ref (bd 0)), (3, .int (nI i))] [] := by
  obtain ⟨li, kn, dl, wa, no, th, ta, fr, co, ss, bu, ba, nw, lt, hd, rfl, hI, hh, hb⟩ := h
  subst hh
  have hco := hI.1.1
  refine fg_aload_n S 1 1 dL_law_290 rfl rfl ?_
  refine fg_aload_n S 0 0 dL_law_291 rfl rfl ?_
  refine fg_iload_n S 3 3 dL_law_292 rfl rfl ?_
  refine fg_ic (v := nI 1) S dL_law_293 (by decide) ?_
  refine fg_iadd S dL_law_294 ?_
  refine fg_sld S Sc (by omega) (by omega) dL_law_295 ?_
  refine fg_aload_n S 0 0 dL_law_296 rfl rfl ?_
  refine fg_iload_n S 3 3 dL_law_297 rfl rfl ?_
  refine fg_ic (v := nI 2) S dL_law_298 (by decide) ?_
  refine fg_iadd S dL_law_299 ?_
  refine fg_sld S Sc (by omega) (by omega) dL_law_300 ?_
  refine fg_muL (ci := 0) (q0 := 0) S M 2 (fun sz => met_X0_word (xs (i + 1)) (xs (i + 2)) hI sz) rfl rfl rfl q144 q145 q146 q22 q147 ⟨ok_X0_word, by rw [hRm]; decide, ⟨rfl, rfl⟩, Nat.le_of_ble_eq_true rfl⟩ rfl rfl dL_law_301 ?_
  intro v_ w_ hp_
  obtain ⟨rfl, kv, dv, wv, nv, tv, uv, fv, sv, bv, rfl, hI2⟩ := hp_
  show fwG X (XW ad ck li kv dv wv nv tv uv fv hd sv bv ++ MW bd ck ba nw lt hd) 304 [(0, .ref b), (1, .ref (ad 0)), (2, .ref (bd 0)), (3, .int (nI i))] [.int (aWord (bL li hd) (xs (i + 1)).toInt (xs (i + 2)).toInt)]
  refine fg_aload_n S 2 2 dL_law_304 rfl rfl ?_
  refine fg_aload_n S 0 0 dL_law_305 rfl rfl ?_
  refine fg_iload_n S 3 3 dL_law_306 rfl rfl ?_
  refine fg_ic (v := nI 1) S dL_law_307 (by decide) ?_
  refine fg_iadd S dL_law_308 ?_
  refine fg_sld S Sc (by omega) (by omega) dL_law_309 ?_
  refine fg_aload_n S 0 0 dL_law_310 rfl rfl ?_
  refine fg_iload_n S 3 3 dL_law_311 rfl rfl ?_
  refine fg_ic (v := nI 2) S dL_law_312 (by decide) ?_
  refine fg_iadd S dL_law_313 ?_
  refine fg_sld S Sc (by omega) (by omega) dL_law_314 ?_
  refine fg_roV (ci := 1) (q0 := 0) S 2 (met_X1_word (xs (i + 1)) (xs (i + 2))) rfl rfl rfl q268 q269 q270 q23 q271 ⟨ok_X1_word, by rw [hRm]; decide, ⟨rfl, rfl⟩, Nat.le_of_ble_eq_true rfl⟩ [9, 10, 11, 12] rfl rfl rfl rfl rfl dL_law_315 ?_
  refine fg_icmpR_eq S 524 dL_law_318 (by decide) (fun _ => ?_) (fun q => absurd (aWord_c hb _ _) q)
  exact K _ ⟨li, kv, dv, wv, nv, tv, uv, fv, _, sv, bv, ba, nw, lt, _, rfl, hI2, rfl, hb⟩
set_option maxHeartbeats 4000000 in
theorem lc_next {X : fwX} {b L i : Nat} {xs : Nat → Int32} {ad bd : Nat → Nat} {ck : Nat → ClassId} (S : fwC X cL_law R_law (tysX ck)) (hN : fwN X = 4) (M : fwMu X) (Sc : fwSc X b L xs) (hRm : fwRm X = room_1) (hL : L ≤ 192) (hi : i + 3 ≤ L) {ws : va_W} (h : LI ad bd ck ws) (K : ∀ ws, LI ad bd ck ws → fwG X ws 524 [(0, .ref b), (1, .ref (ad 0)), (2, .ref (bd 0)), (3, .int (nI i))] []) : fwG X ws 323 [(0, .ref b), (1, .ref (ad 0)), (2, .ref (bd 0)), (3, .int (nI i))] [] := by
  obtain ⟨li, kn, dl, wa, no, th, ta, fr, co, ss, bu, ba, nw, lt, hd, rfl, hI, hh, hb⟩ := h
  subst hh
  have hco := hI.1.1
  refine fg_aload_n S 1 1 dL_law_323 rfl rfl ?_
  refine fg_aload_n S 0 0 dL_law_324 rfl rfl ?_
  refine fg_iload_n S 3 3 dL_law_325 rfl rfl ?_
  refine fg_ic (v := nI 1) S dL_law_326 (by decide) ?_
  refine fg_iadd S dL_law_327 ?_
  refine fg_sld S Sc (by omega) (by omega) dL_law_328 ?_
  refine fg_aload_n S 0 0 dL_law_329 rfl rfl ?_
  refine fg_iload_n S 3 3 dL_law_330 rfl rfl ?_
  refine fg_ic (v := nI 2) S dL_law_331 (by decide) ?_
  refine fg_iadd S dL_law_332 ?_
  refine fg_sld S Sc (by omega) (by omega) dL_law_333 ?_
  refine fg_muL (ci := 0) (q0 := 0) S M 2 (fun sz => met_X0_next (xs (i + 1)) (xs (i + 2)) hI sz) rfl rfl rfl q152 q153 q154 q22 q155 ⟨ok_X0_next, by rw [hRm]; decide, ⟨rfl, rfl⟩, Nat.le_of_ble_eq_true rfl⟩ rfl rfl dL_law_334 ?_
  intro v_ w_ hp_
  obtain ⟨rfl, kv, dv, wv, nv, tv, uv, fv, sv, bv, rfl, hI2⟩ := hp_
  show fwG X (XW ad ck li kv dv wv nv tv uv fv hd sv bv ++ MW bd ck ba nw lt hd) 337 [(0, .ref b), (1, .ref (ad 0)), (2, .ref (bd 0)), (3, .int (nI i))] [.int (aNext (bL li hd) (xs (i + 1)).toInt (xs (i + 2)).toInt)]
  refine fg_aload_n S 2 2 dL_law_337 rfl rfl ?_
  refine fg_aload_n S 0 0 dL_law_338 rfl rfl ?_
  refine fg_iload_n S 3 3 dL_law_339 rfl rfl ?_
  refine fg_ic (v := nI 1) S dL_law_340 (by decide) ?_
  refine fg_iadd S dL_law_341 ?_
  refine fg_sld S Sc (by omega) (by omega) dL_law_342 ?_
  refine fg_aload_n S 0 0 dL_law_343 rfl rfl ?_
  refine fg_iload_n S 3 3 dL_law_344 rfl rfl ?_
  refine fg_ic (v := nI 2) S dL_law_345 (by decide) ?_
  refine fg_iadd S dL_law_346 ?_
  refine fg_sld S Sc (by omega) (by omega) dL_law_347 ?_
  refine fg_roV (ci := 1) (q0 := 0) S 2 (met_X1_next (xs (i + 1)) (xs (i + 2))) rfl rfl rfl q272 q273 q274 q23 q275 ⟨ok_X1_next, by rw [hRm]; decide, ⟨rfl, rfl⟩, Nat.le_of_ble_eq_true rfl⟩ [9, 10, 11, 12] rfl rfl rfl rfl rfl dL_law_348 ?_
  refine fg_icmpR_eq S 524 dL_law_351 (by decide) (fun _ => ?_) (fun q => absurd (aNext_c hb _ _) q)
  exact K _ ⟨li, kv, dv, wv, nv, tv, uv, fv, _, sv, bv, ba, nw, lt, _, rfl, hI2, rfl, hb⟩
set_option maxHeartbeats 4000000 in
theorem lc_beginning {X : fwX} {b L i : Nat} {xs : Nat → Int32} {ad bd : Nat → Nat} {ck : Nat → ClassId} (S : fwC X cL_law R_law (tysX ck)) (hN : fwN X = 4) (M : fwMu X) (Sc : fwSc X b L xs) (hRm : fwRm X = room_1) (hL : L ≤ 192) (hi : i + 3 ≤ L) {ws : va_W} (h : LI ad bd ck ws) (K : ∀ ws, LI ad bd ck ws → fwG X ws 524 [(0, .ref b), (1, .ref (ad 0)), (2, .ref (bd 0)), (3, .int (nI i))] []) : fwG X ws 356 [(0, .ref b), (1, .ref (ad 0)), (2, .ref (bd 0)), (3, .int (nI i))] [] := by
  obtain ⟨li, kn, dl, wa, no, th, ta, fr, co, ss, bu, ba, nw, lt, hd, rfl, hI, hh, hb⟩ := h
  subst hh
  have hco := hI.1.1
  refine fg_aload_n S 1 1 dL_law_356 rfl rfl ?_
  refine fg_aload_n S 0 0 dL_law_357 rfl rfl ?_
  refine fg_iload_n S 3 3 dL_law_358 rfl rfl ?_
  refine fg_ic (v := nI 1) S dL_law_359 (by decide) ?_
  refine fg_iadd S dL_law_360 ?_
  refine fg_sld S Sc (by omega) (by omega) dL_law_361 ?_
  refine fg_aload_n S 0 0 dL_law_362 rfl rfl ?_
  refine fg_iload_n S 3 3 dL_law_363 rfl rfl ?_
  refine fg_ic (v := nI 2) S dL_law_364 (by decide) ?_
  refine fg_iadd S dL_law_365 ?_
  refine fg_sld S Sc (by omega) (by omega) dL_law_366 ?_
  refine fg_muL (ci := 0) (q0 := 0) S M 2 (fun sz => met_X0_beginning (xs (i + 1)) (xs (i + 2)) hI sz) rfl rfl rfl q156 q157 q158 q22 q159 ⟨ok_X0_beginning, by rw [hRm]; decide, ⟨rfl, rfl⟩, Nat.le_of_ble_eq_true rfl⟩ rfl rfl dL_law_367 ?_
  intro v_ w_ hp_
  obtain ⟨rfl, kv, dv, wv, nv, tv, uv, fv, sv, bv, rfl, hI2⟩ := hp_
  show fwG X (XW ad ck li kv dv wv nv tv uv fv hd sv bv ++ MW bd ck ba nw lt hd) 370 [(0, .ref b), (1, .ref (ad 0)), (2, .ref (bd 0)), (3, .int (nI i))] [.int (aBeginning (bL li hd) (xs (i + 1)).toInt (xs (i + 2)).toInt)]
  refine fg_aload_n S 2 2 dL_law_370 rfl rfl ?_
  refine fg_aload_n S 0 0 dL_law_371 rfl rfl ?_
  refine fg_iload_n S 3 3 dL_law_372 rfl rfl ?_
  refine fg_ic (v := nI 1) S dL_law_373 (by decide) ?_
  refine fg_iadd S dL_law_374 ?_
  refine fg_sld S Sc (by omega) (by omega) dL_law_375 ?_
  refine fg_aload_n S 0 0 dL_law_376 rfl rfl ?_
  refine fg_iload_n S 3 3 dL_law_377 rfl rfl ?_
  refine fg_ic (v := nI 2) S dL_law_378 (by decide) ?_
  refine fg_iadd S dL_law_379 ?_
  refine fg_sld S Sc (by omega) (by omega) dL_law_380 ?_
  refine fg_roV (ci := 1) (q0 := 0) S 2 (met_X1_beginning (xs (i + 1)) (xs (i + 2))) rfl rfl rfl q276 q277 q278 q23 q279 ⟨ok_X1_beginning, by rw [hRm]; decide, ⟨rfl, rfl⟩, Nat.le_of_ble_eq_true rfl⟩ [9, 10, 11, 12] rfl rfl rfl rfl rfl dL_law_381 ?_
  refine fg_icmpR_eq S 524 dL_law_384 (by decide) (fun _ => ?_) (fun q => absurd (aBeginning_c hb _ _) q)
  exact K _ ⟨li, kv, dv, wv, nv, tv, uv, fv, _, sv, bv, ba, nw, lt, _, rfl, hI2, rfl, hb⟩
set_option maxHeartbeats 4000000 in
theorem lc_ending {X : fwX} {b L i : Nat} {xs : Nat → Int32} {ad bd : Nat → Nat} {ck : Nat → ClassId} (S : fwC X cL_law R_law (tysX ck)) (hN : fwN X = 4) (M : fwMu X) (Sc : fwSc X b L xs) (hRm : fwRm X = room_1) (hL : L ≤ 192) (hi : i + 3 ≤ L) {ws : va_W} (h : LI ad bd ck ws) (K : ∀ ws, LI ad bd ck ws → fwG X ws 524 [(0, .ref b), (1, .ref (ad 0)), (2, .ref (bd 0)), (3, .int (nI i))] []) : fwG X ws 389 [(0, .ref b), (1, .ref (ad 0)), (2, .ref (bd 0)), (3, .int (nI i))] [] := by
  obtain ⟨li, kn, dl, wa, no, th, ta, fr, co, ss, bu, ba, nw, lt, hd, rfl, hI, hh, hb⟩ := h
  subst hh
  have hco := hI.1.1
  refine fg_aload_n S 1 1 dL_law_389 rfl rfl ?_
  refine fg_aload_n S 0 0 dL_law_390 rfl rfl ?_
  refine fg_iload_n S 3 3 dL_law_391 rfl rfl ?_
  refine fg_ic (v := nI 1) S dL_law_392 (by decide) ?_
  refine fg_iadd S dL_law_393 ?_
  refine fg_sld S Sc (by omega) (by omega) dL_law_394 ?_
  refine fg_aload_n S 0 0 dL_law_395 rfl rfl ?_
  refine fg_iload_n S 3 3 dL_law_396 rfl rfl ?_
  refine fg_ic (v := nI 2) S dL_law_397 (by decide) ?_
  refine fg_iadd S dL_law_398 ?_
  refine fg_sld S Sc (by omega) (by omega) dL_law_399 ?_
  refine fg_muL (ci := 0) (q0 := 0) S M 2 (fun sz => met_X0_ending (xs (i + 1)) (xs (i + 2)) hI sz) rfl rfl rfl q160 q161 q162 q22 q163 ⟨ok_X0_ending, by rw [hRm]; decide, ⟨rfl, rfl⟩, Nat.le_of_ble_eq_true rfl⟩ rfl rfl dL_law_400 ?_
  intro v_ w_ hp_
  obtain ⟨rfl, kv, dv, wv, nv, tv, uv, fv, sv, bv, rfl, hI2⟩ := hp_
  show fwG X (XW ad ck li kv dv wv nv tv uv fv hd sv bv ++ MW bd ck ba nw lt hd) 403 [(0, .ref b), (1, .ref (ad 0)), (2, .ref (bd 0)), (3, .int (nI i))] [.int (aEnding (bL li hd) (xs (i + 1)).toInt (xs (i + 2)).toInt)]
  refine fg_aload_n S 2 2 dL_law_403 rfl rfl ?_
  refine fg_aload_n S 0 0 dL_law_404 rfl rfl ?_
  refine fg_iload_n S 3 3 dL_law_405 rfl rfl ?_
  refine fg_ic (v := nI 1) S dL_law_406 (by decide) ?_
  refine fg_iadd S dL_law_407 ?_
  refine fg_sld S Sc (by omega) (by omega) dL_law_408 ?_
  refine fg_aload_n S 0 0 dL_law_409 rfl rfl ?_
  refine fg_iload_n S 3 3 dL_law_410 rfl rfl ?_
  refine fg_ic (v := nI 2) S dL_law_411 (by decide) ?_
  refine fg_iadd S dL_law_412 ?_
  refine fg_sld S Sc (by omega) (by omega) dL_law_413 ?_
  refine fg_roV (ci := 1) (q0 := 0) S 2 (met_X1_ending (xs (i + 1)) (xs (i + 2))) rfl rfl rfl q280 q281 q282 q23 q283 ⟨ok_X1_ending, by rw [hRm]; decide, ⟨rfl, rfl⟩, Nat.le_of_ble_eq_true rfl⟩ [9, 10, 11, 12] rfl rfl rfl rfl rfl dL_law_414 ?_
  refine fg_icmpR_eq S 524 dL_law_417 (by decide) (fun _ => ?_) (fun q => absurd (aEnding_c hb _ _) q)
  exact K _ ⟨li, kv, dv, wv, nv, tv, uv, fv, _, sv, bv, ba, nw, lt, _, rfl, hI2, rfl, hb⟩
set_option maxHeartbeats 4000000 in
theorem lc_standing {X : fwX} {b L i : Nat} {xs : Nat → Int32} {ad bd : Nat → Nat} {ck : Nat → ClassId} (S : fwC X cL_law R_law (tysX ck)) (hN : fwN X = 4) (M : fwMu X) (Sc : fwSc X b L xs) (hRm : fwRm X = room_1) (hL : L ≤ 192) (hi : i + 3 ≤ L) {ws : va_W} (h : LI ad bd ck ws) (K : ∀ ws, LI ad bd ck ws → fwG X ws 524 [(0, .ref b), (1, .ref (ad 0)), (2, .ref (bd 0)), (3, .int (nI i))] []) : fwG X ws 422 [(0, .ref b), (1, .ref (ad 0)), (2, .ref (bd 0)), (3, .int (nI i))] [] := by
  obtain ⟨li, kn, dl, wa, no, th, ta, fr, co, ss, bu, ba, nw, lt, hd, rfl, hI, hh, hb⟩ := h
  subst hh
  have hco := hI.1.1
  refine fg_aload_n S 1 1 dL_law_422 rfl rfl ?_
  refine fg_aload_n S 0 0 dL_law_423 rfl rfl ?_
  refine fg_iload_n S 3 3 dL_law_424 rfl rfl ?_
  refine fg_ic (v := nI 1) S dL_law_425 (by decide) ?_
  refine fg_iadd S dL_law_426 ?_
  refine fg_sld S Sc (by omega) (by omega) dL_law_427 ?_
  refine fg_aload_n S 0 0 dL_law_428 rfl rfl ?_
  refine fg_iload_n S 3 3 dL_law_429 rfl rfl ?_
  refine fg_ic (v := nI 2) S dL_law_430 (by decide) ?_
  refine fg_iadd S dL_law_431 ?_
  refine fg_sld S Sc (by omega) (by omega) dL_law_432 ?_
  refine fg_muL (ci := 0) (q0 := 0) S M 2 (fun sz => met_X0_standing (xs (i + 1)) (xs (i + 2)) hI sz) rfl rfl rfl q168 q169 q170 q22 q171 ⟨ok_X0_standing, by rw [hRm]; decide, ⟨rfl, rfl⟩, Nat.le_of_ble_eq_true rfl⟩ rfl rfl dL_law_433 ?_
  intro v_ w_ hp_
  obtain ⟨rfl, kv, dv, wv, nv, tv, uv, fv, sv, bv, rfl, hI2⟩ := hp_
  show fwG X (XW ad ck li kv dv wv nv tv uv fv hd sv bv ++ MW bd ck ba nw lt hd) 436 [(0, .ref b), (1, .ref (ad 0)), (2, .ref (bd 0)), (3, .int (nI i))] [.int (aStanding (bL li hd) (xs (i + 1)).toInt (xs (i + 2)).toInt)]
  refine fg_aload_n S 2 2 dL_law_436 rfl rfl ?_
  refine fg_aload_n S 0 0 dL_law_437 rfl rfl ?_
  refine fg_iload_n S 3 3 dL_law_438 rfl rfl ?_
  refine fg_ic (v := nI 1) S dL_law_439 (by decide) ?_
  refine fg_iadd S dL_law_440 ?_
  refine fg_sld S Sc (by omega) (by omega) dL_law_441 ?_
  refine fg_aload_n S 0 0 dL_law_442 rfl rfl ?_
  refine fg_iload_n S 3 3 dL_law_443 rfl rfl ?_
  refine fg_ic (v := nI 2) S dL_law_444 (by decide) ?_
  refine fg_iadd S dL_law_445 ?_
  refine fg_sld S Sc (by omega) (by omega) dL_law_446 ?_
  refine fg_roV (ci := 1) (q0 := 0) S 2 (met_X1_standing (xs (i + 1)) (xs (i + 2))) rfl rfl rfl q288 q289 q290 q23 q291 ⟨ok_X1_standing, by rw [hRm]; decide, ⟨rfl, rfl⟩, Nat.le_of_ble_eq_true rfl⟩ [9, 10, 11, 12] rfl rfl rfl rfl rfl dL_law_447 ?_
  refine fg_icmpR_eq S 524 dL_law_450 (by decide) (fun _ => ?_) (fun q => absurd (aStanding_c hb _ _) q)
  exact K _ ⟨li, kv, dv, wv, nv, tv, uv, fv, _, sv, bv, ba, nw, lt, _, rfl, hI2, rfl, hb⟩
set_option maxHeartbeats 4000000 in
theorem lc_longest {X : fwX} {b L i : Nat} {xs : Nat → Int32} {ad bd : Nat → Nat} {ck : Nat → ClassId} (S : fwC X cL_law R_law (tysX ck)) (hN : fwN X = 4) (M : fwMu X) (Sc : fwSc X b L xs) (hRm : fwRm X = room_1) (hL : L ≤ 192) (hi : i + 3 ≤ L) {ws : va_W} (h : LI ad bd ck ws) (K : ∀ ws, LI ad bd ck ws → fwG X ws 524 [(0, .ref b), (1, .ref (ad 0)), (2, .ref (bd 0)), (3, .int (nI i))] []) : fwG X ws 455 [(0, .ref b), (1, .ref (ad 0)), (2, .ref (bd 0)), (3, .int (nI i))] [] := by
  obtain ⟨li, kn, dl, wa, no, th, ta, fr, co, ss, bu, ba, nw, lt, hd, rfl, hI, hh, hb⟩ := h
  subst hh
  have hco := hI.1.1
  refine fg_aload_n S 1 1 dL_law_455 rfl rfl ?_
  refine fg_muL (ci := 0) (q0 := 0) S M 0 (fun sz => met_X0_longest  hI sz) rfl rfl rfl q172 q173 q174 q22 q175 ⟨ok_X0_longest, by rw [hRm]; decide, ⟨rfl, rfl⟩, Nat.le_of_ble_eq_true rfl⟩ rfl rfl dL_law_456 ?_
  intro v_ w_ hp_
  obtain ⟨rfl, kv, dv, wv, nv, tv, uv, fv, sv, bv, rfl, hI2⟩ := hp_
  show fwG X (XW ad ck li kv dv wv nv tv uv fv hd sv bv ++ MW bd ck ba nw lt hd) 459 [(0, .ref b), (1, .ref (ad 0)), (2, .ref (bd 0)), (3, .int (nI i))] [.int (aLongest (bL li hd))]
  refine fg_aload_n S 2 2 dL_law_459 rfl rfl ?_
  refine fg_roV (ci := 1) (q0 := 0) S 0 (met_X1_longest ) rfl rfl rfl q296 q297 q298 q23 q299 ⟨ok_X1_longest, by rw [hRm]; decide, ⟨rfl, rfl⟩, Nat.le_of_ble_eq_true rfl⟩ [9, 10, 11, 12] rfl rfl rfl rfl rfl dL_law_460 ?_
  refine fg_icmpR_eq S 524 dL_law_463 (by decide) (fun _ => ?_) (fun q => absurd (aLongest_c hb) q)
  exact K _ ⟨li, kv, dv, wv, nv, tv, uv, fv, _, sv, bv, ba, nw, lt, _, rfl, hI2, rfl, hb⟩
set_option maxHeartbeats 4000000 in
theorem lc_choices {X : fwX} {b L i : Nat} {xs : Nat → Int32} {ad bd : Nat → Nat} {ck : Nat → ClassId} (S : fwC X cL_law R_law (tysX ck)) (hN : fwN X = 4) (M : fwMu X) (Sc : fwSc X b L xs) (hRm : fwRm X = room_1) (hL : L ≤ 192) (hi : i + 3 ≤ L) {ws : va_W} (h : LI ad bd ck ws) (K : ∀ ws, LI ad bd ck ws → fwG X ws 524 [(0, .ref b), (1, .ref (ad 0)), (2, .ref (bd 0)), (3, .int (nI i))] []) : fwG X ws 468 [(0, .ref b), (1, .ref (ad 0)), (2, .ref (bd 0)), (3, .int (nI i))] [] := by
  obtain ⟨li, kn, dl, wa, no, th, ta, fr, co, ss, bu, ba, nw, lt, hd, rfl, hI, hh, hb⟩ := h
  subst hh
  have hco := hI.1.1
  refine fg_aload_n S 1 1 dL_law_468 rfl rfl ?_
  refine fg_aload_n S 0 0 dL_law_469 rfl rfl ?_
  refine fg_iload_n S 3 3 dL_law_470 rfl rfl ?_
  refine fg_ic (v := nI 1) S dL_law_471 (by decide) ?_
  refine fg_iadd S dL_law_472 ?_
  refine fg_sld S Sc (by omega) (by omega) dL_law_473 ?_
  refine fg_aload_n S 0 0 dL_law_474 rfl rfl ?_
  refine fg_iload_n S 3 3 dL_law_475 rfl rfl ?_
  refine fg_ic (v := nI 2) S dL_law_476 (by decide) ?_
  refine fg_iadd S dL_law_477 ?_
  refine fg_sld S Sc (by omega) (by omega) dL_law_478 ?_
  refine fg_muL (ci := 0) (q0 := 0) S M 2 (fun sz => met_X0_choices (xs (i + 1)) (xs (i + 2)) hI sz) rfl rfl rfl q176 q177 q178 q22 q179 ⟨ok_X0_choices, by rw [hRm]; decide, ⟨rfl, rfl⟩, Nat.le_of_ble_eq_true rfl⟩ rfl rfl dL_law_479 ?_
  intro v_ w_ hp_
  obtain ⟨rfl, kv, dv, wv, nv, tv, uv, fv, sv, bv, rfl, hI2⟩ := hp_
  show fwG X (XW ad ck li kv dv wv nv tv uv fv hd sv bv ++ MW bd ck ba nw lt hd) 482 [(0, .ref b), (1, .ref (ad 0)), (2, .ref (bd 0)), (3, .int (nI i))] [.int (aChoices (bL li hd) (xs (i + 1)).toInt (xs (i + 2)).toInt)]
  refine fg_aload_n S 2 2 dL_law_482 rfl rfl ?_
  refine fg_aload_n S 0 0 dL_law_483 rfl rfl ?_
  refine fg_iload_n S 3 3 dL_law_484 rfl rfl ?_
  refine fg_ic (v := nI 1) S dL_law_485 (by decide) ?_
  refine fg_iadd S dL_law_486 ?_
  refine fg_sld S Sc (by omega) (by omega) dL_law_487 ?_
  refine fg_aload_n S 0 0 dL_law_488 rfl rfl ?_
  refine fg_iload_n S 3 3 dL_law_489 rfl rfl ?_
  refine fg_ic (v := nI 2) S dL_law_490 (by decide) ?_
  refine fg_iadd S dL_law_491 ?_
  refine fg_sld S Sc (by omega) (by omega) dL_law_492 ?_
  refine fg_roV (ci := 1) (q0 := 0) S 2 (met_X1_choices (xs (i + 1)) (xs (i + 2))) rfl rfl rfl q300 q301 q302 q23 q303 ⟨ok_X1_choices, by rw [hRm]; decide, ⟨rfl, rfl⟩, Nat.le_of_ble_eq_true rfl⟩ [9, 10, 11, 12] rfl rfl rfl rfl rfl dL_law_493 ?_
  refine fg_icmpR_eq S 524 dL_law_496 (by decide) (fun _ => ?_) (fun q => absurd (aChoices_c hb _ _) q)
  exact K _ ⟨li, kv, dv, wv, nv, tv, uv, fv, _, sv, bv, ba, nw, lt, _, rfl, hI2, rfl, hb⟩
set_option maxHeartbeats 4000000 in
theorem lc_mirrored {X : fwX} {b L i : Nat} {xs : Nat → Int32} {ad bd : Nat → Nat} {ck : Nat → ClassId} (S : fwC X cL_law R_law (tysX ck)) (hN : fwN X = 4) (M : fwMu X) (Sc : fwSc X b L xs) (hRm : fwRm X = room_1) (hL : L ≤ 192) (hi : i + 3 ≤ L) {ws : va_W} (h : LI ad bd ck ws) (K : ∀ ws, LI ad bd ck ws → fwG X ws 524 [(0, .ref b), (1, .ref (ad 0)), (2, .ref (bd 0)), (3, .int (nI i))] []) : fwG X ws 501 [(0, .ref b), (1, .ref (ad 0)), (2, .ref (bd 0)), (3, .int (nI i))] [] := by
  obtain ⟨li, kn, dl, wa, no, th, ta, fr, co, ss, bu, ba, nw, lt, hd, rfl, hI, hh, hb⟩ := h
  subst hh
  have hco := hI.1.1
  refine fg_aload_n S 1 1 dL_law_501 rfl rfl ?_
  refine fg_aload_n S 0 0 dL_law_502 rfl rfl ?_
  refine fg_iload_n S 3 3 dL_law_503 rfl rfl ?_
  refine fg_ic (v := nI 1) S dL_law_504 (by decide) ?_
  refine fg_iadd S dL_law_505 ?_
  refine fg_sld S Sc (by omega) (by omega) dL_law_506 ?_
  refine fg_muL (ci := 0) (q0 := 0) S M 1 (fun sz => met_X0_mirrored (xs (i + 1)) hI sz) rfl rfl rfl q180 q181 q182 q22 q183 ⟨ok_X0_mirrored, by rw [hRm]; decide, ⟨rfl, rfl⟩, Nat.le_of_ble_eq_true rfl⟩ rfl rfl dL_law_507 ?_
  intro v_ w_ hp_
  obtain ⟨rfl, kv, dv, wv, nv, tv, uv, fv, sv, bv, rfl, hI2⟩ := hp_
  show fwG X (XW ad ck li kv dv wv nv tv uv fv hd sv bv ++ MW bd ck ba nw lt hd) 510 [(0, .ref b), (1, .ref (ad 0)), (2, .ref (bd 0)), (3, .int (nI i))] [.int (aMirrored (bL li hd) (xs (i + 1)).toInt)]
  refine fg_aload_n S 2 2 dL_law_510 rfl rfl ?_
  refine fg_aload_n S 0 0 dL_law_511 rfl rfl ?_
  refine fg_iload_n S 3 3 dL_law_512 rfl rfl ?_
  refine fg_ic (v := nI 1) S dL_law_513 (by decide) ?_
  refine fg_iadd S dL_law_514 ?_
  refine fg_sld S Sc (by omega) (by omega) dL_law_515 ?_
  refine fg_roV (ci := 1) (q0 := 0) S 1 (met_X1_mirrored (xs (i + 1))) rfl rfl rfl q304 q305 q306 q23 q307 ⟨ok_X1_mirrored, by rw [hRm]; decide, ⟨rfl, rfl⟩, Nat.le_of_ble_eq_true rfl⟩ [9, 10, 11, 12] rfl rfl rfl rfl rfl dL_law_516 ?_
  refine fg_icmpR_eq S 524 dL_law_519 (by decide) (fun _ => ?_) (fun q => absurd (aMirrored_c hb _) q)
  exact K _ ⟨li, kv, dv, wv, nv, tv, uv, fv, _, sv, bv, ba, nw, lt, _, rfl, hI2, rfl, hb⟩
set_option maxHeartbeats 4000000 in
/-- the law's loop: i ints read; the two sides hold the same pieces -/
theorem lw_loop {X : fwX} {b L : Nat} {xs : Nat → Int32} {ad bd : Nat → Nat} {ck : Nat → ClassId} (S : fwC X cL_law R_law (tysX ck)) (hN : fwN X = 4) (M : fwMu X) (Sc : fwSc X b L xs) (hRm : fwRm X = room_1) (hL : L ≤ 192) (hret : ∀ ws lv, LI ad bd ck ws → fwG X ws 531 lv [.int 1]) : ∀ (fuel i : Nat) (ws : va_W), i ≤ 194 → 195 ≤ i + fuel → LI ad bd ck ws → fwG X ws 18 [(0, .ref b), (1, .ref (ad 0)), (2, .ref (bd 0)), (3, .int (nI i))] [] := by
  intro fuel
  induction fuel with
  | zero => intro i ws h1 h2; exact absurd h2 (by omega)
  | succ fuel ih =>
    intro i ws h1 h2 hI
    refine fg_iload_n S 3 3 dL_law_18 rfl rfl ?_
    refine fg_aload_n S 0 0 dL_law_19 rfl rfl ?_
    refine fg_slen S Sc dL_law_20 ?_
    refine fg_ic (v := nI 3) S dL_law_21 (by decide) ?_
    refine fg_isubR (v := nI L - nI 3) S dL_law_22 rfl ?_
    refine fg_icmpZ_gt S 530 dL_law_23 (by decide) (nI_toInt (by omega)) (pk_sub_toInt (by omega) (by omega)) (fun h => ?_) (fun h => ?_)
    · refine fg_ic (v := 1) S dL_law_530 (by decide) ?_
      exact hret ws _ hI
    · have hi : i + 3 ≤ L := by omega
      have K : ∀ ws, LI ad bd ck ws → fwG X ws 524 [(0, .ref b), (1, .ref (ad 0)), (2, .ref (bd 0)), (3, .int (nI i))] [] := by
        intro ws hI
        refine fg_iinc (lv' := [(0, .ref b), (1, .ref (ad 0)), (2, .ref (bd 0)), (3, .int (nI (i + 3)))]) S 3 [1, 2, 3, 0] dL_law_524 rfl (inc_n _ 3) hN (by decide) rfl ?_
        refine fg_goto S 18 dL_law_527 (by decide) ?_
        exact ih (i + 3) ws (by omega) (by omega) hI
      refine fg_aload_n S 0 0 dL_law_26 rfl rfl ?_
      refine fg_iload_n S 3 3 dL_law_27 rfl rfl ?_
      refine fg_sld S Sc (by omega) (by omega) dL_law_28 ?_
      refine fg_bi (v := nI 15) S dL_law_29 (by decide) ?_
      obtain ⟨j, hj, ej⟩ := pk_andE (xs i) (m := nI 15) 4 (by decide)
      refine fg_iandR (v := nI j) S dL_law_31 ej ?_
      rcases (by omega : j = 0 ∨ j = 1 ∨ j = 2 ∨ j = 3 ∨ j = 4 ∨ j = 5 ∨ j = 6 ∨ j = 7 ∨ j = 8 ∨ j = 9 ∨ j = 10 ∨ j = 11 ∨ j = 12 ∨ j = 13 ∨ j = 14 ∨ j = 15) with rfl | rfl | rfl | rfl | rfl | rfl | rfl | rfl | rfl | rfl | rfl | rfl | rfl | rfl | rfl | rfl
      · refine fg_tsIn (off := 76) S 108 dL_law_32 (by decide) (by decide) (by decide) (by decide) ?_
        exact lc_forbid S hN M Sc hRm hL hi hI K
      · refine fg_tsIn (off := 99) S 131 dL_law_32 (by decide) (by decide) (by decide) (by decide) ?_
        exact lc_permit S hN M Sc hRm hL hi hI K
      · refine fg_tsIn (off := 122) S 154 dL_law_32 (by decide) (by decide) (by decide) (by decide) ?_
        exact lc_pieces S hN M Sc hRm hL hi hI K
      · refine fg_tsIn (off := 135) S 167 dL_law_32 (by decide) (by decide) (by decide) (by decide) ?_
        exact lc_allowed S hN M Sc hRm hL hi hI K
      · refine fg_tsIn (off := 168) S 200 dL_law_32 (by decide) (by decide) (by decide) (by decide) ?_
        exact lc_count S hN M Sc hRm hL hi hI K
      · refine fg_tsIn (off := 192) S 224 dL_law_32 (by decide) (by decide) (by decide) (by decide) ?_
        exact lc_countWith S hN M Sc hRm hL hi hI K
      · refine fg_tsIn (off := 225) S 257 dL_law_32 (by decide) (by decide) (by decide) (by decide) ?_
        exact lc_rank S hN M Sc hRm hL hi hI K
      · refine fg_tsIn (off := 258) S 290 dL_law_32 (by decide) (by decide) (by decide) (by decide) ?_
        exact lc_word S hN M Sc hRm hL hi hI K
      · refine fg_tsIn (off := 291) S 323 dL_law_32 (by decide) (by decide) (by decide) (by decide) ?_
        exact lc_next S hN M Sc hRm hL hi hI K
      · refine fg_tsIn (off := 324) S 356 dL_law_32 (by decide) (by decide) (by decide) (by decide) ?_
        exact lc_beginning S hN M Sc hRm hL hi hI K
      · refine fg_tsIn (off := 357) S 389 dL_law_32 (by decide) (by decide) (by decide) (by decide) ?_
        exact lc_ending S hN M Sc hRm hL hi hI K
      · refine fg_tsIn (off := 390) S 422 dL_law_32 (by decide) (by decide) (by decide) (by decide) ?_
        exact lc_standing S hN M Sc hRm hL hi hI K
      · refine fg_tsIn (off := 423) S 455 dL_law_32 (by decide) (by decide) (by decide) (by decide) ?_
        exact lc_longest S hN M Sc hRm hL hi hI K
      · refine fg_tsIn (off := 436) S 468 dL_law_32 (by decide) (by decide) (by decide) (by decide) ?_
        exact lc_choices S hN M Sc hRm hL hi hI K
      · refine fg_tsIn (off := 469) S 501 dL_law_32 (by decide) (by decide) (by decide) (by decide) ?_
        exact lc_mirrored S hN M Sc hRm hL hi hI K
      · refine fg_tsOut S 524 dL_law_32 (Or.inr (by decide)) (by decide) ?_
        exact K ws hI
end
section
set_option maxRecDepth 100000
/-- the classes, known at the claim's start -/
theorem lw_classes {s0 : State} {b0 : Addr} (ht0 : ∀ w ∈ lw_tbl, w.before #[Value.ref b0] s0 = true) : ∃ D : va_G, va_K D vwCl [] s0 := by
  obtain ⟨c0_, iS0, hKn0⟩ := u_known (C := RX0) (T := TX0) (N := 11) (n := 11) ht0 (fun w h => lw_all_tbl (in_X0 w h)) (ht0 _ (lw_all_tbl q25))
  obtain ⟨c1_, iS1, hKn1⟩ := u_known (C := RX1) (T := TX1) (N := 4) (n := 4) ht0 (fun w h => lw_all_tbl (in_X1 w h)) (ht0 _ (lw_all_tbl q188))
  refine ⟨(fun k => if k = 0 then c0_ else c1_, fun k => if k = 0 then iS0 else iS1), ?_, fun k q hq => by cases hq⟩
  intro k q hq
  match k, hq with
  | 0, hq => cases hq; exact hKn0
  | 1, hq => cases hq; exact hKn1
  | k + 2, hq => simp [vwCl] at hq
theorem LI_0 {ad bd : Nat → Nat} {ck : Nat → ClassId} : LI ad bd ck (XW ad ck (fun _ => 0) (fun _ => 0) (fun _ => 0) (fun _ => 0) (fun _ => 0) (fun _ => 0) (fun _ => 0) (fun _ => 0) 0 0 0 ++ MW bd ck (fun _ => false) (fun _ => 0) (fun _ => 0) 0) := ⟨_, _, _, _, _, _, _, _, _, _, _, _, _, _, _, rfl, ⟨⟨Nat.zero_le _, fun k hk => absurd hk (by omega)⟩, fun i j hi => absurd hi (by omega), Or.inl rfl⟩, rfl, fun _ _ => rfl⟩
set_option maxHeartbeats 4000000 in
/-- from the entry, for every script of at most 192 ints, the law comes to its end with true -/
theorem whole_start {p : Program} {e : Env} {s : State} {m : MethodId} {below : List Frame} {meth : Method} {c : Code} (l : Launch) {b L : Nat} {xs : Nat → Int32} (hL : L ≤ 192) (C0 : lw_At p s m meth c b L xs) : W p l e room_1 s m #[Value.ref b] below meth c s.heap [] 0 0 (lw_Z below #[Value.ref b] s) (entryFrame m ([Value.ref b] : List Value).toArray 4) := by
  obtain ⟨hx, hb, hr, hml, hown, hts0, hX, hbl, hlocks, hgv⟩ := C0
  obtain ⟨D, hK⟩ := lw_classes hts0
  have hts : ∀ w ∈ lw_all, w.before #[Value.ref b] s = true := fun w h => hts0 w (lw_all_tbl h)
  have hl := lv_entry ([.ref b]) (n := 4) (Nat.le_of_ble_eq_true rfl)
  rw [lg_entry_eq]
  generalize (lg_sl ([.ref b]) ++ List.replicate (4 - (lg_sl ([.ref b])).length) Slot.unset).toArray = ls at hl ⊢
  have hl : lv_has ls 4 [(0, .ref b)] := hl
  obtain ⟨A, hAe⟩ : ∃ A : Nat → Prop, A = fun q => s.heap.size ≤ q := ⟨_, rfl⟩
  have hA : ∀ q : Nat, s.heap.size ≤ q → A q := fun q h => by rw [hAe]; exact h
  have hbA : ¬ A b := by rw [hAe]; show ¬ s.heap.size ≤ b; omega
  have hS : va_S A s.heap s.heap [] := va_S.rf
  have hP : va_P D vwCl [] s.heap := fun k q hk => by cases hk
  have hD : va_D A [] := ⟨fun i j p q hp => (by cases hp), fun k q hk => (by cases hk)⟩
  refine va_new (D := D) (ci := 0) (fs := [.null, .null, .null, .null, .null, .null, .null, .null, .int 0, .int 0, .int 0]) (C := RX0) (T := TX0) (N := 11) hx hb hts in_X0 tyX0 tyX0_ok hown (hts _ q24) (hts _ q25) (hts _ q22) hK hP hD hS hA rfl (fun j hj => by rcases (show j = 0 ∨ j = 1 ∨ j = 2 ∨ j = 3 ∨ j = 4 ∨ j = 5 ∨ j = 6 ∨ j = 7 ∨ j = 8 ∨ j = 9 ∨ j = 10 by omega) with rfl | rfl | rfl | rfl | rfl | rfl | rfl | rfl | rfl | rfl | rfl <;> rfl) (by decide) (by decide) dL_law_0 (fun o0 H hP hD hS => ?_)
  have hP : va_P D vwCl [(o0, .inr (0, [.null, .null, .null, .null, .null, .null, .null, .null, .int 0, .int 0, .int 0]))] H := hP
  have hD : va_D A [(o0, .inr (0, [.null, .null, .null, .null, .null, .null, .null, .null, .int 0, .int 0, .int 0]))] := hD
  refine W.widen (k := 1) (n := 11) (by decide) (by decide) ?_
  refine lv_dup hx hb dL_law_3 rfl ?_
  have hFc := va_free (wc := [(o0, .inr (0, [.null, .null, .null, .null, .null, .null, .null, .null, .int 0, .int 0, .int 0]))]) hD hS hA [0] rfl
  refine va_callv (va_runI (As := []) (rest := [.ref o0]) ⟨hx, hb, hml, hown, hts⟩ (met_X0_init l D o0 H.size) (cwI 0 hts (lw_meth q28) rfl rfl rfl (hts _ q22) (hts _ q26) (hts _ q27) rfl ok_X0_init (by decide)) ⟨fun a U g mk q => by obtain ⟨q0, q1, qP, qK, qD⟩ := q; exact ⟨q0, q1, qP, va_K.moved (u := U) (U := U.calling g mk a) (Vm.Alike.refl U.vm) qK, qD⟩, fun U hU hW => ⟨rfl, by rw [hU], by rw [hU]; exact hP, va_K.moved hW.alike hK, hD.weaken (fun _ _ _ _ => trivial)⟩⟩ rfl rfl hl.1 rfl (lv_room (Nat.le_of_ble_eq_true rfl)) dL_law_4 (by decide)) hS (fun q _ h => hFc q h) hFc (fun u0 t H1 locs ht hvm _ hB hz1 hk1 hS => ?_)
  obtain ⟨e0, hP1, hK1, hD1⟩ := hB
  rw [ht] at hP1
  have hK0 := va_K.moved hvm.symm hK1
  have hD0 : va_D A (XW u0.1 u0.2 (fun _ => 0) (fun _ => 0) (fun _ => 0) (fun _ => 0) (fun _ => 0) (fun _ => 0) (fun _ => 0) (fun _ => 0) 0 0 0) := hD1.weaken (fun k q _ h => hFc q.1 h)
  refine lv_astore_n (lv' := [(1, .ref o0), (0, .ref b)]) hx hb dL_law_7 rfl hl (by decide) rfl (fun ls hl => ?_)
  refine va_new (D := D) (ci := 1) (fs := [.int 0, .null, .null, .null]) (C := RX1) (T := TX1) (N := 4) hx hb hts in_X1 tyX1 tyX1_ok hown (hts _ q187) (hts _ q188) (hts _ q23) hK hP1 hD0 hS hA rfl (fun j hj => by rcases (show j = 0 ∨ j = 1 ∨ j = 2 ∨ j = 3 by omega) with rfl | rfl | rfl | rfl <;> rfl) (by decide) (by decide) dL_law_8 (fun o1 H hP hD hS => ?_)
  refine lv_dup hx hb dL_law_11 rfl ?_
  have hPc : va_P D vwCl [(o1, .inr (1, [.int 0, .null, .null, .null]))] H := apP_r hP
  have hDc : va_D A [(o1, .inr (1, [.int 0, .null, .null, .null]))] := apD_r hD
  have hFc : ∀ q, va_A [(o1, .inr (1, [.int 0, .null, .null, .null]))] H.size q → A q := by
    intro q h
    rcases h with ⟨k, e, h⟩ | h
    · exact hDc.2 k _ h
    · exact hA q (Nat.le_trans hS.1 h)
  refine va_callv (va_runI (As := []) (rest := [.ref o1]) ⟨hx, hb, hml, hown, hts⟩ (met_X1_init l D o1 H.size) (cwI 0 hts (lw_meth q191) rfl rfl rfl (hts _ q23) (hts _ q189) (hts _ q190) rfl ok_X1_init (by decide)) ⟨fun a U g mk q => by obtain ⟨q0, q1, qP, qK, qD⟩ := q; exact ⟨q0, q1, qP, va_K.moved (u := U) (U := U.calling g mk a) (Vm.Alike.refl U.vm) qK, qD⟩, fun U hU hW => ⟨rfl, by rw [hU], by rw [hU]; exact hPc, va_K.moved hW.alike hK, hDc.weaken (fun _ _ _ _ => trivial)⟩⟩ rfl rfl hl.1 rfl (lv_room (Nat.le_of_ble_eq_true rfl)) dL_law_12 (by decide)) hS (fun q _ h => hFc q h) hFc (fun u1 t H1 locs ht hvm _ hB hz1 hk1 hS => ?_)
  obtain ⟨e1, hP2, hK2, hD2⟩ := hB
  rw [ht] at hP2
  have hK1 := va_K.moved hvm.symm hK2
  have hno : ∀ (j : Nat) (q : Nat × va_E), (XW u0.1 u0.2 (fun _ => 0) (fun _ => 0) (fun _ => 0) (fun _ => 0) (fun _ => 0) (fun _ => 0) (fun _ => 0) (fun _ => 0) 0 0 0)[j]? = some q → ¬ va_A [(o1, .inr (1, [.int 0, .null, .null, .null]))] H.size q.1 := by
    intro j q hq z
    rcases z with ⟨i, e, z⟩ | z
    · exact apD_x hD hq z rfl
    · exact absurd ((apP_l hP) j q hq).lt (by omega)
  have hPP : va_P D vwCl (XW u0.1 u0.2 (fun _ => 0) (fun _ => 0) (fun _ => 0) (fun _ => 0) (fun _ => 0) (fun _ => 0) (fun _ => 0) (fun _ => 0) 0 0 0 ++ MW u1.1 u1.2 (fun _ => false) (fun _ => 0) (fun _ => 0) 0) H1 := ((apP_l hP).kept (fun j q hq => hk1 q.1 ((apP_l hP) j q hq).lt (hno j q hq))).app hP2
  have hDD : va_D A (XW u0.1 u0.2 (fun _ => 0) (fun _ => 0) (fun _ => 0) (fun _ => 0) (fun _ => 0) (fun _ => 0) (fun _ => 0) (fun _ => 0) 0 0 0 ++ MW u1.1 u1.2 (fun _ => false) (fun _ => 0) (fun _ => 0) 0) := va_D.app (apD_l hD) (hD2.weaken (fun k q _ h => hFc q.1 h)) (fun i j x y hx hy e => hno i x hx (e.symm ▸ hD2.2 j y hy))
  refine lv_astore_n (lv' := [(2, .ref o1), (1, .ref o0), (0, .ref b)]) hx hb dL_law_15 rfl hl (by decide) rfl (fun ls hl => ?_)
  refine lv_iconst (v := nI 0) hx hb dL_law_16 (by decide) ?_
  refine lv_istore_n (lv' := [(3, .int (nI 0)), (2, .ref o1), (1, .ref o0), (0, .ref b)]) hx hb dL_law_17 rfl hl (by decide) rfl (fun ls hl => ?_)
  obtain ⟨ck, hck⟩ : ∃ ck : Nat → ClassId, ck = fun k => if k < 8 then u0.2 k else u1.2 k := ⟨_, rfl⟩
  have hKK : va_K D vwCl (tysX ck) s := by
    rw [hck]
    exact hK0.app hK1
  have hPP : va_P D vwCl (XW u0.1 ck (fun _ => 0) (fun _ => 0) (fun _ => 0) (fun _ => 0) (fun _ => 0) (fun _ => 0) (fun _ => 0) (fun _ => 0) 0 0 0 ++ MW u1.1 ck (fun _ => false) (fun _ => 0) (fun _ => 0) 0) H1 := by
    rw [hck]
    exact hPP
  have hDD : va_D A (XW u0.1 ck (fun _ => 0) (fun _ => 0) (fun _ => 0) (fun _ => 0) (fun _ => 0) (fun _ => 0) (fun _ => 0) (fun _ => 0) 0 0 0 ++ MW u1.1 ck (fun _ => false) (fun _ => 0) (fun _ => 0) 0) := by
    rw [hck]
    exact hDD
  have hl : lv_has ls 4 [(0, .ref b), (1, .ref (u0.1 0)), (2, .ref (u1.1 0)), (3, .int (nI 0))] := by
    rw [e0, e1]
    exact lv_sub hl [3, 2, 1, 0] rfl
  have G := lw_loop (X := (p, l, e, room_1, s, m, #[Value.ref b], below, meth, c, 4, D, A, va_S A s.heap, 13, 1719, lw_Z below #[Value.ref b] s)) (ad := u0.1) (bd := u1.1) (ck := ck) (L := L) (xs := xs) (b := b) ⟨⟨hx, hb, hml, hown, hts⟩, hKK, by decide, by decide⟩ rfl ⟨rfl, hA⟩ ⟨rfl, hX, hbl, hbA⟩ rfl hL (fun ws lv _ => ?_) 195 0 _ (by omega) (by omega) LI_0
  · exact W.widen (k := 13) (n := 1719) (by decide) (by decide) (G H1 locs ls hPP hDD hS hl)
  · intro H locs ls hP hD hV hl
    refine va_forget (fun q hq => by have := hV.2.2 q hq; rw [hAe] at this; exact this) ?_
    refine W.widen (k := 600000) (n := 7290000) (by decide) (by decide) ?_
    exact lw_ret hx hb hr hlocks dL_law_531
end
section
set_option maxRecDepth 100000
set_option maxHeartbeats 4000000 in
theorem lw_walk (l : Launch) (b : Addr) (xs : List Int32) : MetFree l x (headSpec (Jvm.Cond.code x code maxLocals ret :: tables_1) room_1) (lw_P b xs) (fun _ _ _ _ _ => True) lw_Q := by
  refine MetFree.of_bodyS (code := code) (maxLocals := maxLocals) (ret := ret) (by decide) ?_ ?_
  · intro args s m h hn
    obtain ⟨meth, c, h1, h2, h3, h4, h5, h6, -, -⟩ := Cond.code_spec hn (atoms_spec (ws := Jvm.Cond.code x code maxLocals ret :: tables_1) h _ List.mem_cons_self)
    exact ⟨meth, c, h1, h2, h3, h4, h5, h6⟩
  · intro p e s m args below meth c s₁ B hml0 hP _
    obtain ⟨rfl, hx, hbd, hgv⟩ := hP
    obtain ⟨scr, harrAt, hlist, hof, hsmall⟩ := hx
    obtain ⟨hcb, hkn, -, -⟩ := State.arrayAt?_spec harrAt
    have hown : s.vm.findClass R_law = some m.cls := findClass_of_methodNamed B.named
    have hts0 : ∀ c ∈ (Jvm.Cond.code x code maxLocals ret :: tables_1), c.before #[Value.ref b] s = true := atoms_spec (ws := Jvm.Cond.code x code maxLocals ret :: tables_1) B.pre
    have hts : ∀ w ∈ lw_tbl, w.before #[Value.ref b] s = true := k2_hts_sels lw_privs (fun w hw => hts0 w (List.mem_cons_of_mem _ hw)) lw_privs_ok
    have hml : c.maxLocals = 4 := B.maxLocals_eq (hts0 _ List.mem_cons_self)
    have X₀ : Stand p l e room_1 s m #[Value.ref b] below meth c s₁ [] 0 0 := Stand.of_body B
    have hh0 : s₁.heap = s.heap := by rw [B.state]; rfl
    have hsz : scr.slots.size = xs.length := by rw [← Array.length_toList, hlist, List.length_map]
    have hval : ∀ j : Nat, j < xs.length → scr.slots[j]? = some (.int (xs.getD j 0)) := fun j hj => by
      rw [← Array.getElem?_toList, hlist]
      simp [hj]
    have hbl : b < s.heap.size := (Array.getElem?_eq_some_iff.mp hcb).1
    have hX : va_X b xs.length (fun j => xs.getD j 0) s s.heap := ⟨scr, hcb, hof, hkn, hsz, hval⟩
    have K : W p l e room_1 s m #[Value.ref b] below meth c s₁.heap [] 0 0 (lw_Z below #[Value.ref b] s) (entryFrame m ([Value.ref b] : List Value).toArray 4) := by
      rw [hh0]
      exact whole_start l hbd ⟨B.exec, B.bytes, B.returns, hml, hown, hts, hX, hbl, B.notSynchronized, hgv⟩
    obtain ⟨t, a1, o, b1, b2, b3⟩ := K s₁ rfl X₀
    exact ⟨t, o, a1, b1, b2, b3⟩
theorem lw_pre_spec {args : Array Value} {s : State} (h : (Jvm.Cond.and given_1 narrow_1).before args s = true) (hr : rest_1_c.before args s = true) : ∃ (b : Addr) (xs : List Int32), lw_P b xs args s := by
  have hs := flat_of_before _ h
  have hq := flat_of_before _ hr
  have hc : (Cond.count 1).before args s = true := hs _ (by decide +kernel)
  have harr : (Cond.arrayOf (.arg 0) .int).before args s = true := hs _ (by decide +kernel)
  have hle : (Cond.le (.length (.arg 0)) (.int 192)).before args s = true := hs _ (by decide +kernel)
  have hlen : (Cond.isInt (.length (.arg 0))).before args s = true := hq _ (by decide +kernel)
  have hall : (Cond.all (.arg 0) (.isInt (.elem (.arg 0) (.index 0)))).before args s = true := hq _ (by decide +kernel)
  obtain ⟨b, xs, hb, hx⟩ := State.ints_of_pre rfl harr hlen hall
  have hsm : xs.length < 2 ^ 31 := hx.choose_spec.2.2.2
  have hev : (Term.length (.arg 0)).eval args s none [] s = some (.int xs.length.toInt32) := hx.length_eval hb
  have hv := Cond.le_ints hev (show (Term.int 192).eval args s none [] s = some (.int 192) from rfl)
  have hd : xs.length.toInt32 ≤ 192 := by
    simpa [Cond.before, Cond.holds, hv] using hle
  have hN : xs.length ≤ 192 := (Int32.ofNat_le_ofNat hsm (by decide)).mp (show Int32.ofNat xs.length ≤ Int32.ofNat 192 from hd)
  exact ⟨b, xs, Cond.one_arg hc (show args[0]? = some (.ref b) from hb), hx, hN, h⟩
theorem lw_comes (l : Launch) : Comes l x (Jvm.Cond.code x code maxLocals ret :: tables_1) room_1 (fun tb e args s => Calls_1 tb e args s ∧ rest_1 tb e args s ∧ Pre_1 tb e args s)
    (fun _ _ args s o t => lw_Q args s o t) := by
  intro p e ha hc hk s m args below hf hfit hheap happ hpre
  obtain ⟨b, xs, hP⟩ := lw_pre_spec hpre.2.2 hpre.2.1
  obtain ⟨k, o, h1, h2, h3, hQ⟩ := lw_walk l b xs p e ha hc hk s m args below hf ((Spec.applies_iff_loose hf).mp happ).1 hP trivial
  exact ⟨k, o, h1, h2, h3, hQ⟩
theorem lw_frame {s t : State} {o : Outcome} {args : Array Value} (h : Framed s o t [] 600000 7290000) :
    Framed s o t (fieldLocs frame_1_writes args s ++ arrayLocs frame_1_arrays args s ++ staticLocs frame_1_statics s) 600000 7290000 := h
theorem lw_limb (L : Cond) (hL : ∀ (args : Array Value) (s t : State), L.after args s (.returned (some (.int 1))) t = true) :
    ArmFor flags0 classFile x code maxLocals ret World_1 tables_1 room_1 Calls_1 rest_1 Pre_1
      (fun tb e a s o t => postC L tb e a s o t ∧ Framed s o t (fieldLocs frame_1_writes a s ++ arrayLocs frame_1_arrays a s ++ staticLocs frame_1_statics s) 600000 7290000) := by
  intro l _ _ _ p e ha hc hk s m args below hf hfit hheap happ hpre
  obtain ⟨k, o, h1, h2, h3, rfl, hF⟩ := lw_comes l p e ha hc hk s m args below hf hfit hheap happ hpre
  exact ⟨k, _, h1, h2, h3, hL args s _, lw_frame hF⟩
theorem i_vc : Claimed_1_1 ∧ Claimed_1_2 := ⟨lw_limb limb_1_1 (fun args s t => by simp [limb_1_1, Cond.after, Cond.holds, Cond.value]), lw_limb limb_1_2 (fun args s t => Cond.after_iff.mpr (by
  first | (rw [show limb_1_2 = Cond.eq .result (.int 1) from rfl, Cond.eq_ints (x := 1) (y := 1) rfl rfl]; simp; done) | (simp [limb_1_2, Cond.value, Term.eval]; done)))⟩
end
