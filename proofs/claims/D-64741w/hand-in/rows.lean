section
-- ===== PART A: goes FIRST, ahead of the names: the tables' words, and 'selects' of the private methods out of them =====
/-- a private method of a class that the tables say can be made, by its rows of tables_1 -/
def lw_okq (q : MethodName × Nat) : Prop := (q.1.cls ≠ "java/lang/invoke/MethodHandle" ∧ q.1.cls ≠ "java/lang/invoke/VarHandle") ∧ Cond.instantiable q.1.cls q.2 ∈ tables_1 ∧ Cond.privateMethod q.1 ∈ tables_1 ∧ Cond.instanceMethod q.1 ∈ tables_1
set_option maxRecDepth 100000
theorem lw_t1 {w : Cond} (h : w ∈ tables_1_1) : w ∈ tables_1 := List.mem_append_left _ h
theorem lw_t2 {w : Cond} (h : w ∈ tables_1_2) : w ∈ tables_1 := List.mem_append_right _ h
theorem lw_p0 : lw_okq (⟨"FountainDecoder", "put", "(II)V"⟩, 10) := ⟨⟨by decide +kernel, by decide +kernel⟩, lw_t1 (List.mem_of_getElem? (i := 4) rfl), lw_t1 (List.mem_of_getElem? (i := 52) rfl), lw_t1 (List.mem_of_getElem? (i := 53) rfl)⟩
theorem lw_p1 : lw_okq (⟨"FountainDecoder", "drawn", "(I)I"⟩, 10) := ⟨⟨by decide +kernel, by decide +kernel⟩, lw_t1 (List.mem_of_getElem? (i := 4) rfl), lw_t1 (List.mem_of_getElem? (i := 60) rfl), lw_t1 (List.mem_of_getElem? (i := 61) rfl)⟩
theorem lw_p2 : lw_okq (⟨"FountainDecoder", "reduceAll", "(I)V"⟩, 10) := ⟨⟨by decide +kernel, by decide +kernel⟩, lw_t1 (List.mem_of_getElem? (i := 4) rfl), lw_t1 (List.mem_of_getElem? (i := 81) rfl), lw_t1 (List.mem_of_getElem? (i := 82) rfl)⟩
theorem lw_p3 : lw_okq (⟨"FountainDecoder", "enter", "(II)V"⟩, 10) := ⟨⟨by decide +kernel, by decide +kernel⟩, lw_t1 (List.mem_of_getElem? (i := 4) rfl), lw_t1 (List.mem_of_getElem? (i := 85) rfl), lw_t1 (List.mem_of_getElem? (i := 86) rfl)⟩
theorem lw_p4 : lw_okq (⟨"FountainDecoder", "reduce", "(II)V"⟩, 10) := ⟨⟨by decide +kernel, by decide +kernel⟩, lw_t1 (List.mem_of_getElem? (i := 4) rfl), lw_t1 (List.mem_of_getElem? (i := 89) rfl), lw_t1 (List.mem_of_getElem? (i := 90) rfl)⟩
theorem lw_p5 : lw_okq (⟨"FountainDecoder", "knownNow", "()I"⟩, 10) := ⟨⟨by decide +kernel, by decide +kernel⟩, lw_t1 (List.mem_of_getElem? (i := 4) rfl), lw_t1 (List.mem_of_getElem? (i := 104) rfl), lw_t1 (List.mem_of_getElem? (i := 105) rfl)⟩
theorem lw_p6 : lw_okq (⟨"FountainDecoder", "settle", "(I)I"⟩, 10) := ⟨⟨by decide +kernel, by decide +kernel⟩, lw_t1 (List.mem_of_getElem? (i := 4) rfl), lw_t1 (List.mem_of_getElem? (i := 112) rfl), lw_t1 (List.mem_of_getElem? (i := 113) rfl)⟩
theorem lw_p7 : lw_okq (⟨"FountainDecoder", "isSet", "(I)Z"⟩, 10) := ⟨⟨by decide +kernel, by decide +kernel⟩, lw_t1 (List.mem_of_getElem? (i := 4) rfl), lw_t1 (List.mem_of_getElem? (i := 120) rfl), lw_t1 (List.mem_of_getElem? (i := 121) rfl)⟩
theorem lw_p8 : lw_okq (⟨"FountainDecoder", "peelFrom", "(I)I"⟩, 10) := ⟨⟨by decide +kernel, by decide +kernel⟩, lw_t1 (List.mem_of_getElem? (i := 4) rfl), lw_t1 (List.mem_of_getElem? (i := 128) rfl), lw_t1 (List.mem_of_getElem? (i := 129) rfl)⟩
theorem lw_p9 : lw_okq (⟨"FountainDecoder", "wouldHelp", "(II)Z"⟩, 10) := ⟨⟨by decide +kernel, by decide +kernel⟩, lw_t1 (List.mem_of_getElem? (i := 4) rfl), lw_t1 (List.mem_of_getElem? (i := 156) rfl), lw_t1 (List.mem_of_getElem? (i := 157) rfl)⟩
theorem lw_p10 : lw_okq (⟨"FountainDecoderModel", "members", "(I)I"⟩, 8) := ⟨⟨by decide +kernel, by decide +kernel⟩, lw_t1 (List.mem_of_getElem? (i := 163) rfl), lw_t1 (List.mem_of_getElem? (i := 169) rfl), lw_t1 (List.mem_of_getElem? (i := 170) rfl)⟩
theorem lw_p11 : lw_okq (⟨"FountainDecoderModel", "badSet", "(I)Z"⟩, 8) := ⟨⟨by decide +kernel, by decide +kernel⟩, lw_t1 (List.mem_of_getElem? (i := 163) rfl), lw_t1 (List.mem_of_getElem? (i := 207) rfl), lw_t1 (List.mem_of_getElem? (i := 208) rfl)⟩
theorem lw_p12 : lw_okq (⟨"FountainDecoderModel", "place", "(II)I"⟩, 8) := ⟨⟨by decide +kernel, by decide +kernel⟩, lw_t1 (List.mem_of_getElem? (i := 163) rfl), lw_t1 (List.mem_of_getElem? (i := 211) rfl), lw_t1 (List.mem_of_getElem? (i := 212) rfl)⟩
theorem lw_p13 : lw_okq (⟨"FountainDecoderModel", "solve", "(II)Z"⟩, 8) := ⟨⟨by decide +kernel, by decide +kernel⟩, lw_t1 (List.mem_of_getElem? (i := 163) rfl), lw_t1 (List.mem_of_getElem? (i := 237) rfl), lw_t1 (List.mem_of_getElem? (i := 238) rfl)⟩
theorem lw_p14 : lw_okq (⟨"FountainDecoderModel", "solves", "(III)Z"⟩, 8) := ⟨⟨by decide +kernel, by decide +kernel⟩, lw_t1 (List.mem_of_getElem? (i := 163) rfl), lw_t2 (List.mem_of_getElem? (i := 1) rfl), lw_t2 (List.mem_of_getElem? (i := 2) rfl)⟩
theorem lw_p15 : lw_okq (⟨"FountainDecoderModel", "spread", "(I)V"⟩, 8) := ⟨⟨by decide +kernel, by decide +kernel⟩, lw_t1 (List.mem_of_getElem? (i := 163) rfl), lw_t2 (List.mem_of_getElem? (i := 9) rfl), lw_t2 (List.mem_of_getElem? (i := 10) rfl)⟩
def lw_privs_1 : List (MethodName × Nat) := [(⟨"FountainDecoder", "put", "(II)V"⟩, 10), (⟨"FountainDecoder", "drawn", "(I)I"⟩, 10), (⟨"FountainDecoder", "reduceAll", "(I)V"⟩, 10), (⟨"FountainDecoder", "enter", "(II)V"⟩, 10), (⟨"FountainDecoder", "reduce", "(II)V"⟩, 10), (⟨"FountainDecoder", "knownNow", "()I"⟩, 10), (⟨"FountainDecoder", "settle", "(I)I"⟩, 10), (⟨"FountainDecoder", "isSet", "(I)Z"⟩, 10), (⟨"FountainDecoder", "peelFrom", "(I)I"⟩, 10), (⟨"FountainDecoder", "wouldHelp", "(II)Z"⟩, 10), (⟨"FountainDecoderModel", "members", "(I)I"⟩, 8), (⟨"FountainDecoderModel", "badSet", "(I)Z"⟩, 8), (⟨"FountainDecoderModel", "place", "(II)I"⟩, 8), (⟨"FountainDecoderModel", "solve", "(II)Z"⟩, 8), (⟨"FountainDecoderModel", "solves", "(III)Z"⟩, 8), (⟨"FountainDecoderModel", "spread", "(I)V"⟩, 8)]
theorem lw_r1 : ∀ q ∈ lw_privs_1, lw_okq q := List.forall_mem_cons.mpr ⟨lw_p0, List.forall_mem_cons.mpr ⟨lw_p1, List.forall_mem_cons.mpr ⟨lw_p2, List.forall_mem_cons.mpr ⟨lw_p3, List.forall_mem_cons.mpr ⟨lw_p4, List.forall_mem_cons.mpr ⟨lw_p5, List.forall_mem_cons.mpr ⟨lw_p6, List.forall_mem_cons.mpr ⟨lw_p7, List.forall_mem_cons.mpr ⟨lw_p8, List.forall_mem_cons.mpr ⟨lw_p9, List.forall_mem_cons.mpr ⟨lw_p10, List.forall_mem_cons.mpr ⟨lw_p11, List.forall_mem_cons.mpr ⟨lw_p12, List.forall_mem_cons.mpr ⟨lw_p13, List.forall_mem_cons.mpr ⟨lw_p14, List.forall_mem_cons.mpr ⟨lw_p15, fun _ h => absurd h List.not_mem_nil⟩⟩⟩⟩⟩⟩⟩⟩⟩⟩⟩⟩⟩⟩⟩⟩
theorem lw_p16 : lw_okq (⟨"FountainDecoderModel", "knownWithout", "(I)I"⟩, 8) := ⟨⟨by decide +kernel, by decide +kernel⟩, lw_t1 (List.mem_of_getElem? (i := 163) rfl), lw_t2 (List.mem_of_getElem? (i := 17) rfl), lw_t2 (List.mem_of_getElem? (i := 18) rfl)⟩
theorem lw_p17 : lw_okq (⟨"FountainDecoderModel", "peelFrom", "(I)I"⟩, 8) := ⟨⟨by decide +kernel, by decide +kernel⟩, lw_t1 (List.mem_of_getElem? (i := 163) rfl), lw_t2 (List.mem_of_getElem? (i := 34) rfl), lw_t2 (List.mem_of_getElem? (i := 35) rfl)⟩
theorem lw_p18 : lw_okq (⟨"FountainDecoderModel", "single", "(I)Z"⟩, 8) := ⟨⟨by decide +kernel, by decide +kernel⟩, lw_t1 (List.mem_of_getElem? (i := 163) rfl), lw_t2 (List.mem_of_getElem? (i := 38) rfl), lw_t2 (List.mem_of_getElem? (i := 39) rfl)⟩
theorem lw_p19 : lw_okq (⟨"FountainDecoderModel", "helps", "(II)Z"⟩, 8) := ⟨⟨by decide +kernel, by decide +kernel⟩, lw_t1 (List.mem_of_getElem? (i := 163) rfl), lw_t2 (List.mem_of_getElem? (i := 66) rfl), lw_t2 (List.mem_of_getElem? (i := 67) rfl)⟩
def lw_privs_2 : List (MethodName × Nat) := [(⟨"FountainDecoderModel", "knownWithout", "(I)I"⟩, 8), (⟨"FountainDecoderModel", "peelFrom", "(I)I"⟩, 8), (⟨"FountainDecoderModel", "single", "(I)Z"⟩, 8), (⟨"FountainDecoderModel", "helps", "(II)Z"⟩, 8)]
theorem lw_r2 : ∀ q ∈ lw_privs_2, lw_okq q := List.forall_mem_cons.mpr ⟨lw_p16, List.forall_mem_cons.mpr ⟨lw_p17, List.forall_mem_cons.mpr ⟨lw_p18, List.forall_mem_cons.mpr ⟨lw_p19, fun _ h => absurd h List.not_mem_nil⟩⟩⟩⟩
def lw_privs : List (MethodName × Nat) := lw_privs_1 ++ (lw_privs_2)
def lw_tbl : List Cond := k2_sels lw_privs ++ tables_1
theorem lw_privs_ok : ∀ q ∈ lw_privs, lw_okq q := by
  show ∀ q ∈ lw_privs_1 ++ (lw_privs_2), lw_okq q
  exact List.forall_mem_append.mpr ⟨lw_r1, lw_r2⟩
-- ===== ONE list of words for every method: the tables' words that hold all through a run =====
def lw_all : List Cond := lw_tbl.filter goodWord
/-- a word of the tables by its place: claim/WORDS.tsv -/
theorem lw_w {w : Cond} (i : Nat) (h : lw_tbl[i]? = some w) (g : goodWord w = true) : w ∈ lw_all := List.mem_filter.mpr ⟨List.mem_of_getElem? h, g⟩
theorem lw_all_tbl {w : Cond} (h : w ∈ lw_all) : w ∈ lw_tbl := (List.mem_filter.mp h).1
theorem lw_self : GoodIn lw_all lw_all := fun w h => ⟨h, good_of_word (List.mem_filter.mp h).2⟩
/-- a class's field words, by their places -/
theorem lw_in (ws : List Cond) (ps : List Nat) (hp : ws = ps.filterMap (fun i => lw_tbl[i]?)) (hg : ws.all goodWord = true) : ∀ w ∈ ws, w ∈ lw_all := by
  intro w h
  have h1 := List.all_eq_true.mp hg w h
  rw [hp] at h
  obtain ⟨i, -, hi⟩ := List.mem_filterMap.mp h
  exact lw_w i hi h1
/-- the words of a contract for the method y with code b, L locals, answer r -/
abbrev ws_ (y : MethodName) (b : ByteArray) (L : Nat) (r : Option FieldType) : List Cond := Cond.code y b L r :: lw_all
theorem lw_meth {y : MethodName} {b : ByteArray} {L : Nat} {r : Option FieldType} (h : Cond.code y b L r ∈ lw_all) : GoodIn lw_all (ws_ y b L r) := by
  intro w hw
  rcases List.mem_cons.mp hw with e | e
  · rw [e]
    exact lw_self _ h
  · exact lw_self _ e
theorem lw_app {a c : List Cond} (ha : ∀ w ∈ a, w ∈ lw_all) (hc : GoodIn lw_all c) : GoodIn lw_all (a ++ c) := by
  intro w hw
  rcases List.mem_append.mp hw with e | e
  · exact lw_self w (ha w e)
  · exact hc w e
/-- what a call through an object asks: cwV n hts (lw_V ..) -/
theorem lw_V {own : String} {idx : Nat} {C : String} {y : MethodName} {b : ByteArray} {L : Nat} {r : Option FieldType} (h1 : Cond.methodLink own idx y ∈ lw_all) (h2 : Cond.instanceMethod y ∈ lw_all) (h3 : Cond.selects C y y ∈ lw_all) (h4 : Cond.initialized C ∈ lw_all) (h5 : Cond.code y b L r ∈ lw_all) : GoodIn lw_all (wsV own idx C y (ws_ y b L r)) := by
  refine lw_app ?_ (lw_meth h5)
  intro w hw
  simp only [List.mem_cons, List.not_mem_nil, or_false] at hw
  rcases hw with e | e | e | e
  · rw [e]; exact h1
  · rw [e]; exact h2
  · rw [e]; exact h3
  · rw [e]; exact h4
/-- what a static call asks: va_cwS n hts (lw_S ..) -/
theorem lw_S {own : String} {idx : Nat} {y : MethodName} {b : ByteArray} {L : Nat} {r : Option FieldType} (h1 : Cond.methodLink own idx y ∈ lw_all) (h2 : Cond.static y ∈ lw_all) (h3 : Cond.initialized y.cls ∈ lw_all) (h4 : Cond.code y b L r ∈ lw_all) : GoodIn lw_all (va_wsS own idx y (ws_ y b L r)) := by
  refine lw_app ?_ (lw_meth h4)
  intro w hw
  simp only [List.mem_cons, List.not_mem_nil, or_false] at hw
  rcases hw with e | e | e
  · rw [e]; exact h1
  · rw [e]; exact h2
  · rw [e]; exact h3
/-- the words of a contract for a method WITH HANDLERS (hh: its table) -/
abbrev wsW_ (y : MethodName) (b : ByteArray) (L : Nat) (r : Option FieldType) (hh : List (Nat × Nat × Nat × Nat)) : List Cond := Cond.codeWith y b L r hh :: lw_all
theorem lw_methW {y : MethodName} {b : ByteArray} {L : Nat} {r : Option FieldType} {hh : List (Nat × Nat × Nat × Nat)} (h : Cond.codeWith y b L r hh ∈ lw_all) : GoodIn lw_all (wsW_ y b L r hh) := by
  intro w hw
  rcases List.mem_cons.mp hw with e | e
  · rw [e]
    exact lw_self _ h
  · exact lw_self _ e
/-- any list of words by their places (lw_in), good -/
theorem lw_good {ws : List Cond} (h : ∀ w ∈ ws, w ∈ lw_all) : GoodIn lw_all ws := fun w hw => lw_self w (h w hw)
/-- what a call of a method with handlers asks: vx_cwVW n hts (lw_VW ..), vx_cwSW n hts (lw_SW ..) -/
theorem lw_VW {own : String} {idx : Nat} {C : String} {y : MethodName} {b : ByteArray} {L : Nat} {r : Option FieldType} {hh : List (Nat × Nat × Nat × Nat)} (h1 : Cond.methodLink own idx y ∈ lw_all) (h2 : Cond.instanceMethod y ∈ lw_all) (h3 : Cond.selects C y y ∈ lw_all) (h4 : Cond.initialized C ∈ lw_all) (h5 : Cond.codeWith y b L r hh ∈ lw_all) : GoodIn lw_all (wsV own idx C y (wsW_ y b L r hh)) := by
  refine lw_app ?_ (lw_methW h5)
  intro w hw
  simp only [List.mem_cons, List.not_mem_nil, or_false] at hw
  rcases hw with e | e | e | e
  · rw [e]; exact h1
  · rw [e]; exact h2
  · rw [e]; exact h3
  · rw [e]; exact h4
theorem lw_SW {own : String} {idx : Nat} {y : MethodName} {b : ByteArray} {L : Nat} {r : Option FieldType} {hh : List (Nat × Nat × Nat × Nat)} (h1 : Cond.methodLink own idx y ∈ lw_all) (h2 : Cond.static y ∈ lw_all) (h3 : Cond.initialized y.cls ∈ lw_all) (h4 : Cond.codeWith y b L r hh ∈ lw_all) : GoodIn lw_all (va_wsS own idx y (wsW_ y b L r hh)) := by
  refine lw_app ?_ (lw_methW h4)
  intro w hw
  simp only [List.mem_cons, List.not_mem_nil, or_false] at hw
  rcases hw with e | e | e
  · rw [e]; exact h1
  · rw [e]; exact h2
  · rw [e]; exact h3
/-- a word by its place in its run of the tables -/
theorem lw_at {r : List Cond} (hr : ∀ w ∈ r, w ∈ lw_tbl) {w : Cond} (i : Nat) (h : r[i]? = some w) : w ∈ lw_tbl := hr w (List.mem_of_getElem? h)
theorem lw_g {w : Cond} (h : w ∈ lw_tbl) (g : goodWord w = true) : w ∈ lw_all := List.mem_filter.mpr ⟨h, g⟩
theorem lw_ms : ∀ w ∈ k2_sels lw_privs, w ∈ lw_tbl := fun w h => show w ∈ k2_sels lw_privs ++ tables_1 from List.mem_append_left _ h
theorem lw_m1 : ∀ w ∈ tables_1_1, w ∈ lw_tbl := fun w h => show w ∈ k2_sels lw_privs ++ tables_1 from List.mem_append_right (k2_sels lw_privs) (show w ∈ tables_1 from List.mem_append_left _ h)
theorem lw_m2 : ∀ w ∈ tables_1_2, w ∈ lw_tbl := fun w h => show w ∈ k2_sels lw_privs ++ tables_1 from List.mem_append_right (k2_sels lw_privs) (show w ∈ tables_1 from List.mem_append_right _ h)
theorem qs0 : (Cond.selects "FountainDecoder" ⟨"FountainDecoder", "put", "(II)V"⟩ ⟨"FountainDecoder", "put", "(II)V"⟩) ∈ lw_all := lw_g (lw_at lw_ms 0 rfl) rfl
theorem qs1 : (Cond.selects "FountainDecoder" ⟨"FountainDecoder", "drawn", "(I)I"⟩ ⟨"FountainDecoder", "drawn", "(I)I"⟩) ∈ lw_all := lw_g (lw_at lw_ms 1 rfl) rfl
theorem qs2 : (Cond.selects "FountainDecoder" ⟨"FountainDecoder", "reduceAll", "(I)V"⟩ ⟨"FountainDecoder", "reduceAll", "(I)V"⟩) ∈ lw_all := lw_g (lw_at lw_ms 2 rfl) rfl
theorem qs3 : (Cond.selects "FountainDecoder" ⟨"FountainDecoder", "enter", "(II)V"⟩ ⟨"FountainDecoder", "enter", "(II)V"⟩) ∈ lw_all := lw_g (lw_at lw_ms 3 rfl) rfl
theorem qs4 : (Cond.selects "FountainDecoder" ⟨"FountainDecoder", "reduce", "(II)V"⟩ ⟨"FountainDecoder", "reduce", "(II)V"⟩) ∈ lw_all := lw_g (lw_at lw_ms 4 rfl) rfl
theorem qs5 : (Cond.selects "FountainDecoder" ⟨"FountainDecoder", "knownNow", "()I"⟩ ⟨"FountainDecoder", "knownNow", "()I"⟩) ∈ lw_all := lw_g (lw_at lw_ms 5 rfl) rfl
theorem qs6 : (Cond.selects "FountainDecoder" ⟨"FountainDecoder", "settle", "(I)I"⟩ ⟨"FountainDecoder", "settle", "(I)I"⟩) ∈ lw_all := lw_g (lw_at lw_ms 6 rfl) rfl
theorem qs7 : (Cond.selects "FountainDecoder" ⟨"FountainDecoder", "isSet", "(I)Z"⟩ ⟨"FountainDecoder", "isSet", "(I)Z"⟩) ∈ lw_all := lw_g (lw_at lw_ms 7 rfl) rfl
theorem qs8 : (Cond.selects "FountainDecoder" ⟨"FountainDecoder", "peelFrom", "(I)I"⟩ ⟨"FountainDecoder", "peelFrom", "(I)I"⟩) ∈ lw_all := lw_g (lw_at lw_ms 8 rfl) rfl
theorem qs9 : (Cond.selects "FountainDecoder" ⟨"FountainDecoder", "wouldHelp", "(II)Z"⟩ ⟨"FountainDecoder", "wouldHelp", "(II)Z"⟩) ∈ lw_all := lw_g (lw_at lw_ms 9 rfl) rfl
theorem qs10 : (Cond.selects "FountainDecoderModel" ⟨"FountainDecoderModel", "members", "(I)I"⟩ ⟨"FountainDecoderModel", "members", "(I)I"⟩) ∈ lw_all := lw_g (lw_at lw_ms 10 rfl) rfl
theorem qs11 : (Cond.selects "FountainDecoderModel" ⟨"FountainDecoderModel", "badSet", "(I)Z"⟩ ⟨"FountainDecoderModel", "badSet", "(I)Z"⟩) ∈ lw_all := lw_g (lw_at lw_ms 11 rfl) rfl
theorem qs12 : (Cond.selects "FountainDecoderModel" ⟨"FountainDecoderModel", "place", "(II)I"⟩ ⟨"FountainDecoderModel", "place", "(II)I"⟩) ∈ lw_all := lw_g (lw_at lw_ms 12 rfl) rfl
theorem qs13 : (Cond.selects "FountainDecoderModel" ⟨"FountainDecoderModel", "solve", "(II)Z"⟩ ⟨"FountainDecoderModel", "solve", "(II)Z"⟩) ∈ lw_all := lw_g (lw_at lw_ms 13 rfl) rfl
theorem qs14 : (Cond.selects "FountainDecoderModel" ⟨"FountainDecoderModel", "solves", "(III)Z"⟩ ⟨"FountainDecoderModel", "solves", "(III)Z"⟩) ∈ lw_all := lw_g (lw_at lw_ms 14 rfl) rfl
theorem qs15 : (Cond.selects "FountainDecoderModel" ⟨"FountainDecoderModel", "spread", "(I)V"⟩ ⟨"FountainDecoderModel", "spread", "(I)V"⟩) ∈ lw_all := lw_g (lw_at lw_ms 15 rfl) rfl
theorem qs16 : (Cond.selects "FountainDecoderModel" ⟨"FountainDecoderModel", "knownWithout", "(I)I"⟩ ⟨"FountainDecoderModel", "knownWithout", "(I)I"⟩) ∈ lw_all := lw_g (lw_at lw_ms 16 rfl) rfl
theorem qs17 : (Cond.selects "FountainDecoderModel" ⟨"FountainDecoderModel", "peelFrom", "(I)I"⟩ ⟨"FountainDecoderModel", "peelFrom", "(I)I"⟩) ∈ lw_all := lw_g (lw_at lw_ms 17 rfl) rfl
theorem qs18 : (Cond.selects "FountainDecoderModel" ⟨"FountainDecoderModel", "single", "(I)Z"⟩ ⟨"FountainDecoderModel", "single", "(I)Z"⟩) ∈ lw_all := lw_g (lw_at lw_ms 18 rfl) rfl
theorem qs19 : (Cond.selects "FountainDecoderModel" ⟨"FountainDecoderModel", "helps", "(II)Z"⟩ ⟨"FountainDecoderModel", "helps", "(II)Z"⟩) ∈ lw_all := lw_g (lw_at lw_ms 19 rfl) rfl
end
section
/-! java/lang/Object -/
set_option maxRecDepth 100000
def RJ0 : String := "java/lang/Object"
abbrev cJ0_init : ByteArray := object_method_1_code
def yJ0_init : MethodName := ⟨RJ0, "<init>", "()V"⟩
theorem dJ0_init_0 : decode cJ0_init 0 = .ok (.return_, 1) := by decide +kernel
theorem q29 : (Jvm.Cond.instanceMethod ({ cls := "java/lang/Object", name := "<init>", desc := "()V" } : Jvm.MethodName)) ∈ lw_all := lw_g (lw_at lw_m1 9 rfl) rfl
theorem q30 : (Jvm.Cond.code ({ cls := "java/lang/Object", name := "<init>", desc := "()V" } : Jvm.MethodName) object_method_1_code (1 : Nat) (Option.none : Option Jvm.ClassFile.FieldType)) ∈ lw_all := lw_g (lw_at lw_m1 10 rfl) rfl
theorem q62 : (Jvm.Cond.arrayClass Jvm.ClassFile.FieldType.int) ∈ lw_all := lw_g (lw_at lw_m1 42 rfl) rfl
set_option maxRecDepth 100000
theorem q217 : (Jvm.Cond.arrayClass Jvm.ClassFile.FieldType.boolean) ∈ lw_all := lw_g (lw_at lw_m1 197 rfl) rfl
/-! FountainDecoderLaw -/
set_option maxRecDepth 100000
def RX0 : String := "FountainDecoderLaw"
abbrev cX0_cell : ByteArray := method_2_code
def yX0_cell : MethodName := ⟨RX0, "cell", "([II)I"⟩
theorem dX0_cell_0 : decode cX0_cell 0 = .ok (.iload_n 1, 1) := by decide +kernel
theorem dX0_cell_1 : decode cX0_cell 1 = .ok (.aload_n 0, 1) := by decide +kernel
theorem dX0_cell_2 : decode cX0_cell 2 = .ok (.arraylength, 1) := by decide +kernel
theorem dX0_cell_3 : decode cX0_cell 3 = .ok (.if_icmp .ge 9, 3) := by decide +kernel
theorem dX0_cell_6 : decode cX0_cell 6 = .ok (.aload_n 0, 1) := by decide +kernel
theorem dX0_cell_7 : decode cX0_cell 7 = .ok (.iload_n 1, 1) := by decide +kernel
theorem dX0_cell_8 : decode cX0_cell 8 = .ok (.iaload, 1) := by decide +kernel
theorem dX0_cell_9 : decode cX0_cell 9 = .ok (.goto 4, 3) := by decide +kernel
theorem dX0_cell_12 : decode cX0_cell 12 = .ok (.iconst 0, 1) := by decide +kernel
theorem dX0_cell_13 : decode cX0_cell 13 = .ok (.ireturn, 1) := by decide +kernel
theorem q20 : (Jvm.Cond.initialized "FountainDecoderLaw") ∈ lw_all := lw_g (lw_at lw_m1 0 rfl) rfl
theorem q23 : (Jvm.Cond.classLink "FountainDecoderLaw" (7 : Nat) "FountainDecoder") ∈ lw_all := lw_g (lw_at lw_m1 3 rfl) rfl
theorem q25 : (Jvm.Cond.methodLink "FountainDecoderLaw" (15 : Nat) ({ cls := "FountainDecoder", name := "<init>", desc := "(I)V" } : Jvm.MethodName)) ∈ lw_all := lw_g (lw_at lw_m1 5 rfl) rfl
theorem q63 : (Jvm.Cond.methodLink "FountainDecoderLaw" (21 : Nat) ({ cls := "FountainDecoder", name := "blocks", desc := "()I" } : Jvm.MethodName)) ∈ lw_all := lw_g (lw_at lw_m1 43 rfl) rfl
theorem q67 : (Jvm.Cond.methodLink "FountainDecoderLaw" (26 : Nat) ({ cls := "FountainDecoder", name := "receive", desc := "(II)I" } : Jvm.MethodName)) ∈ lw_all := lw_g (lw_at lw_m1 47 rfl) rfl
theorem q75 : (Jvm.Cond.methodLink "FountainDecoderLaw" (31 : Nat) ({ cls := "FountainDecoder", name := "draw", desc := "(II)I" } : Jvm.MethodName)) ∈ lw_all := lw_g (lw_at lw_m1 55 rfl) rfl
theorem q84 : (Jvm.Cond.methodLink "FountainDecoderLaw" (35 : Nat) ({ cls := "FountainDecoder", name := "lose", desc := "(I)I" } : Jvm.MethodName)) ∈ lw_all := lw_g (lw_at lw_m1 64 rfl) rfl
theorem q88 : (Jvm.Cond.methodLink "FountainDecoderLaw" (40 : Nat) ({ cls := "FountainDecoder", name := "setOf", desc := "(I)I" } : Jvm.MethodName)) ∈ lw_all := lw_g (lw_at lw_m1 68 rfl) rfl
theorem q92 : (Jvm.Cond.methodLink "FountainDecoderLaw" (44 : Nat) ({ cls := "FountainDecoder", name := "symbols", desc := "()I" } : Jvm.MethodName)) ∈ lw_all := lw_g (lw_at lw_m1 72 rfl) rfl
theorem q96 : (Jvm.Cond.methodLink "FountainDecoderLaw" (48 : Nat) ({ cls := "FountainDecoder", name := "consistent", desc := "()I" } : Jvm.MethodName)) ∈ lw_all := lw_g (lw_at lw_m1 76 rfl) rfl
theorem q115 : (Jvm.Cond.methodLink "FountainDecoderLaw" (52 : Nat) ({ cls := "FountainDecoder", name := "rank", desc := "()I" } : Jvm.MethodName)) ∈ lw_all := lw_g (lw_at lw_m1 95 rfl) rfl
theorem q119 : (Jvm.Cond.methodLink "FountainDecoderLaw" (56 : Nat) ({ cls := "FountainDecoder", name := "known", desc := "()I" } : Jvm.MethodName)) ∈ lw_all := lw_g (lw_at lw_m1 99 rfl) rfl
theorem q127 : (Jvm.Cond.methodLink "FountainDecoderLaw" (60 : Nat) ({ cls := "FountainDecoder", name := "value", desc := "(I)I" } : Jvm.MethodName)) ∈ lw_all := lw_g (lw_at lw_m1 107 rfl) rfl
theorem q135 : (Jvm.Cond.methodLink "FountainDecoderLaw" (64 : Nat) ({ cls := "FountainDecoder", name := "sumOf", desc := "(I)I" } : Jvm.MethodName)) ∈ lw_all := lw_g (lw_at lw_m1 115 rfl) rfl
theorem q143 : (Jvm.Cond.methodLink "FountainDecoderLaw" (68 : Nat) ({ cls := "FountainDecoder", name := "peeled", desc := "()I" } : Jvm.MethodName)) ∈ lw_all := lw_g (lw_at lw_m1 123 rfl) rfl
theorem q151 : (Jvm.Cond.methodLink "FountainDecoderLaw" (72 : Nat) ({ cls := "FountainDecoder", name := "isSeed", desc := "(I)I" } : Jvm.MethodName)) ∈ lw_all := lw_g (lw_at lw_m1 131 rfl) rfl
theorem q155 : (Jvm.Cond.methodLink "FountainDecoderLaw" (76 : Nat) ({ cls := "FountainDecoder", name := "seedSize", desc := "()I" } : Jvm.MethodName)) ∈ lw_all := lw_g (lw_at lw_m1 135 rfl) rfl
theorem q166 : (Jvm.Cond.methodLink "FountainDecoderLaw" (80 : Nat) ({ cls := "FountainDecoder", name := "seed", desc := "()I" } : Jvm.MethodName)) ∈ lw_all := lw_g (lw_at lw_m1 146 rfl) rfl
theorem q167 : (Jvm.Cond.methodLink "FountainDecoderLaw" (84 : Nat) ({ cls := "FountainDecoder", name := "spare", desc := "()I" } : Jvm.MethodName)) ∈ lw_all := lw_g (lw_at lw_m1 147 rfl) rfl
theorem q171 : (Jvm.Cond.methodLink "FountainDecoderLaw" (88 : Nat) ({ cls := "FountainDecoder", name := "useful", desc := "()I" } : Jvm.MethodName)) ∈ lw_all := lw_g (lw_at lw_m1 151 rfl) rfl
theorem q179 : (Jvm.Cond.methodLink "FountainDecoderLaw" (9 : Nat) ({ cls := "FountainDecoderLaw", name := "cell", desc := "([II)I" } : Jvm.MethodName)) ∈ lw_all := lw_g (lw_at lw_m1 159 rfl) rfl
theorem q180 : (Jvm.Cond.static ({ cls := "FountainDecoderLaw", name := "cell", desc := "([II)I" } : Jvm.MethodName)) ∈ lw_all := lw_g (lw_at lw_m1 160 rfl) rfl
theorem q181 : (Jvm.Cond.code ({ cls := "FountainDecoderLaw", name := "cell", desc := "([II)I" } : Jvm.MethodName) method_2_code (2 : Nat) (Option.some Jvm.ClassFile.FieldType.int)) ∈ lw_all := lw_g (lw_at lw_m1 161 rfl) rfl
theorem q182 : (Jvm.Cond.classLink "FountainDecoderLaw" (18 : Nat) "FountainDecoderModel") ∈ lw_all := lw_g (lw_at lw_m1 162 rfl) rfl
theorem q184 : (Jvm.Cond.methodLink "FountainDecoderLaw" (20 : Nat) ({ cls := "FountainDecoderModel", name := "<init>", desc := "(I)V" } : Jvm.MethodName)) ∈ lw_all := lw_g (lw_at lw_m1 164 rfl) rfl
theorem q218 : (Jvm.Cond.methodLink "FountainDecoderLaw" (25 : Nat) ({ cls := "FountainDecoderModel", name := "blocks", desc := "()I" } : Jvm.MethodName)) ∈ lw_all := lw_g (lw_at lw_m1 198 rfl) rfl
theorem q222 : (Jvm.Cond.methodLink "FountainDecoderLaw" (30 : Nat) ({ cls := "FountainDecoderModel", name := "receive", desc := "(II)I" } : Jvm.MethodName)) ∈ lw_all := lw_g (lw_at lw_m1 202 rfl) rfl
theorem q234 : (Jvm.Cond.methodLink "FountainDecoderLaw" (34 : Nat) ({ cls := "FountainDecoderModel", name := "draw", desc := "(II)I" } : Jvm.MethodName)) ∈ lw_all := lw_g (lw_at lw_m1 214 rfl) rfl
theorem q243 : (Jvm.Cond.methodLink "FountainDecoderLaw" (39 : Nat) ({ cls := "FountainDecoderModel", name := "lose", desc := "(I)I" } : Jvm.MethodName)) ∈ lw_all := lw_g (lw_at lw_m1 223 rfl) rfl
theorem q247 : (Jvm.Cond.methodLink "FountainDecoderLaw" (43 : Nat) ({ cls := "FountainDecoderModel", name := "setOf", desc := "(I)I" } : Jvm.MethodName)) ∈ lw_all := lw_g (lw_at lw_m1 227 rfl) rfl
theorem q248 : (Jvm.Cond.methodLink "FountainDecoderLaw" (47 : Nat) ({ cls := "FountainDecoderModel", name := "symbols", desc := "()I" } : Jvm.MethodName)) ∈ lw_all := lw_g (lw_at lw_m1 228 rfl) rfl
theorem q252 : (Jvm.Cond.methodLink "FountainDecoderLaw" (51 : Nat) ({ cls := "FountainDecoderModel", name := "consistent", desc := "()I" } : Jvm.MethodName)) ∈ lw_all := lw_g (lw_at lw_m1 232 rfl) rfl
theorem q264 : (Jvm.Cond.methodLink "FountainDecoderLaw" (55 : Nat) ({ cls := "FountainDecoderModel", name := "rank", desc := "()I" } : Jvm.MethodName)) ∈ lw_all := lw_g (lw_at lw_m2 4 rfl) rfl
theorem q272 : (Jvm.Cond.methodLink "FountainDecoderLaw" (59 : Nat) ({ cls := "FountainDecoderModel", name := "known", desc := "()I" } : Jvm.MethodName)) ∈ lw_all := lw_g (lw_at lw_m2 12 rfl) rfl
theorem q280 : (Jvm.Cond.methodLink "FountainDecoderLaw" (63 : Nat) ({ cls := "FountainDecoderModel", name := "value", desc := "(I)I" } : Jvm.MethodName)) ∈ lw_all := lw_g (lw_at lw_m2 20 rfl) rfl
theorem q288 : (Jvm.Cond.methodLink "FountainDecoderLaw" (67 : Nat) ({ cls := "FountainDecoderModel", name := "sumOf", desc := "(I)I" } : Jvm.MethodName)) ∈ lw_all := lw_g (lw_at lw_m2 28 rfl) rfl
theorem q289 : (Jvm.Cond.methodLink "FountainDecoderLaw" (71 : Nat) ({ cls := "FountainDecoderModel", name := "peeled", desc := "()I" } : Jvm.MethodName)) ∈ lw_all := lw_g (lw_at lw_m2 29 rfl) rfl
theorem q301 : (Jvm.Cond.methodLink "FountainDecoderLaw" (75 : Nat) ({ cls := "FountainDecoderModel", name := "isSeed", desc := "(I)I" } : Jvm.MethodName)) ∈ lw_all := lw_g (lw_at lw_m2 41 rfl) rfl
theorem q305 : (Jvm.Cond.methodLink "FountainDecoderLaw" (79 : Nat) ({ cls := "FountainDecoderModel", name := "seedSize", desc := "()I" } : Jvm.MethodName)) ∈ lw_all := lw_g (lw_at lw_m2 45 rfl) rfl
theorem q314 : (Jvm.Cond.methodLink "FountainDecoderLaw" (83 : Nat) ({ cls := "FountainDecoderModel", name := "seed", desc := "()I" } : Jvm.MethodName)) ∈ lw_all := lw_g (lw_at lw_m2 54 rfl) rfl
theorem q315 : (Jvm.Cond.methodLink "FountainDecoderLaw" (87 : Nat) ({ cls := "FountainDecoderModel", name := "spare", desc := "()I" } : Jvm.MethodName)) ∈ lw_all := lw_g (lw_at lw_m2 55 rfl) rfl
theorem q320 : (Jvm.Cond.methodLink "FountainDecoderLaw" (91 : Nat) ({ cls := "FountainDecoderModel", name := "useful", desc := "()I" } : Jvm.MethodName)) ∈ lw_all := lw_g (lw_at lw_m2 60 rfl) rfl
end
section
/-! FountainDecoder -/
set_option maxRecDepth 100000
def RX1 : String := "FountainDecoder"
def TX1 : u_T := fun k => match k with
  | 0 => ("FountainDecoder", "sets", "[I", true)
  | 1 => ("FountainDecoder", "values", "[I", true)
  | 2 => ("FountainDecoder", "rowSet", "[I", true)
  | 3 => ("FountainDecoder", "rowValue", "[I", true)
  | 4 => ("FountainDecoder", "n", "I", false)
  | 5 => ("FountainDecoder", "count", "I", false)
  | 6 => ("FountainDecoder", "rows", "I", false)
  | 7 => ("FountainDecoder", "sound", "Z", false)
  | 8 => ("FountainDecoder", "left", "I", false)
  | _ => ("FountainDecoder", "leftValue", "I", false)
def tyX1 : Nat → FieldType := fun k => match k with
  | 0 => .array .int
  | 1 => .array .int
  | 2 => .array .int
  | 3 => .array .int
  | 4 => .int
  | 5 => .int
  | 6 => .int
  | 7 => .boolean
  | 8 => .int
  | _ => .int
abbrev wsX10 : List Cond := u_ws RX1 TX1 10
theorem nmX1 : ∀ a, a < 10 → ∀ b, b < 10 → a ≠ b → (TX1 a).2.1 ≠ (TX1 b).2.1 := by decide +kernel
theorem tyX1_ok : ∀ k, k < 10 → parseFieldDescriptor (TX1 k).2.2.1 = some (tyX1 k) := by decide +kernel
abbrev cX1_init : ByteArray := prog_1_method_1_code
def yX1_init : MethodName := ⟨RX1, "<init>", "(I)V"⟩
theorem dX1_init_0 : decode cX1_init 0 = .ok (.aload_n 0, 1) := by decide +kernel
theorem dX1_init_1 : decode cX1_init 1 = .ok (.invokespecial 1, 3) := by decide +kernel
theorem dX1_init_4 : decode cX1_init 4 = .ok (.aload_n 0, 1) := by decide +kernel
theorem dX1_init_5 : decode cX1_init 5 = .ok (.bipush 16, 2) := by decide +kernel
theorem dX1_init_7 : decode cX1_init 7 = .ok (.newarray .int, 2) := by decide +kernel
theorem dX1_init_9 : decode cX1_init 9 = .ok (.putfield 7, 3) := by decide +kernel
theorem dX1_init_12 : decode cX1_init 12 = .ok (.aload_n 0, 1) := by decide +kernel
theorem dX1_init_13 : decode cX1_init 13 = .ok (.bipush 16, 2) := by decide +kernel
theorem dX1_init_15 : decode cX1_init 15 = .ok (.newarray .int, 2) := by decide +kernel
theorem dX1_init_17 : decode cX1_init 17 = .ok (.putfield 13, 3) := by decide +kernel
theorem dX1_init_20 : decode cX1_init 20 = .ok (.aload_n 0, 1) := by decide +kernel
theorem dX1_init_21 : decode cX1_init 21 = .ok (.bipush 8, 2) := by decide +kernel
theorem dX1_init_23 : decode cX1_init 23 = .ok (.newarray .int, 2) := by decide +kernel
theorem dX1_init_25 : decode cX1_init 25 = .ok (.putfield 16, 3) := by decide +kernel
theorem dX1_init_28 : decode cX1_init 28 = .ok (.aload_n 0, 1) := by decide +kernel
theorem dX1_init_29 : decode cX1_init 29 = .ok (.bipush 8, 2) := by decide +kernel
theorem dX1_init_31 : decode cX1_init 31 = .ok (.newarray .int, 2) := by decide +kernel
theorem dX1_init_33 : decode cX1_init 33 = .ok (.putfield 19, 3) := by decide +kernel
theorem dX1_init_36 : decode cX1_init 36 = .ok (.aload_n 0, 1) := by decide +kernel
theorem dX1_init_37 : decode cX1_init 37 = .ok (.iload_n 1, 1) := by decide +kernel
theorem dX1_init_38 : decode cX1_init 38 = .ok (.iconst 1, 1) := by decide +kernel
theorem dX1_init_39 : decode cX1_init 39 = .ok (.if_icmp .ge 7, 3) := by decide +kernel
theorem dX1_init_42 : decode cX1_init 42 = .ok (.iconst 1, 1) := by decide +kernel
theorem dX1_init_43 : decode cX1_init 43 = .ok (.goto 4, 3) := by decide +kernel
theorem dX1_init_46 : decode cX1_init 46 = .ok (.iload_n 1, 1) := by decide +kernel
theorem dX1_init_47 : decode cX1_init 47 = .ok (.putfield 22, 3) := by decide +kernel
theorem dX1_init_50 : decode cX1_init 50 = .ok (.aload_n 0, 1) := by decide +kernel
theorem dX1_init_51 : decode cX1_init 51 = .ok (.getfield 22, 3) := by decide +kernel
theorem dX1_init_54 : decode cX1_init 54 = .ok (.bipush 8, 2) := by decide +kernel
theorem dX1_init_56 : decode cX1_init 56 = .ok (.if_icmp .le 9, 3) := by decide +kernel
theorem dX1_init_59 : decode cX1_init 59 = .ok (.aload_n 0, 1) := by decide +kernel
theorem dX1_init_60 : decode cX1_init 60 = .ok (.bipush 8, 2) := by decide +kernel
theorem dX1_init_62 : decode cX1_init 62 = .ok (.putfield 22, 3) := by decide +kernel
theorem dX1_init_65 : decode cX1_init 65 = .ok (.return_, 1) := by decide +kernel
abbrev cX1_blocks : ByteArray := prog_1_method_2_code
def yX1_blocks : MethodName := ⟨RX1, "blocks", "()I"⟩
theorem dX1_blocks_0 : decode cX1_blocks 0 = .ok (.aload_n 0, 1) := by decide +kernel
theorem dX1_blocks_1 : decode cX1_blocks 1 = .ok (.getfield 22, 3) := by decide +kernel
theorem dX1_blocks_4 : decode cX1_blocks 4 = .ok (.ireturn, 1) := by decide +kernel
abbrev cX1_receive : ByteArray := prog_1_method_3_code
def yX1_receive : MethodName := ⟨RX1, "receive", "(II)I"⟩
theorem dX1_receive_0 : decode cX1_receive 0 = .ok (.iload_n 1, 1) := by decide +kernel
theorem dX1_receive_1 : decode cX1_receive 1 = .ok (.iconst 1, 1) := by decide +kernel
theorem dX1_receive_2 : decode cX1_receive 2 = .ok (.if_icmp .lt 13, 3) := by decide +kernel
theorem dX1_receive_5 : decode cX1_receive 5 = .ok (.iload_n 1, 1) := by decide +kernel
theorem dX1_receive_6 : decode cX1_receive 6 = .ok (.iconst 1, 1) := by decide +kernel
theorem dX1_receive_7 : decode cX1_receive 7 = .ok (.aload_n 0, 1) := by decide +kernel
theorem dX1_receive_8 : decode cX1_receive 8 = .ok (.getfield 22, 3) := by decide +kernel
theorem dX1_receive_11 : decode cX1_receive 11 = .ok (.ishl, 1) := by decide +kernel
theorem dX1_receive_12 : decode cX1_receive 12 = .ok (.if_icmp .lt 5, 3) := by decide +kernel
theorem dX1_receive_15 : decode cX1_receive 15 = .ok (.iconst (-1), 1) := by decide +kernel
theorem dX1_receive_16 : decode cX1_receive 16 = .ok (.ireturn, 1) := by decide +kernel
theorem dX1_receive_17 : decode cX1_receive 17 = .ok (.iload_n 2, 1) := by decide +kernel
theorem dX1_receive_18 : decode cX1_receive 18 = .ok (.ifCond .lt 10, 3) := by decide +kernel
theorem dX1_receive_21 : decode cX1_receive 21 = .ok (.iload_n 2, 1) := by decide +kernel
theorem dX1_receive_22 : decode cX1_receive 22 = .ok (.sipush 255, 3) := by decide +kernel
theorem dX1_receive_25 : decode cX1_receive 25 = .ok (.if_icmp .le 6, 3) := by decide +kernel
theorem dX1_receive_28 : decode cX1_receive 28 = .ok (.bipush (-2), 2) := by decide +kernel
theorem dX1_receive_30 : decode cX1_receive 30 = .ok (.ireturn, 1) := by decide +kernel
theorem dX1_receive_31 : decode cX1_receive 31 = .ok (.aload_n 0, 1) := by decide +kernel
theorem dX1_receive_32 : decode cX1_receive 32 = .ok (.getfield 26, 3) := by decide +kernel
theorem dX1_receive_35 : decode cX1_receive 35 = .ok (.bipush 16, 2) := by decide +kernel
theorem dX1_receive_37 : decode cX1_receive 37 = .ok (.if_icmp .ne 6, 3) := by decide +kernel
theorem dX1_receive_40 : decode cX1_receive 40 = .ok (.bipush (-3), 2) := by decide +kernel
theorem dX1_receive_42 : decode cX1_receive 42 = .ok (.ireturn, 1) := by decide +kernel
theorem dX1_receive_43 : decode cX1_receive 43 = .ok (.aload_n 0, 1) := by decide +kernel
theorem dX1_receive_44 : decode cX1_receive 44 = .ok (.iload_n 1, 1) := by decide +kernel
theorem dX1_receive_45 : decode cX1_receive 45 = .ok (.iload_n 2, 1) := by decide +kernel
theorem dX1_receive_46 : decode cX1_receive 46 = .ok (.invokevirtual 29, 3) := by decide +kernel
theorem dX1_receive_49 : decode cX1_receive 49 = .ok (.aload_n 0, 1) := by decide +kernel
theorem dX1_receive_50 : decode cX1_receive 50 = .ok (.getfield 26, 3) := by decide +kernel
theorem dX1_receive_53 : decode cX1_receive 53 = .ok (.iconst 1, 1) := by decide +kernel
theorem dX1_receive_54 : decode cX1_receive 54 = .ok (.isub, 1) := by decide +kernel
theorem dX1_receive_55 : decode cX1_receive 55 = .ok (.ireturn, 1) := by decide +kernel
abbrev cX1_put : ByteArray := prog_1_method_22_code
def yX1_put : MethodName := ⟨RX1, "put", "(II)V"⟩
theorem dX1_put_0 : decode cX1_put 0 = .ok (.aload_n 0, 1) := by decide +kernel
theorem dX1_put_1 : decode cX1_put 1 = .ok (.getfield 7, 3) := by decide +kernel
theorem dX1_put_4 : decode cX1_put 4 = .ok (.aload_n 0, 1) := by decide +kernel
theorem dX1_put_5 : decode cX1_put 5 = .ok (.getfield 26, 3) := by decide +kernel
theorem dX1_put_8 : decode cX1_put 8 = .ok (.iload_n 1, 1) := by decide +kernel
theorem dX1_put_9 : decode cX1_put 9 = .ok (.iastore, 1) := by decide +kernel
theorem dX1_put_10 : decode cX1_put 10 = .ok (.aload_n 0, 1) := by decide +kernel
theorem dX1_put_11 : decode cX1_put 11 = .ok (.getfield 13, 3) := by decide +kernel
theorem dX1_put_14 : decode cX1_put 14 = .ok (.aload_n 0, 1) := by decide +kernel
theorem dX1_put_15 : decode cX1_put 15 = .ok (.getfield 26, 3) := by decide +kernel
theorem dX1_put_18 : decode cX1_put 18 = .ok (.iload_n 2, 1) := by decide +kernel
theorem dX1_put_19 : decode cX1_put 19 = .ok (.iastore, 1) := by decide +kernel
theorem dX1_put_20 : decode cX1_put 20 = .ok (.aload_n 0, 1) := by decide +kernel
theorem dX1_put_21 : decode cX1_put 21 = .ok (.dup, 1) := by decide +kernel
theorem dX1_put_22 : decode cX1_put 22 = .ok (.getfield 26, 3) := by decide +kernel
theorem dX1_put_25 : decode cX1_put 25 = .ok (.iconst 1, 1) := by decide +kernel
theorem dX1_put_26 : decode cX1_put 26 = .ok (.iadd, 1) := by decide +kernel
theorem dX1_put_27 : decode cX1_put 27 = .ok (.putfield 26, 3) := by decide +kernel
theorem dX1_put_30 : decode cX1_put 30 = .ok (.return_, 1) := by decide +kernel
abbrev cX1_draw : ByteArray := prog_1_method_4_code
def yX1_draw : MethodName := ⟨RX1, "draw", "(II)I"⟩
theorem dX1_draw_0 : decode cX1_draw 0 = .ok (.iload_n 1, 1) := by decide +kernel
theorem dX1_draw_1 : decode cX1_draw 1 = .ok (.ifCond .lt 10, 3) := by decide +kernel
theorem dX1_draw_4 : decode cX1_draw 4 = .ok (.iload_n 1, 1) := by decide +kernel
theorem dX1_draw_5 : decode cX1_draw 5 = .ok (.sipush 10000, 3) := by decide +kernel
theorem dX1_draw_8 : decode cX1_draw 8 = .ok (.if_icmp .lt 5, 3) := by decide +kernel
theorem dX1_draw_11 : decode cX1_draw 11 = .ok (.iconst (-1), 1) := by decide +kernel
theorem dX1_draw_12 : decode cX1_draw 12 = .ok (.ireturn, 1) := by decide +kernel
theorem dX1_draw_13 : decode cX1_draw 13 = .ok (.iload_n 2, 1) := by decide +kernel
theorem dX1_draw_14 : decode cX1_draw 14 = .ok (.ifCond .lt 10, 3) := by decide +kernel
theorem dX1_draw_17 : decode cX1_draw 17 = .ok (.iload_n 2, 1) := by decide +kernel
theorem dX1_draw_18 : decode cX1_draw 18 = .ok (.sipush 255, 3) := by decide +kernel
theorem dX1_draw_21 : decode cX1_draw 21 = .ok (.if_icmp .le 6, 3) := by decide +kernel
theorem dX1_draw_24 : decode cX1_draw 24 = .ok (.bipush (-2), 2) := by decide +kernel
theorem dX1_draw_26 : decode cX1_draw 26 = .ok (.ireturn, 1) := by decide +kernel
theorem dX1_draw_27 : decode cX1_draw 27 = .ok (.aload_n 0, 1) := by decide +kernel
theorem dX1_draw_28 : decode cX1_draw 28 = .ok (.getfield 26, 3) := by decide +kernel
theorem dX1_draw_31 : decode cX1_draw 31 = .ok (.bipush 16, 2) := by decide +kernel
theorem dX1_draw_33 : decode cX1_draw 33 = .ok (.if_icmp .ne 6, 3) := by decide +kernel
theorem dX1_draw_36 : decode cX1_draw 36 = .ok (.bipush (-3), 2) := by decide +kernel
theorem dX1_draw_38 : decode cX1_draw 38 = .ok (.ireturn, 1) := by decide +kernel
theorem dX1_draw_39 : decode cX1_draw 39 = .ok (.aload_n 0, 1) := by decide +kernel
theorem dX1_draw_40 : decode cX1_draw 40 = .ok (.iload_n 1, 1) := by decide +kernel
theorem dX1_draw_41 : decode cX1_draw 41 = .ok (.invokevirtual 33, 3) := by decide +kernel
theorem dX1_draw_44 : decode cX1_draw 44 = .ok (.istore_n 3, 1) := by decide +kernel
theorem dX1_draw_45 : decode cX1_draw 45 = .ok (.aload_n 0, 1) := by decide +kernel
theorem dX1_draw_46 : decode cX1_draw 46 = .ok (.iload_n 3, 1) := by decide +kernel
theorem dX1_draw_47 : decode cX1_draw 47 = .ok (.iload_n 2, 1) := by decide +kernel
theorem dX1_draw_48 : decode cX1_draw 48 = .ok (.invokevirtual 29, 3) := by decide +kernel
theorem dX1_draw_51 : decode cX1_draw 51 = .ok (.iload_n 3, 1) := by decide +kernel
theorem dX1_draw_52 : decode cX1_draw 52 = .ok (.ireturn, 1) := by decide +kernel
abbrev cX1_drawn : ByteArray := prog_1_method_23_code
def yX1_drawn : MethodName := ⟨RX1, "drawn", "(I)I"⟩
theorem dX1_drawn_0 : decode cX1_drawn 0 = .ok (.iload_n 1, 1) := by decide +kernel
theorem dX1_drawn_1 : decode cX1_drawn 1 = .ok (.sipush 7919, 3) := by decide +kernel
theorem dX1_drawn_4 : decode cX1_drawn 4 = .ok (.imul, 1) := by decide +kernel
theorem dX1_drawn_5 : decode cX1_drawn 5 = .ok (.ldc 72, 2) := by decide +kernel
theorem dX1_drawn_7 : decode cX1_drawn 7 = .ok (.iadd, 1) := by decide +kernel
theorem dX1_drawn_8 : decode cX1_drawn 8 = .ok (.istore_n 2, 1) := by decide +kernel
theorem dX1_drawn_9 : decode cX1_drawn 9 = .ok (.iconst 1, 1) := by decide +kernel
theorem dX1_drawn_10 : decode cX1_drawn 10 = .ok (.iload_n 2, 1) := by decide +kernel
theorem dX1_drawn_11 : decode cX1_drawn 11 = .ok (.bipush 7, 2) := by decide +kernel
theorem dX1_drawn_13 : decode cX1_drawn 13 = .ok (.idiv, 1) := by decide +kernel
theorem dX1_drawn_14 : decode cX1_drawn 14 = .ok (.iconst 3, 1) := by decide +kernel
theorem dX1_drawn_15 : decode cX1_drawn 15 = .ok (.irem, 1) := by decide +kernel
theorem dX1_drawn_16 : decode cX1_drawn 16 = .ok (.iadd, 1) := by decide +kernel
theorem dX1_drawn_17 : decode cX1_drawn 17 = .ok (.istore_n 3, 1) := by decide +kernel
theorem dX1_drawn_18 : decode cX1_drawn 18 = .ok (.aload_n 0, 1) := by decide +kernel
theorem dX1_drawn_19 : decode cX1_drawn 19 = .ok (.getfield 22, 3) := by decide +kernel
theorem dX1_drawn_22 : decode cX1_drawn 22 = .ok (.ifCond .le 10, 3) := by decide +kernel
theorem dX1_drawn_25 : decode cX1_drawn 25 = .ok (.aload_n 0, 1) := by decide +kernel
theorem dX1_drawn_26 : decode cX1_drawn 26 = .ok (.getfield 22, 3) := by decide +kernel
theorem dX1_drawn_29 : decode cX1_drawn 29 = .ok (.goto 4, 3) := by decide +kernel
theorem dX1_drawn_32 : decode cX1_drawn 32 = .ok (.iconst 1, 1) := by decide +kernel
theorem dX1_drawn_33 : decode cX1_drawn 33 = .ok (.istore 4, 2) := by decide +kernel
theorem dX1_drawn_35 : decode cX1_drawn 35 = .ok (.iconst 0, 1) := by decide +kernel
theorem dX1_drawn_36 : decode cX1_drawn 36 = .ok (.istore 5, 2) := by decide +kernel
theorem dX1_drawn_38 : decode cX1_drawn 38 = .ok (.iload_n 2, 1) := by decide +kernel
theorem dX1_drawn_39 : decode cX1_drawn 39 = .ok (.istore 6, 2) := by decide +kernel
theorem dX1_drawn_41 : decode cX1_drawn 41 = .ok (.iconst 0, 1) := by decide +kernel
theorem dX1_drawn_42 : decode cX1_drawn 42 = .ok (.istore 7, 2) := by decide +kernel
theorem dX1_drawn_44 : decode cX1_drawn 44 = .ok (.iload 7, 2) := by decide +kernel
theorem dX1_drawn_46 : decode cX1_drawn 46 = .ok (.iload_n 3, 1) := by decide +kernel
theorem dX1_drawn_47 : decode cX1_drawn 47 = .ok (.if_icmp .ge 28, 3) := by decide +kernel
theorem dX1_drawn_50 : decode cX1_drawn 50 = .ok (.iload 5, 2) := by decide +kernel
theorem dX1_drawn_52 : decode cX1_drawn 52 = .ok (.iconst 1, 1) := by decide +kernel
theorem dX1_drawn_53 : decode cX1_drawn 53 = .ok (.iload 6, 2) := by decide +kernel
theorem dX1_drawn_55 : decode cX1_drawn 55 = .ok (.iload 4, 2) := by decide +kernel
theorem dX1_drawn_57 : decode cX1_drawn 57 = .ok (.irem, 1) := by decide +kernel
theorem dX1_drawn_58 : decode cX1_drawn 58 = .ok (.ishl, 1) := by decide +kernel
theorem dX1_drawn_59 : decode cX1_drawn 59 = .ok (.ixor, 1) := by decide +kernel
theorem dX1_drawn_60 : decode cX1_drawn 60 = .ok (.istore 5, 2) := by decide +kernel
theorem dX1_drawn_62 : decode cX1_drawn 62 = .ok (.iload 6, 2) := by decide +kernel
theorem dX1_drawn_64 : decode cX1_drawn 64 = .ok (.iload 4, 2) := by decide +kernel
theorem dX1_drawn_66 : decode cX1_drawn 66 = .ok (.idiv, 1) := by decide +kernel
theorem dX1_drawn_67 : decode cX1_drawn 67 = .ok (.istore 6, 2) := by decide +kernel
theorem dX1_drawn_69 : decode cX1_drawn 69 = .ok (.iinc 7 1, 3) := by decide +kernel
theorem dX1_drawn_72 : decode cX1_drawn 72 = .ok (.goto (-28), 3) := by decide +kernel
theorem dX1_drawn_75 : decode cX1_drawn 75 = .ok (.iload 5, 2) := by decide +kernel
theorem dX1_drawn_77 : decode cX1_drawn 77 = .ok (.ifCond .ne 7, 3) := by decide +kernel
theorem dX1_drawn_80 : decode cX1_drawn 80 = .ok (.iconst 1, 1) := by decide +kernel
theorem dX1_drawn_81 : decode cX1_drawn 81 = .ok (.goto 5, 3) := by decide +kernel
theorem dX1_drawn_84 : decode cX1_drawn 84 = .ok (.iload 5, 2) := by decide +kernel
theorem dX1_drawn_86 : decode cX1_drawn 86 = .ok (.ireturn, 1) := by decide +kernel
abbrev cX1_lose : ByteArray := prog_1_method_5_code
def yX1_lose : MethodName := ⟨RX1, "lose", "(I)I"⟩
theorem dX1_lose_0 : decode cX1_lose 0 = .ok (.iload_n 1, 1) := by decide +kernel
theorem dX1_lose_1 : decode cX1_lose 1 = .ok (.ifCond .lt 11, 3) := by decide +kernel
theorem dX1_lose_4 : decode cX1_lose 4 = .ok (.iload_n 1, 1) := by decide +kernel
theorem dX1_lose_5 : decode cX1_lose 5 = .ok (.aload_n 0, 1) := by decide +kernel
theorem dX1_lose_6 : decode cX1_lose 6 = .ok (.getfield 26, 3) := by decide +kernel
theorem dX1_lose_9 : decode cX1_lose 9 = .ok (.if_icmp .lt 5, 3) := by decide +kernel
theorem dX1_lose_12 : decode cX1_lose 12 = .ok (.iconst (-1), 1) := by decide +kernel
theorem dX1_lose_13 : decode cX1_lose 13 = .ok (.ireturn, 1) := by decide +kernel
theorem dX1_lose_14 : decode cX1_lose 14 = .ok (.iload_n 1, 1) := by decide +kernel
theorem dX1_lose_15 : decode cX1_lose 15 = .ok (.iconst 1, 1) := by decide +kernel
theorem dX1_lose_16 : decode cX1_lose 16 = .ok (.iadd, 1) := by decide +kernel
theorem dX1_lose_17 : decode cX1_lose 17 = .ok (.istore_n 2, 1) := by decide +kernel
theorem dX1_lose_18 : decode cX1_lose 18 = .ok (.iload_n 2, 1) := by decide +kernel
theorem dX1_lose_19 : decode cX1_lose 19 = .ok (.aload_n 0, 1) := by decide +kernel
theorem dX1_lose_20 : decode cX1_lose 20 = .ok (.getfield 26, 3) := by decide +kernel
theorem dX1_lose_23 : decode cX1_lose 23 = .ok (.if_icmp .ge 37, 3) := by decide +kernel
theorem dX1_lose_26 : decode cX1_lose 26 = .ok (.aload_n 0, 1) := by decide +kernel
theorem dX1_lose_27 : decode cX1_lose 27 = .ok (.getfield 7, 3) := by decide +kernel
theorem dX1_lose_30 : decode cX1_lose 30 = .ok (.iload_n 2, 1) := by decide +kernel
theorem dX1_lose_31 : decode cX1_lose 31 = .ok (.iconst 1, 1) := by decide +kernel
theorem dX1_lose_32 : decode cX1_lose 32 = .ok (.isub, 1) := by decide +kernel
theorem dX1_lose_33 : decode cX1_lose 33 = .ok (.aload_n 0, 1) := by decide +kernel
theorem dX1_lose_34 : decode cX1_lose 34 = .ok (.getfield 7, 3) := by decide +kernel
theorem dX1_lose_37 : decode cX1_lose 37 = .ok (.iload_n 2, 1) := by decide +kernel
theorem dX1_lose_38 : decode cX1_lose 38 = .ok (.iaload, 1) := by decide +kernel
theorem dX1_lose_39 : decode cX1_lose 39 = .ok (.iastore, 1) := by decide +kernel
theorem dX1_lose_40 : decode cX1_lose 40 = .ok (.aload_n 0, 1) := by decide +kernel
theorem dX1_lose_41 : decode cX1_lose 41 = .ok (.getfield 13, 3) := by decide +kernel
theorem dX1_lose_44 : decode cX1_lose 44 = .ok (.iload_n 2, 1) := by decide +kernel
theorem dX1_lose_45 : decode cX1_lose 45 = .ok (.iconst 1, 1) := by decide +kernel
theorem dX1_lose_46 : decode cX1_lose 46 = .ok (.isub, 1) := by decide +kernel
theorem dX1_lose_47 : decode cX1_lose 47 = .ok (.aload_n 0, 1) := by decide +kernel
theorem dX1_lose_48 : decode cX1_lose 48 = .ok (.getfield 13, 3) := by decide +kernel
theorem dX1_lose_51 : decode cX1_lose 51 = .ok (.iload_n 2, 1) := by decide +kernel
theorem dX1_lose_52 : decode cX1_lose 52 = .ok (.iaload, 1) := by decide +kernel
theorem dX1_lose_53 : decode cX1_lose 53 = .ok (.iastore, 1) := by decide +kernel
theorem dX1_lose_54 : decode cX1_lose 54 = .ok (.iinc 2 1, 3) := by decide +kernel
theorem dX1_lose_57 : decode cX1_lose 57 = .ok (.goto (-39), 3) := by decide +kernel
theorem dX1_lose_60 : decode cX1_lose 60 = .ok (.aload_n 0, 1) := by decide +kernel
theorem dX1_lose_61 : decode cX1_lose 61 = .ok (.dup, 1) := by decide +kernel
theorem dX1_lose_62 : decode cX1_lose 62 = .ok (.getfield 26, 3) := by decide +kernel
theorem dX1_lose_65 : decode cX1_lose 65 = .ok (.iconst 1, 1) := by decide +kernel
theorem dX1_lose_66 : decode cX1_lose 66 = .ok (.isub, 1) := by decide +kernel
theorem dX1_lose_67 : decode cX1_lose 67 = .ok (.putfield 26, 3) := by decide +kernel
theorem dX1_lose_70 : decode cX1_lose 70 = .ok (.aload_n 0, 1) := by decide +kernel
theorem dX1_lose_71 : decode cX1_lose 71 = .ok (.getfield 26, 3) := by decide +kernel
theorem dX1_lose_74 : decode cX1_lose 74 = .ok (.ireturn, 1) := by decide +kernel
abbrev cX1_setOf : ByteArray := prog_1_method_6_code
def yX1_setOf : MethodName := ⟨RX1, "setOf", "(I)I"⟩
theorem dX1_setOf_0 : decode cX1_setOf 0 = .ok (.iload_n 1, 1) := by decide +kernel
theorem dX1_setOf_1 : decode cX1_setOf 1 = .ok (.ifCond .lt 18, 3) := by decide +kernel
theorem dX1_setOf_4 : decode cX1_setOf 4 = .ok (.iload_n 1, 1) := by decide +kernel
theorem dX1_setOf_5 : decode cX1_setOf 5 = .ok (.sipush 10000, 3) := by decide +kernel
theorem dX1_setOf_8 : decode cX1_setOf 8 = .ok (.if_icmp .ge 11, 3) := by decide +kernel
theorem dX1_setOf_11 : decode cX1_setOf 11 = .ok (.aload_n 0, 1) := by decide +kernel
theorem dX1_setOf_12 : decode cX1_setOf 12 = .ok (.iload_n 1, 1) := by decide +kernel
theorem dX1_setOf_13 : decode cX1_setOf 13 = .ok (.invokevirtual 33, 3) := by decide +kernel
theorem dX1_setOf_16 : decode cX1_setOf 16 = .ok (.goto 4, 3) := by decide +kernel
theorem dX1_setOf_19 : decode cX1_setOf 19 = .ok (.iconst (-1), 1) := by decide +kernel
theorem dX1_setOf_20 : decode cX1_setOf 20 = .ok (.ireturn, 1) := by decide +kernel
abbrev cX1_symbols : ByteArray := prog_1_method_7_code
def yX1_symbols : MethodName := ⟨RX1, "symbols", "()I"⟩
theorem dX1_symbols_0 : decode cX1_symbols 0 = .ok (.aload_n 0, 1) := by decide +kernel
theorem dX1_symbols_1 : decode cX1_symbols 1 = .ok (.getfield 26, 3) := by decide +kernel
theorem dX1_symbols_4 : decode cX1_symbols 4 = .ok (.ireturn, 1) := by decide +kernel
abbrev cX1_consistent : ByteArray := prog_1_method_8_code
def yX1_consistent : MethodName := ⟨RX1, "consistent", "()I"⟩
theorem dX1_consistent_0 : decode cX1_consistent 0 = .ok (.aload_n 0, 1) := by decide +kernel
theorem dX1_consistent_1 : decode cX1_consistent 1 = .ok (.iconst (-1), 1) := by decide +kernel
theorem dX1_consistent_2 : decode cX1_consistent 2 = .ok (.invokevirtual 37, 3) := by decide +kernel
theorem dX1_consistent_5 : decode cX1_consistent 5 = .ok (.aload_n 0, 1) := by decide +kernel
theorem dX1_consistent_6 : decode cX1_consistent 6 = .ok (.getfield 41, 3) := by decide +kernel
theorem dX1_consistent_9 : decode cX1_consistent 9 = .ok (.ifCond .eq 7, 3) := by decide +kernel
theorem dX1_consistent_12 : decode cX1_consistent 12 = .ok (.iconst 1, 1) := by decide +kernel
theorem dX1_consistent_13 : decode cX1_consistent 13 = .ok (.goto 4, 3) := by decide +kernel
theorem dX1_consistent_16 : decode cX1_consistent 16 = .ok (.iconst 0, 1) := by decide +kernel
theorem dX1_consistent_17 : decode cX1_consistent 17 = .ok (.ireturn, 1) := by decide +kernel
abbrev cX1_reduceAll : ByteArray := prog_1_method_25_code
def yX1_reduceAll : MethodName := ⟨RX1, "reduceAll", "(I)V"⟩
theorem dX1_reduceAll_0 : decode cX1_reduceAll 0 = .ok (.aload_n 0, 1) := by decide +kernel
theorem dX1_reduceAll_1 : decode cX1_reduceAll 1 = .ok (.iconst 0, 1) := by decide +kernel
theorem dX1_reduceAll_2 : decode cX1_reduceAll 2 = .ok (.putfield 45, 3) := by decide +kernel
theorem dX1_reduceAll_5 : decode cX1_reduceAll 5 = .ok (.aload_n 0, 1) := by decide +kernel
theorem dX1_reduceAll_6 : decode cX1_reduceAll 6 = .ok (.iconst 1, 1) := by decide +kernel
theorem dX1_reduceAll_7 : decode cX1_reduceAll 7 = .ok (.putfield 41, 3) := by decide +kernel
theorem dX1_reduceAll_10 : decode cX1_reduceAll 10 = .ok (.iconst 0, 1) := by decide +kernel
theorem dX1_reduceAll_11 : decode cX1_reduceAll 11 = .ok (.istore_n 2, 1) := by decide +kernel
theorem dX1_reduceAll_12 : decode cX1_reduceAll 12 = .ok (.iload_n 2, 1) := by decide +kernel
theorem dX1_reduceAll_13 : decode cX1_reduceAll 13 = .ok (.aload_n 0, 1) := by decide +kernel
theorem dX1_reduceAll_14 : decode cX1_reduceAll 14 = .ok (.getfield 26, 3) := by decide +kernel
theorem dX1_reduceAll_17 : decode cX1_reduceAll 17 = .ok (.if_icmp .ge 30, 3) := by decide +kernel
theorem dX1_reduceAll_20 : decode cX1_reduceAll 20 = .ok (.iload_n 2, 1) := by decide +kernel
theorem dX1_reduceAll_21 : decode cX1_reduceAll 21 = .ok (.iload_n 1, 1) := by decide +kernel
theorem dX1_reduceAll_22 : decode cX1_reduceAll 22 = .ok (.if_icmp .eq 19, 3) := by decide +kernel
theorem dX1_reduceAll_25 : decode cX1_reduceAll 25 = .ok (.aload_n 0, 1) := by decide +kernel
theorem dX1_reduceAll_26 : decode cX1_reduceAll 26 = .ok (.aload_n 0, 1) := by decide +kernel
theorem dX1_reduceAll_27 : decode cX1_reduceAll 27 = .ok (.getfield 7, 3) := by decide +kernel
theorem dX1_reduceAll_30 : decode cX1_reduceAll 30 = .ok (.iload_n 2, 1) := by decide +kernel
theorem dX1_reduceAll_31 : decode cX1_reduceAll 31 = .ok (.iaload, 1) := by decide +kernel
theorem dX1_reduceAll_32 : decode cX1_reduceAll 32 = .ok (.aload_n 0, 1) := by decide +kernel
theorem dX1_reduceAll_33 : decode cX1_reduceAll 33 = .ok (.getfield 13, 3) := by decide +kernel
theorem dX1_reduceAll_36 : decode cX1_reduceAll 36 = .ok (.iload_n 2, 1) := by decide +kernel
theorem dX1_reduceAll_37 : decode cX1_reduceAll 37 = .ok (.iaload, 1) := by decide +kernel
theorem dX1_reduceAll_38 : decode cX1_reduceAll 38 = .ok (.invokevirtual 82, 3) := by decide +kernel
theorem dX1_reduceAll_41 : decode cX1_reduceAll 41 = .ok (.iinc 2 1, 3) := by decide +kernel
theorem dX1_reduceAll_44 : decode cX1_reduceAll 44 = .ok (.goto (-32), 3) := by decide +kernel
theorem dX1_reduceAll_47 : decode cX1_reduceAll 47 = .ok (.return_, 1) := by decide +kernel
abbrev cX1_enter : ByteArray := prog_1_method_26_code
def yX1_enter : MethodName := ⟨RX1, "enter", "(II)V"⟩
theorem dX1_enter_0 : decode cX1_enter 0 = .ok (.aload_n 0, 1) := by decide +kernel
theorem dX1_enter_1 : decode cX1_enter 1 = .ok (.iload_n 1, 1) := by decide +kernel
theorem dX1_enter_2 : decode cX1_enter 2 = .ok (.iload_n 2, 1) := by decide +kernel
theorem dX1_enter_3 : decode cX1_enter 3 = .ok (.invokevirtual 85, 3) := by decide +kernel
theorem dX1_enter_6 : decode cX1_enter 6 = .ok (.aload_n 0, 1) := by decide +kernel
theorem dX1_enter_7 : decode cX1_enter 7 = .ok (.getfield 73, 3) := by decide +kernel
theorem dX1_enter_10 : decode cX1_enter 10 = .ok (.ifCond .ne 27, 3) := by decide +kernel
theorem dX1_enter_13 : decode cX1_enter 13 = .ok (.aload_n 0, 1) := by decide +kernel
theorem dX1_enter_14 : decode cX1_enter 14 = .ok (.aload_n 0, 1) := by decide +kernel
theorem dX1_enter_15 : decode cX1_enter 15 = .ok (.getfield 41, 3) := by decide +kernel
theorem dX1_enter_18 : decode cX1_enter 18 = .ok (.ifCond .eq 14, 3) := by decide +kernel
theorem dX1_enter_21 : decode cX1_enter 21 = .ok (.aload_n 0, 1) := by decide +kernel
theorem dX1_enter_22 : decode cX1_enter 22 = .ok (.getfield 76, 3) := by decide +kernel
theorem dX1_enter_25 : decode cX1_enter 25 = .ok (.ifCond .ne 7, 3) := by decide +kernel
theorem dX1_enter_28 : decode cX1_enter 28 = .ok (.iconst 1, 1) := by decide +kernel
theorem dX1_enter_29 : decode cX1_enter 29 = .ok (.goto 4, 3) := by decide +kernel
theorem dX1_enter_32 : decode cX1_enter 32 = .ok (.iconst 0, 1) := by decide +kernel
theorem dX1_enter_33 : decode cX1_enter 33 = .ok (.putfield 41, 3) := by decide +kernel
theorem dX1_enter_36 : decode cX1_enter 36 = .ok (.return_, 1) := by decide +kernel
theorem dX1_enter_37 : decode cX1_enter 37 = .ok (.aload_n 0, 1) := by decide +kernel
theorem dX1_enter_38 : decode cX1_enter 38 = .ok (.getfield 73, 3) := by decide +kernel
theorem dX1_enter_41 : decode cX1_enter 41 = .ok (.invokestatic 79, 3) := by decide +kernel
theorem dX1_enter_44 : decode cX1_enter 44 = .ok (.istore_n 3, 1) := by decide +kernel
theorem dX1_enter_45 : decode cX1_enter 45 = .ok (.iconst 0, 1) := by decide +kernel
theorem dX1_enter_46 : decode cX1_enter 46 = .ok (.istore 4, 2) := by decide +kernel
theorem dX1_enter_48 : decode cX1_enter 48 = .ok (.iload 4, 2) := by decide +kernel
theorem dX1_enter_50 : decode cX1_enter 50 = .ok (.aload_n 0, 1) := by decide +kernel
theorem dX1_enter_51 : decode cX1_enter 51 = .ok (.getfield 45, 3) := by decide +kernel
theorem dX1_enter_54 : decode cX1_enter 54 = .ok (.if_icmp .ge 59, 3) := by decide +kernel
theorem dX1_enter_57 : decode cX1_enter 57 = .ok (.aload_n 0, 1) := by decide +kernel
theorem dX1_enter_58 : decode cX1_enter 58 = .ok (.getfield 16, 3) := by decide +kernel
theorem dX1_enter_61 : decode cX1_enter 61 = .ok (.iload 4, 2) := by decide +kernel
theorem dX1_enter_63 : decode cX1_enter 63 = .ok (.iaload, 1) := by decide +kernel
theorem dX1_enter_64 : decode cX1_enter 64 = .ok (.iload_n 3, 1) := by decide +kernel
theorem dX1_enter_65 : decode cX1_enter 65 = .ok (.iand, 1) := by decide +kernel
theorem dX1_enter_66 : decode cX1_enter 66 = .ok (.ifCond .eq 41, 3) := by decide +kernel
theorem dX1_enter_69 : decode cX1_enter 69 = .ok (.aload_n 0, 1) := by decide +kernel
theorem dX1_enter_70 : decode cX1_enter 70 = .ok (.getfield 16, 3) := by decide +kernel
theorem dX1_enter_73 : decode cX1_enter 73 = .ok (.iload 4, 2) := by decide +kernel
theorem dX1_enter_75 : decode cX1_enter 75 = .ok (.aload_n 0, 1) := by decide +kernel
theorem dX1_enter_76 : decode cX1_enter 76 = .ok (.getfield 16, 3) := by decide +kernel
theorem dX1_enter_79 : decode cX1_enter 79 = .ok (.iload 4, 2) := by decide +kernel
theorem dX1_enter_81 : decode cX1_enter 81 = .ok (.iaload, 1) := by decide +kernel
theorem dX1_enter_82 : decode cX1_enter 82 = .ok (.aload_n 0, 1) := by decide +kernel
theorem dX1_enter_83 : decode cX1_enter 83 = .ok (.getfield 73, 3) := by decide +kernel
theorem dX1_enter_86 : decode cX1_enter 86 = .ok (.ixor, 1) := by decide +kernel
theorem dX1_enter_87 : decode cX1_enter 87 = .ok (.iastore, 1) := by decide +kernel
theorem dX1_enter_88 : decode cX1_enter 88 = .ok (.aload_n 0, 1) := by decide +kernel
theorem dX1_enter_89 : decode cX1_enter 89 = .ok (.getfield 19, 3) := by decide +kernel
theorem dX1_enter_92 : decode cX1_enter 92 = .ok (.iload 4, 2) := by decide +kernel
theorem dX1_enter_94 : decode cX1_enter 94 = .ok (.aload_n 0, 1) := by decide +kernel
theorem dX1_enter_95 : decode cX1_enter 95 = .ok (.getfield 19, 3) := by decide +kernel
theorem dX1_enter_98 : decode cX1_enter 98 = .ok (.iload 4, 2) := by decide +kernel
theorem dX1_enter_100 : decode cX1_enter 100 = .ok (.iaload, 1) := by decide +kernel
theorem dX1_enter_101 : decode cX1_enter 101 = .ok (.aload_n 0, 1) := by decide +kernel
theorem dX1_enter_102 : decode cX1_enter 102 = .ok (.getfield 76, 3) := by decide +kernel
theorem dX1_enter_105 : decode cX1_enter 105 = .ok (.ixor, 1) := by decide +kernel
theorem dX1_enter_106 : decode cX1_enter 106 = .ok (.iastore, 1) := by decide +kernel
theorem dX1_enter_107 : decode cX1_enter 107 = .ok (.iinc 4 1, 3) := by decide +kernel
theorem dX1_enter_110 : decode cX1_enter 110 = .ok (.goto (-62), 3) := by decide +kernel
theorem dX1_enter_113 : decode cX1_enter 113 = .ok (.aload_n 0, 1) := by decide +kernel
theorem dX1_enter_114 : decode cX1_enter 114 = .ok (.getfield 16, 3) := by decide +kernel
theorem dX1_enter_117 : decode cX1_enter 117 = .ok (.aload_n 0, 1) := by decide +kernel
theorem dX1_enter_118 : decode cX1_enter 118 = .ok (.getfield 45, 3) := by decide +kernel
theorem dX1_enter_121 : decode cX1_enter 121 = .ok (.aload_n 0, 1) := by decide +kernel
theorem dX1_enter_122 : decode cX1_enter 122 = .ok (.getfield 73, 3) := by decide +kernel
theorem dX1_enter_125 : decode cX1_enter 125 = .ok (.iastore, 1) := by decide +kernel
theorem dX1_enter_126 : decode cX1_enter 126 = .ok (.aload_n 0, 1) := by decide +kernel
theorem dX1_enter_127 : decode cX1_enter 127 = .ok (.getfield 19, 3) := by decide +kernel
theorem dX1_enter_130 : decode cX1_enter 130 = .ok (.aload_n 0, 1) := by decide +kernel
theorem dX1_enter_131 : decode cX1_enter 131 = .ok (.getfield 45, 3) := by decide +kernel
theorem dX1_enter_134 : decode cX1_enter 134 = .ok (.aload_n 0, 1) := by decide +kernel
theorem dX1_enter_135 : decode cX1_enter 135 = .ok (.getfield 76, 3) := by decide +kernel
theorem dX1_enter_138 : decode cX1_enter 138 = .ok (.iastore, 1) := by decide +kernel
theorem dX1_enter_139 : decode cX1_enter 139 = .ok (.aload_n 0, 1) := by decide +kernel
theorem dX1_enter_140 : decode cX1_enter 140 = .ok (.dup, 1) := by decide +kernel
theorem dX1_enter_141 : decode cX1_enter 141 = .ok (.getfield 45, 3) := by decide +kernel
theorem dX1_enter_144 : decode cX1_enter 144 = .ok (.iconst 1, 1) := by decide +kernel
theorem dX1_enter_145 : decode cX1_enter 145 = .ok (.iadd, 1) := by decide +kernel
theorem dX1_enter_146 : decode cX1_enter 146 = .ok (.putfield 45, 3) := by decide +kernel
theorem dX1_enter_149 : decode cX1_enter 149 = .ok (.return_, 1) := by decide +kernel
abbrev cX1_reduce : ByteArray := prog_1_method_24_code
def yX1_reduce : MethodName := ⟨RX1, "reduce", "(II)V"⟩
theorem dX1_reduce_0 : decode cX1_reduce 0 = .ok (.aload_n 0, 1) := by decide +kernel
theorem dX1_reduce_1 : decode cX1_reduce 1 = .ok (.iload_n 1, 1) := by decide +kernel
theorem dX1_reduce_2 : decode cX1_reduce 2 = .ok (.putfield 73, 3) := by decide +kernel
theorem dX1_reduce_5 : decode cX1_reduce 5 = .ok (.aload_n 0, 1) := by decide +kernel
theorem dX1_reduce_6 : decode cX1_reduce 6 = .ok (.iload_n 2, 1) := by decide +kernel
theorem dX1_reduce_7 : decode cX1_reduce 7 = .ok (.putfield 76, 3) := by decide +kernel
theorem dX1_reduce_10 : decode cX1_reduce 10 = .ok (.iconst 0, 1) := by decide +kernel
theorem dX1_reduce_11 : decode cX1_reduce 11 = .ok (.istore_n 3, 1) := by decide +kernel
theorem dX1_reduce_12 : decode cX1_reduce 12 = .ok (.iload_n 3, 1) := by decide +kernel
theorem dX1_reduce_13 : decode cX1_reduce 13 = .ok (.aload_n 0, 1) := by decide +kernel
theorem dX1_reduce_14 : decode cX1_reduce 14 = .ok (.getfield 45, 3) := by decide +kernel
theorem dX1_reduce_17 : decode cX1_reduce 17 = .ok (.if_icmp .ge 60, 3) := by decide +kernel
theorem dX1_reduce_20 : decode cX1_reduce 20 = .ok (.aload_n 0, 1) := by decide +kernel
theorem dX1_reduce_21 : decode cX1_reduce 21 = .ok (.getfield 16, 3) := by decide +kernel
theorem dX1_reduce_24 : decode cX1_reduce 24 = .ok (.iload_n 3, 1) := by decide +kernel
theorem dX1_reduce_25 : decode cX1_reduce 25 = .ok (.iaload, 1) := by decide +kernel
theorem dX1_reduce_26 : decode cX1_reduce 26 = .ok (.invokestatic 79, 3) := by decide +kernel
theorem dX1_reduce_29 : decode cX1_reduce 29 = .ok (.istore 4, 2) := by decide +kernel
theorem dX1_reduce_31 : decode cX1_reduce 31 = .ok (.aload_n 0, 1) := by decide +kernel
theorem dX1_reduce_32 : decode cX1_reduce 32 = .ok (.getfield 73, 3) := by decide +kernel
theorem dX1_reduce_35 : decode cX1_reduce 35 = .ok (.iload 4, 2) := by decide +kernel
theorem dX1_reduce_37 : decode cX1_reduce 37 = .ok (.iand, 1) := by decide +kernel
theorem dX1_reduce_38 : decode cX1_reduce 38 = .ok (.ifCond .eq 33, 3) := by decide +kernel
theorem dX1_reduce_41 : decode cX1_reduce 41 = .ok (.aload_n 0, 1) := by decide +kernel
theorem dX1_reduce_42 : decode cX1_reduce 42 = .ok (.aload_n 0, 1) := by decide +kernel
theorem dX1_reduce_43 : decode cX1_reduce 43 = .ok (.getfield 73, 3) := by decide +kernel
theorem dX1_reduce_46 : decode cX1_reduce 46 = .ok (.aload_n 0, 1) := by decide +kernel
theorem dX1_reduce_47 : decode cX1_reduce 47 = .ok (.getfield 16, 3) := by decide +kernel
theorem dX1_reduce_50 : decode cX1_reduce 50 = .ok (.iload_n 3, 1) := by decide +kernel
theorem dX1_reduce_51 : decode cX1_reduce 51 = .ok (.iaload, 1) := by decide +kernel
theorem dX1_reduce_52 : decode cX1_reduce 52 = .ok (.ixor, 1) := by decide +kernel
theorem dX1_reduce_53 : decode cX1_reduce 53 = .ok (.putfield 73, 3) := by decide +kernel
theorem dX1_reduce_56 : decode cX1_reduce 56 = .ok (.aload_n 0, 1) := by decide +kernel
theorem dX1_reduce_57 : decode cX1_reduce 57 = .ok (.aload_n 0, 1) := by decide +kernel
theorem dX1_reduce_58 : decode cX1_reduce 58 = .ok (.getfield 76, 3) := by decide +kernel
theorem dX1_reduce_61 : decode cX1_reduce 61 = .ok (.aload_n 0, 1) := by decide +kernel
theorem dX1_reduce_62 : decode cX1_reduce 62 = .ok (.getfield 19, 3) := by decide +kernel
theorem dX1_reduce_65 : decode cX1_reduce 65 = .ok (.iload_n 3, 1) := by decide +kernel
theorem dX1_reduce_66 : decode cX1_reduce 66 = .ok (.iaload, 1) := by decide +kernel
theorem dX1_reduce_67 : decode cX1_reduce 67 = .ok (.ixor, 1) := by decide +kernel
theorem dX1_reduce_68 : decode cX1_reduce 68 = .ok (.putfield 76, 3) := by decide +kernel
theorem dX1_reduce_71 : decode cX1_reduce 71 = .ok (.iinc 3 1, 3) := by decide +kernel
theorem dX1_reduce_74 : decode cX1_reduce 74 = .ok (.goto (-62), 3) := by decide +kernel
theorem dX1_reduce_77 : decode cX1_reduce 77 = .ok (.return_, 1) := by decide +kernel
abbrev cX1_topBit : ByteArray := prog_1_method_21_code
def yX1_topBit : MethodName := ⟨RX1, "topBit", "(I)I"⟩
theorem dX1_topBit_0 : decode cX1_topBit 0 = .ok (.sipush 128, 3) := by decide +kernel
theorem dX1_topBit_3 : decode cX1_topBit 3 = .ok (.istore_n 1, 1) := by decide +kernel
theorem dX1_topBit_4 : decode cX1_topBit 4 = .ok (.iload_n 1, 1) := by decide +kernel
theorem dX1_topBit_5 : decode cX1_topBit 5 = .ok (.iconst 1, 1) := by decide +kernel
theorem dX1_topBit_6 : decode cX1_topBit 6 = .ok (.if_icmp .le 16, 3) := by decide +kernel
theorem dX1_topBit_9 : decode cX1_topBit 9 = .ok (.iload_n 0, 1) := by decide +kernel
theorem dX1_topBit_10 : decode cX1_topBit 10 = .ok (.iload_n 1, 1) := by decide +kernel
theorem dX1_topBit_11 : decode cX1_topBit 11 = .ok (.iand, 1) := by decide +kernel
theorem dX1_topBit_12 : decode cX1_topBit 12 = .ok (.ifCond .ne 10, 3) := by decide +kernel
theorem dX1_topBit_15 : decode cX1_topBit 15 = .ok (.iload_n 1, 1) := by decide +kernel
theorem dX1_topBit_16 : decode cX1_topBit 16 = .ok (.iconst 1, 1) := by decide +kernel
theorem dX1_topBit_17 : decode cX1_topBit 17 = .ok (.ishr, 1) := by decide +kernel
theorem dX1_topBit_18 : decode cX1_topBit 18 = .ok (.istore_n 1, 1) := by decide +kernel
theorem dX1_topBit_19 : decode cX1_topBit 19 = .ok (.goto (-15), 3) := by decide +kernel
theorem dX1_topBit_22 : decode cX1_topBit 22 = .ok (.iload_n 1, 1) := by decide +kernel
theorem dX1_topBit_23 : decode cX1_topBit 23 = .ok (.ireturn, 1) := by decide +kernel
abbrev cX1_rank : ByteArray := prog_1_method_9_code
def yX1_rank : MethodName := ⟨RX1, "rank", "()I"⟩
theorem dX1_rank_0 : decode cX1_rank 0 = .ok (.aload_n 0, 1) := by decide +kernel
theorem dX1_rank_1 : decode cX1_rank 1 = .ok (.iconst (-1), 1) := by decide +kernel
theorem dX1_rank_2 : decode cX1_rank 2 = .ok (.invokevirtual 37, 3) := by decide +kernel
theorem dX1_rank_5 : decode cX1_rank 5 = .ok (.aload_n 0, 1) := by decide +kernel
theorem dX1_rank_6 : decode cX1_rank 6 = .ok (.getfield 45, 3) := by decide +kernel
theorem dX1_rank_9 : decode cX1_rank 9 = .ok (.ireturn, 1) := by decide +kernel
abbrev cX1_known : ByteArray := prog_1_method_10_code
def yX1_known : MethodName := ⟨RX1, "known", "()I"⟩
theorem dX1_known_0 : decode cX1_known 0 = .ok (.aload_n 0, 1) := by decide +kernel
theorem dX1_known_1 : decode cX1_known 1 = .ok (.iconst (-1), 1) := by decide +kernel
theorem dX1_known_2 : decode cX1_known 2 = .ok (.invokevirtual 37, 3) := by decide +kernel
theorem dX1_known_5 : decode cX1_known 5 = .ok (.aload_n 0, 1) := by decide +kernel
theorem dX1_known_6 : decode cX1_known 6 = .ok (.invokevirtual 48, 3) := by decide +kernel
theorem dX1_known_9 : decode cX1_known 9 = .ok (.ireturn, 1) := by decide +kernel
abbrev cX1_knownNow : ByteArray := prog_1_method_27_code
def yX1_knownNow : MethodName := ⟨RX1, "knownNow", "()I"⟩
theorem dX1_knownNow_0 : decode cX1_knownNow 0 = .ok (.iconst 0, 1) := by decide +kernel
theorem dX1_knownNow_1 : decode cX1_knownNow 1 = .ok (.istore_n 1, 1) := by decide +kernel
theorem dX1_knownNow_2 : decode cX1_knownNow 2 = .ok (.iconst 0, 1) := by decide +kernel
theorem dX1_knownNow_3 : decode cX1_knownNow 3 = .ok (.istore_n 2, 1) := by decide +kernel
theorem dX1_knownNow_4 : decode cX1_knownNow 4 = .ok (.iload_n 2, 1) := by decide +kernel
theorem dX1_knownNow_5 : decode cX1_knownNow 5 = .ok (.aload_n 0, 1) := by decide +kernel
theorem dX1_knownNow_6 : decode cX1_knownNow 6 = .ok (.getfield 45, 3) := by decide +kernel
theorem dX1_knownNow_9 : decode cX1_knownNow 9 = .ok (.if_icmp .ge 43, 3) := by decide +kernel
theorem dX1_knownNow_12 : decode cX1_knownNow 12 = .ok (.aload_n 0, 1) := by decide +kernel
theorem dX1_knownNow_13 : decode cX1_knownNow 13 = .ok (.getfield 41, 3) := by decide +kernel
theorem dX1_knownNow_16 : decode cX1_knownNow 16 = .ok (.ifCond .eq 30, 3) := by decide +kernel
theorem dX1_knownNow_19 : decode cX1_knownNow 19 = .ok (.aload_n 0, 1) := by decide +kernel
theorem dX1_knownNow_20 : decode cX1_knownNow 20 = .ok (.getfield 16, 3) := by decide +kernel
theorem dX1_knownNow_23 : decode cX1_knownNow 23 = .ok (.iload_n 2, 1) := by decide +kernel
theorem dX1_knownNow_24 : decode cX1_knownNow 24 = .ok (.iaload, 1) := by decide +kernel
theorem dX1_knownNow_25 : decode cX1_knownNow 25 = .ok (.aload_n 0, 1) := by decide +kernel
theorem dX1_knownNow_26 : decode cX1_knownNow 26 = .ok (.getfield 16, 3) := by decide +kernel
theorem dX1_knownNow_29 : decode cX1_knownNow 29 = .ok (.iload_n 2, 1) := by decide +kernel
theorem dX1_knownNow_30 : decode cX1_knownNow 30 = .ok (.iaload, 1) := by decide +kernel
theorem dX1_knownNow_31 : decode cX1_knownNow 31 = .ok (.iconst 1, 1) := by decide +kernel
theorem dX1_knownNow_32 : decode cX1_knownNow 32 = .ok (.isub, 1) := by decide +kernel
theorem dX1_knownNow_33 : decode cX1_knownNow 33 = .ok (.iand, 1) := by decide +kernel
theorem dX1_knownNow_34 : decode cX1_knownNow 34 = .ok (.ifCond .ne 12, 3) := by decide +kernel
theorem dX1_knownNow_37 : decode cX1_knownNow 37 = .ok (.iload_n 1, 1) := by decide +kernel
theorem dX1_knownNow_38 : decode cX1_knownNow 38 = .ok (.aload_n 0, 1) := by decide +kernel
theorem dX1_knownNow_39 : decode cX1_knownNow 39 = .ok (.getfield 16, 3) := by decide +kernel
theorem dX1_knownNow_42 : decode cX1_knownNow 42 = .ok (.iload_n 2, 1) := by decide +kernel
theorem dX1_knownNow_43 : decode cX1_knownNow 43 = .ok (.iaload, 1) := by decide +kernel
theorem dX1_knownNow_44 : decode cX1_knownNow 44 = .ok (.ior, 1) := by decide +kernel
theorem dX1_knownNow_45 : decode cX1_knownNow 45 = .ok (.istore_n 1, 1) := by decide +kernel
theorem dX1_knownNow_46 : decode cX1_knownNow 46 = .ok (.iinc 2 1, 3) := by decide +kernel
theorem dX1_knownNow_49 : decode cX1_knownNow 49 = .ok (.goto (-45), 3) := by decide +kernel
theorem dX1_knownNow_52 : decode cX1_knownNow 52 = .ok (.iload_n 1, 1) := by decide +kernel
theorem dX1_knownNow_53 : decode cX1_knownNow 53 = .ok (.ireturn, 1) := by decide +kernel
abbrev cX1_value : ByteArray := prog_1_method_11_code
def yX1_value : MethodName := ⟨RX1, "value", "(I)I"⟩
theorem dX1_value_0 : decode cX1_value 0 = .ok (.iload_n 1, 1) := by decide +kernel
theorem dX1_value_1 : decode cX1_value 1 = .ok (.ifCond .lt 11, 3) := by decide +kernel
theorem dX1_value_4 : decode cX1_value 4 = .ok (.iload_n 1, 1) := by decide +kernel
theorem dX1_value_5 : decode cX1_value 5 = .ok (.aload_n 0, 1) := by decide +kernel
theorem dX1_value_6 : decode cX1_value 6 = .ok (.getfield 22, 3) := by decide +kernel
theorem dX1_value_9 : decode cX1_value 9 = .ok (.if_icmp .lt 5, 3) := by decide +kernel
theorem dX1_value_12 : decode cX1_value 12 = .ok (.iconst (-1), 1) := by decide +kernel
theorem dX1_value_13 : decode cX1_value 13 = .ok (.ireturn, 1) := by decide +kernel
theorem dX1_value_14 : decode cX1_value 14 = .ok (.aload_n 0, 1) := by decide +kernel
theorem dX1_value_15 : decode cX1_value 15 = .ok (.iconst (-1), 1) := by decide +kernel
theorem dX1_value_16 : decode cX1_value 16 = .ok (.invokevirtual 37, 3) := by decide +kernel
theorem dX1_value_19 : decode cX1_value 19 = .ok (.aload_n 0, 1) := by decide +kernel
theorem dX1_value_20 : decode cX1_value 20 = .ok (.iconst 1, 1) := by decide +kernel
theorem dX1_value_21 : decode cX1_value 21 = .ok (.iload_n 1, 1) := by decide +kernel
theorem dX1_value_22 : decode cX1_value 22 = .ok (.ishl, 1) := by decide +kernel
theorem dX1_value_23 : decode cX1_value 23 = .ok (.invokevirtual 52, 3) := by decide +kernel
theorem dX1_value_26 : decode cX1_value 26 = .ok (.istore_n 2, 1) := by decide +kernel
theorem dX1_value_27 : decode cX1_value 27 = .ok (.iload_n 2, 1) := by decide +kernel
theorem dX1_value_28 : decode cX1_value 28 = .ok (.ifCond .ge 8, 3) := by decide +kernel
theorem dX1_value_31 : decode cX1_value 31 = .ok (.bipush (-2), 2) := by decide +kernel
theorem dX1_value_33 : decode cX1_value 33 = .ok (.goto 4, 3) := by decide +kernel
theorem dX1_value_36 : decode cX1_value 36 = .ok (.iload_n 2, 1) := by decide +kernel
theorem dX1_value_37 : decode cX1_value 37 = .ok (.ireturn, 1) := by decide +kernel
abbrev cX1_settle : ByteArray := prog_1_method_28_code
def yX1_settle : MethodName := ⟨RX1, "settle", "(I)I"⟩
theorem dX1_settle_0 : decode cX1_settle 0 = .ok (.aload_n 0, 1) := by decide +kernel
theorem dX1_settle_1 : decode cX1_settle 1 = .ok (.iload_n 1, 1) := by decide +kernel
theorem dX1_settle_2 : decode cX1_settle 2 = .ok (.iconst 0, 1) := by decide +kernel
theorem dX1_settle_3 : decode cX1_settle 3 = .ok (.invokevirtual 85, 3) := by decide +kernel
theorem dX1_settle_6 : decode cX1_settle 6 = .ok (.aload_n 0, 1) := by decide +kernel
theorem dX1_settle_7 : decode cX1_settle 7 = .ok (.getfield 41, 3) := by decide +kernel
theorem dX1_settle_10 : decode cX1_settle 10 = .ok (.ifCond .eq 17, 3) := by decide +kernel
theorem dX1_settle_13 : decode cX1_settle 13 = .ok (.aload_n 0, 1) := by decide +kernel
theorem dX1_settle_14 : decode cX1_settle 14 = .ok (.getfield 73, 3) := by decide +kernel
theorem dX1_settle_17 : decode cX1_settle 17 = .ok (.ifCond .ne 10, 3) := by decide +kernel
theorem dX1_settle_20 : decode cX1_settle 20 = .ok (.aload_n 0, 1) := by decide +kernel
theorem dX1_settle_21 : decode cX1_settle 21 = .ok (.getfield 76, 3) := by decide +kernel
theorem dX1_settle_24 : decode cX1_settle 24 = .ok (.goto 4, 3) := by decide +kernel
theorem dX1_settle_27 : decode cX1_settle 27 = .ok (.iconst (-1), 1) := by decide +kernel
theorem dX1_settle_28 : decode cX1_settle 28 = .ok (.ireturn, 1) := by decide +kernel
abbrev cX1_sumOf : ByteArray := prog_1_method_12_code
def yX1_sumOf : MethodName := ⟨RX1, "sumOf", "(I)I"⟩
theorem dX1_sumOf_0 : decode cX1_sumOf 0 = .ok (.aload_n 0, 1) := by decide +kernel
theorem dX1_sumOf_1 : decode cX1_sumOf 1 = .ok (.iload_n 1, 1) := by decide +kernel
theorem dX1_sumOf_2 : decode cX1_sumOf 2 = .ok (.invokevirtual 55, 3) := by decide +kernel
theorem dX1_sumOf_5 : decode cX1_sumOf 5 = .ok (.ifCond .ne 5, 3) := by decide +kernel
theorem dX1_sumOf_8 : decode cX1_sumOf 8 = .ok (.iconst (-1), 1) := by decide +kernel
theorem dX1_sumOf_9 : decode cX1_sumOf 9 = .ok (.ireturn, 1) := by decide +kernel
theorem dX1_sumOf_10 : decode cX1_sumOf 10 = .ok (.aload_n 0, 1) := by decide +kernel
theorem dX1_sumOf_11 : decode cX1_sumOf 11 = .ok (.iconst (-1), 1) := by decide +kernel
theorem dX1_sumOf_12 : decode cX1_sumOf 12 = .ok (.invokevirtual 37, 3) := by decide +kernel
theorem dX1_sumOf_15 : decode cX1_sumOf 15 = .ok (.aload_n 0, 1) := by decide +kernel
theorem dX1_sumOf_16 : decode cX1_sumOf 16 = .ok (.iload_n 1, 1) := by decide +kernel
theorem dX1_sumOf_17 : decode cX1_sumOf 17 = .ok (.invokevirtual 52, 3) := by decide +kernel
theorem dX1_sumOf_20 : decode cX1_sumOf 20 = .ok (.istore_n 2, 1) := by decide +kernel
theorem dX1_sumOf_21 : decode cX1_sumOf 21 = .ok (.iload_n 2, 1) := by decide +kernel
theorem dX1_sumOf_22 : decode cX1_sumOf 22 = .ok (.ifCond .ge 8, 3) := by decide +kernel
theorem dX1_sumOf_25 : decode cX1_sumOf 25 = .ok (.bipush (-2), 2) := by decide +kernel
theorem dX1_sumOf_27 : decode cX1_sumOf 27 = .ok (.goto 4, 3) := by decide +kernel
theorem dX1_sumOf_30 : decode cX1_sumOf 30 = .ok (.iload_n 2, 1) := by decide +kernel
theorem dX1_sumOf_31 : decode cX1_sumOf 31 = .ok (.ireturn, 1) := by decide +kernel
abbrev cX1_isSet : ByteArray := prog_1_method_19_code
def yX1_isSet : MethodName := ⟨RX1, "isSet", "(I)Z"⟩
theorem dX1_isSet_0 : decode cX1_isSet 0 = .ok (.iload_n 1, 1) := by decide +kernel
theorem dX1_isSet_1 : decode cX1_isSet 1 = .ok (.ifCond .lt 17, 3) := by decide +kernel
theorem dX1_isSet_4 : decode cX1_isSet 4 = .ok (.iload_n 1, 1) := by decide +kernel
theorem dX1_isSet_5 : decode cX1_isSet 5 = .ok (.iconst 1, 1) := by decide +kernel
theorem dX1_isSet_6 : decode cX1_isSet 6 = .ok (.aload_n 0, 1) := by decide +kernel
theorem dX1_isSet_7 : decode cX1_isSet 7 = .ok (.getfield 22, 3) := by decide +kernel
theorem dX1_isSet_10 : decode cX1_isSet 10 = .ok (.ishl, 1) := by decide +kernel
theorem dX1_isSet_11 : decode cX1_isSet 11 = .ok (.if_icmp .ge 7, 3) := by decide +kernel
theorem dX1_isSet_14 : decode cX1_isSet 14 = .ok (.iconst 1, 1) := by decide +kernel
theorem dX1_isSet_15 : decode cX1_isSet 15 = .ok (.goto 4, 3) := by decide +kernel
theorem dX1_isSet_18 : decode cX1_isSet 18 = .ok (.iconst 0, 1) := by decide +kernel
theorem dX1_isSet_19 : decode cX1_isSet 19 = .ok (.ireturn, 1) := by decide +kernel
abbrev cX1_peeled : ByteArray := prog_1_method_13_code
def yX1_peeled : MethodName := ⟨RX1, "peeled", "()I"⟩
theorem dX1_peeled_0 : decode cX1_peeled 0 = .ok (.aload_n 0, 1) := by decide +kernel
theorem dX1_peeled_1 : decode cX1_peeled 1 = .ok (.iconst 0, 1) := by decide +kernel
theorem dX1_peeled_2 : decode cX1_peeled 2 = .ok (.invokevirtual 59, 3) := by decide +kernel
theorem dX1_peeled_5 : decode cX1_peeled 5 = .ok (.ireturn, 1) := by decide +kernel
abbrev cX1_peelFrom : ByteArray := prog_1_method_30_code
def yX1_peelFrom : MethodName := ⟨RX1, "peelFrom", "(I)I"⟩
theorem dX1_peelFrom_0 : decode cX1_peelFrom 0 = .ok (.iload_n 1, 1) := by decide +kernel
theorem dX1_peelFrom_1 : decode cX1_peelFrom 1 = .ok (.istore_n 2, 1) := by decide +kernel
theorem dX1_peelFrom_2 : decode cX1_peelFrom 2 = .ok (.iconst 0, 1) := by decide +kernel
theorem dX1_peelFrom_3 : decode cX1_peelFrom 3 = .ok (.istore_n 3, 1) := by decide +kernel
theorem dX1_peelFrom_4 : decode cX1_peelFrom 4 = .ok (.iload_n 3, 1) := by decide +kernel
theorem dX1_peelFrom_5 : decode cX1_peelFrom 5 = .ok (.aload_n 0, 1) := by decide +kernel
theorem dX1_peelFrom_6 : decode cX1_peelFrom 6 = .ok (.getfield 22, 3) := by decide +kernel
theorem dX1_peelFrom_9 : decode cX1_peelFrom 9 = .ok (.if_icmp .gt 67, 3) := by decide +kernel
theorem dX1_peelFrom_12 : decode cX1_peelFrom 12 = .ok (.iload_n 2, 1) := by decide +kernel
theorem dX1_peelFrom_13 : decode cX1_peelFrom 13 = .ok (.istore 4, 2) := by decide +kernel
theorem dX1_peelFrom_15 : decode cX1_peelFrom 15 = .ok (.iconst 0, 1) := by decide +kernel
theorem dX1_peelFrom_16 : decode cX1_peelFrom 16 = .ok (.istore 5, 2) := by decide +kernel
theorem dX1_peelFrom_18 : decode cX1_peelFrom 18 = .ok (.iload 5, 2) := by decide +kernel
theorem dX1_peelFrom_20 : decode cX1_peelFrom 20 = .ok (.aload_n 0, 1) := by decide +kernel
theorem dX1_peelFrom_21 : decode cX1_peelFrom 21 = .ok (.getfield 26, 3) := by decide +kernel
theorem dX1_peelFrom_24 : decode cX1_peelFrom 24 = .ok (.if_icmp .ge 37, 3) := by decide +kernel
theorem dX1_peelFrom_27 : decode cX1_peelFrom 27 = .ok (.aload_n 0, 1) := by decide +kernel
theorem dX1_peelFrom_28 : decode cX1_peelFrom 28 = .ok (.getfield 7, 3) := by decide +kernel
theorem dX1_peelFrom_31 : decode cX1_peelFrom 31 = .ok (.iload 5, 2) := by decide +kernel
theorem dX1_peelFrom_33 : decode cX1_peelFrom 33 = .ok (.iaload, 1) := by decide +kernel
theorem dX1_peelFrom_34 : decode cX1_peelFrom 34 = .ok (.iload_n 2, 1) := by decide +kernel
theorem dX1_peelFrom_35 : decode cX1_peelFrom 35 = .ok (.iconst (-1), 1) := by decide +kernel
theorem dX1_peelFrom_36 : decode cX1_peelFrom 36 = .ok (.ixor, 1) := by decide +kernel
theorem dX1_peelFrom_37 : decode cX1_peelFrom 37 = .ok (.iand, 1) := by decide +kernel
theorem dX1_peelFrom_38 : decode cX1_peelFrom 38 = .ok (.istore 6, 2) := by decide +kernel
theorem dX1_peelFrom_40 : decode cX1_peelFrom 40 = .ok (.iload 6, 2) := by decide +kernel
theorem dX1_peelFrom_42 : decode cX1_peelFrom 42 = .ok (.iload 6, 2) := by decide +kernel
theorem dX1_peelFrom_44 : decode cX1_peelFrom 44 = .ok (.iconst 1, 1) := by decide +kernel
theorem dX1_peelFrom_45 : decode cX1_peelFrom 45 = .ok (.isub, 1) := by decide +kernel
theorem dX1_peelFrom_46 : decode cX1_peelFrom 46 = .ok (.iand, 1) := by decide +kernel
theorem dX1_peelFrom_47 : decode cX1_peelFrom 47 = .ok (.ifCond .ne 8, 3) := by decide +kernel
theorem dX1_peelFrom_50 : decode cX1_peelFrom 50 = .ok (.iload_n 2, 1) := by decide +kernel
theorem dX1_peelFrom_51 : decode cX1_peelFrom 51 = .ok (.iload 6, 2) := by decide +kernel
theorem dX1_peelFrom_53 : decode cX1_peelFrom 53 = .ok (.ior, 1) := by decide +kernel
theorem dX1_peelFrom_54 : decode cX1_peelFrom 54 = .ok (.istore_n 2, 1) := by decide +kernel
theorem dX1_peelFrom_55 : decode cX1_peelFrom 55 = .ok (.iinc 5 1, 3) := by decide +kernel
theorem dX1_peelFrom_58 : decode cX1_peelFrom 58 = .ok (.goto (-40), 3) := by decide +kernel
theorem dX1_peelFrom_61 : decode cX1_peelFrom 61 = .ok (.iload 4, 2) := by decide +kernel
theorem dX1_peelFrom_63 : decode cX1_peelFrom 63 = .ok (.iload_n 2, 1) := by decide +kernel
theorem dX1_peelFrom_64 : decode cX1_peelFrom 64 = .ok (.if_icmp .ne 6, 3) := by decide +kernel
theorem dX1_peelFrom_67 : decode cX1_peelFrom 67 = .ok (.goto 9, 3) := by decide +kernel
theorem dX1_peelFrom_70 : decode cX1_peelFrom 70 = .ok (.iinc 3 1, 3) := by decide +kernel
theorem dX1_peelFrom_73 : decode cX1_peelFrom 73 = .ok (.goto (-69), 3) := by decide +kernel
theorem dX1_peelFrom_76 : decode cX1_peelFrom 76 = .ok (.iload_n 2, 1) := by decide +kernel
theorem dX1_peelFrom_77 : decode cX1_peelFrom 77 = .ok (.ireturn, 1) := by decide +kernel
abbrev cX1_isSeed : ByteArray := prog_1_method_14_code
def yX1_isSeed : MethodName := ⟨RX1, "isSeed", "(I)I"⟩
theorem dX1_isSeed_0 : decode cX1_isSeed 0 = .ok (.aload_n 0, 1) := by decide +kernel
theorem dX1_isSeed_1 : decode cX1_isSeed 1 = .ok (.iload_n 1, 1) := by decide +kernel
theorem dX1_isSeed_2 : decode cX1_isSeed 2 = .ok (.invokevirtual 55, 3) := by decide +kernel
theorem dX1_isSeed_5 : decode cX1_isSeed 5 = .ok (.ifCond .ne 5, 3) := by decide +kernel
theorem dX1_isSeed_8 : decode cX1_isSeed 8 = .ok (.iconst (-1), 1) := by decide +kernel
theorem dX1_isSeed_9 : decode cX1_isSeed 9 = .ok (.ireturn, 1) := by decide +kernel
theorem dX1_isSeed_10 : decode cX1_isSeed 10 = .ok (.aload_n 0, 1) := by decide +kernel
theorem dX1_isSeed_11 : decode cX1_isSeed 11 = .ok (.iload_n 1, 1) := by decide +kernel
theorem dX1_isSeed_12 : decode cX1_isSeed 12 = .ok (.invokevirtual 59, 3) := by decide +kernel
theorem dX1_isSeed_15 : decode cX1_isSeed 15 = .ok (.iconst 1, 1) := by decide +kernel
theorem dX1_isSeed_16 : decode cX1_isSeed 16 = .ok (.aload_n 0, 1) := by decide +kernel
theorem dX1_isSeed_17 : decode cX1_isSeed 17 = .ok (.getfield 22, 3) := by decide +kernel
theorem dX1_isSeed_20 : decode cX1_isSeed 20 = .ok (.ishl, 1) := by decide +kernel
theorem dX1_isSeed_21 : decode cX1_isSeed 21 = .ok (.iconst 1, 1) := by decide +kernel
theorem dX1_isSeed_22 : decode cX1_isSeed 22 = .ok (.isub, 1) := by decide +kernel
theorem dX1_isSeed_23 : decode cX1_isSeed 23 = .ok (.if_icmp .ne 7, 3) := by decide +kernel
theorem dX1_isSeed_26 : decode cX1_isSeed 26 = .ok (.iconst 1, 1) := by decide +kernel
theorem dX1_isSeed_27 : decode cX1_isSeed 27 = .ok (.goto 4, 3) := by decide +kernel
theorem dX1_isSeed_30 : decode cX1_isSeed 30 = .ok (.iconst 0, 1) := by decide +kernel
theorem dX1_isSeed_31 : decode cX1_isSeed 31 = .ok (.ireturn, 1) := by decide +kernel
abbrev cX1_seedSize : ByteArray := prog_1_method_15_code
def yX1_seedSize : MethodName := ⟨RX1, "seedSize", "()I"⟩
theorem dX1_seedSize_0 : decode cX1_seedSize 0 = .ok (.aload_n 0, 1) := by decide +kernel
theorem dX1_seedSize_1 : decode cX1_seedSize 1 = .ok (.invokevirtual 62, 3) := by decide +kernel
theorem dX1_seedSize_4 : decode cX1_seedSize 4 = .ok (.istore_n 1, 1) := by decide +kernel
theorem dX1_seedSize_5 : decode cX1_seedSize 5 = .ok (.iload_n 1, 1) := by decide +kernel
theorem dX1_seedSize_6 : decode cX1_seedSize 6 = .ok (.invokestatic 65, 3) := by decide +kernel
theorem dX1_seedSize_9 : decode cX1_seedSize 9 = .ok (.ireturn, 1) := by decide +kernel
abbrev cX1_seed : ByteArray := prog_1_method_16_code
def yX1_seed : MethodName := ⟨RX1, "seed", "()I"⟩
theorem dX1_seed_0 : decode cX1_seed 0 = .ok (.iconst 1, 1) := by decide +kernel
theorem dX1_seed_1 : decode cX1_seed 1 = .ok (.aload_n 0, 1) := by decide +kernel
theorem dX1_seed_2 : decode cX1_seed 2 = .ok (.getfield 22, 3) := by decide +kernel
theorem dX1_seed_5 : decode cX1_seed 5 = .ok (.ishl, 1) := by decide +kernel
theorem dX1_seed_6 : decode cX1_seed 6 = .ok (.iconst 1, 1) := by decide +kernel
theorem dX1_seed_7 : decode cX1_seed 7 = .ok (.isub, 1) := by decide +kernel
theorem dX1_seed_8 : decode cX1_seed 8 = .ok (.istore_n 1, 1) := by decide +kernel
theorem dX1_seed_9 : decode cX1_seed 9 = .ok (.iload_n 1, 1) := by decide +kernel
theorem dX1_seed_10 : decode cX1_seed 10 = .ok (.istore_n 2, 1) := by decide +kernel
theorem dX1_seed_11 : decode cX1_seed 11 = .ok (.iconst 0, 1) := by decide +kernel
theorem dX1_seed_12 : decode cX1_seed 12 = .ok (.istore_n 3, 1) := by decide +kernel
theorem dX1_seed_13 : decode cX1_seed 13 = .ok (.iload_n 3, 1) := by decide +kernel
theorem dX1_seed_14 : decode cX1_seed 14 = .ok (.iload_n 1, 1) := by decide +kernel
theorem dX1_seed_15 : decode cX1_seed 15 = .ok (.if_icmp .ge 31, 3) := by decide +kernel
theorem dX1_seed_18 : decode cX1_seed 18 = .ok (.iload_n 3, 1) := by decide +kernel
theorem dX1_seed_19 : decode cX1_seed 19 = .ok (.invokestatic 65, 3) := by decide +kernel
theorem dX1_seed_22 : decode cX1_seed 22 = .ok (.iload_n 2, 1) := by decide +kernel
theorem dX1_seed_23 : decode cX1_seed 23 = .ok (.invokestatic 65, 3) := by decide +kernel
theorem dX1_seed_26 : decode cX1_seed 26 = .ok (.if_icmp .ge 14, 3) := by decide +kernel
theorem dX1_seed_29 : decode cX1_seed 29 = .ok (.aload_n 0, 1) := by decide +kernel
theorem dX1_seed_30 : decode cX1_seed 30 = .ok (.iload_n 3, 1) := by decide +kernel
theorem dX1_seed_31 : decode cX1_seed 31 = .ok (.invokevirtual 59, 3) := by decide +kernel
theorem dX1_seed_34 : decode cX1_seed 34 = .ok (.iload_n 1, 1) := by decide +kernel
theorem dX1_seed_35 : decode cX1_seed 35 = .ok (.if_icmp .ne 5, 3) := by decide +kernel
theorem dX1_seed_38 : decode cX1_seed 38 = .ok (.iload_n 3, 1) := by decide +kernel
theorem dX1_seed_39 : decode cX1_seed 39 = .ok (.istore_n 2, 1) := by decide +kernel
theorem dX1_seed_40 : decode cX1_seed 40 = .ok (.iinc 3 1, 3) := by decide +kernel
theorem dX1_seed_43 : decode cX1_seed 43 = .ok (.goto (-30), 3) := by decide +kernel
theorem dX1_seed_46 : decode cX1_seed 46 = .ok (.iload_n 2, 1) := by decide +kernel
theorem dX1_seed_47 : decode cX1_seed 47 = .ok (.ireturn, 1) := by decide +kernel
abbrev cX1_ones : ByteArray := prog_1_method_20_code
def yX1_ones : MethodName := ⟨RX1, "ones", "(I)I"⟩
theorem dX1_ones_0 : decode cX1_ones 0 = .ok (.iconst 0, 1) := by decide +kernel
theorem dX1_ones_1 : decode cX1_ones 1 = .ok (.istore_n 1, 1) := by decide +kernel
theorem dX1_ones_2 : decode cX1_ones 2 = .ok (.iconst 0, 1) := by decide +kernel
theorem dX1_ones_3 : decode cX1_ones 3 = .ok (.istore_n 2, 1) := by decide +kernel
theorem dX1_ones_4 : decode cX1_ones 4 = .ok (.iload_n 2, 1) := by decide +kernel
theorem dX1_ones_5 : decode cX1_ones 5 = .ok (.bipush 8, 2) := by decide +kernel
theorem dX1_ones_7 : decode cX1_ones 7 = .ok (.if_icmp .ge 17, 3) := by decide +kernel
theorem dX1_ones_10 : decode cX1_ones 10 = .ok (.iload_n 1, 1) := by decide +kernel
theorem dX1_ones_11 : decode cX1_ones 11 = .ok (.iload_n 0, 1) := by decide +kernel
theorem dX1_ones_12 : decode cX1_ones 12 = .ok (.iload_n 2, 1) := by decide +kernel
theorem dX1_ones_13 : decode cX1_ones 13 = .ok (.ishr, 1) := by decide +kernel
theorem dX1_ones_14 : decode cX1_ones 14 = .ok (.iconst 1, 1) := by decide +kernel
theorem dX1_ones_15 : decode cX1_ones 15 = .ok (.iand, 1) := by decide +kernel
theorem dX1_ones_16 : decode cX1_ones 16 = .ok (.iadd, 1) := by decide +kernel
theorem dX1_ones_17 : decode cX1_ones 17 = .ok (.istore_n 1, 1) := by decide +kernel
theorem dX1_ones_18 : decode cX1_ones 18 = .ok (.iinc 2 1, 3) := by decide +kernel
theorem dX1_ones_21 : decode cX1_ones 21 = .ok (.goto (-17), 3) := by decide +kernel
theorem dX1_ones_24 : decode cX1_ones 24 = .ok (.iload_n 1, 1) := by decide +kernel
theorem dX1_ones_25 : decode cX1_ones 25 = .ok (.ireturn, 1) := by decide +kernel
abbrev cX1_spare : ByteArray := prog_1_method_17_code
def yX1_spare : MethodName := ⟨RX1, "spare", "()I"⟩
theorem dX1_spare_0 : decode cX1_spare 0 = .ok (.aload_n 0, 1) := by decide +kernel
theorem dX1_spare_1 : decode cX1_spare 1 = .ok (.iconst (-1), 1) := by decide +kernel
theorem dX1_spare_2 : decode cX1_spare 2 = .ok (.invokevirtual 37, 3) := by decide +kernel
theorem dX1_spare_5 : decode cX1_spare 5 = .ok (.aload_n 0, 1) := by decide +kernel
theorem dX1_spare_6 : decode cX1_spare 6 = .ok (.invokevirtual 48, 3) := by decide +kernel
theorem dX1_spare_9 : decode cX1_spare 9 = .ok (.istore_n 1, 1) := by decide +kernel
theorem dX1_spare_10 : decode cX1_spare 10 = .ok (.iconst 0, 1) := by decide +kernel
theorem dX1_spare_11 : decode cX1_spare 11 = .ok (.istore_n 2, 1) := by decide +kernel
theorem dX1_spare_12 : decode cX1_spare 12 = .ok (.iconst 0, 1) := by decide +kernel
theorem dX1_spare_13 : decode cX1_spare 13 = .ok (.istore_n 3, 1) := by decide +kernel
theorem dX1_spare_14 : decode cX1_spare 14 = .ok (.iload_n 3, 1) := by decide +kernel
theorem dX1_spare_15 : decode cX1_spare 15 = .ok (.aload_n 0, 1) := by decide +kernel
theorem dX1_spare_16 : decode cX1_spare 16 = .ok (.getfield 26, 3) := by decide +kernel
theorem dX1_spare_19 : decode cX1_spare 19 = .ok (.if_icmp .ge 37, 3) := by decide +kernel
theorem dX1_spare_22 : decode cX1_spare 22 = .ok (.aload_n 0, 1) := by decide +kernel
theorem dX1_spare_23 : decode cX1_spare 23 = .ok (.iload_n 3, 1) := by decide +kernel
theorem dX1_spare_24 : decode cX1_spare 24 = .ok (.invokevirtual 37, 3) := by decide +kernel
theorem dX1_spare_27 : decode cX1_spare 27 = .ok (.aload_n 0, 1) := by decide +kernel
theorem dX1_spare_28 : decode cX1_spare 28 = .ok (.invokevirtual 48, 3) := by decide +kernel
theorem dX1_spare_31 : decode cX1_spare 31 = .ok (.istore 4, 2) := by decide +kernel
theorem dX1_spare_33 : decode cX1_spare 33 = .ok (.iload_n 2, 1) := by decide +kernel
theorem dX1_spare_34 : decode cX1_spare 34 = .ok (.iload_n 1, 1) := by decide +kernel
theorem dX1_spare_35 : decode cX1_spare 35 = .ok (.iload 4, 2) := by decide +kernel
theorem dX1_spare_37 : decode cX1_spare 37 = .ok (.iconst (-1), 1) := by decide +kernel
theorem dX1_spare_38 : decode cX1_spare 38 = .ok (.ixor, 1) := by decide +kernel
theorem dX1_spare_39 : decode cX1_spare 39 = .ok (.iand, 1) := by decide +kernel
theorem dX1_spare_40 : decode cX1_spare 40 = .ok (.ifCond .ne 7, 3) := by decide +kernel
theorem dX1_spare_43 : decode cX1_spare 43 = .ok (.iconst 1, 1) := by decide +kernel
theorem dX1_spare_44 : decode cX1_spare 44 = .ok (.goto 4, 3) := by decide +kernel
theorem dX1_spare_47 : decode cX1_spare 47 = .ok (.iconst 0, 1) := by decide +kernel
theorem dX1_spare_48 : decode cX1_spare 48 = .ok (.iadd, 1) := by decide +kernel
theorem dX1_spare_49 : decode cX1_spare 49 = .ok (.istore_n 2, 1) := by decide +kernel
theorem dX1_spare_50 : decode cX1_spare 50 = .ok (.iinc 3 1, 3) := by decide +kernel
theorem dX1_spare_53 : decode cX1_spare 53 = .ok (.goto (-39), 3) := by decide +kernel
theorem dX1_spare_56 : decode cX1_spare 56 = .ok (.iload_n 2, 1) := by decide +kernel
theorem dX1_spare_57 : decode cX1_spare 57 = .ok (.ireturn, 1) := by decide +kernel
abbrev cX1_useful : ByteArray := prog_1_method_18_code
def yX1_useful : MethodName := ⟨RX1, "useful", "()I"⟩
theorem dX1_useful_0 : decode cX1_useful 0 = .ok (.aload_n 0, 1) := by decide +kernel
theorem dX1_useful_1 : decode cX1_useful 1 = .ok (.iconst (-1), 1) := by decide +kernel
theorem dX1_useful_2 : decode cX1_useful 2 = .ok (.invokevirtual 37, 3) := by decide +kernel
theorem dX1_useful_5 : decode cX1_useful 5 = .ok (.aload_n 0, 1) := by decide +kernel
theorem dX1_useful_6 : decode cX1_useful 6 = .ok (.getfield 41, 3) := by decide +kernel
theorem dX1_useful_9 : decode cX1_useful 9 = .ok (.ifCond .ne 5, 3) := by decide +kernel
theorem dX1_useful_12 : decode cX1_useful 12 = .ok (.iconst (-1), 1) := by decide +kernel
theorem dX1_useful_13 : decode cX1_useful 13 = .ok (.ireturn, 1) := by decide +kernel
theorem dX1_useful_14 : decode cX1_useful 14 = .ok (.aload_n 0, 1) := by decide +kernel
theorem dX1_useful_15 : decode cX1_useful 15 = .ok (.invokevirtual 48, 3) := by decide +kernel
theorem dX1_useful_18 : decode cX1_useful 18 = .ok (.istore_n 1, 1) := by decide +kernel
theorem dX1_useful_19 : decode cX1_useful 19 = .ok (.iconst 0, 1) := by decide +kernel
theorem dX1_useful_20 : decode cX1_useful 20 = .ok (.istore_n 2, 1) := by decide +kernel
theorem dX1_useful_21 : decode cX1_useful 21 = .ok (.iload_n 2, 1) := by decide +kernel
theorem dX1_useful_22 : decode cX1_useful 22 = .ok (.sipush 10000, 3) := by decide +kernel
theorem dX1_useful_25 : decode cX1_useful 25 = .ok (.if_icmp .ge 34, 3) := by decide +kernel
theorem dX1_useful_28 : decode cX1_useful 28 = .ok (.aload_n 0, 1) := by decide +kernel
theorem dX1_useful_29 : decode cX1_useful 29 = .ok (.iload_n 2, 1) := by decide +kernel
theorem dX1_useful_30 : decode cX1_useful 30 = .ok (.invokevirtual 33, 3) := by decide +kernel
theorem dX1_useful_33 : decode cX1_useful 33 = .ok (.istore_n 3, 1) := by decide +kernel
theorem dX1_useful_34 : decode cX1_useful 34 = .ok (.aload_n 0, 1) := by decide +kernel
theorem dX1_useful_35 : decode cX1_useful 35 = .ok (.iload_n 3, 1) := by decide +kernel
theorem dX1_useful_36 : decode cX1_useful 36 = .ok (.invokevirtual 52, 3) := by decide +kernel
theorem dX1_useful_39 : decode cX1_useful 39 = .ok (.ifCond .ge 14, 3) := by decide +kernel
theorem dX1_useful_42 : decode cX1_useful 42 = .ok (.aload_n 0, 1) := by decide +kernel
theorem dX1_useful_43 : decode cX1_useful 43 = .ok (.iload_n 3, 1) := by decide +kernel
theorem dX1_useful_44 : decode cX1_useful 44 = .ok (.iload_n 1, 1) := by decide +kernel
theorem dX1_useful_45 : decode cX1_useful 45 = .ok (.invokevirtual 68, 3) := by decide +kernel
theorem dX1_useful_48 : decode cX1_useful 48 = .ok (.ifCond .eq 5, 3) := by decide +kernel
theorem dX1_useful_51 : decode cX1_useful 51 = .ok (.iload_n 2, 1) := by decide +kernel
theorem dX1_useful_52 : decode cX1_useful 52 = .ok (.ireturn, 1) := by decide +kernel
theorem dX1_useful_53 : decode cX1_useful 53 = .ok (.iinc 2 1, 3) := by decide +kernel
theorem dX1_useful_56 : decode cX1_useful 56 = .ok (.goto (-35), 3) := by decide +kernel
theorem dX1_useful_59 : decode cX1_useful 59 = .ok (.iconst (-1), 1) := by decide +kernel
theorem dX1_useful_60 : decode cX1_useful 60 = .ok (.ireturn, 1) := by decide +kernel
abbrev cX1_wouldHelp : ByteArray := prog_1_method_29_code
def yX1_wouldHelp : MethodName := ⟨RX1, "wouldHelp", "(II)Z"⟩
theorem dX1_wouldHelp_0 : decode cX1_wouldHelp 0 = .ok (.aload_n 0, 1) := by decide +kernel
theorem dX1_wouldHelp_1 : decode cX1_wouldHelp 1 = .ok (.iload_n 1, 1) := by decide +kernel
theorem dX1_wouldHelp_2 : decode cX1_wouldHelp 2 = .ok (.iconst 0, 1) := by decide +kernel
theorem dX1_wouldHelp_3 : decode cX1_wouldHelp 3 = .ok (.invokevirtual 85, 3) := by decide +kernel
theorem dX1_wouldHelp_6 : decode cX1_wouldHelp 6 = .ok (.aload_n 0, 1) := by decide +kernel
theorem dX1_wouldHelp_7 : decode cX1_wouldHelp 7 = .ok (.getfield 73, 3) := by decide +kernel
theorem dX1_wouldHelp_10 : decode cX1_wouldHelp 10 = .ok (.istore_n 3, 1) := by decide +kernel
theorem dX1_wouldHelp_11 : decode cX1_wouldHelp 11 = .ok (.iload_n 3, 1) := by decide +kernel
theorem dX1_wouldHelp_12 : decode cX1_wouldHelp 12 = .ok (.invokestatic 79, 3) := by decide +kernel
theorem dX1_wouldHelp_15 : decode cX1_wouldHelp 15 = .ok (.istore 4, 2) := by decide +kernel
theorem dX1_wouldHelp_17 : decode cX1_wouldHelp 17 = .ok (.iload_n 3, 1) := by decide +kernel
theorem dX1_wouldHelp_18 : decode cX1_wouldHelp 18 = .ok (.iload_n 3, 1) := by decide +kernel
theorem dX1_wouldHelp_19 : decode cX1_wouldHelp 19 = .ok (.iconst 1, 1) := by decide +kernel
theorem dX1_wouldHelp_20 : decode cX1_wouldHelp 20 = .ok (.isub, 1) := by decide +kernel
theorem dX1_wouldHelp_21 : decode cX1_wouldHelp 21 = .ok (.iand, 1) := by decide +kernel
theorem dX1_wouldHelp_22 : decode cX1_wouldHelp 22 = .ok (.ifCond .ne 7, 3) := by decide +kernel
theorem dX1_wouldHelp_25 : decode cX1_wouldHelp 25 = .ok (.iload_n 3, 1) := by decide +kernel
theorem dX1_wouldHelp_26 : decode cX1_wouldHelp 26 = .ok (.goto 4, 3) := by decide +kernel
theorem dX1_wouldHelp_29 : decode cX1_wouldHelp 29 = .ok (.iconst 0, 1) := by decide +kernel
theorem dX1_wouldHelp_30 : decode cX1_wouldHelp 30 = .ok (.istore 5, 2) := by decide +kernel
theorem dX1_wouldHelp_32 : decode cX1_wouldHelp 32 = .ok (.iconst 0, 1) := by decide +kernel
theorem dX1_wouldHelp_33 : decode cX1_wouldHelp 33 = .ok (.istore 6, 2) := by decide +kernel
theorem dX1_wouldHelp_35 : decode cX1_wouldHelp 35 = .ok (.iload 6, 2) := by decide +kernel
theorem dX1_wouldHelp_37 : decode cX1_wouldHelp 37 = .ok (.aload_n 0, 1) := by decide +kernel
theorem dX1_wouldHelp_38 : decode cX1_wouldHelp 38 = .ok (.getfield 45, 3) := by decide +kernel
theorem dX1_wouldHelp_41 : decode cX1_wouldHelp 41 = .ok (.if_icmp .ge 64, 3) := by decide +kernel
theorem dX1_wouldHelp_44 : decode cX1_wouldHelp 44 = .ok (.aload_n 0, 1) := by decide +kernel
theorem dX1_wouldHelp_45 : decode cX1_wouldHelp 45 = .ok (.getfield 16, 3) := by decide +kernel
theorem dX1_wouldHelp_48 : decode cX1_wouldHelp 48 = .ok (.iload 6, 2) := by decide +kernel
theorem dX1_wouldHelp_50 : decode cX1_wouldHelp 50 = .ok (.iaload, 1) := by decide +kernel
theorem dX1_wouldHelp_51 : decode cX1_wouldHelp 51 = .ok (.iload 4, 2) := by decide +kernel
theorem dX1_wouldHelp_53 : decode cX1_wouldHelp 53 = .ok (.iand, 1) := by decide +kernel
theorem dX1_wouldHelp_54 : decode cX1_wouldHelp 54 = .ok (.ifCond .eq 15, 3) := by decide +kernel
theorem dX1_wouldHelp_57 : decode cX1_wouldHelp 57 = .ok (.aload_n 0, 1) := by decide +kernel
theorem dX1_wouldHelp_58 : decode cX1_wouldHelp 58 = .ok (.getfield 16, 3) := by decide +kernel
theorem dX1_wouldHelp_61 : decode cX1_wouldHelp 61 = .ok (.iload 6, 2) := by decide +kernel
theorem dX1_wouldHelp_63 : decode cX1_wouldHelp 63 = .ok (.iaload, 1) := by decide +kernel
theorem dX1_wouldHelp_64 : decode cX1_wouldHelp 64 = .ok (.iload_n 3, 1) := by decide +kernel
theorem dX1_wouldHelp_65 : decode cX1_wouldHelp 65 = .ok (.ixor, 1) := by decide +kernel
theorem dX1_wouldHelp_66 : decode cX1_wouldHelp 66 = .ok (.goto 10, 3) := by decide +kernel
theorem dX1_wouldHelp_69 : decode cX1_wouldHelp 69 = .ok (.aload_n 0, 1) := by decide +kernel
theorem dX1_wouldHelp_70 : decode cX1_wouldHelp 70 = .ok (.getfield 16, 3) := by decide +kernel
theorem dX1_wouldHelp_73 : decode cX1_wouldHelp 73 = .ok (.iload 6, 2) := by decide +kernel
theorem dX1_wouldHelp_75 : decode cX1_wouldHelp 75 = .ok (.iaload, 1) := by decide +kernel
theorem dX1_wouldHelp_76 : decode cX1_wouldHelp 76 = .ok (.istore 7, 2) := by decide +kernel
theorem dX1_wouldHelp_78 : decode cX1_wouldHelp 78 = .ok (.iload 5, 2) := by decide +kernel
theorem dX1_wouldHelp_80 : decode cX1_wouldHelp 80 = .ok (.iload 7, 2) := by decide +kernel
theorem dX1_wouldHelp_82 : decode cX1_wouldHelp 82 = .ok (.iload 7, 2) := by decide +kernel
theorem dX1_wouldHelp_84 : decode cX1_wouldHelp 84 = .ok (.iconst 1, 1) := by decide +kernel
theorem dX1_wouldHelp_85 : decode cX1_wouldHelp 85 = .ok (.isub, 1) := by decide +kernel
theorem dX1_wouldHelp_86 : decode cX1_wouldHelp 86 = .ok (.iand, 1) := by decide +kernel
theorem dX1_wouldHelp_87 : decode cX1_wouldHelp 87 = .ok (.ifCond .ne 8, 3) := by decide +kernel
theorem dX1_wouldHelp_90 : decode cX1_wouldHelp 90 = .ok (.iload 7, 2) := by decide +kernel
theorem dX1_wouldHelp_92 : decode cX1_wouldHelp 92 = .ok (.goto 4, 3) := by decide +kernel
theorem dX1_wouldHelp_95 : decode cX1_wouldHelp 95 = .ok (.iconst 0, 1) := by decide +kernel
theorem dX1_wouldHelp_96 : decode cX1_wouldHelp 96 = .ok (.ior, 1) := by decide +kernel
theorem dX1_wouldHelp_97 : decode cX1_wouldHelp 97 = .ok (.istore 5, 2) := by decide +kernel
theorem dX1_wouldHelp_99 : decode cX1_wouldHelp 99 = .ok (.iinc 6 1, 3) := by decide +kernel
theorem dX1_wouldHelp_102 : decode cX1_wouldHelp 102 = .ok (.goto (-67), 3) := by decide +kernel
theorem dX1_wouldHelp_105 : decode cX1_wouldHelp 105 = .ok (.iload 5, 2) := by decide +kernel
theorem dX1_wouldHelp_107 : decode cX1_wouldHelp 107 = .ok (.iload_n 2, 1) := by decide +kernel
theorem dX1_wouldHelp_108 : decode cX1_wouldHelp 108 = .ok (.iconst (-1), 1) := by decide +kernel
theorem dX1_wouldHelp_109 : decode cX1_wouldHelp 109 = .ok (.ixor, 1) := by decide +kernel
theorem dX1_wouldHelp_110 : decode cX1_wouldHelp 110 = .ok (.iand, 1) := by decide +kernel
theorem dX1_wouldHelp_111 : decode cX1_wouldHelp 111 = .ok (.ifCond .eq 7, 3) := by decide +kernel
theorem dX1_wouldHelp_114 : decode cX1_wouldHelp 114 = .ok (.iconst 1, 1) := by decide +kernel
theorem dX1_wouldHelp_115 : decode cX1_wouldHelp 115 = .ok (.goto 4, 3) := by decide +kernel
theorem dX1_wouldHelp_118 : decode cX1_wouldHelp 118 = .ok (.iconst 0, 1) := by decide +kernel
theorem dX1_wouldHelp_119 : decode cX1_wouldHelp 119 = .ok (.ireturn, 1) := by decide +kernel
theorem q21 : (Jvm.Cond.initialized "FountainDecoder") ∈ lw_all := lw_g (lw_at lw_m1 1 rfl) rfl
theorem q24 : (Jvm.Cond.instantiable "FountainDecoder" (10 : Nat)) ∈ lw_all := lw_g (lw_at lw_m1 4 rfl) rfl
theorem q26 : (Jvm.Cond.instanceMethod ({ cls := "FountainDecoder", name := "<init>", desc := "(I)V" } : Jvm.MethodName)) ∈ lw_all := lw_g (lw_at lw_m1 6 rfl) rfl
theorem q27 : (Jvm.Cond.code ({ cls := "FountainDecoder", name := "<init>", desc := "(I)V" } : Jvm.MethodName) prog_1_method_1_code (2 : Nat) (Option.none : Option Jvm.ClassFile.FieldType)) ∈ lw_all := lw_g (lw_at lw_m1 7 rfl) rfl
theorem q28 : (Jvm.Cond.methodLink "FountainDecoder" (1 : Nat) ({ cls := "java/lang/Object", name := "<init>", desc := "()V" } : Jvm.MethodName)) ∈ lw_all := lw_g (lw_at lw_m1 8 rfl) rfl
theorem q31 : (Jvm.Cond.fieldLink "FountainDecoder" (7 : Nat) "FountainDecoder" "sets" "[I") ∈ lw_all := lw_g (lw_at lw_m1 11 rfl) rfl
theorem q32 : (Jvm.Cond.fieldLink "FountainDecoder" (13 : Nat) "FountainDecoder" "values" "[I") ∈ lw_all := lw_g (lw_at lw_m1 12 rfl) rfl
theorem q33 : (Jvm.Cond.fieldLink "FountainDecoder" (16 : Nat) "FountainDecoder" "rowSet" "[I") ∈ lw_all := lw_g (lw_at lw_m1 13 rfl) rfl
theorem q34 : (Jvm.Cond.fieldLink "FountainDecoder" (19 : Nat) "FountainDecoder" "rowValue" "[I") ∈ lw_all := lw_g (lw_at lw_m1 14 rfl) rfl
theorem q35 : (Jvm.Cond.fieldLink "FountainDecoder" (22 : Nat) "FountainDecoder" "n" "I") ∈ lw_all := lw_g (lw_at lw_m1 15 rfl) rfl
theorem q36 : (Jvm.Cond.fieldLink "FountainDecoder" (26 : Nat) "FountainDecoder" "count" "I") ∈ lw_all := lw_g (lw_at lw_m1 16 rfl) rfl
theorem q37 : (Jvm.Cond.fieldLink "FountainDecoder" (45 : Nat) "FountainDecoder" "rows" "I") ∈ lw_all := lw_g (lw_at lw_m1 17 rfl) rfl
theorem q38 : (Jvm.Cond.fieldLink "FountainDecoder" (41 : Nat) "FountainDecoder" "sound" "Z") ∈ lw_all := lw_g (lw_at lw_m1 18 rfl) rfl
theorem q39 : (Jvm.Cond.fieldLink "FountainDecoder" (73 : Nat) "FountainDecoder" "left" "I") ∈ lw_all := lw_g (lw_at lw_m1 19 rfl) rfl
theorem q40 : (Jvm.Cond.fieldLink "FountainDecoder" (76 : Nat) "FountainDecoder" "leftValue" "I") ∈ lw_all := lw_g (lw_at lw_m1 20 rfl) rfl
theorem q41 : (Jvm.Cond.laysFinal "FountainDecoder" "FountainDecoder" "sets" "[I") ∈ lw_all := lw_g (lw_at lw_m1 21 rfl) rfl
theorem q42 : (Jvm.Cond.soleField "FountainDecoder" "sets") ∈ lw_all := lw_g (lw_at lw_m1 22 rfl) rfl
theorem q43 : (Jvm.Cond.laysFinal "FountainDecoder" "FountainDecoder" "values" "[I") ∈ lw_all := lw_g (lw_at lw_m1 23 rfl) rfl
theorem q44 : (Jvm.Cond.soleField "FountainDecoder" "values") ∈ lw_all := lw_g (lw_at lw_m1 24 rfl) rfl
theorem q45 : (Jvm.Cond.laysFinal "FountainDecoder" "FountainDecoder" "rowSet" "[I") ∈ lw_all := lw_g (lw_at lw_m1 25 rfl) rfl
theorem q46 : (Jvm.Cond.soleField "FountainDecoder" "rowSet") ∈ lw_all := lw_g (lw_at lw_m1 26 rfl) rfl
theorem q47 : (Jvm.Cond.laysFinal "FountainDecoder" "FountainDecoder" "rowValue" "[I") ∈ lw_all := lw_g (lw_at lw_m1 27 rfl) rfl
theorem q48 : (Jvm.Cond.soleField "FountainDecoder" "rowValue") ∈ lw_all := lw_g (lw_at lw_m1 28 rfl) rfl
theorem q49 : (Jvm.Cond.lays "FountainDecoder" "FountainDecoder" "n" "I") ∈ lw_all := lw_g (lw_at lw_m1 29 rfl) rfl
theorem q50 : (Jvm.Cond.soleField "FountainDecoder" "n") ∈ lw_all := lw_g (lw_at lw_m1 30 rfl) rfl
theorem q51 : (Jvm.Cond.lays "FountainDecoder" "FountainDecoder" "count" "I") ∈ lw_all := lw_g (lw_at lw_m1 31 rfl) rfl
theorem q52 : (Jvm.Cond.soleField "FountainDecoder" "count") ∈ lw_all := lw_g (lw_at lw_m1 32 rfl) rfl
theorem q53 : (Jvm.Cond.lays "FountainDecoder" "FountainDecoder" "rows" "I") ∈ lw_all := lw_g (lw_at lw_m1 33 rfl) rfl
theorem q54 : (Jvm.Cond.soleField "FountainDecoder" "rows") ∈ lw_all := lw_g (lw_at lw_m1 34 rfl) rfl
theorem q55 : (Jvm.Cond.lays "FountainDecoder" "FountainDecoder" "sound" "Z") ∈ lw_all := lw_g (lw_at lw_m1 35 rfl) rfl
theorem q56 : (Jvm.Cond.soleField "FountainDecoder" "sound") ∈ lw_all := lw_g (lw_at lw_m1 36 rfl) rfl
theorem q57 : (Jvm.Cond.lays "FountainDecoder" "FountainDecoder" "left" "I") ∈ lw_all := lw_g (lw_at lw_m1 37 rfl) rfl
theorem q58 : (Jvm.Cond.soleField "FountainDecoder" "left") ∈ lw_all := lw_g (lw_at lw_m1 38 rfl) rfl
theorem q59 : (Jvm.Cond.lays "FountainDecoder" "FountainDecoder" "leftValue" "I") ∈ lw_all := lw_g (lw_at lw_m1 39 rfl) rfl
theorem q60 : (Jvm.Cond.soleField "FountainDecoder" "leftValue") ∈ lw_all := lw_g (lw_at lw_m1 40 rfl) rfl
theorem q61 : (Jvm.Cond.superclass "FountainDecoder" "java/lang/Object") ∈ lw_all := lw_g (lw_at lw_m1 41 rfl) rfl
theorem q64 : (Jvm.Cond.instanceMethod ({ cls := "FountainDecoder", name := "blocks", desc := "()I" } : Jvm.MethodName)) ∈ lw_all := lw_g (lw_at lw_m1 44 rfl) rfl
theorem q65 : (Jvm.Cond.selects "FountainDecoder" ({ cls := "FountainDecoder", name := "blocks", desc := "()I" } : Jvm.MethodName) ({ cls := "FountainDecoder", name := "blocks", desc := "()I" } : Jvm.MethodName)) ∈ lw_all := lw_g (lw_at lw_m1 45 rfl) rfl
theorem q66 : (Jvm.Cond.code ({ cls := "FountainDecoder", name := "blocks", desc := "()I" } : Jvm.MethodName) prog_1_method_2_code (1 : Nat) (Option.some Jvm.ClassFile.FieldType.int)) ∈ lw_all := lw_g (lw_at lw_m1 46 rfl) rfl
theorem q68 : (Jvm.Cond.instanceMethod ({ cls := "FountainDecoder", name := "receive", desc := "(II)I" } : Jvm.MethodName)) ∈ lw_all := lw_g (lw_at lw_m1 48 rfl) rfl
theorem q69 : (Jvm.Cond.selects "FountainDecoder" ({ cls := "FountainDecoder", name := "receive", desc := "(II)I" } : Jvm.MethodName) ({ cls := "FountainDecoder", name := "receive", desc := "(II)I" } : Jvm.MethodName)) ∈ lw_all := lw_g (lw_at lw_m1 49 rfl) rfl
theorem q70 : (Jvm.Cond.code ({ cls := "FountainDecoder", name := "receive", desc := "(II)I" } : Jvm.MethodName) prog_1_method_3_code (3 : Nat) (Option.some Jvm.ClassFile.FieldType.int)) ∈ lw_all := lw_g (lw_at lw_m1 50 rfl) rfl
theorem q71 : (Jvm.Cond.methodLink "FountainDecoder" (29 : Nat) ({ cls := "FountainDecoder", name := "put", desc := "(II)V" } : Jvm.MethodName)) ∈ lw_all := lw_g (lw_at lw_m1 51 rfl) rfl
theorem q72 : (Jvm.Cond.privateMethod ({ cls := "FountainDecoder", name := "put", desc := "(II)V" } : Jvm.MethodName)) ∈ lw_tbl := lw_at lw_m1 52 rfl
theorem q73 : (Jvm.Cond.instanceMethod ({ cls := "FountainDecoder", name := "put", desc := "(II)V" } : Jvm.MethodName)) ∈ lw_all := lw_g (lw_at lw_m1 53 rfl) rfl
theorem q74 : (Jvm.Cond.code ({ cls := "FountainDecoder", name := "put", desc := "(II)V" } : Jvm.MethodName) prog_1_method_22_code (3 : Nat) (Option.none : Option Jvm.ClassFile.FieldType)) ∈ lw_all := lw_g (lw_at lw_m1 54 rfl) rfl
theorem q76 : (Jvm.Cond.instanceMethod ({ cls := "FountainDecoder", name := "draw", desc := "(II)I" } : Jvm.MethodName)) ∈ lw_all := lw_g (lw_at lw_m1 56 rfl) rfl
theorem q77 : (Jvm.Cond.selects "FountainDecoder" ({ cls := "FountainDecoder", name := "draw", desc := "(II)I" } : Jvm.MethodName) ({ cls := "FountainDecoder", name := "draw", desc := "(II)I" } : Jvm.MethodName)) ∈ lw_all := lw_g (lw_at lw_m1 57 rfl) rfl
theorem q78 : (Jvm.Cond.code ({ cls := "FountainDecoder", name := "draw", desc := "(II)I" } : Jvm.MethodName) prog_1_method_4_code (4 : Nat) (Option.some Jvm.ClassFile.FieldType.int)) ∈ lw_all := lw_g (lw_at lw_m1 58 rfl) rfl
theorem q79 : (Jvm.Cond.methodLink "FountainDecoder" (33 : Nat) ({ cls := "FountainDecoder", name := "drawn", desc := "(I)I" } : Jvm.MethodName)) ∈ lw_all := lw_g (lw_at lw_m1 59 rfl) rfl
theorem q80 : (Jvm.Cond.privateMethod ({ cls := "FountainDecoder", name := "drawn", desc := "(I)I" } : Jvm.MethodName)) ∈ lw_tbl := lw_at lw_m1 60 rfl
theorem q81 : (Jvm.Cond.instanceMethod ({ cls := "FountainDecoder", name := "drawn", desc := "(I)I" } : Jvm.MethodName)) ∈ lw_all := lw_g (lw_at lw_m1 61 rfl) rfl
theorem q82 : (Jvm.Cond.code ({ cls := "FountainDecoder", name := "drawn", desc := "(I)I" } : Jvm.MethodName) prog_1_method_23_code (8 : Nat) (Option.some Jvm.ClassFile.FieldType.int)) ∈ lw_all := lw_g (lw_at lw_m1 62 rfl) rfl
theorem q83 : (Jvm.Cond.constant "FountainDecoder" (72 : Nat) (104729 : Int32)) ∈ lw_all := lw_g (lw_at lw_m1 63 rfl) rfl
theorem q85 : (Jvm.Cond.instanceMethod ({ cls := "FountainDecoder", name := "lose", desc := "(I)I" } : Jvm.MethodName)) ∈ lw_all := lw_g (lw_at lw_m1 65 rfl) rfl
theorem q86 : (Jvm.Cond.selects "FountainDecoder" ({ cls := "FountainDecoder", name := "lose", desc := "(I)I" } : Jvm.MethodName) ({ cls := "FountainDecoder", name := "lose", desc := "(I)I" } : Jvm.MethodName)) ∈ lw_all := lw_g (lw_at lw_m1 66 rfl) rfl
theorem q87 : (Jvm.Cond.code ({ cls := "FountainDecoder", name := "lose", desc := "(I)I" } : Jvm.MethodName) prog_1_method_5_code (3 : Nat) (Option.some Jvm.ClassFile.FieldType.int)) ∈ lw_all := lw_g (lw_at lw_m1 67 rfl) rfl
theorem q89 : (Jvm.Cond.instanceMethod ({ cls := "FountainDecoder", name := "setOf", desc := "(I)I" } : Jvm.MethodName)) ∈ lw_all := lw_g (lw_at lw_m1 69 rfl) rfl
theorem q90 : (Jvm.Cond.selects "FountainDecoder" ({ cls := "FountainDecoder", name := "setOf", desc := "(I)I" } : Jvm.MethodName) ({ cls := "FountainDecoder", name := "setOf", desc := "(I)I" } : Jvm.MethodName)) ∈ lw_all := lw_g (lw_at lw_m1 70 rfl) rfl
theorem q91 : (Jvm.Cond.code ({ cls := "FountainDecoder", name := "setOf", desc := "(I)I" } : Jvm.MethodName) prog_1_method_6_code (2 : Nat) (Option.some Jvm.ClassFile.FieldType.int)) ∈ lw_all := lw_g (lw_at lw_m1 71 rfl) rfl
theorem q93 : (Jvm.Cond.instanceMethod ({ cls := "FountainDecoder", name := "symbols", desc := "()I" } : Jvm.MethodName)) ∈ lw_all := lw_g (lw_at lw_m1 73 rfl) rfl
theorem q94 : (Jvm.Cond.selects "FountainDecoder" ({ cls := "FountainDecoder", name := "symbols", desc := "()I" } : Jvm.MethodName) ({ cls := "FountainDecoder", name := "symbols", desc := "()I" } : Jvm.MethodName)) ∈ lw_all := lw_g (lw_at lw_m1 74 rfl) rfl
theorem q95 : (Jvm.Cond.code ({ cls := "FountainDecoder", name := "symbols", desc := "()I" } : Jvm.MethodName) prog_1_method_7_code (1 : Nat) (Option.some Jvm.ClassFile.FieldType.int)) ∈ lw_all := lw_g (lw_at lw_m1 75 rfl) rfl
theorem q97 : (Jvm.Cond.instanceMethod ({ cls := "FountainDecoder", name := "consistent", desc := "()I" } : Jvm.MethodName)) ∈ lw_all := lw_g (lw_at lw_m1 77 rfl) rfl
theorem q98 : (Jvm.Cond.selects "FountainDecoder" ({ cls := "FountainDecoder", name := "consistent", desc := "()I" } : Jvm.MethodName) ({ cls := "FountainDecoder", name := "consistent", desc := "()I" } : Jvm.MethodName)) ∈ lw_all := lw_g (lw_at lw_m1 78 rfl) rfl
theorem q99 : (Jvm.Cond.code ({ cls := "FountainDecoder", name := "consistent", desc := "()I" } : Jvm.MethodName) prog_1_method_8_code (1 : Nat) (Option.some Jvm.ClassFile.FieldType.int)) ∈ lw_all := lw_g (lw_at lw_m1 79 rfl) rfl
theorem q100 : (Jvm.Cond.methodLink "FountainDecoder" (37 : Nat) ({ cls := "FountainDecoder", name := "reduceAll", desc := "(I)V" } : Jvm.MethodName)) ∈ lw_all := lw_g (lw_at lw_m1 80 rfl) rfl
theorem q101 : (Jvm.Cond.privateMethod ({ cls := "FountainDecoder", name := "reduceAll", desc := "(I)V" } : Jvm.MethodName)) ∈ lw_tbl := lw_at lw_m1 81 rfl
theorem q102 : (Jvm.Cond.instanceMethod ({ cls := "FountainDecoder", name := "reduceAll", desc := "(I)V" } : Jvm.MethodName)) ∈ lw_all := lw_g (lw_at lw_m1 82 rfl) rfl
theorem q103 : (Jvm.Cond.code ({ cls := "FountainDecoder", name := "reduceAll", desc := "(I)V" } : Jvm.MethodName) prog_1_method_25_code (3 : Nat) (Option.none : Option Jvm.ClassFile.FieldType)) ∈ lw_all := lw_g (lw_at lw_m1 83 rfl) rfl
theorem q104 : (Jvm.Cond.methodLink "FountainDecoder" (82 : Nat) ({ cls := "FountainDecoder", name := "enter", desc := "(II)V" } : Jvm.MethodName)) ∈ lw_all := lw_g (lw_at lw_m1 84 rfl) rfl
theorem q105 : (Jvm.Cond.privateMethod ({ cls := "FountainDecoder", name := "enter", desc := "(II)V" } : Jvm.MethodName)) ∈ lw_tbl := lw_at lw_m1 85 rfl
theorem q106 : (Jvm.Cond.instanceMethod ({ cls := "FountainDecoder", name := "enter", desc := "(II)V" } : Jvm.MethodName)) ∈ lw_all := lw_g (lw_at lw_m1 86 rfl) rfl
theorem q107 : (Jvm.Cond.code ({ cls := "FountainDecoder", name := "enter", desc := "(II)V" } : Jvm.MethodName) prog_1_method_26_code (5 : Nat) (Option.none : Option Jvm.ClassFile.FieldType)) ∈ lw_all := lw_g (lw_at lw_m1 87 rfl) rfl
theorem q108 : (Jvm.Cond.methodLink "FountainDecoder" (85 : Nat) ({ cls := "FountainDecoder", name := "reduce", desc := "(II)V" } : Jvm.MethodName)) ∈ lw_all := lw_g (lw_at lw_m1 88 rfl) rfl
theorem q109 : (Jvm.Cond.privateMethod ({ cls := "FountainDecoder", name := "reduce", desc := "(II)V" } : Jvm.MethodName)) ∈ lw_tbl := lw_at lw_m1 89 rfl
theorem q110 : (Jvm.Cond.instanceMethod ({ cls := "FountainDecoder", name := "reduce", desc := "(II)V" } : Jvm.MethodName)) ∈ lw_all := lw_g (lw_at lw_m1 90 rfl) rfl
theorem q111 : (Jvm.Cond.code ({ cls := "FountainDecoder", name := "reduce", desc := "(II)V" } : Jvm.MethodName) prog_1_method_24_code (5 : Nat) (Option.none : Option Jvm.ClassFile.FieldType)) ∈ lw_all := lw_g (lw_at lw_m1 91 rfl) rfl
theorem q112 : (Jvm.Cond.methodLink "FountainDecoder" (79 : Nat) ({ cls := "FountainDecoder", name := "topBit", desc := "(I)I" } : Jvm.MethodName)) ∈ lw_all := lw_g (lw_at lw_m1 92 rfl) rfl
theorem q113 : (Jvm.Cond.static ({ cls := "FountainDecoder", name := "topBit", desc := "(I)I" } : Jvm.MethodName)) ∈ lw_all := lw_g (lw_at lw_m1 93 rfl) rfl
theorem q114 : (Jvm.Cond.code ({ cls := "FountainDecoder", name := "topBit", desc := "(I)I" } : Jvm.MethodName) prog_1_method_21_code (2 : Nat) (Option.some Jvm.ClassFile.FieldType.int)) ∈ lw_all := lw_g (lw_at lw_m1 94 rfl) rfl
theorem q116 : (Jvm.Cond.instanceMethod ({ cls := "FountainDecoder", name := "rank", desc := "()I" } : Jvm.MethodName)) ∈ lw_all := lw_g (lw_at lw_m1 96 rfl) rfl
theorem q117 : (Jvm.Cond.selects "FountainDecoder" ({ cls := "FountainDecoder", name := "rank", desc := "()I" } : Jvm.MethodName) ({ cls := "FountainDecoder", name := "rank", desc := "()I" } : Jvm.MethodName)) ∈ lw_all := lw_g (lw_at lw_m1 97 rfl) rfl
theorem q118 : (Jvm.Cond.code ({ cls := "FountainDecoder", name := "rank", desc := "()I" } : Jvm.MethodName) prog_1_method_9_code (1 : Nat) (Option.some Jvm.ClassFile.FieldType.int)) ∈ lw_all := lw_g (lw_at lw_m1 98 rfl) rfl
theorem q120 : (Jvm.Cond.instanceMethod ({ cls := "FountainDecoder", name := "known", desc := "()I" } : Jvm.MethodName)) ∈ lw_all := lw_g (lw_at lw_m1 100 rfl) rfl
theorem q121 : (Jvm.Cond.selects "FountainDecoder" ({ cls := "FountainDecoder", name := "known", desc := "()I" } : Jvm.MethodName) ({ cls := "FountainDecoder", name := "known", desc := "()I" } : Jvm.MethodName)) ∈ lw_all := lw_g (lw_at lw_m1 101 rfl) rfl
theorem q122 : (Jvm.Cond.code ({ cls := "FountainDecoder", name := "known", desc := "()I" } : Jvm.MethodName) prog_1_method_10_code (1 : Nat) (Option.some Jvm.ClassFile.FieldType.int)) ∈ lw_all := lw_g (lw_at lw_m1 102 rfl) rfl
theorem q123 : (Jvm.Cond.methodLink "FountainDecoder" (48 : Nat) ({ cls := "FountainDecoder", name := "knownNow", desc := "()I" } : Jvm.MethodName)) ∈ lw_all := lw_g (lw_at lw_m1 103 rfl) rfl
theorem q124 : (Jvm.Cond.privateMethod ({ cls := "FountainDecoder", name := "knownNow", desc := "()I" } : Jvm.MethodName)) ∈ lw_tbl := lw_at lw_m1 104 rfl
theorem q125 : (Jvm.Cond.instanceMethod ({ cls := "FountainDecoder", name := "knownNow", desc := "()I" } : Jvm.MethodName)) ∈ lw_all := lw_g (lw_at lw_m1 105 rfl) rfl
theorem q126 : (Jvm.Cond.code ({ cls := "FountainDecoder", name := "knownNow", desc := "()I" } : Jvm.MethodName) prog_1_method_27_code (3 : Nat) (Option.some Jvm.ClassFile.FieldType.int)) ∈ lw_all := lw_g (lw_at lw_m1 106 rfl) rfl
theorem q128 : (Jvm.Cond.instanceMethod ({ cls := "FountainDecoder", name := "value", desc := "(I)I" } : Jvm.MethodName)) ∈ lw_all := lw_g (lw_at lw_m1 108 rfl) rfl
theorem q129 : (Jvm.Cond.selects "FountainDecoder" ({ cls := "FountainDecoder", name := "value", desc := "(I)I" } : Jvm.MethodName) ({ cls := "FountainDecoder", name := "value", desc := "(I)I" } : Jvm.MethodName)) ∈ lw_all := lw_g (lw_at lw_m1 109 rfl) rfl
theorem q130 : (Jvm.Cond.code ({ cls := "FountainDecoder", name := "value", desc := "(I)I" } : Jvm.MethodName) prog_1_method_11_code (3 : Nat) (Option.some Jvm.ClassFile.FieldType.int)) ∈ lw_all := lw_g (lw_at lw_m1 110 rfl) rfl
theorem q131 : (Jvm.Cond.methodLink "FountainDecoder" (52 : Nat) ({ cls := "FountainDecoder", name := "settle", desc := "(I)I" } : Jvm.MethodName)) ∈ lw_all := lw_g (lw_at lw_m1 111 rfl) rfl
theorem q132 : (Jvm.Cond.privateMethod ({ cls := "FountainDecoder", name := "settle", desc := "(I)I" } : Jvm.MethodName)) ∈ lw_tbl := lw_at lw_m1 112 rfl
theorem q133 : (Jvm.Cond.instanceMethod ({ cls := "FountainDecoder", name := "settle", desc := "(I)I" } : Jvm.MethodName)) ∈ lw_all := lw_g (lw_at lw_m1 113 rfl) rfl
theorem q134 : (Jvm.Cond.code ({ cls := "FountainDecoder", name := "settle", desc := "(I)I" } : Jvm.MethodName) prog_1_method_28_code (2 : Nat) (Option.some Jvm.ClassFile.FieldType.int)) ∈ lw_all := lw_g (lw_at lw_m1 114 rfl) rfl
theorem q136 : (Jvm.Cond.instanceMethod ({ cls := "FountainDecoder", name := "sumOf", desc := "(I)I" } : Jvm.MethodName)) ∈ lw_all := lw_g (lw_at lw_m1 116 rfl) rfl
theorem q137 : (Jvm.Cond.selects "FountainDecoder" ({ cls := "FountainDecoder", name := "sumOf", desc := "(I)I" } : Jvm.MethodName) ({ cls := "FountainDecoder", name := "sumOf", desc := "(I)I" } : Jvm.MethodName)) ∈ lw_all := lw_g (lw_at lw_m1 117 rfl) rfl
theorem q138 : (Jvm.Cond.code ({ cls := "FountainDecoder", name := "sumOf", desc := "(I)I" } : Jvm.MethodName) prog_1_method_12_code (3 : Nat) (Option.some Jvm.ClassFile.FieldType.int)) ∈ lw_all := lw_g (lw_at lw_m1 118 rfl) rfl
theorem q139 : (Jvm.Cond.methodLink "FountainDecoder" (55 : Nat) ({ cls := "FountainDecoder", name := "isSet", desc := "(I)Z" } : Jvm.MethodName)) ∈ lw_all := lw_g (lw_at lw_m1 119 rfl) rfl
theorem q140 : (Jvm.Cond.privateMethod ({ cls := "FountainDecoder", name := "isSet", desc := "(I)Z" } : Jvm.MethodName)) ∈ lw_tbl := lw_at lw_m1 120 rfl
theorem q141 : (Jvm.Cond.instanceMethod ({ cls := "FountainDecoder", name := "isSet", desc := "(I)Z" } : Jvm.MethodName)) ∈ lw_all := lw_g (lw_at lw_m1 121 rfl) rfl
theorem q142 : (Jvm.Cond.code ({ cls := "FountainDecoder", name := "isSet", desc := "(I)Z" } : Jvm.MethodName) prog_1_method_19_code (2 : Nat) (Option.some Jvm.ClassFile.FieldType.boolean)) ∈ lw_all := lw_g (lw_at lw_m1 122 rfl) rfl
theorem q144 : (Jvm.Cond.instanceMethod ({ cls := "FountainDecoder", name := "peeled", desc := "()I" } : Jvm.MethodName)) ∈ lw_all := lw_g (lw_at lw_m1 124 rfl) rfl
theorem q145 : (Jvm.Cond.selects "FountainDecoder" ({ cls := "FountainDecoder", name := "peeled", desc := "()I" } : Jvm.MethodName) ({ cls := "FountainDecoder", name := "peeled", desc := "()I" } : Jvm.MethodName)) ∈ lw_all := lw_g (lw_at lw_m1 125 rfl) rfl
theorem q146 : (Jvm.Cond.code ({ cls := "FountainDecoder", name := "peeled", desc := "()I" } : Jvm.MethodName) prog_1_method_13_code (1 : Nat) (Option.some Jvm.ClassFile.FieldType.int)) ∈ lw_all := lw_g (lw_at lw_m1 126 rfl) rfl
theorem q147 : (Jvm.Cond.methodLink "FountainDecoder" (59 : Nat) ({ cls := "FountainDecoder", name := "peelFrom", desc := "(I)I" } : Jvm.MethodName)) ∈ lw_all := lw_g (lw_at lw_m1 127 rfl) rfl
theorem q148 : (Jvm.Cond.privateMethod ({ cls := "FountainDecoder", name := "peelFrom", desc := "(I)I" } : Jvm.MethodName)) ∈ lw_tbl := lw_at lw_m1 128 rfl
theorem q149 : (Jvm.Cond.instanceMethod ({ cls := "FountainDecoder", name := "peelFrom", desc := "(I)I" } : Jvm.MethodName)) ∈ lw_all := lw_g (lw_at lw_m1 129 rfl) rfl
theorem q150 : (Jvm.Cond.code ({ cls := "FountainDecoder", name := "peelFrom", desc := "(I)I" } : Jvm.MethodName) prog_1_method_30_code (7 : Nat) (Option.some Jvm.ClassFile.FieldType.int)) ∈ lw_all := lw_g (lw_at lw_m1 130 rfl) rfl
theorem q152 : (Jvm.Cond.instanceMethod ({ cls := "FountainDecoder", name := "isSeed", desc := "(I)I" } : Jvm.MethodName)) ∈ lw_all := lw_g (lw_at lw_m1 132 rfl) rfl
theorem q153 : (Jvm.Cond.selects "FountainDecoder" ({ cls := "FountainDecoder", name := "isSeed", desc := "(I)I" } : Jvm.MethodName) ({ cls := "FountainDecoder", name := "isSeed", desc := "(I)I" } : Jvm.MethodName)) ∈ lw_all := lw_g (lw_at lw_m1 133 rfl) rfl
theorem q154 : (Jvm.Cond.code ({ cls := "FountainDecoder", name := "isSeed", desc := "(I)I" } : Jvm.MethodName) prog_1_method_14_code (2 : Nat) (Option.some Jvm.ClassFile.FieldType.int)) ∈ lw_all := lw_g (lw_at lw_m1 134 rfl) rfl
theorem q156 : (Jvm.Cond.instanceMethod ({ cls := "FountainDecoder", name := "seedSize", desc := "()I" } : Jvm.MethodName)) ∈ lw_all := lw_g (lw_at lw_m1 136 rfl) rfl
theorem q157 : (Jvm.Cond.selects "FountainDecoder" ({ cls := "FountainDecoder", name := "seedSize", desc := "()I" } : Jvm.MethodName) ({ cls := "FountainDecoder", name := "seedSize", desc := "()I" } : Jvm.MethodName)) ∈ lw_all := lw_g (lw_at lw_m1 137 rfl) rfl
theorem q158 : (Jvm.Cond.code ({ cls := "FountainDecoder", name := "seedSize", desc := "()I" } : Jvm.MethodName) prog_1_method_15_code (2 : Nat) (Option.some Jvm.ClassFile.FieldType.int)) ∈ lw_all := lw_g (lw_at lw_m1 138 rfl) rfl
theorem q159 : (Jvm.Cond.methodLink "FountainDecoder" (62 : Nat) ({ cls := "FountainDecoder", name := "seed", desc := "()I" } : Jvm.MethodName)) ∈ lw_all := lw_g (lw_at lw_m1 139 rfl) rfl
theorem q160 : (Jvm.Cond.instanceMethod ({ cls := "FountainDecoder", name := "seed", desc := "()I" } : Jvm.MethodName)) ∈ lw_all := lw_g (lw_at lw_m1 140 rfl) rfl
theorem q161 : (Jvm.Cond.selects "FountainDecoder" ({ cls := "FountainDecoder", name := "seed", desc := "()I" } : Jvm.MethodName) ({ cls := "FountainDecoder", name := "seed", desc := "()I" } : Jvm.MethodName)) ∈ lw_all := lw_g (lw_at lw_m1 141 rfl) rfl
theorem q162 : (Jvm.Cond.code ({ cls := "FountainDecoder", name := "seed", desc := "()I" } : Jvm.MethodName) prog_1_method_16_code (4 : Nat) (Option.some Jvm.ClassFile.FieldType.int)) ∈ lw_all := lw_g (lw_at lw_m1 142 rfl) rfl
theorem q163 : (Jvm.Cond.methodLink "FountainDecoder" (65 : Nat) ({ cls := "FountainDecoder", name := "ones", desc := "(I)I" } : Jvm.MethodName)) ∈ lw_all := lw_g (lw_at lw_m1 143 rfl) rfl
theorem q164 : (Jvm.Cond.static ({ cls := "FountainDecoder", name := "ones", desc := "(I)I" } : Jvm.MethodName)) ∈ lw_all := lw_g (lw_at lw_m1 144 rfl) rfl
theorem q165 : (Jvm.Cond.code ({ cls := "FountainDecoder", name := "ones", desc := "(I)I" } : Jvm.MethodName) prog_1_method_20_code (3 : Nat) (Option.some Jvm.ClassFile.FieldType.int)) ∈ lw_all := lw_g (lw_at lw_m1 145 rfl) rfl
theorem q168 : (Jvm.Cond.instanceMethod ({ cls := "FountainDecoder", name := "spare", desc := "()I" } : Jvm.MethodName)) ∈ lw_all := lw_g (lw_at lw_m1 148 rfl) rfl
theorem q169 : (Jvm.Cond.selects "FountainDecoder" ({ cls := "FountainDecoder", name := "spare", desc := "()I" } : Jvm.MethodName) ({ cls := "FountainDecoder", name := "spare", desc := "()I" } : Jvm.MethodName)) ∈ lw_all := lw_g (lw_at lw_m1 149 rfl) rfl
theorem q170 : (Jvm.Cond.code ({ cls := "FountainDecoder", name := "spare", desc := "()I" } : Jvm.MethodName) prog_1_method_17_code (5 : Nat) (Option.some Jvm.ClassFile.FieldType.int)) ∈ lw_all := lw_g (lw_at lw_m1 150 rfl) rfl
theorem q172 : (Jvm.Cond.instanceMethod ({ cls := "FountainDecoder", name := "useful", desc := "()I" } : Jvm.MethodName)) ∈ lw_all := lw_g (lw_at lw_m1 152 rfl) rfl
theorem q173 : (Jvm.Cond.selects "FountainDecoder" ({ cls := "FountainDecoder", name := "useful", desc := "()I" } : Jvm.MethodName) ({ cls := "FountainDecoder", name := "useful", desc := "()I" } : Jvm.MethodName)) ∈ lw_all := lw_g (lw_at lw_m1 153 rfl) rfl
theorem q174 : (Jvm.Cond.code ({ cls := "FountainDecoder", name := "useful", desc := "()I" } : Jvm.MethodName) prog_1_method_18_code (4 : Nat) (Option.some Jvm.ClassFile.FieldType.int)) ∈ lw_all := lw_g (lw_at lw_m1 154 rfl) rfl
theorem q175 : (Jvm.Cond.methodLink "FountainDecoder" (68 : Nat) ({ cls := "FountainDecoder", name := "wouldHelp", desc := "(II)Z" } : Jvm.MethodName)) ∈ lw_all := lw_g (lw_at lw_m1 155 rfl) rfl
theorem q176 : (Jvm.Cond.privateMethod ({ cls := "FountainDecoder", name := "wouldHelp", desc := "(II)Z" } : Jvm.MethodName)) ∈ lw_tbl := lw_at lw_m1 156 rfl
theorem q177 : (Jvm.Cond.instanceMethod ({ cls := "FountainDecoder", name := "wouldHelp", desc := "(II)Z" } : Jvm.MethodName)) ∈ lw_all := lw_g (lw_at lw_m1 157 rfl) rfl
theorem q178 : (Jvm.Cond.code ({ cls := "FountainDecoder", name := "wouldHelp", desc := "(II)Z" } : Jvm.MethodName) prog_1_method_29_code (8 : Nat) (Option.some Jvm.ClassFile.FieldType.boolean)) ∈ lw_all := lw_g (lw_at lw_m1 158 rfl) rfl
theorem in_X1 : ∀ w ∈ wsX10, w ∈ lw_all := lw_in wsX10 [41, 43, 45, 47, 49, 51, 53, 55, 57, 59] (by decide +kernel) (by decide +kernel)
end
section
/-! FountainDecoderModel -/
set_option maxRecDepth 100000
def RX2 : String := "FountainDecoderModel"
def TX2 : u_T := fun k => match k with
  | 0 => ("FountainDecoderModel", "sets", "[I", true)
  | 1 => ("FountainDecoderModel", "values", "[I", true)
  | 2 => ("FountainDecoderModel", "odd", "[Z", true)
  | 3 => ("FountainDecoderModel", "tried", "[Z", true)
  | 4 => ("FountainDecoderModel", "n", "I", false)
  | 5 => ("FountainDecoderModel", "held", "I", false)
  | 6 => ("FountainDecoderModel", "some", "I", false)
  | _ => ("FountainDecoderModel", "all", "I", false)
def tyX2 : Nat → FieldType := fun k => match k with
  | 0 => .array .int
  | 1 => .array .int
  | 2 => .array .boolean
  | 3 => .array .boolean
  | 4 => .int
  | 5 => .int
  | 6 => .int
  | _ => .int
abbrev wsX20 : List Cond := u_ws RX2 TX2 8
theorem nmX2 : ∀ a, a < 8 → ∀ b, b < 8 → a ≠ b → (TX2 a).2.1 ≠ (TX2 b).2.1 := by decide +kernel
theorem tyX2_ok : ∀ k, k < 8 → parseFieldDescriptor (TX2 k).2.2.1 = some (tyX2 k) := by decide +kernel
abbrev cX2_init : ByteArray := prog_3_method_1_code
def yX2_init : MethodName := ⟨RX2, "<init>", "(I)V"⟩
theorem dX2_init_0 : decode cX2_init 0 = .ok (.aload_n 0, 1) := by decide +kernel
theorem dX2_init_1 : decode cX2_init 1 = .ok (.invokespecial 1, 3) := by decide +kernel
theorem dX2_init_4 : decode cX2_init 4 = .ok (.aload_n 0, 1) := by decide +kernel
theorem dX2_init_5 : decode cX2_init 5 = .ok (.bipush 16, 2) := by decide +kernel
theorem dX2_init_7 : decode cX2_init 7 = .ok (.newarray .int, 2) := by decide +kernel
theorem dX2_init_9 : decode cX2_init 9 = .ok (.putfield 7, 3) := by decide +kernel
theorem dX2_init_12 : decode cX2_init 12 = .ok (.aload_n 0, 1) := by decide +kernel
theorem dX2_init_13 : decode cX2_init 13 = .ok (.bipush 16, 2) := by decide +kernel
theorem dX2_init_15 : decode cX2_init 15 = .ok (.newarray .int, 2) := by decide +kernel
theorem dX2_init_17 : decode cX2_init 17 = .ok (.putfield 13, 3) := by decide +kernel
theorem dX2_init_20 : decode cX2_init 20 = .ok (.aload_n 0, 1) := by decide +kernel
theorem dX2_init_21 : decode cX2_init 21 = .ok (.sipush 256, 3) := by decide +kernel
theorem dX2_init_24 : decode cX2_init 24 = .ok (.newarray .boolean, 2) := by decide +kernel
theorem dX2_init_26 : decode cX2_init 26 = .ok (.putfield 16, 3) := by decide +kernel
theorem dX2_init_29 : decode cX2_init 29 = .ok (.aload_n 0, 1) := by decide +kernel
theorem dX2_init_30 : decode cX2_init 30 = .ok (.sipush 256, 3) := by decide +kernel
theorem dX2_init_33 : decode cX2_init 33 = .ok (.newarray .boolean, 2) := by decide +kernel
theorem dX2_init_35 : decode cX2_init 35 = .ok (.putfield 20, 3) := by decide +kernel
theorem dX2_init_38 : decode cX2_init 38 = .ok (.aload_n 0, 1) := by decide +kernel
theorem dX2_init_39 : decode cX2_init 39 = .ok (.iload_n 1, 1) := by decide +kernel
theorem dX2_init_40 : decode cX2_init 40 = .ok (.iconst 1, 1) := by decide +kernel
theorem dX2_init_41 : decode cX2_init 41 = .ok (.if_icmp .ge 7, 3) := by decide +kernel
theorem dX2_init_44 : decode cX2_init 44 = .ok (.iconst 1, 1) := by decide +kernel
theorem dX2_init_45 : decode cX2_init 45 = .ok (.goto 15, 3) := by decide +kernel
theorem dX2_init_48 : decode cX2_init 48 = .ok (.iload_n 1, 1) := by decide +kernel
theorem dX2_init_49 : decode cX2_init 49 = .ok (.bipush 8, 2) := by decide +kernel
theorem dX2_init_51 : decode cX2_init 51 = .ok (.if_icmp .le 8, 3) := by decide +kernel
theorem dX2_init_54 : decode cX2_init 54 = .ok (.bipush 8, 2) := by decide +kernel
theorem dX2_init_56 : decode cX2_init 56 = .ok (.goto 4, 3) := by decide +kernel
theorem dX2_init_59 : decode cX2_init 59 = .ok (.iload_n 1, 1) := by decide +kernel
theorem dX2_init_60 : decode cX2_init 60 = .ok (.putfield 23, 3) := by decide +kernel
theorem dX2_init_63 : decode cX2_init 63 = .ok (.iconst 0, 1) := by decide +kernel
theorem dX2_init_64 : decode cX2_init 64 = .ok (.istore_n 2, 1) := by decide +kernel
theorem dX2_init_65 : decode cX2_init 65 = .ok (.iload_n 2, 1) := by decide +kernel
theorem dX2_init_66 : decode cX2_init 66 = .ok (.sipush 256, 3) := by decide +kernel
theorem dX2_init_69 : decode cX2_init 69 = .ok (.if_icmp .ge 31, 3) := by decide +kernel
theorem dX2_init_72 : decode cX2_init 72 = .ok (.aload_n 0, 1) := by decide +kernel
theorem dX2_init_73 : decode cX2_init 73 = .ok (.getfield 16, 3) := by decide +kernel
theorem dX2_init_76 : decode cX2_init 76 = .ok (.iload_n 2, 1) := by decide +kernel
theorem dX2_init_77 : decode cX2_init 77 = .ok (.aload_n 0, 1) := by decide +kernel
theorem dX2_init_78 : decode cX2_init 78 = .ok (.iload_n 2, 1) := by decide +kernel
theorem dX2_init_79 : decode cX2_init 79 = .ok (.invokevirtual 27, 3) := by decide +kernel
theorem dX2_init_82 : decode cX2_init 82 = .ok (.iconst 2, 1) := by decide +kernel
theorem dX2_init_83 : decode cX2_init 83 = .ok (.irem, 1) := by decide +kernel
theorem dX2_init_84 : decode cX2_init 84 = .ok (.iconst 1, 1) := by decide +kernel
theorem dX2_init_85 : decode cX2_init 85 = .ok (.if_icmp .ne 7, 3) := by decide +kernel
theorem dX2_init_88 : decode cX2_init 88 = .ok (.iconst 1, 1) := by decide +kernel
theorem dX2_init_89 : decode cX2_init 89 = .ok (.goto 4, 3) := by decide +kernel
theorem dX2_init_92 : decode cX2_init 92 = .ok (.iconst 0, 1) := by decide +kernel
theorem dX2_init_93 : decode cX2_init 93 = .ok (.bastore, 1) := by decide +kernel
theorem dX2_init_94 : decode cX2_init 94 = .ok (.iinc 2 1, 3) := by decide +kernel
theorem dX2_init_97 : decode cX2_init 97 = .ok (.goto (-32), 3) := by decide +kernel
theorem dX2_init_100 : decode cX2_init 100 = .ok (.return_, 1) := by decide +kernel
abbrev cX2_members : ByteArray := prog_3_method_2_code
def yX2_members : MethodName := ⟨RX2, "members", "(I)I"⟩
theorem dX2_members_0 : decode cX2_members 0 = .ok (.iconst 0, 1) := by decide +kernel
theorem dX2_members_1 : decode cX2_members 1 = .ok (.istore_n 2, 1) := by decide +kernel
theorem dX2_members_2 : decode cX2_members 2 = .ok (.iconst 0, 1) := by decide +kernel
theorem dX2_members_3 : decode cX2_members 3 = .ok (.istore_n 3, 1) := by decide +kernel
theorem dX2_members_4 : decode cX2_members 4 = .ok (.iload_n 3, 1) := by decide +kernel
theorem dX2_members_5 : decode cX2_members 5 = .ok (.bipush 8, 2) := by decide +kernel
theorem dX2_members_7 : decode cX2_members 7 = .ok (.if_icmp .ge 17, 3) := by decide +kernel
theorem dX2_members_10 : decode cX2_members 10 = .ok (.iload_n 2, 1) := by decide +kernel
theorem dX2_members_11 : decode cX2_members 11 = .ok (.iload_n 1, 1) := by decide +kernel
theorem dX2_members_12 : decode cX2_members 12 = .ok (.iload_n 3, 1) := by decide +kernel
theorem dX2_members_13 : decode cX2_members 13 = .ok (.ishr, 1) := by decide +kernel
theorem dX2_members_14 : decode cX2_members 14 = .ok (.iconst 1, 1) := by decide +kernel
theorem dX2_members_15 : decode cX2_members 15 = .ok (.iand, 1) := by decide +kernel
theorem dX2_members_16 : decode cX2_members 16 = .ok (.iadd, 1) := by decide +kernel
theorem dX2_members_17 : decode cX2_members 17 = .ok (.istore_n 2, 1) := by decide +kernel
theorem dX2_members_18 : decode cX2_members 18 = .ok (.iinc 3 1, 3) := by decide +kernel
theorem dX2_members_21 : decode cX2_members 21 = .ok (.goto (-17), 3) := by decide +kernel
theorem dX2_members_24 : decode cX2_members 24 = .ok (.iload_n 2, 1) := by decide +kernel
theorem dX2_members_25 : decode cX2_members 25 = .ok (.ireturn, 1) := by decide +kernel
abbrev cX2_blocks : ByteArray := prog_3_method_4_code
def yX2_blocks : MethodName := ⟨RX2, "blocks", "()I"⟩
theorem dX2_blocks_0 : decode cX2_blocks 0 = .ok (.aload_n 0, 1) := by decide +kernel
theorem dX2_blocks_1 : decode cX2_blocks 1 = .ok (.getfield 23, 3) := by decide +kernel
theorem dX2_blocks_4 : decode cX2_blocks 4 = .ok (.ireturn, 1) := by decide +kernel
abbrev cX2_receive : ByteArray := prog_3_method_6_code
def yX2_receive : MethodName := ⟨RX2, "receive", "(II)I"⟩
theorem dX2_receive_0 : decode cX2_receive 0 = .ok (.aload_n 0, 1) := by decide +kernel
theorem dX2_receive_1 : decode cX2_receive 1 = .ok (.iload_n 1, 1) := by decide +kernel
theorem dX2_receive_2 : decode cX2_receive 2 = .ok (.invokevirtual 34, 3) := by decide +kernel
theorem dX2_receive_5 : decode cX2_receive 5 = .ok (.ifCond .ne 7, 3) := by decide +kernel
theorem dX2_receive_8 : decode cX2_receive 8 = .ok (.iload_n 1, 1) := by decide +kernel
theorem dX2_receive_9 : decode cX2_receive 9 = .ok (.ifCond .ne 5, 3) := by decide +kernel
theorem dX2_receive_12 : decode cX2_receive 12 = .ok (.iconst (-1), 1) := by decide +kernel
theorem dX2_receive_13 : decode cX2_receive 13 = .ok (.ireturn, 1) := by decide +kernel
theorem dX2_receive_14 : decode cX2_receive 14 = .ok (.iload_n 2, 1) := by decide +kernel
theorem dX2_receive_15 : decode cX2_receive 15 = .ok (.ifCond .lt 10, 3) := by decide +kernel
theorem dX2_receive_18 : decode cX2_receive 18 = .ok (.iload_n 2, 1) := by decide +kernel
theorem dX2_receive_19 : decode cX2_receive 19 = .ok (.sipush 255, 3) := by decide +kernel
theorem dX2_receive_22 : decode cX2_receive 22 = .ok (.if_icmp .le 6, 3) := by decide +kernel
theorem dX2_receive_25 : decode cX2_receive 25 = .ok (.bipush (-2), 2) := by decide +kernel
theorem dX2_receive_27 : decode cX2_receive 27 = .ok (.ireturn, 1) := by decide +kernel
theorem dX2_receive_28 : decode cX2_receive 28 = .ok (.aload_n 0, 1) := by decide +kernel
theorem dX2_receive_29 : decode cX2_receive 29 = .ok (.getfield 31, 3) := by decide +kernel
theorem dX2_receive_32 : decode cX2_receive 32 = .ok (.bipush 16, 2) := by decide +kernel
theorem dX2_receive_34 : decode cX2_receive 34 = .ok (.if_icmp .lt 6, 3) := by decide +kernel
theorem dX2_receive_37 : decode cX2_receive 37 = .ok (.bipush (-3), 2) := by decide +kernel
theorem dX2_receive_39 : decode cX2_receive 39 = .ok (.ireturn, 1) := by decide +kernel
theorem dX2_receive_40 : decode cX2_receive 40 = .ok (.aload_n 0, 1) := by decide +kernel
theorem dX2_receive_41 : decode cX2_receive 41 = .ok (.iload_n 1, 1) := by decide +kernel
theorem dX2_receive_42 : decode cX2_receive 42 = .ok (.iload_n 2, 1) := by decide +kernel
theorem dX2_receive_43 : decode cX2_receive 43 = .ok (.invokevirtual 38, 3) := by decide +kernel
theorem dX2_receive_46 : decode cX2_receive 46 = .ok (.ireturn, 1) := by decide +kernel
abbrev cX2_badSet : ByteArray := prog_3_method_3_code
def yX2_badSet : MethodName := ⟨RX2, "badSet", "(I)Z"⟩
theorem dX2_badSet_0 : decode cX2_badSet 0 = .ok (.iload_n 1, 1) := by decide +kernel
theorem dX2_badSet_1 : decode cX2_badSet 1 = .ok (.ifCond .lt 13, 3) := by decide +kernel
theorem dX2_badSet_4 : decode cX2_badSet 4 = .ok (.iload_n 1, 1) := by decide +kernel
theorem dX2_badSet_5 : decode cX2_badSet 5 = .ok (.iconst 1, 1) := by decide +kernel
theorem dX2_badSet_6 : decode cX2_badSet 6 = .ok (.aload_n 0, 1) := by decide +kernel
theorem dX2_badSet_7 : decode cX2_badSet 7 = .ok (.getfield 23, 3) := by decide +kernel
theorem dX2_badSet_10 : decode cX2_badSet 10 = .ok (.ishl, 1) := by decide +kernel
theorem dX2_badSet_11 : decode cX2_badSet 11 = .ok (.if_icmp .lt 7, 3) := by decide +kernel
theorem dX2_badSet_14 : decode cX2_badSet 14 = .ok (.iconst 1, 1) := by decide +kernel
theorem dX2_badSet_15 : decode cX2_badSet 15 = .ok (.goto 4, 3) := by decide +kernel
theorem dX2_badSet_18 : decode cX2_badSet 18 = .ok (.iconst 0, 1) := by decide +kernel
theorem dX2_badSet_19 : decode cX2_badSet 19 = .ok (.ireturn, 1) := by decide +kernel
abbrev cX2_place : ByteArray := prog_3_method_5_code
def yX2_place : MethodName := ⟨RX2, "place", "(II)I"⟩
theorem dX2_place_0 : decode cX2_place 0 = .ok (.aload_n 0, 1) := by decide +kernel
theorem dX2_place_1 : decode cX2_place 1 = .ok (.getfield 7, 3) := by decide +kernel
theorem dX2_place_4 : decode cX2_place 4 = .ok (.aload_n 0, 1) := by decide +kernel
theorem dX2_place_5 : decode cX2_place 5 = .ok (.getfield 31, 3) := by decide +kernel
theorem dX2_place_8 : decode cX2_place 8 = .ok (.iload_n 1, 1) := by decide +kernel
theorem dX2_place_9 : decode cX2_place 9 = .ok (.iastore, 1) := by decide +kernel
theorem dX2_place_10 : decode cX2_place 10 = .ok (.aload_n 0, 1) := by decide +kernel
theorem dX2_place_11 : decode cX2_place 11 = .ok (.getfield 13, 3) := by decide +kernel
theorem dX2_place_14 : decode cX2_place 14 = .ok (.aload_n 0, 1) := by decide +kernel
theorem dX2_place_15 : decode cX2_place 15 = .ok (.getfield 31, 3) := by decide +kernel
theorem dX2_place_18 : decode cX2_place 18 = .ok (.iload_n 2, 1) := by decide +kernel
theorem dX2_place_19 : decode cX2_place 19 = .ok (.iastore, 1) := by decide +kernel
theorem dX2_place_20 : decode cX2_place 20 = .ok (.aload_n 0, 1) := by decide +kernel
theorem dX2_place_21 : decode cX2_place 21 = .ok (.dup, 1) := by decide +kernel
theorem dX2_place_22 : decode cX2_place 22 = .ok (.getfield 31, 3) := by decide +kernel
theorem dX2_place_25 : decode cX2_place 25 = .ok (.iconst 1, 1) := by decide +kernel
theorem dX2_place_26 : decode cX2_place 26 = .ok (.iadd, 1) := by decide +kernel
theorem dX2_place_27 : decode cX2_place 27 = .ok (.putfield 31, 3) := by decide +kernel
theorem dX2_place_30 : decode cX2_place 30 = .ok (.aload_n 0, 1) := by decide +kernel
theorem dX2_place_31 : decode cX2_place 31 = .ok (.getfield 31, 3) := by decide +kernel
theorem dX2_place_34 : decode cX2_place 34 = .ok (.iconst 1, 1) := by decide +kernel
theorem dX2_place_35 : decode cX2_place 35 = .ok (.isub, 1) := by decide +kernel
theorem dX2_place_36 : decode cX2_place 36 = .ok (.ireturn, 1) := by decide +kernel
abbrev cX2_draw : ByteArray := prog_3_method_7_code
def yX2_draw : MethodName := ⟨RX2, "draw", "(II)I"⟩
theorem dX2_draw_0 : decode cX2_draw 0 = .ok (.iload_n 1, 1) := by decide +kernel
theorem dX2_draw_1 : decode cX2_draw 1 = .ok (.ifCond .lt 10, 3) := by decide +kernel
theorem dX2_draw_4 : decode cX2_draw 4 = .ok (.iload_n 1, 1) := by decide +kernel
theorem dX2_draw_5 : decode cX2_draw 5 = .ok (.sipush 9999, 3) := by decide +kernel
theorem dX2_draw_8 : decode cX2_draw 8 = .ok (.if_icmp .le 5, 3) := by decide +kernel
theorem dX2_draw_11 : decode cX2_draw 11 = .ok (.iconst (-1), 1) := by decide +kernel
theorem dX2_draw_12 : decode cX2_draw 12 = .ok (.ireturn, 1) := by decide +kernel
theorem dX2_draw_13 : decode cX2_draw 13 = .ok (.iload_n 2, 1) := by decide +kernel
theorem dX2_draw_14 : decode cX2_draw 14 = .ok (.ifCond .lt 10, 3) := by decide +kernel
theorem dX2_draw_17 : decode cX2_draw 17 = .ok (.iload_n 2, 1) := by decide +kernel
theorem dX2_draw_18 : decode cX2_draw 18 = .ok (.sipush 255, 3) := by decide +kernel
theorem dX2_draw_21 : decode cX2_draw 21 = .ok (.if_icmp .le 6, 3) := by decide +kernel
theorem dX2_draw_24 : decode cX2_draw 24 = .ok (.bipush (-2), 2) := by decide +kernel
theorem dX2_draw_26 : decode cX2_draw 26 = .ok (.ireturn, 1) := by decide +kernel
theorem dX2_draw_27 : decode cX2_draw 27 = .ok (.aload_n 0, 1) := by decide +kernel
theorem dX2_draw_28 : decode cX2_draw 28 = .ok (.getfield 31, 3) := by decide +kernel
theorem dX2_draw_31 : decode cX2_draw 31 = .ok (.bipush 16, 2) := by decide +kernel
theorem dX2_draw_33 : decode cX2_draw 33 = .ok (.if_icmp .lt 6, 3) := by decide +kernel
theorem dX2_draw_36 : decode cX2_draw 36 = .ok (.bipush (-3), 2) := by decide +kernel
theorem dX2_draw_38 : decode cX2_draw 38 = .ok (.ireturn, 1) := by decide +kernel
theorem dX2_draw_39 : decode cX2_draw 39 = .ok (.aload_n 0, 1) := by decide +kernel
theorem dX2_draw_40 : decode cX2_draw 40 = .ok (.iload_n 1, 1) := by decide +kernel
theorem dX2_draw_41 : decode cX2_draw 41 = .ok (.invokevirtual 42, 3) := by decide +kernel
theorem dX2_draw_44 : decode cX2_draw 44 = .ok (.istore_n 3, 1) := by decide +kernel
theorem dX2_draw_45 : decode cX2_draw 45 = .ok (.aload_n 0, 1) := by decide +kernel
theorem dX2_draw_46 : decode cX2_draw 46 = .ok (.iload_n 3, 1) := by decide +kernel
theorem dX2_draw_47 : decode cX2_draw 47 = .ok (.iload_n 2, 1) := by decide +kernel
theorem dX2_draw_48 : decode cX2_draw 48 = .ok (.invokevirtual 38, 3) := by decide +kernel
theorem dX2_draw_51 : decode cX2_draw 51 = .ok (.pop, 1) := by decide +kernel
theorem dX2_draw_52 : decode cX2_draw 52 = .ok (.iload_n 3, 1) := by decide +kernel
theorem dX2_draw_53 : decode cX2_draw 53 = .ok (.ireturn, 1) := by decide +kernel
abbrev cX2_setOf : ByteArray := prog_3_method_9_code
def yX2_setOf : MethodName := ⟨RX2, "setOf", "(I)I"⟩
theorem dX2_setOf_0 : decode cX2_setOf 0 = .ok (.iload_n 1, 1) := by decide +kernel
theorem dX2_setOf_1 : decode cX2_setOf 1 = .ok (.ifCond .lt 10, 3) := by decide +kernel
theorem dX2_setOf_4 : decode cX2_setOf 4 = .ok (.iload_n 1, 1) := by decide +kernel
theorem dX2_setOf_5 : decode cX2_setOf 5 = .ok (.sipush 9999, 3) := by decide +kernel
theorem dX2_setOf_8 : decode cX2_setOf 8 = .ok (.if_icmp .le 5, 3) := by decide +kernel
theorem dX2_setOf_11 : decode cX2_setOf 11 = .ok (.iconst (-1), 1) := by decide +kernel
theorem dX2_setOf_12 : decode cX2_setOf 12 = .ok (.ireturn, 1) := by decide +kernel
theorem dX2_setOf_13 : decode cX2_setOf 13 = .ok (.iload_n 1, 1) := by decide +kernel
theorem dX2_setOf_14 : decode cX2_setOf 14 = .ok (.sipush 7919, 3) := by decide +kernel
theorem dX2_setOf_17 : decode cX2_setOf 17 = .ok (.imul, 1) := by decide +kernel
theorem dX2_setOf_18 : decode cX2_setOf 18 = .ok (.ldc 45, 2) := by decide +kernel
theorem dX2_setOf_20 : decode cX2_setOf 20 = .ok (.iadd, 1) := by decide +kernel
theorem dX2_setOf_21 : decode cX2_setOf 21 = .ok (.istore_n 2, 1) := by decide +kernel
theorem dX2_setOf_22 : decode cX2_setOf 22 = .ok (.iconst 1, 1) := by decide +kernel
theorem dX2_setOf_23 : decode cX2_setOf 23 = .ok (.iload_n 2, 1) := by decide +kernel
theorem dX2_setOf_24 : decode cX2_setOf 24 = .ok (.bipush 7, 2) := by decide +kernel
theorem dX2_setOf_26 : decode cX2_setOf 26 = .ok (.idiv, 1) := by decide +kernel
theorem dX2_setOf_27 : decode cX2_setOf 27 = .ok (.iconst 3, 1) := by decide +kernel
theorem dX2_setOf_28 : decode cX2_setOf 28 = .ok (.irem, 1) := by decide +kernel
theorem dX2_setOf_29 : decode cX2_setOf 29 = .ok (.iadd, 1) := by decide +kernel
theorem dX2_setOf_30 : decode cX2_setOf 30 = .ok (.istore_n 3, 1) := by decide +kernel
theorem dX2_setOf_31 : decode cX2_setOf 31 = .ok (.iconst 1, 1) := by decide +kernel
theorem dX2_setOf_32 : decode cX2_setOf 32 = .ok (.iload_n 2, 1) := by decide +kernel
theorem dX2_setOf_33 : decode cX2_setOf 33 = .ok (.aload_n 0, 1) := by decide +kernel
theorem dX2_setOf_34 : decode cX2_setOf 34 = .ok (.getfield 23, 3) := by decide +kernel
theorem dX2_setOf_37 : decode cX2_setOf 37 = .ok (.irem, 1) := by decide +kernel
theorem dX2_setOf_38 : decode cX2_setOf 38 = .ok (.ishl, 1) := by decide +kernel
theorem dX2_setOf_39 : decode cX2_setOf 39 = .ok (.istore 4, 2) := by decide +kernel
theorem dX2_setOf_41 : decode cX2_setOf 41 = .ok (.iload_n 3, 1) := by decide +kernel
theorem dX2_setOf_42 : decode cX2_setOf 42 = .ok (.iconst 2, 1) := by decide +kernel
theorem dX2_setOf_43 : decode cX2_setOf 43 = .ok (.if_icmp .lt 21, 3) := by decide +kernel
theorem dX2_setOf_46 : decode cX2_setOf 46 = .ok (.iload 4, 2) := by decide +kernel
theorem dX2_setOf_48 : decode cX2_setOf 48 = .ok (.iconst 1, 1) := by decide +kernel
theorem dX2_setOf_49 : decode cX2_setOf 49 = .ok (.iload_n 2, 1) := by decide +kernel
theorem dX2_setOf_50 : decode cX2_setOf 50 = .ok (.aload_n 0, 1) := by decide +kernel
theorem dX2_setOf_51 : decode cX2_setOf 51 = .ok (.getfield 23, 3) := by decide +kernel
theorem dX2_setOf_54 : decode cX2_setOf 54 = .ok (.idiv, 1) := by decide +kernel
theorem dX2_setOf_55 : decode cX2_setOf 55 = .ok (.aload_n 0, 1) := by decide +kernel
theorem dX2_setOf_56 : decode cX2_setOf 56 = .ok (.getfield 23, 3) := by decide +kernel
theorem dX2_setOf_59 : decode cX2_setOf 59 = .ok (.irem, 1) := by decide +kernel
theorem dX2_setOf_60 : decode cX2_setOf 60 = .ok (.ishl, 1) := by decide +kernel
theorem dX2_setOf_61 : decode cX2_setOf 61 = .ok (.ixor, 1) := by decide +kernel
theorem dX2_setOf_62 : decode cX2_setOf 62 = .ok (.istore 4, 2) := by decide +kernel
theorem dX2_setOf_64 : decode cX2_setOf 64 = .ok (.iload_n 3, 1) := by decide +kernel
theorem dX2_setOf_65 : decode cX2_setOf 65 = .ok (.iconst 3, 1) := by decide +kernel
theorem dX2_setOf_66 : decode cX2_setOf 66 = .ok (.if_icmp .lt 26, 3) := by decide +kernel
theorem dX2_setOf_69 : decode cX2_setOf 69 = .ok (.iload 4, 2) := by decide +kernel
theorem dX2_setOf_71 : decode cX2_setOf 71 = .ok (.iconst 1, 1) := by decide +kernel
theorem dX2_setOf_72 : decode cX2_setOf 72 = .ok (.iload_n 2, 1) := by decide +kernel
theorem dX2_setOf_73 : decode cX2_setOf 73 = .ok (.aload_n 0, 1) := by decide +kernel
theorem dX2_setOf_74 : decode cX2_setOf 74 = .ok (.getfield 23, 3) := by decide +kernel
theorem dX2_setOf_77 : decode cX2_setOf 77 = .ok (.aload_n 0, 1) := by decide +kernel
theorem dX2_setOf_78 : decode cX2_setOf 78 = .ok (.getfield 23, 3) := by decide +kernel
theorem dX2_setOf_81 : decode cX2_setOf 81 = .ok (.imul, 1) := by decide +kernel
theorem dX2_setOf_82 : decode cX2_setOf 82 = .ok (.idiv, 1) := by decide +kernel
theorem dX2_setOf_83 : decode cX2_setOf 83 = .ok (.aload_n 0, 1) := by decide +kernel
theorem dX2_setOf_84 : decode cX2_setOf 84 = .ok (.getfield 23, 3) := by decide +kernel
theorem dX2_setOf_87 : decode cX2_setOf 87 = .ok (.irem, 1) := by decide +kernel
theorem dX2_setOf_88 : decode cX2_setOf 88 = .ok (.ishl, 1) := by decide +kernel
theorem dX2_setOf_89 : decode cX2_setOf 89 = .ok (.ixor, 1) := by decide +kernel
theorem dX2_setOf_90 : decode cX2_setOf 90 = .ok (.istore 4, 2) := by decide +kernel
theorem dX2_setOf_92 : decode cX2_setOf 92 = .ok (.iload 4, 2) := by decide +kernel
theorem dX2_setOf_94 : decode cX2_setOf 94 = .ok (.ifCond .ne 7, 3) := by decide +kernel
theorem dX2_setOf_97 : decode cX2_setOf 97 = .ok (.iconst 1, 1) := by decide +kernel
theorem dX2_setOf_98 : decode cX2_setOf 98 = .ok (.goto 5, 3) := by decide +kernel
theorem dX2_setOf_101 : decode cX2_setOf 101 = .ok (.iload 4, 2) := by decide +kernel
theorem dX2_setOf_103 : decode cX2_setOf 103 = .ok (.ireturn, 1) := by decide +kernel
abbrev cX2_lose : ByteArray := prog_3_method_8_code
def yX2_lose : MethodName := ⟨RX2, "lose", "(I)I"⟩
theorem dX2_lose_0 : decode cX2_lose 0 = .ok (.iload_n 1, 1) := by decide +kernel
theorem dX2_lose_1 : decode cX2_lose 1 = .ok (.ifCond .lt 11, 3) := by decide +kernel
theorem dX2_lose_4 : decode cX2_lose 4 = .ok (.iload_n 1, 1) := by decide +kernel
theorem dX2_lose_5 : decode cX2_lose 5 = .ok (.aload_n 0, 1) := by decide +kernel
theorem dX2_lose_6 : decode cX2_lose 6 = .ok (.getfield 31, 3) := by decide +kernel
theorem dX2_lose_9 : decode cX2_lose 9 = .ok (.if_icmp .lt 5, 3) := by decide +kernel
theorem dX2_lose_12 : decode cX2_lose 12 = .ok (.iconst (-1), 1) := by decide +kernel
theorem dX2_lose_13 : decode cX2_lose 13 = .ok (.ireturn, 1) := by decide +kernel
theorem dX2_lose_14 : decode cX2_lose 14 = .ok (.iload_n 1, 1) := by decide +kernel
theorem dX2_lose_15 : decode cX2_lose 15 = .ok (.istore_n 2, 1) := by decide +kernel
theorem dX2_lose_16 : decode cX2_lose 16 = .ok (.iload_n 2, 1) := by decide +kernel
theorem dX2_lose_17 : decode cX2_lose 17 = .ok (.iconst 1, 1) := by decide +kernel
theorem dX2_lose_18 : decode cX2_lose 18 = .ok (.iadd, 1) := by decide +kernel
theorem dX2_lose_19 : decode cX2_lose 19 = .ok (.aload_n 0, 1) := by decide +kernel
theorem dX2_lose_20 : decode cX2_lose 20 = .ok (.getfield 31, 3) := by decide +kernel
theorem dX2_lose_23 : decode cX2_lose 23 = .ok (.if_icmp .ge 37, 3) := by decide +kernel
theorem dX2_lose_26 : decode cX2_lose 26 = .ok (.aload_n 0, 1) := by decide +kernel
theorem dX2_lose_27 : decode cX2_lose 27 = .ok (.getfield 7, 3) := by decide +kernel
theorem dX2_lose_30 : decode cX2_lose 30 = .ok (.iload_n 2, 1) := by decide +kernel
theorem dX2_lose_31 : decode cX2_lose 31 = .ok (.aload_n 0, 1) := by decide +kernel
theorem dX2_lose_32 : decode cX2_lose 32 = .ok (.getfield 7, 3) := by decide +kernel
theorem dX2_lose_35 : decode cX2_lose 35 = .ok (.iload_n 2, 1) := by decide +kernel
theorem dX2_lose_36 : decode cX2_lose 36 = .ok (.iconst 1, 1) := by decide +kernel
theorem dX2_lose_37 : decode cX2_lose 37 = .ok (.iadd, 1) := by decide +kernel
theorem dX2_lose_38 : decode cX2_lose 38 = .ok (.iaload, 1) := by decide +kernel
theorem dX2_lose_39 : decode cX2_lose 39 = .ok (.iastore, 1) := by decide +kernel
theorem dX2_lose_40 : decode cX2_lose 40 = .ok (.aload_n 0, 1) := by decide +kernel
theorem dX2_lose_41 : decode cX2_lose 41 = .ok (.getfield 13, 3) := by decide +kernel
theorem dX2_lose_44 : decode cX2_lose 44 = .ok (.iload_n 2, 1) := by decide +kernel
theorem dX2_lose_45 : decode cX2_lose 45 = .ok (.aload_n 0, 1) := by decide +kernel
theorem dX2_lose_46 : decode cX2_lose 46 = .ok (.getfield 13, 3) := by decide +kernel
theorem dX2_lose_49 : decode cX2_lose 49 = .ok (.iload_n 2, 1) := by decide +kernel
theorem dX2_lose_50 : decode cX2_lose 50 = .ok (.iconst 1, 1) := by decide +kernel
theorem dX2_lose_51 : decode cX2_lose 51 = .ok (.iadd, 1) := by decide +kernel
theorem dX2_lose_52 : decode cX2_lose 52 = .ok (.iaload, 1) := by decide +kernel
theorem dX2_lose_53 : decode cX2_lose 53 = .ok (.iastore, 1) := by decide +kernel
theorem dX2_lose_54 : decode cX2_lose 54 = .ok (.iinc 2 1, 3) := by decide +kernel
theorem dX2_lose_57 : decode cX2_lose 57 = .ok (.goto (-41), 3) := by decide +kernel
theorem dX2_lose_60 : decode cX2_lose 60 = .ok (.aload_n 0, 1) := by decide +kernel
theorem dX2_lose_61 : decode cX2_lose 61 = .ok (.dup, 1) := by decide +kernel
theorem dX2_lose_62 : decode cX2_lose 62 = .ok (.getfield 31, 3) := by decide +kernel
theorem dX2_lose_65 : decode cX2_lose 65 = .ok (.iconst 1, 1) := by decide +kernel
theorem dX2_lose_66 : decode cX2_lose 66 = .ok (.isub, 1) := by decide +kernel
theorem dX2_lose_67 : decode cX2_lose 67 = .ok (.putfield 31, 3) := by decide +kernel
theorem dX2_lose_70 : decode cX2_lose 70 = .ok (.aload_n 0, 1) := by decide +kernel
theorem dX2_lose_71 : decode cX2_lose 71 = .ok (.getfield 31, 3) := by decide +kernel
theorem dX2_lose_74 : decode cX2_lose 74 = .ok (.ireturn, 1) := by decide +kernel
abbrev cX2_symbols : ByteArray := prog_3_method_10_code
def yX2_symbols : MethodName := ⟨RX2, "symbols", "()I"⟩
theorem dX2_symbols_0 : decode cX2_symbols 0 = .ok (.aload_n 0, 1) := by decide +kernel
theorem dX2_symbols_1 : decode cX2_symbols 1 = .ok (.getfield 31, 3) := by decide +kernel
theorem dX2_symbols_4 : decode cX2_symbols 4 = .ok (.ireturn, 1) := by decide +kernel
abbrev cX2_consistent : ByteArray := prog_3_method_13_code
def yX2_consistent : MethodName := ⟨RX2, "consistent", "()I"⟩
theorem dX2_consistent_0 : decode cX2_consistent 0 = .ok (.iconst 0, 1) := by decide +kernel
theorem dX2_consistent_1 : decode cX2_consistent 1 = .ok (.istore_n 1, 1) := by decide +kernel
theorem dX2_consistent_2 : decode cX2_consistent 2 = .ok (.iload_n 1, 1) := by decide +kernel
theorem dX2_consistent_3 : decode cX2_consistent 3 = .ok (.bipush 8, 2) := by decide +kernel
theorem dX2_consistent_5 : decode cX2_consistent 5 = .ok (.if_icmp .ge 20, 3) := by decide +kernel
theorem dX2_consistent_8 : decode cX2_consistent 8 = .ok (.aload_n 0, 1) := by decide +kernel
theorem dX2_consistent_9 : decode cX2_consistent 9 = .ok (.iload_n 1, 1) := by decide +kernel
theorem dX2_consistent_10 : decode cX2_consistent 10 = .ok (.iconst (-1), 1) := by decide +kernel
theorem dX2_consistent_11 : decode cX2_consistent 11 = .ok (.invokevirtual 56, 3) := by decide +kernel
theorem dX2_consistent_14 : decode cX2_consistent 14 = .ok (.ifCond .ne 5, 3) := by decide +kernel
theorem dX2_consistent_17 : decode cX2_consistent 17 = .ok (.iconst 0, 1) := by decide +kernel
theorem dX2_consistent_18 : decode cX2_consistent 18 = .ok (.ireturn, 1) := by decide +kernel
theorem dX2_consistent_19 : decode cX2_consistent 19 = .ok (.iinc 1 1, 3) := by decide +kernel
theorem dX2_consistent_22 : decode cX2_consistent 22 = .ok (.goto (-20), 3) := by decide +kernel
theorem dX2_consistent_25 : decode cX2_consistent 25 = .ok (.iconst 1, 1) := by decide +kernel
theorem dX2_consistent_26 : decode cX2_consistent 26 = .ok (.ireturn, 1) := by decide +kernel
abbrev cX2_solve : ByteArray := prog_3_method_12_code
def yX2_solve : MethodName := ⟨RX2, "solve", "(II)Z"⟩
theorem dX2_solve_0 : decode cX2_solve 0 = .ok (.iconst 0, 1) := by decide +kernel
theorem dX2_solve_1 : decode cX2_solve 1 = .ok (.istore_n 3, 1) := by decide +kernel
theorem dX2_solve_2 : decode cX2_solve 2 = .ok (.aload_n 0, 1) := by decide +kernel
theorem dX2_solve_3 : decode cX2_solve 3 = .ok (.iconst 0, 1) := by decide +kernel
theorem dX2_solve_4 : decode cX2_solve 4 = .ok (.putfield 46, 3) := by decide +kernel
theorem dX2_solve_7 : decode cX2_solve 7 = .ok (.aload_n 0, 1) := by decide +kernel
theorem dX2_solve_8 : decode cX2_solve 8 = .ok (.iconst 1, 1) := by decide +kernel
theorem dX2_solve_9 : decode cX2_solve 9 = .ok (.aload_n 0, 1) := by decide +kernel
theorem dX2_solve_10 : decode cX2_solve 10 = .ok (.getfield 23, 3) := by decide +kernel
theorem dX2_solve_13 : decode cX2_solve 13 = .ok (.ishl, 1) := by decide +kernel
theorem dX2_solve_14 : decode cX2_solve 14 = .ok (.iconst 1, 1) := by decide +kernel
theorem dX2_solve_15 : decode cX2_solve 15 = .ok (.isub, 1) := by decide +kernel
theorem dX2_solve_16 : decode cX2_solve 16 = .ok (.putfield 49, 3) := by decide +kernel
theorem dX2_solve_19 : decode cX2_solve 19 = .ok (.iconst 0, 1) := by decide +kernel
theorem dX2_solve_20 : decode cX2_solve 20 = .ok (.istore 4, 2) := by decide +kernel
theorem dX2_solve_22 : decode cX2_solve 22 = .ok (.iload 4, 2) := by decide +kernel
theorem dX2_solve_24 : decode cX2_solve 24 = .ok (.iconst 1, 1) := by decide +kernel
theorem dX2_solve_25 : decode cX2_solve 25 = .ok (.aload_n 0, 1) := by decide +kernel
theorem dX2_solve_26 : decode cX2_solve 26 = .ok (.getfield 23, 3) := by decide +kernel
theorem dX2_solve_29 : decode cX2_solve 29 = .ok (.ishl, 1) := by decide +kernel
theorem dX2_solve_30 : decode cX2_solve 30 = .ok (.if_icmp .ge 44, 3) := by decide +kernel
theorem dX2_solve_33 : decode cX2_solve 33 = .ok (.aload_n 0, 1) := by decide +kernel
theorem dX2_solve_34 : decode cX2_solve 34 = .ok (.iload 4, 2) := by decide +kernel
theorem dX2_solve_36 : decode cX2_solve 36 = .ok (.iload_n 1, 1) := by decide +kernel
theorem dX2_solve_37 : decode cX2_solve 37 = .ok (.iload_n 2, 1) := by decide +kernel
theorem dX2_solve_38 : decode cX2_solve 38 = .ok (.invokevirtual 52, 3) := by decide +kernel
theorem dX2_solve_41 : decode cX2_solve 41 = .ok (.ifCond .eq 27, 3) := by decide +kernel
theorem dX2_solve_44 : decode cX2_solve 44 = .ok (.iconst 1, 1) := by decide +kernel
theorem dX2_solve_45 : decode cX2_solve 45 = .ok (.istore_n 3, 1) := by decide +kernel
theorem dX2_solve_46 : decode cX2_solve 46 = .ok (.aload_n 0, 1) := by decide +kernel
theorem dX2_solve_47 : decode cX2_solve 47 = .ok (.aload_n 0, 1) := by decide +kernel
theorem dX2_solve_48 : decode cX2_solve 48 = .ok (.getfield 46, 3) := by decide +kernel
theorem dX2_solve_51 : decode cX2_solve 51 = .ok (.iload 4, 2) := by decide +kernel
theorem dX2_solve_53 : decode cX2_solve 53 = .ok (.ior, 1) := by decide +kernel
theorem dX2_solve_54 : decode cX2_solve 54 = .ok (.putfield 46, 3) := by decide +kernel
theorem dX2_solve_57 : decode cX2_solve 57 = .ok (.aload_n 0, 1) := by decide +kernel
theorem dX2_solve_58 : decode cX2_solve 58 = .ok (.aload_n 0, 1) := by decide +kernel
theorem dX2_solve_59 : decode cX2_solve 59 = .ok (.getfield 49, 3) := by decide +kernel
theorem dX2_solve_62 : decode cX2_solve 62 = .ok (.iload 4, 2) := by decide +kernel
theorem dX2_solve_64 : decode cX2_solve 64 = .ok (.iand, 1) := by decide +kernel
theorem dX2_solve_65 : decode cX2_solve 65 = .ok (.putfield 49, 3) := by decide +kernel
theorem dX2_solve_68 : decode cX2_solve 68 = .ok (.iinc 4 1, 3) := by decide +kernel
theorem dX2_solve_71 : decode cX2_solve 71 = .ok (.goto (-49), 3) := by decide +kernel
theorem dX2_solve_74 : decode cX2_solve 74 = .ok (.iload_n 3, 1) := by decide +kernel
theorem dX2_solve_75 : decode cX2_solve 75 = .ok (.ireturn, 1) := by decide +kernel
abbrev cX2_solves : ByteArray := prog_3_method_11_code
def yX2_solves : MethodName := ⟨RX2, "solves", "(III)Z"⟩
theorem dX2_solves_0 : decode cX2_solves 0 = .ok (.iconst 0, 1) := by decide +kernel
theorem dX2_solves_1 : decode cX2_solves 1 = .ok (.istore 4, 2) := by decide +kernel
theorem dX2_solves_3 : decode cX2_solves 3 = .ok (.iload 4, 2) := by decide +kernel
theorem dX2_solves_5 : decode cX2_solves 5 = .ok (.aload_n 0, 1) := by decide +kernel
theorem dX2_solves_6 : decode cX2_solves 6 = .ok (.getfield 31, 3) := by decide +kernel
theorem dX2_solves_9 : decode cX2_solves 9 = .ok (.if_icmp .ge 58, 3) := by decide +kernel
theorem dX2_solves_12 : decode cX2_solves 12 = .ok (.aload_n 0, 1) := by decide +kernel
theorem dX2_solves_13 : decode cX2_solves 13 = .ok (.getfield 13, 3) := by decide +kernel
theorem dX2_solves_16 : decode cX2_solves 16 = .ok (.iload 4, 2) := by decide +kernel
theorem dX2_solves_18 : decode cX2_solves 18 = .ok (.iaload, 1) := by decide +kernel
theorem dX2_solves_19 : decode cX2_solves 19 = .ok (.iload_n 2, 1) := by decide +kernel
theorem dX2_solves_20 : decode cX2_solves 20 = .ok (.ishr, 1) := by decide +kernel
theorem dX2_solves_21 : decode cX2_solves 21 = .ok (.iconst 1, 1) := by decide +kernel
theorem dX2_solves_22 : decode cX2_solves 22 = .ok (.iand, 1) := by decide +kernel
theorem dX2_solves_23 : decode cX2_solves 23 = .ok (.iconst 1, 1) := by decide +kernel
theorem dX2_solves_24 : decode cX2_solves 24 = .ok (.if_icmp .ne 7, 3) := by decide +kernel
theorem dX2_solves_27 : decode cX2_solves 27 = .ok (.iconst 1, 1) := by decide +kernel
theorem dX2_solves_28 : decode cX2_solves 28 = .ok (.goto 4, 3) := by decide +kernel
theorem dX2_solves_31 : decode cX2_solves 31 = .ok (.iconst 0, 1) := by decide +kernel
theorem dX2_solves_32 : decode cX2_solves 32 = .ok (.istore 5, 2) := by decide +kernel
theorem dX2_solves_34 : decode cX2_solves 34 = .ok (.iload 4, 2) := by decide +kernel
theorem dX2_solves_36 : decode cX2_solves 36 = .ok (.iload_n 3, 1) := by decide +kernel
theorem dX2_solves_37 : decode cX2_solves 37 = .ok (.if_icmp .eq 24, 3) := by decide +kernel
theorem dX2_solves_40 : decode cX2_solves 40 = .ok (.aload_n 0, 1) := by decide +kernel
theorem dX2_solves_41 : decode cX2_solves 41 = .ok (.getfield 16, 3) := by decide +kernel
theorem dX2_solves_44 : decode cX2_solves 44 = .ok (.iload_n 1, 1) := by decide +kernel
theorem dX2_solves_45 : decode cX2_solves 45 = .ok (.aload_n 0, 1) := by decide +kernel
theorem dX2_solves_46 : decode cX2_solves 46 = .ok (.getfield 7, 3) := by decide +kernel
theorem dX2_solves_49 : decode cX2_solves 49 = .ok (.iload 4, 2) := by decide +kernel
theorem dX2_solves_51 : decode cX2_solves 51 = .ok (.iaload, 1) := by decide +kernel
theorem dX2_solves_52 : decode cX2_solves 52 = .ok (.iand, 1) := by decide +kernel
theorem dX2_solves_53 : decode cX2_solves 53 = .ok (.baload, 1) := by decide +kernel
theorem dX2_solves_54 : decode cX2_solves 54 = .ok (.iload 5, 2) := by decide +kernel
theorem dX2_solves_56 : decode cX2_solves 56 = .ok (.if_icmp .eq 5, 3) := by decide +kernel
theorem dX2_solves_59 : decode cX2_solves 59 = .ok (.iconst 0, 1) := by decide +kernel
theorem dX2_solves_60 : decode cX2_solves 60 = .ok (.ireturn, 1) := by decide +kernel
theorem dX2_solves_61 : decode cX2_solves 61 = .ok (.iinc 4 1, 3) := by decide +kernel
theorem dX2_solves_64 : decode cX2_solves 64 = .ok (.goto (-61), 3) := by decide +kernel
theorem dX2_solves_67 : decode cX2_solves 67 = .ok (.iconst 1, 1) := by decide +kernel
theorem dX2_solves_68 : decode cX2_solves 68 = .ok (.ireturn, 1) := by decide +kernel
abbrev cX2_rank : ByteArray := prog_3_method_14_code
def yX2_rank : MethodName := ⟨RX2, "rank", "()I"⟩
theorem dX2_rank_0 : decode cX2_rank 0 = .ok (.iconst 0, 1) := by decide +kernel
theorem dX2_rank_1 : decode cX2_rank 1 = .ok (.istore_n 1, 1) := by decide +kernel
theorem dX2_rank_2 : decode cX2_rank 2 = .ok (.iconst 0, 1) := by decide +kernel
theorem dX2_rank_3 : decode cX2_rank 3 = .ok (.istore_n 2, 1) := by decide +kernel
theorem dX2_rank_4 : decode cX2_rank 4 = .ok (.iload_n 2, 1) := by decide +kernel
theorem dX2_rank_5 : decode cX2_rank 5 = .ok (.sipush 256, 3) := by decide +kernel
theorem dX2_rank_8 : decode cX2_rank 8 = .ok (.if_icmp .ge 24, 3) := by decide +kernel
theorem dX2_rank_11 : decode cX2_rank 11 = .ok (.aload_n 0, 1) := by decide +kernel
theorem dX2_rank_12 : decode cX2_rank 12 = .ok (.getfield 20, 3) := by decide +kernel
theorem dX2_rank_15 : decode cX2_rank 15 = .ok (.iload_n 2, 1) := by decide +kernel
theorem dX2_rank_16 : decode cX2_rank 16 = .ok (.iload_n 2, 1) := by decide +kernel
theorem dX2_rank_17 : decode cX2_rank 17 = .ok (.ifCond .ne 7, 3) := by decide +kernel
theorem dX2_rank_20 : decode cX2_rank 20 = .ok (.iconst 1, 1) := by decide +kernel
theorem dX2_rank_21 : decode cX2_rank 21 = .ok (.goto 4, 3) := by decide +kernel
theorem dX2_rank_24 : decode cX2_rank 24 = .ok (.iconst 0, 1) := by decide +kernel
theorem dX2_rank_25 : decode cX2_rank 25 = .ok (.bastore, 1) := by decide +kernel
theorem dX2_rank_26 : decode cX2_rank 26 = .ok (.iinc 2 1, 3) := by decide +kernel
theorem dX2_rank_29 : decode cX2_rank 29 = .ok (.goto (-25), 3) := by decide +kernel
theorem dX2_rank_32 : decode cX2_rank 32 = .ok (.iconst 0, 1) := by decide +kernel
theorem dX2_rank_33 : decode cX2_rank 33 = .ok (.istore_n 2, 1) := by decide +kernel
theorem dX2_rank_34 : decode cX2_rank 34 = .ok (.iload_n 2, 1) := by decide +kernel
theorem dX2_rank_35 : decode cX2_rank 35 = .ok (.aload_n 0, 1) := by decide +kernel
theorem dX2_rank_36 : decode cX2_rank 36 = .ok (.getfield 31, 3) := by decide +kernel
theorem dX2_rank_39 : decode cX2_rank 39 = .ok (.if_icmp .ge 19, 3) := by decide +kernel
theorem dX2_rank_42 : decode cX2_rank 42 = .ok (.aload_n 0, 1) := by decide +kernel
theorem dX2_rank_43 : decode cX2_rank 43 = .ok (.aload_n 0, 1) := by decide +kernel
theorem dX2_rank_44 : decode cX2_rank 44 = .ok (.getfield 7, 3) := by decide +kernel
theorem dX2_rank_47 : decode cX2_rank 47 = .ok (.iload_n 2, 1) := by decide +kernel
theorem dX2_rank_48 : decode cX2_rank 48 = .ok (.iaload, 1) := by decide +kernel
theorem dX2_rank_49 : decode cX2_rank 49 = .ok (.invokevirtual 60, 3) := by decide +kernel
theorem dX2_rank_52 : decode cX2_rank 52 = .ok (.iinc 2 1, 3) := by decide +kernel
theorem dX2_rank_55 : decode cX2_rank 55 = .ok (.goto (-21), 3) := by decide +kernel
theorem dX2_rank_58 : decode cX2_rank 58 = .ok (.iconst 0, 1) := by decide +kernel
theorem dX2_rank_59 : decode cX2_rank 59 = .ok (.istore_n 2, 1) := by decide +kernel
theorem dX2_rank_60 : decode cX2_rank 60 = .ok (.iload_n 2, 1) := by decide +kernel
theorem dX2_rank_61 : decode cX2_rank 61 = .ok (.sipush 256, 3) := by decide +kernel
theorem dX2_rank_64 : decode cX2_rank 64 = .ok (.if_icmp .ge 21, 3) := by decide +kernel
theorem dX2_rank_67 : decode cX2_rank 67 = .ok (.aload_n 0, 1) := by decide +kernel
theorem dX2_rank_68 : decode cX2_rank 68 = .ok (.getfield 20, 3) := by decide +kernel
theorem dX2_rank_71 : decode cX2_rank 71 = .ok (.iload_n 2, 1) := by decide +kernel
theorem dX2_rank_72 : decode cX2_rank 72 = .ok (.baload, 1) := by decide +kernel
theorem dX2_rank_73 : decode cX2_rank 73 = .ok (.ifCond .eq 6, 3) := by decide +kernel
theorem dX2_rank_76 : decode cX2_rank 76 = .ok (.iinc 1 1, 3) := by decide +kernel
theorem dX2_rank_79 : decode cX2_rank 79 = .ok (.iinc 2 1, 3) := by decide +kernel
theorem dX2_rank_82 : decode cX2_rank 82 = .ok (.goto (-22), 3) := by decide +kernel
theorem dX2_rank_85 : decode cX2_rank 85 = .ok (.iconst 0, 1) := by decide +kernel
theorem dX2_rank_86 : decode cX2_rank 86 = .ok (.istore_n 2, 1) := by decide +kernel
theorem dX2_rank_87 : decode cX2_rank 87 = .ok (.iload_n 2, 1) := by decide +kernel
theorem dX2_rank_88 : decode cX2_rank 88 = .ok (.bipush 8, 2) := by decide +kernel
theorem dX2_rank_90 : decode cX2_rank 90 = .ok (.if_icmp .ge 16, 3) := by decide +kernel
theorem dX2_rank_93 : decode cX2_rank 93 = .ok (.iconst 1, 1) := by decide +kernel
theorem dX2_rank_94 : decode cX2_rank 94 = .ok (.iload_n 2, 1) := by decide +kernel
theorem dX2_rank_95 : decode cX2_rank 95 = .ok (.ishl, 1) := by decide +kernel
theorem dX2_rank_96 : decode cX2_rank 96 = .ok (.iload_n 1, 1) := by decide +kernel
theorem dX2_rank_97 : decode cX2_rank 97 = .ok (.if_icmp .ge 9, 3) := by decide +kernel
theorem dX2_rank_100 : decode cX2_rank 100 = .ok (.iinc 2 1, 3) := by decide +kernel
theorem dX2_rank_103 : decode cX2_rank 103 = .ok (.goto (-16), 3) := by decide +kernel
theorem dX2_rank_106 : decode cX2_rank 106 = .ok (.iload_n 2, 1) := by decide +kernel
theorem dX2_rank_107 : decode cX2_rank 107 = .ok (.ireturn, 1) := by decide +kernel
abbrev cX2_spread : ByteArray := prog_3_method_15_code
def yX2_spread : MethodName := ⟨RX2, "spread", "(I)V"⟩
theorem dX2_spread_0 : decode cX2_spread 0 = .ok (.iconst 0, 1) := by decide +kernel
theorem dX2_spread_1 : decode cX2_spread 1 = .ok (.istore_n 2, 1) := by decide +kernel
theorem dX2_spread_2 : decode cX2_spread 2 = .ok (.iload_n 2, 1) := by decide +kernel
theorem dX2_spread_3 : decode cX2_spread 3 = .ok (.sipush 256, 3) := by decide +kernel
theorem dX2_spread_6 : decode cX2_spread 6 = .ok (.if_icmp .ge 27, 3) := by decide +kernel
theorem dX2_spread_9 : decode cX2_spread 9 = .ok (.aload_n 0, 1) := by decide +kernel
theorem dX2_spread_10 : decode cX2_spread 10 = .ok (.getfield 20, 3) := by decide +kernel
theorem dX2_spread_13 : decode cX2_spread 13 = .ok (.iload_n 2, 1) := by decide +kernel
theorem dX2_spread_14 : decode cX2_spread 14 = .ok (.baload, 1) := by decide +kernel
theorem dX2_spread_15 : decode cX2_spread 15 = .ok (.ifCond .eq 12, 3) := by decide +kernel
theorem dX2_spread_18 : decode cX2_spread 18 = .ok (.aload_n 0, 1) := by decide +kernel
theorem dX2_spread_19 : decode cX2_spread 19 = .ok (.getfield 20, 3) := by decide +kernel
theorem dX2_spread_22 : decode cX2_spread 22 = .ok (.iload_n 2, 1) := by decide +kernel
theorem dX2_spread_23 : decode cX2_spread 23 = .ok (.iload_n 1, 1) := by decide +kernel
theorem dX2_spread_24 : decode cX2_spread 24 = .ok (.ixor, 1) := by decide +kernel
theorem dX2_spread_25 : decode cX2_spread 25 = .ok (.iconst 1, 1) := by decide +kernel
theorem dX2_spread_26 : decode cX2_spread 26 = .ok (.bastore, 1) := by decide +kernel
theorem dX2_spread_27 : decode cX2_spread 27 = .ok (.iinc 2 1, 3) := by decide +kernel
theorem dX2_spread_30 : decode cX2_spread 30 = .ok (.goto (-28), 3) := by decide +kernel
theorem dX2_spread_33 : decode cX2_spread 33 = .ok (.return_, 1) := by decide +kernel
abbrev cX2_known : ByteArray := prog_3_method_17_code
def yX2_known : MethodName := ⟨RX2, "known", "()I"⟩
theorem dX2_known_0 : decode cX2_known 0 = .ok (.aload_n 0, 1) := by decide +kernel
theorem dX2_known_1 : decode cX2_known 1 = .ok (.iconst (-1), 1) := by decide +kernel
theorem dX2_known_2 : decode cX2_known 2 = .ok (.invokevirtual 64, 3) := by decide +kernel
theorem dX2_known_5 : decode cX2_known 5 = .ok (.ireturn, 1) := by decide +kernel
abbrev cX2_knownWithout : ByteArray := prog_3_method_16_code
def yX2_knownWithout : MethodName := ⟨RX2, "knownWithout", "(I)I"⟩
theorem dX2_knownWithout_0 : decode cX2_knownWithout 0 = .ok (.iconst 0, 1) := by decide +kernel
theorem dX2_knownWithout_1 : decode cX2_knownWithout 1 = .ok (.istore_n 2, 1) := by decide +kernel
theorem dX2_knownWithout_2 : decode cX2_knownWithout 2 = .ok (.iconst 0, 1) := by decide +kernel
theorem dX2_knownWithout_3 : decode cX2_knownWithout 3 = .ok (.istore_n 3, 1) := by decide +kernel
theorem dX2_knownWithout_4 : decode cX2_knownWithout 4 = .ok (.iload_n 3, 1) := by decide +kernel
theorem dX2_knownWithout_5 : decode cX2_knownWithout 5 = .ok (.bipush 8, 2) := by decide +kernel
theorem dX2_knownWithout_7 : decode cX2_knownWithout 7 = .ok (.if_icmp .ge 32, 3) := by decide +kernel
theorem dX2_knownWithout_10 : decode cX2_knownWithout 10 = .ok (.aload_n 0, 1) := by decide +kernel
theorem dX2_knownWithout_11 : decode cX2_knownWithout 11 = .ok (.iload_n 3, 1) := by decide +kernel
theorem dX2_knownWithout_12 : decode cX2_knownWithout 12 = .ok (.iload_n 1, 1) := by decide +kernel
theorem dX2_knownWithout_13 : decode cX2_knownWithout 13 = .ok (.invokevirtual 56, 3) := by decide +kernel
theorem dX2_knownWithout_16 : decode cX2_knownWithout 16 = .ok (.ifCond .ne 5, 3) := by decide +kernel
theorem dX2_knownWithout_19 : decode cX2_knownWithout 19 = .ok (.iconst 0, 1) := by decide +kernel
theorem dX2_knownWithout_20 : decode cX2_knownWithout 20 = .ok (.ireturn, 1) := by decide +kernel
theorem dX2_knownWithout_21 : decode cX2_knownWithout 21 = .ok (.iload_n 2, 1) := by decide +kernel
theorem dX2_knownWithout_22 : decode cX2_knownWithout 22 = .ok (.aload_n 0, 1) := by decide +kernel
theorem dX2_knownWithout_23 : decode cX2_knownWithout 23 = .ok (.getfield 46, 3) := by decide +kernel
theorem dX2_knownWithout_26 : decode cX2_knownWithout 26 = .ok (.aload_n 0, 1) := by decide +kernel
theorem dX2_knownWithout_27 : decode cX2_knownWithout 27 = .ok (.getfield 49, 3) := by decide +kernel
theorem dX2_knownWithout_30 : decode cX2_knownWithout 30 = .ok (.ixor, 1) := by decide +kernel
theorem dX2_knownWithout_31 : decode cX2_knownWithout 31 = .ok (.ior, 1) := by decide +kernel
theorem dX2_knownWithout_32 : decode cX2_knownWithout 32 = .ok (.istore_n 2, 1) := by decide +kernel
theorem dX2_knownWithout_33 : decode cX2_knownWithout 33 = .ok (.iinc 3 1, 3) := by decide +kernel
theorem dX2_knownWithout_36 : decode cX2_knownWithout 36 = .ok (.goto (-32), 3) := by decide +kernel
theorem dX2_knownWithout_39 : decode cX2_knownWithout 39 = .ok (.iconst 1, 1) := by decide +kernel
theorem dX2_knownWithout_40 : decode cX2_knownWithout 40 = .ok (.aload_n 0, 1) := by decide +kernel
theorem dX2_knownWithout_41 : decode cX2_knownWithout 41 = .ok (.getfield 23, 3) := by decide +kernel
theorem dX2_knownWithout_44 : decode cX2_knownWithout 44 = .ok (.ishl, 1) := by decide +kernel
theorem dX2_knownWithout_45 : decode cX2_knownWithout 45 = .ok (.iconst 1, 1) := by decide +kernel
theorem dX2_knownWithout_46 : decode cX2_knownWithout 46 = .ok (.isub, 1) := by decide +kernel
theorem dX2_knownWithout_47 : decode cX2_knownWithout 47 = .ok (.iload_n 2, 1) := by decide +kernel
theorem dX2_knownWithout_48 : decode cX2_knownWithout 48 = .ok (.isub, 1) := by decide +kernel
theorem dX2_knownWithout_49 : decode cX2_knownWithout 49 = .ok (.ireturn, 1) := by decide +kernel
abbrev cX2_value : ByteArray := prog_3_method_18_code
def yX2_value : MethodName := ⟨RX2, "value", "(I)I"⟩
theorem dX2_value_0 : decode cX2_value 0 = .ok (.iload_n 1, 1) := by decide +kernel
theorem dX2_value_1 : decode cX2_value 1 = .ok (.ifCond .lt 11, 3) := by decide +kernel
theorem dX2_value_4 : decode cX2_value 4 = .ok (.iload_n 1, 1) := by decide +kernel
theorem dX2_value_5 : decode cX2_value 5 = .ok (.aload_n 0, 1) := by decide +kernel
theorem dX2_value_6 : decode cX2_value 6 = .ok (.getfield 23, 3) := by decide +kernel
theorem dX2_value_9 : decode cX2_value 9 = .ok (.if_icmp .lt 5, 3) := by decide +kernel
theorem dX2_value_12 : decode cX2_value 12 = .ok (.iconst (-1), 1) := by decide +kernel
theorem dX2_value_13 : decode cX2_value 13 = .ok (.ireturn, 1) := by decide +kernel
theorem dX2_value_14 : decode cX2_value 14 = .ok (.aload_n 0, 1) := by decide +kernel
theorem dX2_value_15 : decode cX2_value 15 = .ok (.iconst 1, 1) := by decide +kernel
theorem dX2_value_16 : decode cX2_value 16 = .ok (.iload_n 1, 1) := by decide +kernel
theorem dX2_value_17 : decode cX2_value 17 = .ok (.ishl, 1) := by decide +kernel
theorem dX2_value_18 : decode cX2_value 18 = .ok (.invokevirtual 67, 3) := by decide +kernel
theorem dX2_value_21 : decode cX2_value 21 = .ok (.ireturn, 1) := by decide +kernel
abbrev cX2_sumOf : ByteArray := prog_3_method_19_code
def yX2_sumOf : MethodName := ⟨RX2, "sumOf", "(I)I"⟩
theorem dX2_sumOf_0 : decode cX2_sumOf 0 = .ok (.aload_n 0, 1) := by decide +kernel
theorem dX2_sumOf_1 : decode cX2_sumOf 1 = .ok (.iload_n 1, 1) := by decide +kernel
theorem dX2_sumOf_2 : decode cX2_sumOf 2 = .ok (.invokevirtual 34, 3) := by decide +kernel
theorem dX2_sumOf_5 : decode cX2_sumOf 5 = .ok (.ifCond .eq 5, 3) := by decide +kernel
theorem dX2_sumOf_8 : decode cX2_sumOf 8 = .ok (.iconst (-1), 1) := by decide +kernel
theorem dX2_sumOf_9 : decode cX2_sumOf 9 = .ok (.ireturn, 1) := by decide +kernel
theorem dX2_sumOf_10 : decode cX2_sumOf 10 = .ok (.iconst 0, 1) := by decide +kernel
theorem dX2_sumOf_11 : decode cX2_sumOf 11 = .ok (.istore_n 2, 1) := by decide +kernel
theorem dX2_sumOf_12 : decode cX2_sumOf 12 = .ok (.iconst 0, 1) := by decide +kernel
theorem dX2_sumOf_13 : decode cX2_sumOf 13 = .ok (.istore_n 3, 1) := by decide +kernel
theorem dX2_sumOf_14 : decode cX2_sumOf 14 = .ok (.iload_n 3, 1) := by decide +kernel
theorem dX2_sumOf_15 : decode cX2_sumOf 15 = .ok (.bipush 8, 2) := by decide +kernel
theorem dX2_sumOf_17 : decode cX2_sumOf 17 = .ok (.if_icmp .ge 91, 3) := by decide +kernel
theorem dX2_sumOf_20 : decode cX2_sumOf 20 = .ok (.iconst 0, 1) := by decide +kernel
theorem dX2_sumOf_21 : decode cX2_sumOf 21 = .ok (.istore 4, 2) := by decide +kernel
theorem dX2_sumOf_23 : decode cX2_sumOf 23 = .ok (.iconst 0, 1) := by decide +kernel
theorem dX2_sumOf_24 : decode cX2_sumOf 24 = .ok (.istore 5, 2) := by decide +kernel
theorem dX2_sumOf_26 : decode cX2_sumOf 26 = .ok (.iload 5, 2) := by decide +kernel
theorem dX2_sumOf_28 : decode cX2_sumOf 28 = .ok (.iconst 1, 1) := by decide +kernel
theorem dX2_sumOf_29 : decode cX2_sumOf 29 = .ok (.aload_n 0, 1) := by decide +kernel
theorem dX2_sumOf_30 : decode cX2_sumOf 30 = .ok (.getfield 23, 3) := by decide +kernel
theorem dX2_sumOf_33 : decode cX2_sumOf 33 = .ok (.ishl, 1) := by decide +kernel
theorem dX2_sumOf_34 : decode cX2_sumOf 34 = .ok (.if_icmp .ge 42, 3) := by decide +kernel
theorem dX2_sumOf_37 : decode cX2_sumOf 37 = .ok (.aload_n 0, 1) := by decide +kernel
theorem dX2_sumOf_38 : decode cX2_sumOf 38 = .ok (.iload 5, 2) := by decide +kernel
theorem dX2_sumOf_40 : decode cX2_sumOf 40 = .ok (.iload_n 3, 1) := by decide +kernel
theorem dX2_sumOf_41 : decode cX2_sumOf 41 = .ok (.iconst (-1), 1) := by decide +kernel
theorem dX2_sumOf_42 : decode cX2_sumOf 42 = .ok (.invokevirtual 52, 3) := by decide +kernel
theorem dX2_sumOf_45 : decode cX2_sumOf 45 = .ok (.ifCond .eq 25, 3) := by decide +kernel
theorem dX2_sumOf_48 : decode cX2_sumOf 48 = .ok (.iload 4, 2) := by decide +kernel
theorem dX2_sumOf_50 : decode cX2_sumOf 50 = .ok (.aload_n 0, 1) := by decide +kernel
theorem dX2_sumOf_51 : decode cX2_sumOf 51 = .ok (.getfield 16, 3) := by decide +kernel
theorem dX2_sumOf_54 : decode cX2_sumOf 54 = .ok (.iload 5, 2) := by decide +kernel
theorem dX2_sumOf_56 : decode cX2_sumOf 56 = .ok (.iload_n 1, 1) := by decide +kernel
theorem dX2_sumOf_57 : decode cX2_sumOf 57 = .ok (.iand, 1) := by decide +kernel
theorem dX2_sumOf_58 : decode cX2_sumOf 58 = .ok (.baload, 1) := by decide +kernel
theorem dX2_sumOf_59 : decode cX2_sumOf 59 = .ok (.ifCond .eq 7, 3) := by decide +kernel
theorem dX2_sumOf_62 : decode cX2_sumOf 62 = .ok (.iconst 2, 1) := by decide +kernel
theorem dX2_sumOf_63 : decode cX2_sumOf 63 = .ok (.goto 4, 3) := by decide +kernel
theorem dX2_sumOf_66 : decode cX2_sumOf 66 = .ok (.iconst 1, 1) := by decide +kernel
theorem dX2_sumOf_67 : decode cX2_sumOf 67 = .ok (.ior, 1) := by decide +kernel
theorem dX2_sumOf_68 : decode cX2_sumOf 68 = .ok (.istore 4, 2) := by decide +kernel
theorem dX2_sumOf_70 : decode cX2_sumOf 70 = .ok (.iinc 5 1, 3) := by decide +kernel
theorem dX2_sumOf_73 : decode cX2_sumOf 73 = .ok (.goto (-47), 3) := by decide +kernel
theorem dX2_sumOf_76 : decode cX2_sumOf 76 = .ok (.iload 4, 2) := by decide +kernel
theorem dX2_sumOf_78 : decode cX2_sumOf 78 = .ok (.ifCond .eq 9, 3) := by decide +kernel
theorem dX2_sumOf_81 : decode cX2_sumOf 81 = .ok (.iload 4, 2) := by decide +kernel
theorem dX2_sumOf_83 : decode cX2_sumOf 83 = .ok (.iconst 3, 1) := by decide +kernel
theorem dX2_sumOf_84 : decode cX2_sumOf 84 = .ok (.if_icmp .ne 6, 3) := by decide +kernel
theorem dX2_sumOf_87 : decode cX2_sumOf 87 = .ok (.bipush (-2), 2) := by decide +kernel
theorem dX2_sumOf_89 : decode cX2_sumOf 89 = .ok (.ireturn, 1) := by decide +kernel
theorem dX2_sumOf_90 : decode cX2_sumOf 90 = .ok (.iload 4, 2) := by decide +kernel
theorem dX2_sumOf_92 : decode cX2_sumOf 92 = .ok (.iconst 2, 1) := by decide +kernel
theorem dX2_sumOf_93 : decode cX2_sumOf 93 = .ok (.if_icmp .ne 9, 3) := by decide +kernel
theorem dX2_sumOf_96 : decode cX2_sumOf 96 = .ok (.iload_n 2, 1) := by decide +kernel
theorem dX2_sumOf_97 : decode cX2_sumOf 97 = .ok (.iconst 1, 1) := by decide +kernel
theorem dX2_sumOf_98 : decode cX2_sumOf 98 = .ok (.iload_n 3, 1) := by decide +kernel
theorem dX2_sumOf_99 : decode cX2_sumOf 99 = .ok (.ishl, 1) := by decide +kernel
theorem dX2_sumOf_100 : decode cX2_sumOf 100 = .ok (.ior, 1) := by decide +kernel
theorem dX2_sumOf_101 : decode cX2_sumOf 101 = .ok (.istore_n 2, 1) := by decide +kernel
theorem dX2_sumOf_102 : decode cX2_sumOf 102 = .ok (.iinc 3 1, 3) := by decide +kernel
theorem dX2_sumOf_105 : decode cX2_sumOf 105 = .ok (.goto (-91), 3) := by decide +kernel
theorem dX2_sumOf_108 : decode cX2_sumOf 108 = .ok (.iload_n 2, 1) := by decide +kernel
theorem dX2_sumOf_109 : decode cX2_sumOf 109 = .ok (.ireturn, 1) := by decide +kernel
abbrev cX2_peeled : ByteArray := prog_3_method_22_code
def yX2_peeled : MethodName := ⟨RX2, "peeled", "()I"⟩
theorem dX2_peeled_0 : decode cX2_peeled 0 = .ok (.aload_n 0, 1) := by decide +kernel
theorem dX2_peeled_1 : decode cX2_peeled 1 = .ok (.iconst 0, 1) := by decide +kernel
theorem dX2_peeled_2 : decode cX2_peeled 2 = .ok (.invokevirtual 73, 3) := by decide +kernel
theorem dX2_peeled_5 : decode cX2_peeled 5 = .ok (.ireturn, 1) := by decide +kernel
abbrev cX2_peelFrom : ByteArray := prog_3_method_21_code
def yX2_peelFrom : MethodName := ⟨RX2, "peelFrom", "(I)I"⟩
theorem dX2_peelFrom_0 : decode cX2_peelFrom 0 = .ok (.iload_n 1, 1) := by decide +kernel
theorem dX2_peelFrom_1 : decode cX2_peelFrom 1 = .ok (.istore_n 2, 1) := by decide +kernel
theorem dX2_peelFrom_2 : decode cX2_peelFrom 2 = .ok (.iconst 0, 1) := by decide +kernel
theorem dX2_peelFrom_3 : decode cX2_peelFrom 3 = .ok (.istore_n 3, 1) := by decide +kernel
theorem dX2_peelFrom_4 : decode cX2_peelFrom 4 = .ok (.iload_n 3, 1) := by decide +kernel
theorem dX2_peelFrom_5 : decode cX2_peelFrom 5 = .ok (.aload_n 0, 1) := by decide +kernel
theorem dX2_peelFrom_6 : decode cX2_peelFrom 6 = .ok (.getfield 23, 3) := by decide +kernel
theorem dX2_peelFrom_9 : decode cX2_peelFrom 9 = .ok (.if_icmp .ge 54, 3) := by decide +kernel
theorem dX2_peelFrom_12 : decode cX2_peelFrom 12 = .ok (.iconst 0, 1) := by decide +kernel
theorem dX2_peelFrom_13 : decode cX2_peelFrom 13 = .ok (.istore 4, 2) := by decide +kernel
theorem dX2_peelFrom_15 : decode cX2_peelFrom 15 = .ok (.iload 4, 2) := by decide +kernel
theorem dX2_peelFrom_17 : decode cX2_peelFrom 17 = .ok (.aload_n 0, 1) := by decide +kernel
theorem dX2_peelFrom_18 : decode cX2_peelFrom 18 = .ok (.getfield 31, 3) := by decide +kernel
theorem dX2_peelFrom_21 : decode cX2_peelFrom 21 = .ok (.if_icmp .ge 36, 3) := by decide +kernel
theorem dX2_peelFrom_24 : decode cX2_peelFrom 24 = .ok (.aload_n 0, 1) := by decide +kernel
theorem dX2_peelFrom_25 : decode cX2_peelFrom 25 = .ok (.getfield 7, 3) := by decide +kernel
theorem dX2_peelFrom_28 : decode cX2_peelFrom 28 = .ok (.iload 4, 2) := by decide +kernel
theorem dX2_peelFrom_30 : decode cX2_peelFrom 30 = .ok (.iaload, 1) := by decide +kernel
theorem dX2_peelFrom_31 : decode cX2_peelFrom 31 = .ok (.iload_n 2, 1) := by decide +kernel
theorem dX2_peelFrom_32 : decode cX2_peelFrom 32 = .ok (.iconst (-1), 1) := by decide +kernel
theorem dX2_peelFrom_33 : decode cX2_peelFrom 33 = .ok (.ixor, 1) := by decide +kernel
theorem dX2_peelFrom_34 : decode cX2_peelFrom 34 = .ok (.iand, 1) := by decide +kernel
theorem dX2_peelFrom_35 : decode cX2_peelFrom 35 = .ok (.istore 5, 2) := by decide +kernel
theorem dX2_peelFrom_37 : decode cX2_peelFrom 37 = .ok (.aload_n 0, 1) := by decide +kernel
theorem dX2_peelFrom_38 : decode cX2_peelFrom 38 = .ok (.iload 5, 2) := by decide +kernel
theorem dX2_peelFrom_40 : decode cX2_peelFrom 40 = .ok (.invokevirtual 70, 3) := by decide +kernel
theorem dX2_peelFrom_43 : decode cX2_peelFrom 43 = .ok (.ifCond .eq 8, 3) := by decide +kernel
theorem dX2_peelFrom_46 : decode cX2_peelFrom 46 = .ok (.iload_n 2, 1) := by decide +kernel
theorem dX2_peelFrom_47 : decode cX2_peelFrom 47 = .ok (.iload 5, 2) := by decide +kernel
theorem dX2_peelFrom_49 : decode cX2_peelFrom 49 = .ok (.ior, 1) := by decide +kernel
theorem dX2_peelFrom_50 : decode cX2_peelFrom 50 = .ok (.istore_n 2, 1) := by decide +kernel
theorem dX2_peelFrom_51 : decode cX2_peelFrom 51 = .ok (.iinc 4 1, 3) := by decide +kernel
theorem dX2_peelFrom_54 : decode cX2_peelFrom 54 = .ok (.goto (-39), 3) := by decide +kernel
theorem dX2_peelFrom_57 : decode cX2_peelFrom 57 = .ok (.iinc 3 1, 3) := by decide +kernel
theorem dX2_peelFrom_60 : decode cX2_peelFrom 60 = .ok (.goto (-56), 3) := by decide +kernel
theorem dX2_peelFrom_63 : decode cX2_peelFrom 63 = .ok (.iload_n 2, 1) := by decide +kernel
theorem dX2_peelFrom_64 : decode cX2_peelFrom 64 = .ok (.ireturn, 1) := by decide +kernel
abbrev cX2_single : ByteArray := prog_3_method_20_code
def yX2_single : MethodName := ⟨RX2, "single", "(I)Z"⟩
theorem dX2_single_0 : decode cX2_single 0 = .ok (.iload_n 1, 1) := by decide +kernel
theorem dX2_single_1 : decode cX2_single 1 = .ok (.ifCond .eq 15, 3) := by decide +kernel
theorem dX2_single_4 : decode cX2_single 4 = .ok (.iload_n 1, 1) := by decide +kernel
theorem dX2_single_5 : decode cX2_single 5 = .ok (.iload_n 1, 1) := by decide +kernel
theorem dX2_single_6 : decode cX2_single 6 = .ok (.iconst 1, 1) := by decide +kernel
theorem dX2_single_7 : decode cX2_single 7 = .ok (.isub, 1) := by decide +kernel
theorem dX2_single_8 : decode cX2_single 8 = .ok (.iand, 1) := by decide +kernel
theorem dX2_single_9 : decode cX2_single 9 = .ok (.ifCond .ne 7, 3) := by decide +kernel
theorem dX2_single_12 : decode cX2_single 12 = .ok (.iconst 1, 1) := by decide +kernel
theorem dX2_single_13 : decode cX2_single 13 = .ok (.goto 4, 3) := by decide +kernel
theorem dX2_single_16 : decode cX2_single 16 = .ok (.iconst 0, 1) := by decide +kernel
theorem dX2_single_17 : decode cX2_single 17 = .ok (.ireturn, 1) := by decide +kernel
abbrev cX2_isSeed : ByteArray := prog_3_method_23_code
def yX2_isSeed : MethodName := ⟨RX2, "isSeed", "(I)I"⟩
theorem dX2_isSeed_0 : decode cX2_isSeed 0 = .ok (.aload_n 0, 1) := by decide +kernel
theorem dX2_isSeed_1 : decode cX2_isSeed 1 = .ok (.iload_n 1, 1) := by decide +kernel
theorem dX2_isSeed_2 : decode cX2_isSeed 2 = .ok (.invokevirtual 34, 3) := by decide +kernel
theorem dX2_isSeed_5 : decode cX2_isSeed 5 = .ok (.ifCond .eq 5, 3) := by decide +kernel
theorem dX2_isSeed_8 : decode cX2_isSeed 8 = .ok (.iconst (-1), 1) := by decide +kernel
theorem dX2_isSeed_9 : decode cX2_isSeed 9 = .ok (.ireturn, 1) := by decide +kernel
theorem dX2_isSeed_10 : decode cX2_isSeed 10 = .ok (.aload_n 0, 1) := by decide +kernel
theorem dX2_isSeed_11 : decode cX2_isSeed 11 = .ok (.iload_n 1, 1) := by decide +kernel
theorem dX2_isSeed_12 : decode cX2_isSeed 12 = .ok (.invokevirtual 73, 3) := by decide +kernel
theorem dX2_isSeed_15 : decode cX2_isSeed 15 = .ok (.istore_n 2, 1) := by decide +kernel
theorem dX2_isSeed_16 : decode cX2_isSeed 16 = .ok (.iload_n 2, 1) := by decide +kernel
theorem dX2_isSeed_17 : decode cX2_isSeed 17 = .ok (.iconst 1, 1) := by decide +kernel
theorem dX2_isSeed_18 : decode cX2_isSeed 18 = .ok (.aload_n 0, 1) := by decide +kernel
theorem dX2_isSeed_19 : decode cX2_isSeed 19 = .ok (.getfield 23, 3) := by decide +kernel
theorem dX2_isSeed_22 : decode cX2_isSeed 22 = .ok (.ishl, 1) := by decide +kernel
theorem dX2_isSeed_23 : decode cX2_isSeed 23 = .ok (.iconst 1, 1) := by decide +kernel
theorem dX2_isSeed_24 : decode cX2_isSeed 24 = .ok (.isub, 1) := by decide +kernel
theorem dX2_isSeed_25 : decode cX2_isSeed 25 = .ok (.if_icmp .ne 7, 3) := by decide +kernel
theorem dX2_isSeed_28 : decode cX2_isSeed 28 = .ok (.iconst 1, 1) := by decide +kernel
theorem dX2_isSeed_29 : decode cX2_isSeed 29 = .ok (.goto 4, 3) := by decide +kernel
theorem dX2_isSeed_32 : decode cX2_isSeed 32 = .ok (.iconst 0, 1) := by decide +kernel
theorem dX2_isSeed_33 : decode cX2_isSeed 33 = .ok (.ireturn, 1) := by decide +kernel
abbrev cX2_seedSize : ByteArray := prog_3_method_24_code
def yX2_seedSize : MethodName := ⟨RX2, "seedSize", "()I"⟩
theorem dX2_seedSize_0 : decode cX2_seedSize 0 = .ok (.aload_n 0, 1) := by decide +kernel
theorem dX2_seedSize_1 : decode cX2_seedSize 1 = .ok (.invokevirtual 76, 3) := by decide +kernel
theorem dX2_seedSize_4 : decode cX2_seedSize 4 = .ok (.istore_n 1, 1) := by decide +kernel
theorem dX2_seedSize_5 : decode cX2_seedSize 5 = .ok (.aload_n 0, 1) := by decide +kernel
theorem dX2_seedSize_6 : decode cX2_seedSize 6 = .ok (.iload_n 1, 1) := by decide +kernel
theorem dX2_seedSize_7 : decode cX2_seedSize 7 = .ok (.invokevirtual 27, 3) := by decide +kernel
theorem dX2_seedSize_10 : decode cX2_seedSize 10 = .ok (.ireturn, 1) := by decide +kernel
abbrev cX2_seed : ByteArray := prog_3_method_25_code
def yX2_seed : MethodName := ⟨RX2, "seed", "()I"⟩
theorem dX2_seed_0 : decode cX2_seed 0 = .ok (.iconst 1, 1) := by decide +kernel
theorem dX2_seed_1 : decode cX2_seed 1 = .ok (.aload_n 0, 1) := by decide +kernel
theorem dX2_seed_2 : decode cX2_seed 2 = .ok (.getfield 23, 3) := by decide +kernel
theorem dX2_seed_5 : decode cX2_seed 5 = .ok (.ishl, 1) := by decide +kernel
theorem dX2_seed_6 : decode cX2_seed 6 = .ok (.iconst 1, 1) := by decide +kernel
theorem dX2_seed_7 : decode cX2_seed 7 = .ok (.isub, 1) := by decide +kernel
theorem dX2_seed_8 : decode cX2_seed 8 = .ok (.istore_n 1, 1) := by decide +kernel
theorem dX2_seed_9 : decode cX2_seed 9 = .ok (.aload_n 0, 1) := by decide +kernel
theorem dX2_seed_10 : decode cX2_seed 10 = .ok (.getfield 23, 3) := by decide +kernel
theorem dX2_seed_13 : decode cX2_seed 13 = .ok (.istore_n 2, 1) := by decide +kernel
theorem dX2_seed_14 : decode cX2_seed 14 = .ok (.iconst 0, 1) := by decide +kernel
theorem dX2_seed_15 : decode cX2_seed 15 = .ok (.istore_n 3, 1) := by decide +kernel
theorem dX2_seed_16 : decode cX2_seed 16 = .ok (.iload_n 3, 1) := by decide +kernel
theorem dX2_seed_17 : decode cX2_seed 17 = .ok (.iconst 1, 1) := by decide +kernel
theorem dX2_seed_18 : decode cX2_seed 18 = .ok (.aload_n 0, 1) := by decide +kernel
theorem dX2_seed_19 : decode cX2_seed 19 = .ok (.getfield 23, 3) := by decide +kernel
theorem dX2_seed_22 : decode cX2_seed 22 = .ok (.ishl, 1) := by decide +kernel
theorem dX2_seed_23 : decode cX2_seed 23 = .ok (.if_icmp .ge 36, 3) := by decide +kernel
theorem dX2_seed_26 : decode cX2_seed 26 = .ok (.aload_n 0, 1) := by decide +kernel
theorem dX2_seed_27 : decode cX2_seed 27 = .ok (.iload_n 3, 1) := by decide +kernel
theorem dX2_seed_28 : decode cX2_seed 28 = .ok (.invokevirtual 27, 3) := by decide +kernel
theorem dX2_seed_31 : decode cX2_seed 31 = .ok (.istore 4, 2) := by decide +kernel
theorem dX2_seed_33 : decode cX2_seed 33 = .ok (.iload 4, 2) := by decide +kernel
theorem dX2_seed_35 : decode cX2_seed 35 = .ok (.iload_n 2, 1) := by decide +kernel
theorem dX2_seed_36 : decode cX2_seed 36 = .ok (.if_icmp .ge 17, 3) := by decide +kernel
theorem dX2_seed_39 : decode cX2_seed 39 = .ok (.aload_n 0, 1) := by decide +kernel
theorem dX2_seed_40 : decode cX2_seed 40 = .ok (.iload_n 3, 1) := by decide +kernel
theorem dX2_seed_41 : decode cX2_seed 41 = .ok (.invokevirtual 80, 3) := by decide +kernel
theorem dX2_seed_44 : decode cX2_seed 44 = .ok (.iconst 1, 1) := by decide +kernel
theorem dX2_seed_45 : decode cX2_seed 45 = .ok (.if_icmp .ne 8, 3) := by decide +kernel
theorem dX2_seed_48 : decode cX2_seed 48 = .ok (.iload 4, 2) := by decide +kernel
theorem dX2_seed_50 : decode cX2_seed 50 = .ok (.istore_n 2, 1) := by decide +kernel
theorem dX2_seed_51 : decode cX2_seed 51 = .ok (.iload_n 3, 1) := by decide +kernel
theorem dX2_seed_52 : decode cX2_seed 52 = .ok (.istore_n 1, 1) := by decide +kernel
theorem dX2_seed_53 : decode cX2_seed 53 = .ok (.iinc 3 1, 3) := by decide +kernel
theorem dX2_seed_56 : decode cX2_seed 56 = .ok (.goto (-40), 3) := by decide +kernel
theorem dX2_seed_59 : decode cX2_seed 59 = .ok (.iload_n 1, 1) := by decide +kernel
theorem dX2_seed_60 : decode cX2_seed 60 = .ok (.ireturn, 1) := by decide +kernel
abbrev cX2_spare : ByteArray := prog_3_method_26_code
def yX2_spare : MethodName := ⟨RX2, "spare", "()I"⟩
theorem dX2_spare_0 : decode cX2_spare 0 = .ok (.aload_n 0, 1) := by decide +kernel
theorem dX2_spare_1 : decode cX2_spare 1 = .ok (.invokevirtual 83, 3) := by decide +kernel
theorem dX2_spare_4 : decode cX2_spare 4 = .ok (.istore_n 1, 1) := by decide +kernel
theorem dX2_spare_5 : decode cX2_spare 5 = .ok (.iconst 0, 1) := by decide +kernel
theorem dX2_spare_6 : decode cX2_spare 6 = .ok (.istore_n 2, 1) := by decide +kernel
theorem dX2_spare_7 : decode cX2_spare 7 = .ok (.iconst 0, 1) := by decide +kernel
theorem dX2_spare_8 : decode cX2_spare 8 = .ok (.istore_n 3, 1) := by decide +kernel
theorem dX2_spare_9 : decode cX2_spare 9 = .ok (.iload_n 3, 1) := by decide +kernel
theorem dX2_spare_10 : decode cX2_spare 10 = .ok (.aload_n 0, 1) := by decide +kernel
theorem dX2_spare_11 : decode cX2_spare 11 = .ok (.getfield 31, 3) := by decide +kernel
theorem dX2_spare_14 : decode cX2_spare 14 = .ok (.if_icmp .ge 27, 3) := by decide +kernel
theorem dX2_spare_17 : decode cX2_spare 17 = .ok (.aload_n 0, 1) := by decide +kernel
theorem dX2_spare_18 : decode cX2_spare 18 = .ok (.iload_n 3, 1) := by decide +kernel
theorem dX2_spare_19 : decode cX2_spare 19 = .ok (.invokevirtual 64, 3) := by decide +kernel
theorem dX2_spare_22 : decode cX2_spare 22 = .ok (.istore 4, 2) := by decide +kernel
theorem dX2_spare_24 : decode cX2_spare 24 = .ok (.iload 4, 2) := by decide +kernel
theorem dX2_spare_26 : decode cX2_spare 26 = .ok (.iload_n 1, 1) := by decide +kernel
theorem dX2_spare_27 : decode cX2_spare 27 = .ok (.iand, 1) := by decide +kernel
theorem dX2_spare_28 : decode cX2_spare 28 = .ok (.iload_n 1, 1) := by decide +kernel
theorem dX2_spare_29 : decode cX2_spare 29 = .ok (.if_icmp .ne 6, 3) := by decide +kernel
theorem dX2_spare_32 : decode cX2_spare 32 = .ok (.iinc 2 1, 3) := by decide +kernel
theorem dX2_spare_35 : decode cX2_spare 35 = .ok (.iinc 3 1, 3) := by decide +kernel
theorem dX2_spare_38 : decode cX2_spare 38 = .ok (.goto (-29), 3) := by decide +kernel
theorem dX2_spare_41 : decode cX2_spare 41 = .ok (.iload_n 2, 1) := by decide +kernel
theorem dX2_spare_42 : decode cX2_spare 42 = .ok (.ireturn, 1) := by decide +kernel
abbrev cX2_useful : ByteArray := prog_3_method_28_code
def yX2_useful : MethodName := ⟨RX2, "useful", "()I"⟩
theorem dX2_useful_0 : decode cX2_useful 0 = .ok (.aload_n 0, 1) := by decide +kernel
theorem dX2_useful_1 : decode cX2_useful 1 = .ok (.invokevirtual 86, 3) := by decide +kernel
theorem dX2_useful_4 : decode cX2_useful 4 = .ok (.ifCond .ne 5, 3) := by decide +kernel
theorem dX2_useful_7 : decode cX2_useful 7 = .ok (.iconst (-1), 1) := by decide +kernel
theorem dX2_useful_8 : decode cX2_useful 8 = .ok (.ireturn, 1) := by decide +kernel
theorem dX2_useful_9 : decode cX2_useful 9 = .ok (.aload_n 0, 1) := by decide +kernel
theorem dX2_useful_10 : decode cX2_useful 10 = .ok (.invokevirtual 83, 3) := by decide +kernel
theorem dX2_useful_13 : decode cX2_useful 13 = .ok (.istore_n 1, 1) := by decide +kernel
theorem dX2_useful_14 : decode cX2_useful 14 = .ok (.iconst 0, 1) := by decide +kernel
theorem dX2_useful_15 : decode cX2_useful 15 = .ok (.istore_n 2, 1) := by decide +kernel
theorem dX2_useful_16 : decode cX2_useful 16 = .ok (.iload_n 2, 1) := by decide +kernel
theorem dX2_useful_17 : decode cX2_useful 17 = .ok (.sipush 256, 3) := by decide +kernel
theorem dX2_useful_20 : decode cX2_useful 20 = .ok (.if_icmp .ge 16, 3) := by decide +kernel
theorem dX2_useful_23 : decode cX2_useful 23 = .ok (.aload_n 0, 1) := by decide +kernel
theorem dX2_useful_24 : decode cX2_useful 24 = .ok (.getfield 20, 3) := by decide +kernel
theorem dX2_useful_27 : decode cX2_useful 27 = .ok (.iload_n 2, 1) := by decide +kernel
theorem dX2_useful_28 : decode cX2_useful 28 = .ok (.iconst 0, 1) := by decide +kernel
theorem dX2_useful_29 : decode cX2_useful 29 = .ok (.bastore, 1) := by decide +kernel
theorem dX2_useful_30 : decode cX2_useful 30 = .ok (.iinc 2 1, 3) := by decide +kernel
theorem dX2_useful_33 : decode cX2_useful 33 = .ok (.goto (-17), 3) := by decide +kernel
theorem dX2_useful_36 : decode cX2_useful 36 = .ok (.iconst 0, 1) := by decide +kernel
theorem dX2_useful_37 : decode cX2_useful 37 = .ok (.istore_n 2, 1) := by decide +kernel
theorem dX2_useful_38 : decode cX2_useful 38 = .ok (.iload_n 2, 1) := by decide +kernel
theorem dX2_useful_39 : decode cX2_useful 39 = .ok (.sipush 10000, 3) := by decide +kernel
theorem dX2_useful_42 : decode cX2_useful 42 = .ok (.if_icmp .ge 45, 3) := by decide +kernel
theorem dX2_useful_45 : decode cX2_useful 45 = .ok (.aload_n 0, 1) := by decide +kernel
theorem dX2_useful_46 : decode cX2_useful 46 = .ok (.iload_n 2, 1) := by decide +kernel
theorem dX2_useful_47 : decode cX2_useful 47 = .ok (.invokevirtual 42, 3) := by decide +kernel
theorem dX2_useful_50 : decode cX2_useful 50 = .ok (.istore_n 3, 1) := by decide +kernel
theorem dX2_useful_51 : decode cX2_useful 51 = .ok (.aload_n 0, 1) := by decide +kernel
theorem dX2_useful_52 : decode cX2_useful 52 = .ok (.getfield 20, 3) := by decide +kernel
theorem dX2_useful_55 : decode cX2_useful 55 = .ok (.iload_n 3, 1) := by decide +kernel
theorem dX2_useful_56 : decode cX2_useful 56 = .ok (.baload, 1) := by decide +kernel
theorem dX2_useful_57 : decode cX2_useful 57 = .ok (.ifCond .eq 6, 3) := by decide +kernel
theorem dX2_useful_60 : decode cX2_useful 60 = .ok (.goto 21, 3) := by decide +kernel
theorem dX2_useful_63 : decode cX2_useful 63 = .ok (.aload_n 0, 1) := by decide +kernel
theorem dX2_useful_64 : decode cX2_useful 64 = .ok (.getfield 20, 3) := by decide +kernel
theorem dX2_useful_67 : decode cX2_useful 67 = .ok (.iload_n 3, 1) := by decide +kernel
theorem dX2_useful_68 : decode cX2_useful 68 = .ok (.iconst 1, 1) := by decide +kernel
theorem dX2_useful_69 : decode cX2_useful 69 = .ok (.bastore, 1) := by decide +kernel
theorem dX2_useful_70 : decode cX2_useful 70 = .ok (.aload_n 0, 1) := by decide +kernel
theorem dX2_useful_71 : decode cX2_useful 71 = .ok (.iload_n 3, 1) := by decide +kernel
theorem dX2_useful_72 : decode cX2_useful 72 = .ok (.iload_n 1, 1) := by decide +kernel
theorem dX2_useful_73 : decode cX2_useful 73 = .ok (.invokevirtual 89, 3) := by decide +kernel
theorem dX2_useful_76 : decode cX2_useful 76 = .ok (.ifCond .eq 5, 3) := by decide +kernel
theorem dX2_useful_79 : decode cX2_useful 79 = .ok (.iload_n 2, 1) := by decide +kernel
theorem dX2_useful_80 : decode cX2_useful 80 = .ok (.ireturn, 1) := by decide +kernel
theorem dX2_useful_81 : decode cX2_useful 81 = .ok (.iinc 2 1, 3) := by decide +kernel
theorem dX2_useful_84 : decode cX2_useful 84 = .ok (.goto (-46), 3) := by decide +kernel
theorem dX2_useful_87 : decode cX2_useful 87 = .ok (.iconst (-1), 1) := by decide +kernel
theorem dX2_useful_88 : decode cX2_useful 88 = .ok (.ireturn, 1) := by decide +kernel
abbrev cX2_helps : ByteArray := prog_3_method_27_code
def yX2_helps : MethodName := ⟨RX2, "helps", "(II)Z"⟩
theorem dX2_helps_0 : decode cX2_helps 0 = .ok (.iconst 0, 1) := by decide +kernel
theorem dX2_helps_1 : decode cX2_helps 1 = .ok (.istore_n 3, 1) := by decide +kernel
theorem dX2_helps_2 : decode cX2_helps 2 = .ok (.iconst 1, 1) := by decide +kernel
theorem dX2_helps_3 : decode cX2_helps 3 = .ok (.aload_n 0, 1) := by decide +kernel
theorem dX2_helps_4 : decode cX2_helps 4 = .ok (.getfield 23, 3) := by decide +kernel
theorem dX2_helps_7 : decode cX2_helps 7 = .ok (.ishl, 1) := by decide +kernel
theorem dX2_helps_8 : decode cX2_helps 8 = .ok (.iconst 1, 1) := by decide +kernel
theorem dX2_helps_9 : decode cX2_helps 9 = .ok (.isub, 1) := by decide +kernel
theorem dX2_helps_10 : decode cX2_helps 10 = .ok (.istore 4, 2) := by decide +kernel
theorem dX2_helps_12 : decode cX2_helps 12 = .ok (.iconst 0, 1) := by decide +kernel
theorem dX2_helps_13 : decode cX2_helps 13 = .ok (.istore 5, 2) := by decide +kernel
theorem dX2_helps_15 : decode cX2_helps 15 = .ok (.iconst 0, 1) := by decide +kernel
theorem dX2_helps_16 : decode cX2_helps 16 = .ok (.istore 6, 2) := by decide +kernel
theorem dX2_helps_18 : decode cX2_helps 18 = .ok (.iload 6, 2) := by decide +kernel
theorem dX2_helps_20 : decode cX2_helps 20 = .ok (.iconst 1, 1) := by decide +kernel
theorem dX2_helps_21 : decode cX2_helps 21 = .ok (.aload_n 0, 1) := by decide +kernel
theorem dX2_helps_22 : decode cX2_helps 22 = .ok (.getfield 23, 3) := by decide +kernel
theorem dX2_helps_25 : decode cX2_helps 25 = .ok (.ishl, 1) := by decide +kernel
theorem dX2_helps_26 : decode cX2_helps 26 = .ok (.if_icmp .ge 47, 3) := by decide +kernel
theorem dX2_helps_29 : decode cX2_helps 29 = .ok (.aload_n 0, 1) := by decide +kernel
theorem dX2_helps_30 : decode cX2_helps 30 = .ok (.getfield 16, 3) := by decide +kernel
theorem dX2_helps_33 : decode cX2_helps 33 = .ok (.iload 6, 2) := by decide +kernel
theorem dX2_helps_35 : decode cX2_helps 35 = .ok (.iload_n 1, 1) := by decide +kernel
theorem dX2_helps_36 : decode cX2_helps 36 = .ok (.iand, 1) := by decide +kernel
theorem dX2_helps_37 : decode cX2_helps 37 = .ok (.baload, 1) := by decide +kernel
theorem dX2_helps_38 : decode cX2_helps 38 = .ok (.ifCond .ne 29, 3) := by decide +kernel
theorem dX2_helps_41 : decode cX2_helps 41 = .ok (.aload_n 0, 1) := by decide +kernel
theorem dX2_helps_42 : decode cX2_helps 42 = .ok (.iload 6, 2) := by decide +kernel
theorem dX2_helps_44 : decode cX2_helps 44 = .ok (.iconst 0, 1) := by decide +kernel
theorem dX2_helps_45 : decode cX2_helps 45 = .ok (.iconst (-1), 1) := by decide +kernel
theorem dX2_helps_46 : decode cX2_helps 46 = .ok (.invokevirtual 52, 3) := by decide +kernel
theorem dX2_helps_49 : decode cX2_helps 49 = .ok (.ifCond .eq 18, 3) := by decide +kernel
theorem dX2_helps_52 : decode cX2_helps 52 = .ok (.iconst 1, 1) := by decide +kernel
theorem dX2_helps_53 : decode cX2_helps 53 = .ok (.istore 5, 2) := by decide +kernel
theorem dX2_helps_55 : decode cX2_helps 55 = .ok (.iload_n 3, 1) := by decide +kernel
theorem dX2_helps_56 : decode cX2_helps 56 = .ok (.iload 6, 2) := by decide +kernel
theorem dX2_helps_58 : decode cX2_helps 58 = .ok (.ior, 1) := by decide +kernel
theorem dX2_helps_59 : decode cX2_helps 59 = .ok (.istore_n 3, 1) := by decide +kernel
theorem dX2_helps_60 : decode cX2_helps 60 = .ok (.iload 4, 2) := by decide +kernel
theorem dX2_helps_62 : decode cX2_helps 62 = .ok (.iload 6, 2) := by decide +kernel
theorem dX2_helps_64 : decode cX2_helps 64 = .ok (.iand, 1) := by decide +kernel
theorem dX2_helps_65 : decode cX2_helps 65 = .ok (.istore 4, 2) := by decide +kernel
theorem dX2_helps_67 : decode cX2_helps 67 = .ok (.iinc 6 1, 3) := by decide +kernel
theorem dX2_helps_70 : decode cX2_helps 70 = .ok (.goto (-52), 3) := by decide +kernel
theorem dX2_helps_73 : decode cX2_helps 73 = .ok (.iconst 1, 1) := by decide +kernel
theorem dX2_helps_74 : decode cX2_helps 74 = .ok (.aload_n 0, 1) := by decide +kernel
theorem dX2_helps_75 : decode cX2_helps 75 = .ok (.getfield 23, 3) := by decide +kernel
theorem dX2_helps_78 : decode cX2_helps 78 = .ok (.ishl, 1) := by decide +kernel
theorem dX2_helps_79 : decode cX2_helps 79 = .ok (.iconst 1, 1) := by decide +kernel
theorem dX2_helps_80 : decode cX2_helps 80 = .ok (.isub, 1) := by decide +kernel
theorem dX2_helps_81 : decode cX2_helps 81 = .ok (.iload_n 3, 1) := by decide +kernel
theorem dX2_helps_82 : decode cX2_helps 82 = .ok (.iload 4, 2) := by decide +kernel
theorem dX2_helps_84 : decode cX2_helps 84 = .ok (.ixor, 1) := by decide +kernel
theorem dX2_helps_85 : decode cX2_helps 85 = .ok (.isub, 1) := by decide +kernel
theorem dX2_helps_86 : decode cX2_helps 86 = .ok (.istore 6, 2) := by decide +kernel
theorem dX2_helps_88 : decode cX2_helps 88 = .ok (.iload 5, 2) := by decide +kernel
theorem dX2_helps_90 : decode cX2_helps 90 = .ok (.ifCond .eq 13, 3) := by decide +kernel
theorem dX2_helps_93 : decode cX2_helps 93 = .ok (.iload 6, 2) := by decide +kernel
theorem dX2_helps_95 : decode cX2_helps 95 = .ok (.iload_n 2, 1) := by decide +kernel
theorem dX2_helps_96 : decode cX2_helps 96 = .ok (.if_icmp .eq 7, 3) := by decide +kernel
theorem dX2_helps_99 : decode cX2_helps 99 = .ok (.iconst 1, 1) := by decide +kernel
theorem dX2_helps_100 : decode cX2_helps 100 = .ok (.goto 4, 3) := by decide +kernel
theorem dX2_helps_103 : decode cX2_helps 103 = .ok (.iconst 0, 1) := by decide +kernel
theorem dX2_helps_104 : decode cX2_helps 104 = .ok (.ireturn, 1) := by decide +kernel
theorem q22 : (Jvm.Cond.initialized "FountainDecoderModel") ∈ lw_all := lw_g (lw_at lw_m1 2 rfl) rfl
theorem q183 : (Jvm.Cond.instantiable "FountainDecoderModel" (8 : Nat)) ∈ lw_all := lw_g (lw_at lw_m1 163 rfl) rfl
theorem q185 : (Jvm.Cond.instanceMethod ({ cls := "FountainDecoderModel", name := "<init>", desc := "(I)V" } : Jvm.MethodName)) ∈ lw_all := lw_g (lw_at lw_m1 165 rfl) rfl
theorem q186 : (Jvm.Cond.code ({ cls := "FountainDecoderModel", name := "<init>", desc := "(I)V" } : Jvm.MethodName) prog_3_method_1_code (3 : Nat) (Option.none : Option Jvm.ClassFile.FieldType)) ∈ lw_all := lw_g (lw_at lw_m1 166 rfl) rfl
theorem q187 : (Jvm.Cond.methodLink "FountainDecoderModel" (1 : Nat) ({ cls := "java/lang/Object", name := "<init>", desc := "()V" } : Jvm.MethodName)) ∈ lw_all := lw_g (lw_at lw_m1 167 rfl) rfl
theorem q188 : (Jvm.Cond.methodLink "FountainDecoderModel" (27 : Nat) ({ cls := "FountainDecoderModel", name := "members", desc := "(I)I" } : Jvm.MethodName)) ∈ lw_all := lw_g (lw_at lw_m1 168 rfl) rfl
theorem q189 : (Jvm.Cond.privateMethod ({ cls := "FountainDecoderModel", name := "members", desc := "(I)I" } : Jvm.MethodName)) ∈ lw_tbl := lw_at lw_m1 169 rfl
theorem q190 : (Jvm.Cond.instanceMethod ({ cls := "FountainDecoderModel", name := "members", desc := "(I)I" } : Jvm.MethodName)) ∈ lw_all := lw_g (lw_at lw_m1 170 rfl) rfl
theorem q191 : (Jvm.Cond.code ({ cls := "FountainDecoderModel", name := "members", desc := "(I)I" } : Jvm.MethodName) prog_3_method_2_code (4 : Nat) (Option.some Jvm.ClassFile.FieldType.int)) ∈ lw_all := lw_g (lw_at lw_m1 171 rfl) rfl
theorem q192 : (Jvm.Cond.fieldLink "FountainDecoderModel" (7 : Nat) "FountainDecoderModel" "sets" "[I") ∈ lw_all := lw_g (lw_at lw_m1 172 rfl) rfl
theorem q193 : (Jvm.Cond.fieldLink "FountainDecoderModel" (13 : Nat) "FountainDecoderModel" "values" "[I") ∈ lw_all := lw_g (lw_at lw_m1 173 rfl) rfl
theorem q194 : (Jvm.Cond.fieldLink "FountainDecoderModel" (16 : Nat) "FountainDecoderModel" "odd" "[Z") ∈ lw_all := lw_g (lw_at lw_m1 174 rfl) rfl
theorem q195 : (Jvm.Cond.fieldLink "FountainDecoderModel" (20 : Nat) "FountainDecoderModel" "tried" "[Z") ∈ lw_all := lw_g (lw_at lw_m1 175 rfl) rfl
theorem q196 : (Jvm.Cond.fieldLink "FountainDecoderModel" (23 : Nat) "FountainDecoderModel" "n" "I") ∈ lw_all := lw_g (lw_at lw_m1 176 rfl) rfl
theorem q197 : (Jvm.Cond.fieldLink "FountainDecoderModel" (31 : Nat) "FountainDecoderModel" "held" "I") ∈ lw_all := lw_g (lw_at lw_m1 177 rfl) rfl
theorem q198 : (Jvm.Cond.fieldLink "FountainDecoderModel" (46 : Nat) "FountainDecoderModel" "some" "I") ∈ lw_all := lw_g (lw_at lw_m1 178 rfl) rfl
theorem q199 : (Jvm.Cond.fieldLink "FountainDecoderModel" (49 : Nat) "FountainDecoderModel" "all" "I") ∈ lw_all := lw_g (lw_at lw_m1 179 rfl) rfl
theorem q200 : (Jvm.Cond.laysFinal "FountainDecoderModel" "FountainDecoderModel" "sets" "[I") ∈ lw_all := lw_g (lw_at lw_m1 180 rfl) rfl
theorem q201 : (Jvm.Cond.soleField "FountainDecoderModel" "sets") ∈ lw_all := lw_g (lw_at lw_m1 181 rfl) rfl
theorem q202 : (Jvm.Cond.laysFinal "FountainDecoderModel" "FountainDecoderModel" "values" "[I") ∈ lw_all := lw_g (lw_at lw_m1 182 rfl) rfl
theorem q203 : (Jvm.Cond.soleField "FountainDecoderModel" "values") ∈ lw_all := lw_g (lw_at lw_m1 183 rfl) rfl
theorem q204 : (Jvm.Cond.laysFinal "FountainDecoderModel" "FountainDecoderModel" "odd" "[Z") ∈ lw_all := lw_g (lw_at lw_m1 184 rfl) rfl
theorem q205 : (Jvm.Cond.soleField "FountainDecoderModel" "odd") ∈ lw_all := lw_g (lw_at lw_m1 185 rfl) rfl
theorem q206 : (Jvm.Cond.laysFinal "FountainDecoderModel" "FountainDecoderModel" "tried" "[Z") ∈ lw_all := lw_g (lw_at lw_m1 186 rfl) rfl
theorem q207 : (Jvm.Cond.soleField "FountainDecoderModel" "tried") ∈ lw_all := lw_g (lw_at lw_m1 187 rfl) rfl
theorem q208 : (Jvm.Cond.lays "FountainDecoderModel" "FountainDecoderModel" "n" "I") ∈ lw_all := lw_g (lw_at lw_m1 188 rfl) rfl
theorem q209 : (Jvm.Cond.soleField "FountainDecoderModel" "n") ∈ lw_all := lw_g (lw_at lw_m1 189 rfl) rfl
theorem q210 : (Jvm.Cond.lays "FountainDecoderModel" "FountainDecoderModel" "held" "I") ∈ lw_all := lw_g (lw_at lw_m1 190 rfl) rfl
theorem q211 : (Jvm.Cond.soleField "FountainDecoderModel" "held") ∈ lw_all := lw_g (lw_at lw_m1 191 rfl) rfl
theorem q212 : (Jvm.Cond.lays "FountainDecoderModel" "FountainDecoderModel" "some" "I") ∈ lw_all := lw_g (lw_at lw_m1 192 rfl) rfl
theorem q213 : (Jvm.Cond.soleField "FountainDecoderModel" "some") ∈ lw_all := lw_g (lw_at lw_m1 193 rfl) rfl
theorem q214 : (Jvm.Cond.lays "FountainDecoderModel" "FountainDecoderModel" "all" "I") ∈ lw_all := lw_g (lw_at lw_m1 194 rfl) rfl
theorem q215 : (Jvm.Cond.soleField "FountainDecoderModel" "all") ∈ lw_all := lw_g (lw_at lw_m1 195 rfl) rfl
theorem q216 : (Jvm.Cond.superclass "FountainDecoderModel" "java/lang/Object") ∈ lw_all := lw_g (lw_at lw_m1 196 rfl) rfl
theorem q219 : (Jvm.Cond.instanceMethod ({ cls := "FountainDecoderModel", name := "blocks", desc := "()I" } : Jvm.MethodName)) ∈ lw_all := lw_g (lw_at lw_m1 199 rfl) rfl
theorem q220 : (Jvm.Cond.selects "FountainDecoderModel" ({ cls := "FountainDecoderModel", name := "blocks", desc := "()I" } : Jvm.MethodName) ({ cls := "FountainDecoderModel", name := "blocks", desc := "()I" } : Jvm.MethodName)) ∈ lw_all := lw_g (lw_at lw_m1 200 rfl) rfl
theorem q221 : (Jvm.Cond.code ({ cls := "FountainDecoderModel", name := "blocks", desc := "()I" } : Jvm.MethodName) prog_3_method_4_code (1 : Nat) (Option.some Jvm.ClassFile.FieldType.int)) ∈ lw_all := lw_g (lw_at lw_m1 201 rfl) rfl
theorem q223 : (Jvm.Cond.instanceMethod ({ cls := "FountainDecoderModel", name := "receive", desc := "(II)I" } : Jvm.MethodName)) ∈ lw_all := lw_g (lw_at lw_m1 203 rfl) rfl
theorem q224 : (Jvm.Cond.selects "FountainDecoderModel" ({ cls := "FountainDecoderModel", name := "receive", desc := "(II)I" } : Jvm.MethodName) ({ cls := "FountainDecoderModel", name := "receive", desc := "(II)I" } : Jvm.MethodName)) ∈ lw_all := lw_g (lw_at lw_m1 204 rfl) rfl
theorem q225 : (Jvm.Cond.code ({ cls := "FountainDecoderModel", name := "receive", desc := "(II)I" } : Jvm.MethodName) prog_3_method_6_code (3 : Nat) (Option.some Jvm.ClassFile.FieldType.int)) ∈ lw_all := lw_g (lw_at lw_m1 205 rfl) rfl
theorem q226 : (Jvm.Cond.methodLink "FountainDecoderModel" (34 : Nat) ({ cls := "FountainDecoderModel", name := "badSet", desc := "(I)Z" } : Jvm.MethodName)) ∈ lw_all := lw_g (lw_at lw_m1 206 rfl) rfl
theorem q227 : (Jvm.Cond.privateMethod ({ cls := "FountainDecoderModel", name := "badSet", desc := "(I)Z" } : Jvm.MethodName)) ∈ lw_tbl := lw_at lw_m1 207 rfl
theorem q228 : (Jvm.Cond.instanceMethod ({ cls := "FountainDecoderModel", name := "badSet", desc := "(I)Z" } : Jvm.MethodName)) ∈ lw_all := lw_g (lw_at lw_m1 208 rfl) rfl
theorem q229 : (Jvm.Cond.code ({ cls := "FountainDecoderModel", name := "badSet", desc := "(I)Z" } : Jvm.MethodName) prog_3_method_3_code (2 : Nat) (Option.some Jvm.ClassFile.FieldType.boolean)) ∈ lw_all := lw_g (lw_at lw_m1 209 rfl) rfl
theorem q230 : (Jvm.Cond.methodLink "FountainDecoderModel" (38 : Nat) ({ cls := "FountainDecoderModel", name := "place", desc := "(II)I" } : Jvm.MethodName)) ∈ lw_all := lw_g (lw_at lw_m1 210 rfl) rfl
theorem q231 : (Jvm.Cond.privateMethod ({ cls := "FountainDecoderModel", name := "place", desc := "(II)I" } : Jvm.MethodName)) ∈ lw_tbl := lw_at lw_m1 211 rfl
theorem q232 : (Jvm.Cond.instanceMethod ({ cls := "FountainDecoderModel", name := "place", desc := "(II)I" } : Jvm.MethodName)) ∈ lw_all := lw_g (lw_at lw_m1 212 rfl) rfl
theorem q233 : (Jvm.Cond.code ({ cls := "FountainDecoderModel", name := "place", desc := "(II)I" } : Jvm.MethodName) prog_3_method_5_code (3 : Nat) (Option.some Jvm.ClassFile.FieldType.int)) ∈ lw_all := lw_g (lw_at lw_m1 213 rfl) rfl
theorem q235 : (Jvm.Cond.instanceMethod ({ cls := "FountainDecoderModel", name := "draw", desc := "(II)I" } : Jvm.MethodName)) ∈ lw_all := lw_g (lw_at lw_m1 215 rfl) rfl
theorem q236 : (Jvm.Cond.selects "FountainDecoderModel" ({ cls := "FountainDecoderModel", name := "draw", desc := "(II)I" } : Jvm.MethodName) ({ cls := "FountainDecoderModel", name := "draw", desc := "(II)I" } : Jvm.MethodName)) ∈ lw_all := lw_g (lw_at lw_m1 216 rfl) rfl
theorem q237 : (Jvm.Cond.code ({ cls := "FountainDecoderModel", name := "draw", desc := "(II)I" } : Jvm.MethodName) prog_3_method_7_code (4 : Nat) (Option.some Jvm.ClassFile.FieldType.int)) ∈ lw_all := lw_g (lw_at lw_m1 217 rfl) rfl
theorem q238 : (Jvm.Cond.methodLink "FountainDecoderModel" (42 : Nat) ({ cls := "FountainDecoderModel", name := "setOf", desc := "(I)I" } : Jvm.MethodName)) ∈ lw_all := lw_g (lw_at lw_m1 218 rfl) rfl
theorem q239 : (Jvm.Cond.instanceMethod ({ cls := "FountainDecoderModel", name := "setOf", desc := "(I)I" } : Jvm.MethodName)) ∈ lw_all := lw_g (lw_at lw_m1 219 rfl) rfl
theorem q240 : (Jvm.Cond.selects "FountainDecoderModel" ({ cls := "FountainDecoderModel", name := "setOf", desc := "(I)I" } : Jvm.MethodName) ({ cls := "FountainDecoderModel", name := "setOf", desc := "(I)I" } : Jvm.MethodName)) ∈ lw_all := lw_g (lw_at lw_m1 220 rfl) rfl
theorem q241 : (Jvm.Cond.code ({ cls := "FountainDecoderModel", name := "setOf", desc := "(I)I" } : Jvm.MethodName) prog_3_method_9_code (5 : Nat) (Option.some Jvm.ClassFile.FieldType.int)) ∈ lw_all := lw_g (lw_at lw_m1 221 rfl) rfl
theorem q242 : (Jvm.Cond.constant "FountainDecoderModel" (45 : Nat) (104729 : Int32)) ∈ lw_all := lw_g (lw_at lw_m1 222 rfl) rfl
theorem q244 : (Jvm.Cond.instanceMethod ({ cls := "FountainDecoderModel", name := "lose", desc := "(I)I" } : Jvm.MethodName)) ∈ lw_all := lw_g (lw_at lw_m1 224 rfl) rfl
theorem q245 : (Jvm.Cond.selects "FountainDecoderModel" ({ cls := "FountainDecoderModel", name := "lose", desc := "(I)I" } : Jvm.MethodName) ({ cls := "FountainDecoderModel", name := "lose", desc := "(I)I" } : Jvm.MethodName)) ∈ lw_all := lw_g (lw_at lw_m1 225 rfl) rfl
theorem q246 : (Jvm.Cond.code ({ cls := "FountainDecoderModel", name := "lose", desc := "(I)I" } : Jvm.MethodName) prog_3_method_8_code (3 : Nat) (Option.some Jvm.ClassFile.FieldType.int)) ∈ lw_all := lw_g (lw_at lw_m1 226 rfl) rfl
theorem q249 : (Jvm.Cond.instanceMethod ({ cls := "FountainDecoderModel", name := "symbols", desc := "()I" } : Jvm.MethodName)) ∈ lw_all := lw_g (lw_at lw_m1 229 rfl) rfl
theorem q250 : (Jvm.Cond.selects "FountainDecoderModel" ({ cls := "FountainDecoderModel", name := "symbols", desc := "()I" } : Jvm.MethodName) ({ cls := "FountainDecoderModel", name := "symbols", desc := "()I" } : Jvm.MethodName)) ∈ lw_all := lw_g (lw_at lw_m1 230 rfl) rfl
theorem q251 : (Jvm.Cond.code ({ cls := "FountainDecoderModel", name := "symbols", desc := "()I" } : Jvm.MethodName) prog_3_method_10_code (1 : Nat) (Option.some Jvm.ClassFile.FieldType.int)) ∈ lw_all := lw_g (lw_at lw_m1 231 rfl) rfl
theorem q253 : (Jvm.Cond.instanceMethod ({ cls := "FountainDecoderModel", name := "consistent", desc := "()I" } : Jvm.MethodName)) ∈ lw_all := lw_g (lw_at lw_m1 233 rfl) rfl
theorem q254 : (Jvm.Cond.selects "FountainDecoderModel" ({ cls := "FountainDecoderModel", name := "consistent", desc := "()I" } : Jvm.MethodName) ({ cls := "FountainDecoderModel", name := "consistent", desc := "()I" } : Jvm.MethodName)) ∈ lw_all := lw_g (lw_at lw_m1 234 rfl) rfl
theorem q255 : (Jvm.Cond.code ({ cls := "FountainDecoderModel", name := "consistent", desc := "()I" } : Jvm.MethodName) prog_3_method_13_code (2 : Nat) (Option.some Jvm.ClassFile.FieldType.int)) ∈ lw_all := lw_g (lw_at lw_m1 235 rfl) rfl
theorem q256 : (Jvm.Cond.methodLink "FountainDecoderModel" (56 : Nat) ({ cls := "FountainDecoderModel", name := "solve", desc := "(II)Z" } : Jvm.MethodName)) ∈ lw_all := lw_g (lw_at lw_m1 236 rfl) rfl
theorem q257 : (Jvm.Cond.privateMethod ({ cls := "FountainDecoderModel", name := "solve", desc := "(II)Z" } : Jvm.MethodName)) ∈ lw_tbl := lw_at lw_m1 237 rfl
theorem q258 : (Jvm.Cond.instanceMethod ({ cls := "FountainDecoderModel", name := "solve", desc := "(II)Z" } : Jvm.MethodName)) ∈ lw_all := lw_g (lw_at lw_m1 238 rfl) rfl
theorem q259 : (Jvm.Cond.code ({ cls := "FountainDecoderModel", name := "solve", desc := "(II)Z" } : Jvm.MethodName) prog_3_method_12_code (5 : Nat) (Option.some Jvm.ClassFile.FieldType.boolean)) ∈ lw_all := lw_g (lw_at lw_m1 239 rfl) rfl
theorem q260 : (Jvm.Cond.methodLink "FountainDecoderModel" (52 : Nat) ({ cls := "FountainDecoderModel", name := "solves", desc := "(III)Z" } : Jvm.MethodName)) ∈ lw_all := lw_g (lw_at lw_m2 0 rfl) rfl
theorem q261 : (Jvm.Cond.privateMethod ({ cls := "FountainDecoderModel", name := "solves", desc := "(III)Z" } : Jvm.MethodName)) ∈ lw_tbl := lw_at lw_m2 1 rfl
theorem q262 : (Jvm.Cond.instanceMethod ({ cls := "FountainDecoderModel", name := "solves", desc := "(III)Z" } : Jvm.MethodName)) ∈ lw_all := lw_g (lw_at lw_m2 2 rfl) rfl
theorem q263 : (Jvm.Cond.code ({ cls := "FountainDecoderModel", name := "solves", desc := "(III)Z" } : Jvm.MethodName) prog_3_method_11_code (6 : Nat) (Option.some Jvm.ClassFile.FieldType.boolean)) ∈ lw_all := lw_g (lw_at lw_m2 3 rfl) rfl
theorem q265 : (Jvm.Cond.instanceMethod ({ cls := "FountainDecoderModel", name := "rank", desc := "()I" } : Jvm.MethodName)) ∈ lw_all := lw_g (lw_at lw_m2 5 rfl) rfl
theorem q266 : (Jvm.Cond.selects "FountainDecoderModel" ({ cls := "FountainDecoderModel", name := "rank", desc := "()I" } : Jvm.MethodName) ({ cls := "FountainDecoderModel", name := "rank", desc := "()I" } : Jvm.MethodName)) ∈ lw_all := lw_g (lw_at lw_m2 6 rfl) rfl
theorem q267 : (Jvm.Cond.code ({ cls := "FountainDecoderModel", name := "rank", desc := "()I" } : Jvm.MethodName) prog_3_method_14_code (3 : Nat) (Option.some Jvm.ClassFile.FieldType.int)) ∈ lw_all := lw_g (lw_at lw_m2 7 rfl) rfl
theorem q268 : (Jvm.Cond.methodLink "FountainDecoderModel" (60 : Nat) ({ cls := "FountainDecoderModel", name := "spread", desc := "(I)V" } : Jvm.MethodName)) ∈ lw_all := lw_g (lw_at lw_m2 8 rfl) rfl
theorem q269 : (Jvm.Cond.privateMethod ({ cls := "FountainDecoderModel", name := "spread", desc := "(I)V" } : Jvm.MethodName)) ∈ lw_tbl := lw_at lw_m2 9 rfl
theorem q270 : (Jvm.Cond.instanceMethod ({ cls := "FountainDecoderModel", name := "spread", desc := "(I)V" } : Jvm.MethodName)) ∈ lw_all := lw_g (lw_at lw_m2 10 rfl) rfl
theorem q271 : (Jvm.Cond.code ({ cls := "FountainDecoderModel", name := "spread", desc := "(I)V" } : Jvm.MethodName) prog_3_method_15_code (3 : Nat) (Option.none : Option Jvm.ClassFile.FieldType)) ∈ lw_all := lw_g (lw_at lw_m2 11 rfl) rfl
theorem q273 : (Jvm.Cond.instanceMethod ({ cls := "FountainDecoderModel", name := "known", desc := "()I" } : Jvm.MethodName)) ∈ lw_all := lw_g (lw_at lw_m2 13 rfl) rfl
theorem q274 : (Jvm.Cond.selects "FountainDecoderModel" ({ cls := "FountainDecoderModel", name := "known", desc := "()I" } : Jvm.MethodName) ({ cls := "FountainDecoderModel", name := "known", desc := "()I" } : Jvm.MethodName)) ∈ lw_all := lw_g (lw_at lw_m2 14 rfl) rfl
theorem q275 : (Jvm.Cond.code ({ cls := "FountainDecoderModel", name := "known", desc := "()I" } : Jvm.MethodName) prog_3_method_17_code (1 : Nat) (Option.some Jvm.ClassFile.FieldType.int)) ∈ lw_all := lw_g (lw_at lw_m2 15 rfl) rfl
theorem q276 : (Jvm.Cond.methodLink "FountainDecoderModel" (64 : Nat) ({ cls := "FountainDecoderModel", name := "knownWithout", desc := "(I)I" } : Jvm.MethodName)) ∈ lw_all := lw_g (lw_at lw_m2 16 rfl) rfl
theorem q277 : (Jvm.Cond.privateMethod ({ cls := "FountainDecoderModel", name := "knownWithout", desc := "(I)I" } : Jvm.MethodName)) ∈ lw_tbl := lw_at lw_m2 17 rfl
theorem q278 : (Jvm.Cond.instanceMethod ({ cls := "FountainDecoderModel", name := "knownWithout", desc := "(I)I" } : Jvm.MethodName)) ∈ lw_all := lw_g (lw_at lw_m2 18 rfl) rfl
theorem q279 : (Jvm.Cond.code ({ cls := "FountainDecoderModel", name := "knownWithout", desc := "(I)I" } : Jvm.MethodName) prog_3_method_16_code (4 : Nat) (Option.some Jvm.ClassFile.FieldType.int)) ∈ lw_all := lw_g (lw_at lw_m2 19 rfl) rfl
theorem q281 : (Jvm.Cond.instanceMethod ({ cls := "FountainDecoderModel", name := "value", desc := "(I)I" } : Jvm.MethodName)) ∈ lw_all := lw_g (lw_at lw_m2 21 rfl) rfl
theorem q282 : (Jvm.Cond.selects "FountainDecoderModel" ({ cls := "FountainDecoderModel", name := "value", desc := "(I)I" } : Jvm.MethodName) ({ cls := "FountainDecoderModel", name := "value", desc := "(I)I" } : Jvm.MethodName)) ∈ lw_all := lw_g (lw_at lw_m2 22 rfl) rfl
theorem q283 : (Jvm.Cond.code ({ cls := "FountainDecoderModel", name := "value", desc := "(I)I" } : Jvm.MethodName) prog_3_method_18_code (2 : Nat) (Option.some Jvm.ClassFile.FieldType.int)) ∈ lw_all := lw_g (lw_at lw_m2 23 rfl) rfl
theorem q284 : (Jvm.Cond.methodLink "FountainDecoderModel" (67 : Nat) ({ cls := "FountainDecoderModel", name := "sumOf", desc := "(I)I" } : Jvm.MethodName)) ∈ lw_all := lw_g (lw_at lw_m2 24 rfl) rfl
theorem q285 : (Jvm.Cond.instanceMethod ({ cls := "FountainDecoderModel", name := "sumOf", desc := "(I)I" } : Jvm.MethodName)) ∈ lw_all := lw_g (lw_at lw_m2 25 rfl) rfl
theorem q286 : (Jvm.Cond.selects "FountainDecoderModel" ({ cls := "FountainDecoderModel", name := "sumOf", desc := "(I)I" } : Jvm.MethodName) ({ cls := "FountainDecoderModel", name := "sumOf", desc := "(I)I" } : Jvm.MethodName)) ∈ lw_all := lw_g (lw_at lw_m2 26 rfl) rfl
theorem q287 : (Jvm.Cond.code ({ cls := "FountainDecoderModel", name := "sumOf", desc := "(I)I" } : Jvm.MethodName) prog_3_method_19_code (6 : Nat) (Option.some Jvm.ClassFile.FieldType.int)) ∈ lw_all := lw_g (lw_at lw_m2 27 rfl) rfl
theorem q290 : (Jvm.Cond.instanceMethod ({ cls := "FountainDecoderModel", name := "peeled", desc := "()I" } : Jvm.MethodName)) ∈ lw_all := lw_g (lw_at lw_m2 30 rfl) rfl
theorem q291 : (Jvm.Cond.selects "FountainDecoderModel" ({ cls := "FountainDecoderModel", name := "peeled", desc := "()I" } : Jvm.MethodName) ({ cls := "FountainDecoderModel", name := "peeled", desc := "()I" } : Jvm.MethodName)) ∈ lw_all := lw_g (lw_at lw_m2 31 rfl) rfl
theorem q292 : (Jvm.Cond.code ({ cls := "FountainDecoderModel", name := "peeled", desc := "()I" } : Jvm.MethodName) prog_3_method_22_code (1 : Nat) (Option.some Jvm.ClassFile.FieldType.int)) ∈ lw_all := lw_g (lw_at lw_m2 32 rfl) rfl
theorem q293 : (Jvm.Cond.methodLink "FountainDecoderModel" (73 : Nat) ({ cls := "FountainDecoderModel", name := "peelFrom", desc := "(I)I" } : Jvm.MethodName)) ∈ lw_all := lw_g (lw_at lw_m2 33 rfl) rfl
theorem q294 : (Jvm.Cond.privateMethod ({ cls := "FountainDecoderModel", name := "peelFrom", desc := "(I)I" } : Jvm.MethodName)) ∈ lw_tbl := lw_at lw_m2 34 rfl
theorem q295 : (Jvm.Cond.instanceMethod ({ cls := "FountainDecoderModel", name := "peelFrom", desc := "(I)I" } : Jvm.MethodName)) ∈ lw_all := lw_g (lw_at lw_m2 35 rfl) rfl
theorem q296 : (Jvm.Cond.code ({ cls := "FountainDecoderModel", name := "peelFrom", desc := "(I)I" } : Jvm.MethodName) prog_3_method_21_code (6 : Nat) (Option.some Jvm.ClassFile.FieldType.int)) ∈ lw_all := lw_g (lw_at lw_m2 36 rfl) rfl
theorem q297 : (Jvm.Cond.methodLink "FountainDecoderModel" (70 : Nat) ({ cls := "FountainDecoderModel", name := "single", desc := "(I)Z" } : Jvm.MethodName)) ∈ lw_all := lw_g (lw_at lw_m2 37 rfl) rfl
theorem q298 : (Jvm.Cond.privateMethod ({ cls := "FountainDecoderModel", name := "single", desc := "(I)Z" } : Jvm.MethodName)) ∈ lw_tbl := lw_at lw_m2 38 rfl
theorem q299 : (Jvm.Cond.instanceMethod ({ cls := "FountainDecoderModel", name := "single", desc := "(I)Z" } : Jvm.MethodName)) ∈ lw_all := lw_g (lw_at lw_m2 39 rfl) rfl
theorem q300 : (Jvm.Cond.code ({ cls := "FountainDecoderModel", name := "single", desc := "(I)Z" } : Jvm.MethodName) prog_3_method_20_code (2 : Nat) (Option.some Jvm.ClassFile.FieldType.boolean)) ∈ lw_all := lw_g (lw_at lw_m2 40 rfl) rfl
theorem q302 : (Jvm.Cond.instanceMethod ({ cls := "FountainDecoderModel", name := "isSeed", desc := "(I)I" } : Jvm.MethodName)) ∈ lw_all := lw_g (lw_at lw_m2 42 rfl) rfl
theorem q303 : (Jvm.Cond.selects "FountainDecoderModel" ({ cls := "FountainDecoderModel", name := "isSeed", desc := "(I)I" } : Jvm.MethodName) ({ cls := "FountainDecoderModel", name := "isSeed", desc := "(I)I" } : Jvm.MethodName)) ∈ lw_all := lw_g (lw_at lw_m2 43 rfl) rfl
theorem q304 : (Jvm.Cond.code ({ cls := "FountainDecoderModel", name := "isSeed", desc := "(I)I" } : Jvm.MethodName) prog_3_method_23_code (3 : Nat) (Option.some Jvm.ClassFile.FieldType.int)) ∈ lw_all := lw_g (lw_at lw_m2 44 rfl) rfl
theorem q306 : (Jvm.Cond.instanceMethod ({ cls := "FountainDecoderModel", name := "seedSize", desc := "()I" } : Jvm.MethodName)) ∈ lw_all := lw_g (lw_at lw_m2 46 rfl) rfl
theorem q307 : (Jvm.Cond.selects "FountainDecoderModel" ({ cls := "FountainDecoderModel", name := "seedSize", desc := "()I" } : Jvm.MethodName) ({ cls := "FountainDecoderModel", name := "seedSize", desc := "()I" } : Jvm.MethodName)) ∈ lw_all := lw_g (lw_at lw_m2 47 rfl) rfl
theorem q308 : (Jvm.Cond.code ({ cls := "FountainDecoderModel", name := "seedSize", desc := "()I" } : Jvm.MethodName) prog_3_method_24_code (2 : Nat) (Option.some Jvm.ClassFile.FieldType.int)) ∈ lw_all := lw_g (lw_at lw_m2 48 rfl) rfl
theorem q309 : (Jvm.Cond.methodLink "FountainDecoderModel" (76 : Nat) ({ cls := "FountainDecoderModel", name := "seed", desc := "()I" } : Jvm.MethodName)) ∈ lw_all := lw_g (lw_at lw_m2 49 rfl) rfl
theorem q310 : (Jvm.Cond.instanceMethod ({ cls := "FountainDecoderModel", name := "seed", desc := "()I" } : Jvm.MethodName)) ∈ lw_all := lw_g (lw_at lw_m2 50 rfl) rfl
theorem q311 : (Jvm.Cond.selects "FountainDecoderModel" ({ cls := "FountainDecoderModel", name := "seed", desc := "()I" } : Jvm.MethodName) ({ cls := "FountainDecoderModel", name := "seed", desc := "()I" } : Jvm.MethodName)) ∈ lw_all := lw_g (lw_at lw_m2 51 rfl) rfl
theorem q312 : (Jvm.Cond.code ({ cls := "FountainDecoderModel", name := "seed", desc := "()I" } : Jvm.MethodName) prog_3_method_25_code (5 : Nat) (Option.some Jvm.ClassFile.FieldType.int)) ∈ lw_all := lw_g (lw_at lw_m2 52 rfl) rfl
theorem q313 : (Jvm.Cond.methodLink "FountainDecoderModel" (80 : Nat) ({ cls := "FountainDecoderModel", name := "isSeed", desc := "(I)I" } : Jvm.MethodName)) ∈ lw_all := lw_g (lw_at lw_m2 53 rfl) rfl
theorem q316 : (Jvm.Cond.instanceMethod ({ cls := "FountainDecoderModel", name := "spare", desc := "()I" } : Jvm.MethodName)) ∈ lw_all := lw_g (lw_at lw_m2 56 rfl) rfl
theorem q317 : (Jvm.Cond.selects "FountainDecoderModel" ({ cls := "FountainDecoderModel", name := "spare", desc := "()I" } : Jvm.MethodName) ({ cls := "FountainDecoderModel", name := "spare", desc := "()I" } : Jvm.MethodName)) ∈ lw_all := lw_g (lw_at lw_m2 57 rfl) rfl
theorem q318 : (Jvm.Cond.code ({ cls := "FountainDecoderModel", name := "spare", desc := "()I" } : Jvm.MethodName) prog_3_method_26_code (5 : Nat) (Option.some Jvm.ClassFile.FieldType.int)) ∈ lw_all := lw_g (lw_at lw_m2 58 rfl) rfl
theorem q319 : (Jvm.Cond.methodLink "FountainDecoderModel" (83 : Nat) ({ cls := "FountainDecoderModel", name := "known", desc := "()I" } : Jvm.MethodName)) ∈ lw_all := lw_g (lw_at lw_m2 59 rfl) rfl
theorem q321 : (Jvm.Cond.instanceMethod ({ cls := "FountainDecoderModel", name := "useful", desc := "()I" } : Jvm.MethodName)) ∈ lw_all := lw_g (lw_at lw_m2 61 rfl) rfl
theorem q322 : (Jvm.Cond.selects "FountainDecoderModel" ({ cls := "FountainDecoderModel", name := "useful", desc := "()I" } : Jvm.MethodName) ({ cls := "FountainDecoderModel", name := "useful", desc := "()I" } : Jvm.MethodName)) ∈ lw_all := lw_g (lw_at lw_m2 62 rfl) rfl
theorem q323 : (Jvm.Cond.code ({ cls := "FountainDecoderModel", name := "useful", desc := "()I" } : Jvm.MethodName) prog_3_method_28_code (4 : Nat) (Option.some Jvm.ClassFile.FieldType.int)) ∈ lw_all := lw_g (lw_at lw_m2 63 rfl) rfl
theorem q324 : (Jvm.Cond.methodLink "FountainDecoderModel" (86 : Nat) ({ cls := "FountainDecoderModel", name := "consistent", desc := "()I" } : Jvm.MethodName)) ∈ lw_all := lw_g (lw_at lw_m2 64 rfl) rfl
theorem q325 : (Jvm.Cond.methodLink "FountainDecoderModel" (89 : Nat) ({ cls := "FountainDecoderModel", name := "helps", desc := "(II)Z" } : Jvm.MethodName)) ∈ lw_all := lw_g (lw_at lw_m2 65 rfl) rfl
theorem q326 : (Jvm.Cond.privateMethod ({ cls := "FountainDecoderModel", name := "helps", desc := "(II)Z" } : Jvm.MethodName)) ∈ lw_tbl := lw_at lw_m2 66 rfl
theorem q327 : (Jvm.Cond.instanceMethod ({ cls := "FountainDecoderModel", name := "helps", desc := "(II)Z" } : Jvm.MethodName)) ∈ lw_all := lw_g (lw_at lw_m2 67 rfl) rfl
theorem q328 : (Jvm.Cond.code ({ cls := "FountainDecoderModel", name := "helps", desc := "(II)Z" } : Jvm.MethodName) prog_3_method_27_code (7 : Nat) (Option.some Jvm.ClassFile.FieldType.boolean)) ∈ lw_all := lw_g (lw_at lw_m2 68 rfl) rfl
theorem in_X2 : ∀ w ∈ wsX20, w ∈ lw_all := lw_in wsX20 [200, 202, 204, 206, 208, 210, 212, 214] (by decide +kernel) (by decide +kernel)
end
section
/-! the law's own entry -/
set_option maxRecDepth 100000
abbrev cL_law : ByteArray := code
theorem dL_law_0 : decode cL_law 0 = .ok (.new 7, 3) := by decide +kernel
theorem dL_law_3 : decode cL_law 3 = .ok (.dup, 1) := by decide +kernel
theorem dL_law_4 : decode cL_law 4 = .ok (.aload_n 0, 1) := by decide +kernel
theorem dL_law_5 : decode cL_law 5 = .ok (.iconst 0, 1) := by decide +kernel
theorem dL_law_6 : decode cL_law 6 = .ok (.invokestatic 9, 3) := by decide +kernel
theorem dL_law_9 : decode cL_law 9 = .ok (.invokespecial 15, 3) := by decide +kernel
theorem dL_law_12 : decode cL_law 12 = .ok (.astore_n 1, 1) := by decide +kernel
theorem dL_law_13 : decode cL_law 13 = .ok (.new 18, 3) := by decide +kernel
theorem dL_law_16 : decode cL_law 16 = .ok (.dup, 1) := by decide +kernel
theorem dL_law_17 : decode cL_law 17 = .ok (.aload_n 0, 1) := by decide +kernel
theorem dL_law_18 : decode cL_law 18 = .ok (.iconst 0, 1) := by decide +kernel
theorem dL_law_19 : decode cL_law 19 = .ok (.invokestatic 9, 3) := by decide +kernel
theorem dL_law_22 : decode cL_law 22 = .ok (.invokespecial 20, 3) := by decide +kernel
theorem dL_law_25 : decode cL_law 25 = .ok (.astore_n 2, 1) := by decide +kernel
theorem dL_law_26 : decode cL_law 26 = .ok (.iconst 1, 1) := by decide +kernel
theorem dL_law_27 : decode cL_law 27 = .ok (.istore_n 3, 1) := by decide +kernel
theorem dL_law_28 : decode cL_law 28 = .ok (.iload_n 3, 1) := by decide +kernel
theorem dL_law_29 : decode cL_law 29 = .ok (.aload_n 0, 1) := by decide +kernel
theorem dL_law_30 : decode cL_law 30 = .ok (.arraylength, 1) := by decide +kernel
theorem dL_law_31 : decode cL_law 31 = .ok (.iconst 3, 1) := by decide +kernel
theorem dL_law_32 : decode cL_law 32 = .ok (.isub, 1) := by decide +kernel
theorem dL_law_33 : decode cL_law 33 = .ok (.if_icmp .gt 408, 3) := by decide +kernel
theorem dL_law_36 : decode cL_law 36 = .ok (.aload_n 0, 1) := by decide +kernel
theorem dL_law_37 : decode cL_law 37 = .ok (.iload_n 3, 1) := by decide +kernel
theorem dL_law_38 : decode cL_law 38 = .ok (.iaload, 1) := by decide +kernel
theorem dL_law_39 : decode cL_law 39 = .ok (.bipush 31, 2) := by decide +kernel
theorem dL_law_41 : decode cL_law 41 = .ok (.iand, 1) := by decide +kernel
theorem dL_law_42 : decode cL_law 42 = .ok (.tableswitch 393 0 16 #[82, 95, 128, 161, 184, 207, 220, 233, 246, 259, 282, 305, 318, 341, 354, 367, 380], 82) := by decide +kernel
theorem dL_law_124 : decode cL_law 124 = .ok (.aload_n 1, 1) := by decide +kernel
theorem dL_law_125 : decode cL_law 125 = .ok (.invokevirtual 21, 3) := by decide +kernel
theorem dL_law_128 : decode cL_law 128 = .ok (.aload_n 2, 1) := by decide +kernel
theorem dL_law_129 : decode cL_law 129 = .ok (.invokevirtual 25, 3) := by decide +kernel
theorem dL_law_132 : decode cL_law 132 = .ok (.if_icmp .eq 303, 3) := by decide +kernel
theorem dL_law_135 : decode cL_law 135 = .ok (.iconst 0, 1) := by decide +kernel
theorem dL_law_136 : decode cL_law 136 = .ok (.ireturn, 1) := by decide +kernel
theorem dL_law_137 : decode cL_law 137 = .ok (.aload_n 1, 1) := by decide +kernel
theorem dL_law_138 : decode cL_law 138 = .ok (.aload_n 0, 1) := by decide +kernel
theorem dL_law_139 : decode cL_law 139 = .ok (.iload_n 3, 1) := by decide +kernel
theorem dL_law_140 : decode cL_law 140 = .ok (.iconst 1, 1) := by decide +kernel
theorem dL_law_141 : decode cL_law 141 = .ok (.iadd, 1) := by decide +kernel
theorem dL_law_142 : decode cL_law 142 = .ok (.iaload, 1) := by decide +kernel
theorem dL_law_143 : decode cL_law 143 = .ok (.aload_n 0, 1) := by decide +kernel
theorem dL_law_144 : decode cL_law 144 = .ok (.iload_n 3, 1) := by decide +kernel
theorem dL_law_145 : decode cL_law 145 = .ok (.iconst 2, 1) := by decide +kernel
theorem dL_law_146 : decode cL_law 146 = .ok (.iadd, 1) := by decide +kernel
theorem dL_law_147 : decode cL_law 147 = .ok (.iaload, 1) := by decide +kernel
theorem dL_law_148 : decode cL_law 148 = .ok (.invokevirtual 26, 3) := by decide +kernel
theorem dL_law_151 : decode cL_law 151 = .ok (.aload_n 2, 1) := by decide +kernel
theorem dL_law_152 : decode cL_law 152 = .ok (.aload_n 0, 1) := by decide +kernel
theorem dL_law_153 : decode cL_law 153 = .ok (.iload_n 3, 1) := by decide +kernel
theorem dL_law_154 : decode cL_law 154 = .ok (.iconst 1, 1) := by decide +kernel
theorem dL_law_155 : decode cL_law 155 = .ok (.iadd, 1) := by decide +kernel
theorem dL_law_156 : decode cL_law 156 = .ok (.iaload, 1) := by decide +kernel
theorem dL_law_157 : decode cL_law 157 = .ok (.aload_n 0, 1) := by decide +kernel
theorem dL_law_158 : decode cL_law 158 = .ok (.iload_n 3, 1) := by decide +kernel
theorem dL_law_159 : decode cL_law 159 = .ok (.iconst 2, 1) := by decide +kernel
theorem dL_law_160 : decode cL_law 160 = .ok (.iadd, 1) := by decide +kernel
theorem dL_law_161 : decode cL_law 161 = .ok (.iaload, 1) := by decide +kernel
theorem dL_law_162 : decode cL_law 162 = .ok (.invokevirtual 30, 3) := by decide +kernel
theorem dL_law_165 : decode cL_law 165 = .ok (.if_icmp .eq 270, 3) := by decide +kernel
theorem dL_law_168 : decode cL_law 168 = .ok (.iconst 0, 1) := by decide +kernel
theorem dL_law_169 : decode cL_law 169 = .ok (.ireturn, 1) := by decide +kernel
theorem dL_law_170 : decode cL_law 170 = .ok (.aload_n 1, 1) := by decide +kernel
theorem dL_law_171 : decode cL_law 171 = .ok (.aload_n 0, 1) := by decide +kernel
theorem dL_law_172 : decode cL_law 172 = .ok (.iload_n 3, 1) := by decide +kernel
theorem dL_law_173 : decode cL_law 173 = .ok (.iconst 1, 1) := by decide +kernel
theorem dL_law_174 : decode cL_law 174 = .ok (.iadd, 1) := by decide +kernel
theorem dL_law_175 : decode cL_law 175 = .ok (.iaload, 1) := by decide +kernel
theorem dL_law_176 : decode cL_law 176 = .ok (.aload_n 0, 1) := by decide +kernel
theorem dL_law_177 : decode cL_law 177 = .ok (.iload_n 3, 1) := by decide +kernel
theorem dL_law_178 : decode cL_law 178 = .ok (.iconst 2, 1) := by decide +kernel
theorem dL_law_179 : decode cL_law 179 = .ok (.iadd, 1) := by decide +kernel
theorem dL_law_180 : decode cL_law 180 = .ok (.iaload, 1) := by decide +kernel
theorem dL_law_181 : decode cL_law 181 = .ok (.invokevirtual 31, 3) := by decide +kernel
theorem dL_law_184 : decode cL_law 184 = .ok (.aload_n 2, 1) := by decide +kernel
theorem dL_law_185 : decode cL_law 185 = .ok (.aload_n 0, 1) := by decide +kernel
theorem dL_law_186 : decode cL_law 186 = .ok (.iload_n 3, 1) := by decide +kernel
theorem dL_law_187 : decode cL_law 187 = .ok (.iconst 1, 1) := by decide +kernel
theorem dL_law_188 : decode cL_law 188 = .ok (.iadd, 1) := by decide +kernel
theorem dL_law_189 : decode cL_law 189 = .ok (.iaload, 1) := by decide +kernel
theorem dL_law_190 : decode cL_law 190 = .ok (.aload_n 0, 1) := by decide +kernel
theorem dL_law_191 : decode cL_law 191 = .ok (.iload_n 3, 1) := by decide +kernel
theorem dL_law_192 : decode cL_law 192 = .ok (.iconst 2, 1) := by decide +kernel
theorem dL_law_193 : decode cL_law 193 = .ok (.iadd, 1) := by decide +kernel
theorem dL_law_194 : decode cL_law 194 = .ok (.iaload, 1) := by decide +kernel
theorem dL_law_195 : decode cL_law 195 = .ok (.invokevirtual 34, 3) := by decide +kernel
theorem dL_law_198 : decode cL_law 198 = .ok (.if_icmp .eq 237, 3) := by decide +kernel
theorem dL_law_201 : decode cL_law 201 = .ok (.iconst 0, 1) := by decide +kernel
theorem dL_law_202 : decode cL_law 202 = .ok (.ireturn, 1) := by decide +kernel
theorem dL_law_203 : decode cL_law 203 = .ok (.aload_n 1, 1) := by decide +kernel
theorem dL_law_204 : decode cL_law 204 = .ok (.aload_n 0, 1) := by decide +kernel
theorem dL_law_205 : decode cL_law 205 = .ok (.iload_n 3, 1) := by decide +kernel
theorem dL_law_206 : decode cL_law 206 = .ok (.iconst 1, 1) := by decide +kernel
theorem dL_law_207 : decode cL_law 207 = .ok (.iadd, 1) := by decide +kernel
theorem dL_law_208 : decode cL_law 208 = .ok (.iaload, 1) := by decide +kernel
theorem dL_law_209 : decode cL_law 209 = .ok (.invokevirtual 35, 3) := by decide +kernel
theorem dL_law_212 : decode cL_law 212 = .ok (.aload_n 2, 1) := by decide +kernel
theorem dL_law_213 : decode cL_law 213 = .ok (.aload_n 0, 1) := by decide +kernel
theorem dL_law_214 : decode cL_law 214 = .ok (.iload_n 3, 1) := by decide +kernel
theorem dL_law_215 : decode cL_law 215 = .ok (.iconst 1, 1) := by decide +kernel
theorem dL_law_216 : decode cL_law 216 = .ok (.iadd, 1) := by decide +kernel
theorem dL_law_217 : decode cL_law 217 = .ok (.iaload, 1) := by decide +kernel
theorem dL_law_218 : decode cL_law 218 = .ok (.invokevirtual 39, 3) := by decide +kernel
theorem dL_law_221 : decode cL_law 221 = .ok (.if_icmp .eq 214, 3) := by decide +kernel
theorem dL_law_224 : decode cL_law 224 = .ok (.iconst 0, 1) := by decide +kernel
theorem dL_law_225 : decode cL_law 225 = .ok (.ireturn, 1) := by decide +kernel
theorem dL_law_226 : decode cL_law 226 = .ok (.aload_n 1, 1) := by decide +kernel
theorem dL_law_227 : decode cL_law 227 = .ok (.aload_n 0, 1) := by decide +kernel
theorem dL_law_228 : decode cL_law 228 = .ok (.iload_n 3, 1) := by decide +kernel
theorem dL_law_229 : decode cL_law 229 = .ok (.iconst 1, 1) := by decide +kernel
theorem dL_law_230 : decode cL_law 230 = .ok (.iadd, 1) := by decide +kernel
theorem dL_law_231 : decode cL_law 231 = .ok (.iaload, 1) := by decide +kernel
theorem dL_law_232 : decode cL_law 232 = .ok (.invokevirtual 40, 3) := by decide +kernel
theorem dL_law_235 : decode cL_law 235 = .ok (.aload_n 2, 1) := by decide +kernel
theorem dL_law_236 : decode cL_law 236 = .ok (.aload_n 0, 1) := by decide +kernel
theorem dL_law_237 : decode cL_law 237 = .ok (.iload_n 3, 1) := by decide +kernel
theorem dL_law_238 : decode cL_law 238 = .ok (.iconst 1, 1) := by decide +kernel
theorem dL_law_239 : decode cL_law 239 = .ok (.iadd, 1) := by decide +kernel
theorem dL_law_240 : decode cL_law 240 = .ok (.iaload, 1) := by decide +kernel
theorem dL_law_241 : decode cL_law 241 = .ok (.invokevirtual 43, 3) := by decide +kernel
theorem dL_law_244 : decode cL_law 244 = .ok (.if_icmp .eq 191, 3) := by decide +kernel
theorem dL_law_247 : decode cL_law 247 = .ok (.iconst 0, 1) := by decide +kernel
theorem dL_law_248 : decode cL_law 248 = .ok (.ireturn, 1) := by decide +kernel
theorem dL_law_249 : decode cL_law 249 = .ok (.aload_n 1, 1) := by decide +kernel
theorem dL_law_250 : decode cL_law 250 = .ok (.invokevirtual 44, 3) := by decide +kernel
theorem dL_law_253 : decode cL_law 253 = .ok (.aload_n 2, 1) := by decide +kernel
theorem dL_law_254 : decode cL_law 254 = .ok (.invokevirtual 47, 3) := by decide +kernel
theorem dL_law_257 : decode cL_law 257 = .ok (.if_icmp .eq 178, 3) := by decide +kernel
theorem dL_law_260 : decode cL_law 260 = .ok (.iconst 0, 1) := by decide +kernel
theorem dL_law_261 : decode cL_law 261 = .ok (.ireturn, 1) := by decide +kernel
theorem dL_law_262 : decode cL_law 262 = .ok (.aload_n 1, 1) := by decide +kernel
theorem dL_law_263 : decode cL_law 263 = .ok (.invokevirtual 48, 3) := by decide +kernel
theorem dL_law_266 : decode cL_law 266 = .ok (.aload_n 2, 1) := by decide +kernel
theorem dL_law_267 : decode cL_law 267 = .ok (.invokevirtual 51, 3) := by decide +kernel
theorem dL_law_270 : decode cL_law 270 = .ok (.if_icmp .eq 165, 3) := by decide +kernel
theorem dL_law_273 : decode cL_law 273 = .ok (.iconst 0, 1) := by decide +kernel
theorem dL_law_274 : decode cL_law 274 = .ok (.ireturn, 1) := by decide +kernel
theorem dL_law_275 : decode cL_law 275 = .ok (.aload_n 1, 1) := by decide +kernel
theorem dL_law_276 : decode cL_law 276 = .ok (.invokevirtual 52, 3) := by decide +kernel
theorem dL_law_279 : decode cL_law 279 = .ok (.aload_n 2, 1) := by decide +kernel
theorem dL_law_280 : decode cL_law 280 = .ok (.invokevirtual 55, 3) := by decide +kernel
theorem dL_law_283 : decode cL_law 283 = .ok (.if_icmp .eq 152, 3) := by decide +kernel
theorem dL_law_286 : decode cL_law 286 = .ok (.iconst 0, 1) := by decide +kernel
theorem dL_law_287 : decode cL_law 287 = .ok (.ireturn, 1) := by decide +kernel
theorem dL_law_288 : decode cL_law 288 = .ok (.aload_n 1, 1) := by decide +kernel
theorem dL_law_289 : decode cL_law 289 = .ok (.invokevirtual 56, 3) := by decide +kernel
theorem dL_law_292 : decode cL_law 292 = .ok (.aload_n 2, 1) := by decide +kernel
theorem dL_law_293 : decode cL_law 293 = .ok (.invokevirtual 59, 3) := by decide +kernel
theorem dL_law_296 : decode cL_law 296 = .ok (.if_icmp .eq 139, 3) := by decide +kernel
theorem dL_law_299 : decode cL_law 299 = .ok (.iconst 0, 1) := by decide +kernel
theorem dL_law_300 : decode cL_law 300 = .ok (.ireturn, 1) := by decide +kernel
theorem dL_law_301 : decode cL_law 301 = .ok (.aload_n 1, 1) := by decide +kernel
theorem dL_law_302 : decode cL_law 302 = .ok (.aload_n 0, 1) := by decide +kernel
theorem dL_law_303 : decode cL_law 303 = .ok (.iload_n 3, 1) := by decide +kernel
theorem dL_law_304 : decode cL_law 304 = .ok (.iconst 1, 1) := by decide +kernel
theorem dL_law_305 : decode cL_law 305 = .ok (.iadd, 1) := by decide +kernel
theorem dL_law_306 : decode cL_law 306 = .ok (.iaload, 1) := by decide +kernel
theorem dL_law_307 : decode cL_law 307 = .ok (.invokevirtual 60, 3) := by decide +kernel
theorem dL_law_310 : decode cL_law 310 = .ok (.aload_n 2, 1) := by decide +kernel
theorem dL_law_311 : decode cL_law 311 = .ok (.aload_n 0, 1) := by decide +kernel
theorem dL_law_312 : decode cL_law 312 = .ok (.iload_n 3, 1) := by decide +kernel
theorem dL_law_313 : decode cL_law 313 = .ok (.iconst 1, 1) := by decide +kernel
theorem dL_law_314 : decode cL_law 314 = .ok (.iadd, 1) := by decide +kernel
theorem dL_law_315 : decode cL_law 315 = .ok (.iaload, 1) := by decide +kernel
theorem dL_law_316 : decode cL_law 316 = .ok (.invokevirtual 63, 3) := by decide +kernel
theorem dL_law_319 : decode cL_law 319 = .ok (.if_icmp .eq 116, 3) := by decide +kernel
theorem dL_law_322 : decode cL_law 322 = .ok (.iconst 0, 1) := by decide +kernel
theorem dL_law_323 : decode cL_law 323 = .ok (.ireturn, 1) := by decide +kernel
theorem dL_law_324 : decode cL_law 324 = .ok (.aload_n 1, 1) := by decide +kernel
theorem dL_law_325 : decode cL_law 325 = .ok (.aload_n 0, 1) := by decide +kernel
theorem dL_law_326 : decode cL_law 326 = .ok (.iload_n 3, 1) := by decide +kernel
theorem dL_law_327 : decode cL_law 327 = .ok (.iconst 1, 1) := by decide +kernel
theorem dL_law_328 : decode cL_law 328 = .ok (.iadd, 1) := by decide +kernel
theorem dL_law_329 : decode cL_law 329 = .ok (.iaload, 1) := by decide +kernel
theorem dL_law_330 : decode cL_law 330 = .ok (.invokevirtual 64, 3) := by decide +kernel
theorem dL_law_333 : decode cL_law 333 = .ok (.aload_n 2, 1) := by decide +kernel
theorem dL_law_334 : decode cL_law 334 = .ok (.aload_n 0, 1) := by decide +kernel
theorem dL_law_335 : decode cL_law 335 = .ok (.iload_n 3, 1) := by decide +kernel
theorem dL_law_336 : decode cL_law 336 = .ok (.iconst 1, 1) := by decide +kernel
theorem dL_law_337 : decode cL_law 337 = .ok (.iadd, 1) := by decide +kernel
theorem dL_law_338 : decode cL_law 338 = .ok (.iaload, 1) := by decide +kernel
theorem dL_law_339 : decode cL_law 339 = .ok (.invokevirtual 67, 3) := by decide +kernel
theorem dL_law_342 : decode cL_law 342 = .ok (.if_icmp .eq 93, 3) := by decide +kernel
theorem dL_law_345 : decode cL_law 345 = .ok (.iconst 0, 1) := by decide +kernel
theorem dL_law_346 : decode cL_law 346 = .ok (.ireturn, 1) := by decide +kernel
theorem dL_law_347 : decode cL_law 347 = .ok (.aload_n 1, 1) := by decide +kernel
theorem dL_law_348 : decode cL_law 348 = .ok (.invokevirtual 68, 3) := by decide +kernel
theorem dL_law_351 : decode cL_law 351 = .ok (.aload_n 2, 1) := by decide +kernel
theorem dL_law_352 : decode cL_law 352 = .ok (.invokevirtual 71, 3) := by decide +kernel
theorem dL_law_355 : decode cL_law 355 = .ok (.if_icmp .eq 80, 3) := by decide +kernel
theorem dL_law_358 : decode cL_law 358 = .ok (.iconst 0, 1) := by decide +kernel
theorem dL_law_359 : decode cL_law 359 = .ok (.ireturn, 1) := by decide +kernel
theorem dL_law_360 : decode cL_law 360 = .ok (.aload_n 1, 1) := by decide +kernel
theorem dL_law_361 : decode cL_law 361 = .ok (.aload_n 0, 1) := by decide +kernel
theorem dL_law_362 : decode cL_law 362 = .ok (.iload_n 3, 1) := by decide +kernel
theorem dL_law_363 : decode cL_law 363 = .ok (.iconst 1, 1) := by decide +kernel
theorem dL_law_364 : decode cL_law 364 = .ok (.iadd, 1) := by decide +kernel
theorem dL_law_365 : decode cL_law 365 = .ok (.iaload, 1) := by decide +kernel
theorem dL_law_366 : decode cL_law 366 = .ok (.invokevirtual 72, 3) := by decide +kernel
theorem dL_law_369 : decode cL_law 369 = .ok (.aload_n 2, 1) := by decide +kernel
theorem dL_law_370 : decode cL_law 370 = .ok (.aload_n 0, 1) := by decide +kernel
theorem dL_law_371 : decode cL_law 371 = .ok (.iload_n 3, 1) := by decide +kernel
theorem dL_law_372 : decode cL_law 372 = .ok (.iconst 1, 1) := by decide +kernel
theorem dL_law_373 : decode cL_law 373 = .ok (.iadd, 1) := by decide +kernel
theorem dL_law_374 : decode cL_law 374 = .ok (.iaload, 1) := by decide +kernel
theorem dL_law_375 : decode cL_law 375 = .ok (.invokevirtual 75, 3) := by decide +kernel
theorem dL_law_378 : decode cL_law 378 = .ok (.if_icmp .eq 57, 3) := by decide +kernel
theorem dL_law_381 : decode cL_law 381 = .ok (.iconst 0, 1) := by decide +kernel
theorem dL_law_382 : decode cL_law 382 = .ok (.ireturn, 1) := by decide +kernel
theorem dL_law_383 : decode cL_law 383 = .ok (.aload_n 1, 1) := by decide +kernel
theorem dL_law_384 : decode cL_law 384 = .ok (.invokevirtual 76, 3) := by decide +kernel
theorem dL_law_387 : decode cL_law 387 = .ok (.aload_n 2, 1) := by decide +kernel
theorem dL_law_388 : decode cL_law 388 = .ok (.invokevirtual 79, 3) := by decide +kernel
theorem dL_law_391 : decode cL_law 391 = .ok (.if_icmp .eq 44, 3) := by decide +kernel
theorem dL_law_394 : decode cL_law 394 = .ok (.iconst 0, 1) := by decide +kernel
theorem dL_law_395 : decode cL_law 395 = .ok (.ireturn, 1) := by decide +kernel
theorem dL_law_396 : decode cL_law 396 = .ok (.aload_n 1, 1) := by decide +kernel
theorem dL_law_397 : decode cL_law 397 = .ok (.invokevirtual 80, 3) := by decide +kernel
theorem dL_law_400 : decode cL_law 400 = .ok (.aload_n 2, 1) := by decide +kernel
theorem dL_law_401 : decode cL_law 401 = .ok (.invokevirtual 83, 3) := by decide +kernel
theorem dL_law_404 : decode cL_law 404 = .ok (.if_icmp .eq 31, 3) := by decide +kernel
theorem dL_law_407 : decode cL_law 407 = .ok (.iconst 0, 1) := by decide +kernel
theorem dL_law_408 : decode cL_law 408 = .ok (.ireturn, 1) := by decide +kernel
theorem dL_law_409 : decode cL_law 409 = .ok (.aload_n 1, 1) := by decide +kernel
theorem dL_law_410 : decode cL_law 410 = .ok (.invokevirtual 84, 3) := by decide +kernel
theorem dL_law_413 : decode cL_law 413 = .ok (.aload_n 2, 1) := by decide +kernel
theorem dL_law_414 : decode cL_law 414 = .ok (.invokevirtual 87, 3) := by decide +kernel
theorem dL_law_417 : decode cL_law 417 = .ok (.if_icmp .eq 18, 3) := by decide +kernel
theorem dL_law_420 : decode cL_law 420 = .ok (.iconst 0, 1) := by decide +kernel
theorem dL_law_421 : decode cL_law 421 = .ok (.ireturn, 1) := by decide +kernel
theorem dL_law_422 : decode cL_law 422 = .ok (.aload_n 1, 1) := by decide +kernel
theorem dL_law_423 : decode cL_law 423 = .ok (.invokevirtual 88, 3) := by decide +kernel
theorem dL_law_426 : decode cL_law 426 = .ok (.aload_n 2, 1) := by decide +kernel
theorem dL_law_427 : decode cL_law 427 = .ok (.invokevirtual 91, 3) := by decide +kernel
theorem dL_law_430 : decode cL_law 430 = .ok (.if_icmp .eq 5, 3) := by decide +kernel
theorem dL_law_433 : decode cL_law 433 = .ok (.iconst 0, 1) := by decide +kernel
theorem dL_law_434 : decode cL_law 434 = .ok (.ireturn, 1) := by decide +kernel
theorem dL_law_435 : decode cL_law 435 = .ok (.iinc 3 3, 3) := by decide +kernel
theorem dL_law_438 : decode cL_law 438 = .ok (.goto (-410), 3) := by decide +kernel
theorem dL_law_441 : decode cL_law 441 = .ok (.iconst 1, 1) := by decide +kernel
theorem dL_law_442 : decode cL_law 442 = .ok (.ireturn, 1) := by decide +kernel
end
section
/-! BASE: contracts over this claim's two classes in one short form, their entry, their call -/
abbrev vwCl : List vw_C := [(RX1, TX1, 10), (RX2, TX2, 8)]
abbrev fd_Pre (D : va_G) (tys : List (ClassId × FieldType)) (w0 : va_W) (sz : Nat) : State → Prop := fun U => U.heap.size = sz ∧ va_P D vwCl w0 U.heap ∧ va_K D vwCl tys U ∧ va_D (fun _ => True) w0
abbrev fd_Post {T : Type} (D : va_G) (tys : List (ClassId × FieldType)) (A : Nat → Prop) (w1 : T → va_W) : T → State → Prop := fun u t => va_P D vwCl (w1 u) t.heap ∧ va_K D vwCl tys t ∧ va_D A (w1 u)
/-- the method y answers an int r with 'post r u', its cells w0 become w1 u, nothing else changes, nothing is made -/
def fd_I {T : Type} (l : Launch) (y : MethodName) (ws : List Cond) (rm : Room) (D : va_G) (tys : List (ClassId × FieldType)) (av : List Value) (w0 : va_W) (post : Int32 → T → Prop) (w1 : T → va_W) : Prop :=
  ∀ sz : Nat, Met l y ws rm (va_Pc av (fd_Pre D tys w0 sz)) (va_Qi post (fd_Post D tys (va_A w0 sz) w1) (va_A w0 sz)) 0 0 (va_A w0 sz)
/-- the same for a method that answers nothing -/
def fd_V {T : Type} (l : Launch) (y : MethodName) (ws : List Cond) (rm : Room) (D : va_G) (tys : List (ClassId × FieldType)) (av : List Value) (w0 : va_W) (post : T → Prop) (w1 : T → va_W) : Prop :=
  ∀ sz : Nat, Met l y ws rm (va_Pc av (fd_Pre D tys w0 sz)) (va_Qv post (fd_Post D tys (va_A w0 sz) w1) (va_A w0 sz)) 0 0 (va_A w0 sz)
set_option maxHeartbeats 1000000 in
theorem fd_Iof {T : Type} {l : Launch} {y : MethodName} {cc : ByteArray} {maxL : Nat} {ty : FieldType} {rm : Room} {D : va_G} {tys : List (ClassId × FieldType)} {av : List Value} {w0 : va_W} {post : Int32 → T → Prop} {w1 : T → va_W} {lv : List (Nat × Value)} {own : String}
    (how : y.cls = own) (hy : plainName y.cls = true) (hlen : (lg_sl av).length ≤ maxL) (hlv : lv_args 0 av = lv)
    (body : ∀ (p : Program) (e : Env) (s : State) (m : MethodId) (below : List Frame) (meth : Method) (c : Code) (A : Nat → Prop) (ls : Array Slot) (Q : State → Prop),
      CallFix p m c cc maxL s av.toArray lw_all own → va_K D vwCl tys s → va_P D vwCl w0 s.heap → va_D A w0 → (∀ q : Nat, s.heap.size ≤ q → A q) → lv_has ls maxL lv →
      (∀ (v : Int32) (u : T) (pc : Nat) (H : Heap) (locs : List Loc) (ls : Array Slot), decode cc pc = .ok (.ireturn, 1) → narrow ty (.int v) = .int v → post v u → va_P D vwCl (w1 u) H → va_D A (w1 u) → va_S A s.heap H locs → W p l e rm s m av.toArray below meth c H locs 0 0 Q (F0 m pc ls [.int v])) →
      W p l e rm s m av.toArray below meth c s.heap [] 0 0 Q (F0 m 0 ls [])) :
    fd_I l y (ws_ y cc maxL (some ty)) rm D tys av w0 post w1 := by
  intro sz
  refine Met.ofW (cc := cc) (maxL := maxL) (ret := some ty) hy rfl ?_
  intro p e s m args below meth c s₁ B hml hv
  obtain ⟨rfl, hsz, hP, hK, hD0⟩ := hv
  have hts := atoms_spec (ws := ws_ y cc maxL (some ty)) B.pre
  have hts : ∀ w ∈ lw_all, w.before _ s = true := fun w h => hts w (List.mem_cons_of_mem _ h)
  have hown : s.vm.findClass y.cls = some m.cls := findClass_of_methodNamed B.named
  rw [how] at hown
  have hlocks := B.notSynchronized
  subst hsz
  have hD := hD0.self (sz := s.heap.size)
  have hl := lv_entry av (n := maxL) hlen
  rw [hlv] at hl
  rw [lg_entry_eq]
  generalize (lg_sl av ++ List.replicate (maxL - (lg_sl av).length) Slot.unset).toArray = ls at hl ⊢
  refine body p e s m below meth c (va_A w0 s.heap.size) ls _ ⟨B.exec, B.bytes, hml, hown, hts⟩ hK hP hD (fun q h => Or.inr h) hl ?_
  intro v u pc H locs ls hdg hn hp hP1 hD1 hS
  exact W.zret B.exec B.bytes B.returns hn (fun t ht hW => ⟨⟨v, u, rfl, hp, by rw [ht]; exact hP1, va_K.moved hW.alike hK, hD1⟩, hS.F ht⟩) hS.2.2 hdg
set_option maxHeartbeats 1000000 in
theorem fd_Vof {T : Type} {l : Launch} {y : MethodName} {cc : ByteArray} {maxL : Nat} {rm : Room} {D : va_G} {tys : List (ClassId × FieldType)} {av : List Value} {w0 : va_W} {post : T → Prop} {w1 : T → va_W} {lv : List (Nat × Value)} {own : String}
    (how : y.cls = own) (hy : plainName y.cls = true) (hlen : (lg_sl av).length ≤ maxL) (hlv : lv_args 0 av = lv)
    (body : ∀ (p : Program) (e : Env) (s : State) (m : MethodId) (below : List Frame) (meth : Method) (c : Code) (A : Nat → Prop) (ls : Array Slot) (Q : State → Prop),
      CallFix p m c cc maxL s av.toArray lw_all own → va_K D vwCl tys s → va_P D vwCl w0 s.heap → va_D A w0 → (∀ q : Nat, s.heap.size ≤ q → A q) → lv_has ls maxL lv →
      (∀ (u : T) (pc : Nat) (H : Heap) (locs : List Loc) (ls : Array Slot), decode cc pc = .ok (.return_, 1) → post u → va_P D vwCl (w1 u) H → va_D A (w1 u) → va_S A s.heap H locs → W p l e rm s m av.toArray below meth c H locs 0 0 Q (F0 m pc ls [])) →
      W p l e rm s m av.toArray below meth c s.heap [] 0 0 Q (F0 m 0 ls [])) :
    fd_V l y (ws_ y cc maxL none) rm D tys av w0 post w1 := by
  intro sz
  refine Met.ofW (cc := cc) (maxL := maxL) (ret := none) hy rfl ?_
  intro p e s m args below meth c s₁ B hml hv
  obtain ⟨rfl, hsz, hP, hK, hD0⟩ := hv
  have hts := atoms_spec (ws := ws_ y cc maxL none) B.pre
  have hts : ∀ w ∈ lw_all, w.before _ s = true := fun w h => hts w (List.mem_cons_of_mem _ h)
  have hown : s.vm.findClass y.cls = some m.cls := findClass_of_methodNamed B.named
  rw [how] at hown
  have hlocks := B.notSynchronized
  subst hsz
  have hD := hD0.self (sz := s.heap.size)
  have hl := lv_entry av (n := maxL) hlen
  rw [hlv] at hl
  rw [lg_entry_eq]
  generalize (lg_sl av ++ List.replicate (maxL - (lg_sl av).length) Slot.unset).toArray = ls at hl ⊢
  refine body p e s m below meth c (va_A w0 s.heap.size) ls _ ⟨B.exec, B.bytes, hml, hown, hts⟩ hK hP hD (fun q h => Or.inr h) hl ?_
  intro u pc H locs ls hdg hp hP1 hD1 hS
  exact W.vret B.exec B.bytes B.returns (fun t ht hW => ⟨⟨u, rfl, hp, by rw [ht]; exact hP1, va_K.moved hW.alike hK, hD1⟩, hS.F ht⟩) hS.2.2 hdg
theorem fd_fm {α β : Type} {f : α → Option β} {is : List α} {w : List β} (h : is.map f = w.map some) : is.filterMap f = w := by
  have h2 := congrArg (List.filterMap id) h
  rw [List.filterMap_map, List.filterMap_map] at h2
  simpa using h2
theorem fd_nn {a b : Bool} {isC isR : List Nat} (h : (a && b && isR.all (fun i => !isC.contains i)) = true) : a = true ∧ b = true ∧ ∀ i ∈ isR, i ∉ isC := by
  simp only [Bool.and_eq_true] at h
  refine ⟨h.1.1, h.1.2, fun i hi hc => ?_⟩
  have := List.all_eq_true.mp h.2 i hi
  simp [hc] at this
section fd_base
variable {p : Program} {l : Launch} {e : Env} {R : Room} {s : State} {m : MethodId} {args : Array Value} {below : List Frame} {meth : Method} {c : Code} {H : Heap} {locs : List Loc} {cells slots : Nat} {Q : State → Prop}
variable {cc : ByteArray} {pc : Nat} {ls : Array Slot} {rest st0 : List Value} {D : va_G} {A : Nat → Prop} {tys tysc : List (ClassId × FieldType)} {w wc wr : va_W}
variable {T : Type} {y : MethodName} {bytes : ByteArray} {maxL nL n idx : Nat} {ret : Option FieldType} {rm : Room} {post : Int32 → T → Prop} {postv : T → Prop} {w1 : T → va_W} {own : String} {b : Nat} {As : List Value} {ci q0 : Nat} {qc : vw_C} {fs : List Value}
/-- the top of the stack by another word for it -/
theorem fd_as {x y : Int32} (h : x = y) (k : W p l e R s m args below meth c H locs cells slots Q (F0 m pc ls (.int y :: rest))) : W p l e R s m args below meth c H locs cells slots Q (F0 m pc ls (.int x :: rest)) := by
  rw [h]; exact k
theorem fd_inc (k : Nat) : nI k + Int32.ofInt 1 = nI (k + 1) := nI_1 k
set_option maxHeartbeats 1000000 in
/-- a call through an object, an int comes back -/
theorem fd_callVi (S0 : CallFix p m c cc nL s args lw_all own) (hK : va_K D vwCl tys s) (hP : va_P D vwCl w H) (hD : va_D A w) (hS : va_S A s.heap H locs) (hA : ∀ q : Nat, s.heap.size ≤ q → A q) (isC isR isT : List Nat)
    (hM : fd_I l y (ws_ y bytes maxL ret) rm D tysc (.ref b :: As) wc post w1)
    (h1 : Cond.methodLink own idx y ∈ lw_all) (h2 : Cond.instanceMethod y ∈ lw_all) (h3 : Cond.selects y.cls y y ∈ lw_all) (h4 : Cond.initialized y.cls ∈ lw_all) (h5 : Cond.code y bytes maxL ret ∈ lw_all)
    (hdg : decode cc pc = .ok (.invokevirtual idx, 3))
    (hC : isC.map (fun i => w[i]?) = wc.map some) (hR : isR.map (fun i => w[i]?) = wr.map some) (hT : isT.filterMap (fun i => tys[i]?) = tysc)
    (hn : (va_nd isC && va_nd isR && isR.all (fun i => !isC.contains i)) = true)
    (hrm : (rm.cells = 0 ∧ rm.slots = 0) ∧ rm.frames + 1 ≤ R.frames ∧ 8 + (maxL + 11) + rm.locals ≤ R.locals)
    (hd : y.cls ≠ "java/lang/invoke/MethodHandle" ∧ y.cls ≠ "java/lang/invoke/VarHandle" ∧ (parseMethodDescriptor y.desc).map (fun d => d.parameters.length) = some n)
    (hci : vwCl[ci]? = some qc) (hcn : qc.1 = y.cls) (hq0 : wc[q0]? = some (b, .inr (ci, fs)))
    (hlen : As.length = n) (hsz : ls.size = nL) (hst : st0 = As.reverse ++ .ref b :: rest) (hroom : (rest.map fun v => v.category).sum ≤ 8) (hcs : cells ≤ R.cells ∧ slots ≤ R.slots)
    (kk : ∀ (r : Int32) (u : T) (H1 : Heap) (locs1 : List Loc), post r u → va_P D vwCl (wr ++ w1 u) H1 → va_D A (wr ++ w1 u) → va_S A s.heap H1 locs1 → W p l e R s m args below meth c H1 locs1 cells slots Q (F0 m (pc + 3) ls (.int r :: rest))) :
    W p l e R s m args below meth c H locs cells slots Q (F0 m pc ls st0) := by
  obtain ⟨hnC, hnR, hdis⟩ := fd_nn hn
  have hPc := hP.sub (ws' := wc) isC (fd_fm hC)
  have hDc := hD.sub (ws' := wc) isC hnC hC
  have hKc := hK.sub (tys' := tysc) isT hT
  have hFc := va_free (wc := wc) hD hS hA isC hC
  have hrc : ∃ cell : Cell, H[b]? = some cell ∧ cell.vm.isStatics = false ∧ s.vm.findClass y.cls = some cell.cls := by
    rw [← hcn]; exact va_recv hKc hPc hci hq0
  refine va_calli (va_runV (As := As) (rest := rest) S0 (hM H.size) (cwV n S0.2.2.2.2 (lw_V h1 h2 h3 h4 h5) rfl hrm.1.1 hrm.1.2 ⟨rfl, hd⟩ hrm.2) ⟨fun a U g mk q => by obtain ⟨q0, q1, qP, qK, qD⟩ := q; exact ⟨q0, q1, qP, va_K.moved (u := U) (U := U.calling g mk a) (Vm.Alike.refl U.vm) qK, qD⟩, hrc, fun U hU hW => ⟨rfl, by rw [hU], by rw [hU]; exact hPc, va_K.moved hW.alike hKc, hDc.weaken (fun _ _ _ _ => trivial)⟩⟩ rfl hlen hsz hst (lv_room hroom) hdg hcs) hS (fun q _ h => hFc q h) hFc (fun r u t H1 locs1 ht hvm hp hB hz1 hk1 hS1 => ?_)
  obtain ⟨hP1, hK1, hD1⟩ := hB
  rw [ht] at hP1
  obtain ⟨hP2, hD2⟩ := va_join (wr := wr) (w1 := w1 u) hP hD isC isR hC hR hnR hdis hk1 hFc hP1 hD1
  exact kk r u H1 locs1 hp hP2 hD2 hS1
set_option maxHeartbeats 1000000 in
/-- a call through an object, nothing comes back -/
theorem fd_callVv (S0 : CallFix p m c cc nL s args lw_all own) (hK : va_K D vwCl tys s) (hP : va_P D vwCl w H) (hD : va_D A w) (hS : va_S A s.heap H locs) (hA : ∀ q : Nat, s.heap.size ≤ q → A q) (isC isR isT : List Nat)
    (hM : fd_V l y (ws_ y bytes maxL ret) rm D tysc (.ref b :: As) wc postv w1)
    (h1 : Cond.methodLink own idx y ∈ lw_all) (h2 : Cond.instanceMethod y ∈ lw_all) (h3 : Cond.selects y.cls y y ∈ lw_all) (h4 : Cond.initialized y.cls ∈ lw_all) (h5 : Cond.code y bytes maxL ret ∈ lw_all)
    (hdg : decode cc pc = .ok (.invokevirtual idx, 3))
    (hC : isC.map (fun i => w[i]?) = wc.map some) (hR : isR.map (fun i => w[i]?) = wr.map some) (hT : isT.filterMap (fun i => tys[i]?) = tysc)
    (hn : (va_nd isC && va_nd isR && isR.all (fun i => !isC.contains i)) = true)
    (hrm : (rm.cells = 0 ∧ rm.slots = 0) ∧ rm.frames + 1 ≤ R.frames ∧ 8 + (maxL + 11) + rm.locals ≤ R.locals)
    (hd : y.cls ≠ "java/lang/invoke/MethodHandle" ∧ y.cls ≠ "java/lang/invoke/VarHandle" ∧ (parseMethodDescriptor y.desc).map (fun d => d.parameters.length) = some n)
    (hci : vwCl[ci]? = some qc) (hcn : qc.1 = y.cls) (hq0 : wc[q0]? = some (b, .inr (ci, fs)))
    (hlen : As.length = n) (hsz : ls.size = nL) (hst : st0 = As.reverse ++ .ref b :: rest) (hroom : (rest.map fun v => v.category).sum ≤ 8) (hcs : cells ≤ R.cells ∧ slots ≤ R.slots)
    (kk : ∀ (u : T) (H1 : Heap) (locs1 : List Loc), postv u → va_P D vwCl (wr ++ w1 u) H1 → va_D A (wr ++ w1 u) → va_S A s.heap H1 locs1 → W p l e R s m args below meth c H1 locs1 cells slots Q (F0 m (pc + 3) ls rest)) :
    W p l e R s m args below meth c H locs cells slots Q (F0 m pc ls st0) := by
  obtain ⟨hnC, hnR, hdis⟩ := fd_nn hn
  have hPc := hP.sub (ws' := wc) isC (fd_fm hC)
  have hDc := hD.sub (ws' := wc) isC hnC hC
  have hKc := hK.sub (tys' := tysc) isT hT
  have hFc := va_free (wc := wc) hD hS hA isC hC
  have hrc : ∃ cell : Cell, H[b]? = some cell ∧ cell.vm.isStatics = false ∧ s.vm.findClass y.cls = some cell.cls := by
    rw [← hcn]; exact va_recv hKc hPc hci hq0
  refine va_callv (va_runV (As := As) (rest := rest) S0 (hM H.size) (cwV n S0.2.2.2.2 (lw_V h1 h2 h3 h4 h5) rfl hrm.1.1 hrm.1.2 ⟨rfl, hd⟩ hrm.2) ⟨fun a U g mk q => by obtain ⟨q0, q1, qP, qK, qD⟩ := q; exact ⟨q0, q1, qP, va_K.moved (u := U) (U := U.calling g mk a) (Vm.Alike.refl U.vm) qK, qD⟩, hrc, fun U hU hW => ⟨rfl, by rw [hU], by rw [hU]; exact hPc, va_K.moved hW.alike hKc, hDc.weaken (fun _ _ _ _ => trivial)⟩⟩ rfl hlen hsz hst (lv_room hroom) hdg hcs) hS (fun q _ h => hFc q h) hFc (fun u t H1 locs1 ht hvm hp hB hz1 hk1 hS1 => ?_)
  obtain ⟨hP1, hK1, hD1⟩ := hB
  rw [ht] at hP1
  obtain ⟨hP2, hD2⟩ := va_join (wr := wr) (w1 := w1 u) hP hD isC isR hC hR hnR hdis hk1 hFc hP1 hD1
  exact kk u H1 locs1 hp hP2 hD2 hS1
set_option maxHeartbeats 1000000 in
/-- a static call, an int comes back -/
theorem fd_callSi (S0 : CallFix p m c cc nL s args lw_all own) (hK : va_K D vwCl tys s) (hP : va_P D vwCl w H) (hD : va_D A w) (hS : va_S A s.heap H locs) (hA : ∀ q : Nat, s.heap.size ≤ q → A q) (isC isR isT : List Nat)
    (hM : fd_I l y (ws_ y bytes maxL ret) rm D tysc As wc post w1)
    (h1 : Cond.methodLink own idx y ∈ lw_all) (h2 : Cond.static y ∈ lw_all) (h3 : Cond.initialized y.cls ∈ lw_all) (h4 : Cond.code y bytes maxL ret ∈ lw_all)
    (hdg : decode cc pc = .ok (.invokestatic idx, 3))
    (hC : isC.map (fun i => w[i]?) = wc.map some) (hR : isR.map (fun i => w[i]?) = wr.map some) (hT : isT.filterMap (fun i => tys[i]?) = tysc)
    (hn : (va_nd isC && va_nd isR && isR.all (fun i => !isC.contains i)) = true)
    (hrm : (rm.cells = 0 ∧ rm.slots = 0) ∧ rm.frames + 1 ≤ R.frames ∧ 8 + (maxL + 11) + rm.locals ≤ R.locals)
    (hd : y.cls ≠ "java/lang/invoke/MethodHandle" ∧ y.cls ≠ "java/lang/invoke/VarHandle" ∧ (parseMethodDescriptor y.desc).map (fun d => d.parameters.length) = some n)
    (hlen : As.length = n) (hsz : ls.size = nL) (hst : st0 = As.reverse ++ rest) (hroom : (rest.map fun v => v.category).sum ≤ 8) (hcs : cells ≤ R.cells ∧ slots ≤ R.slots)
    (kk : ∀ (r : Int32) (u : T) (H1 : Heap) (locs1 : List Loc), post r u → va_P D vwCl (wr ++ w1 u) H1 → va_D A (wr ++ w1 u) → va_S A s.heap H1 locs1 → W p l e R s m args below meth c H1 locs1 cells slots Q (F0 m (pc + 3) ls (.int r :: rest))) :
    W p l e R s m args below meth c H locs cells slots Q (F0 m pc ls st0) := by
  obtain ⟨hnC, hnR, hdis⟩ := fd_nn hn
  have hPc := hP.sub (ws' := wc) isC (fd_fm hC)
  have hDc := hD.sub (ws' := wc) isC hnC hC
  have hKc := hK.sub (tys' := tysc) isT hT
  have hFc := va_free (wc := wc) hD hS hA isC hC
  refine va_calli (va_runS (As := As) (rest := rest) S0 (hM H.size) (va_cwS n S0.2.2.2.2 (lw_S h1 h2 h3 h4) rfl hrm.1.1 hrm.1.2 hd hrm.2) ⟨fun a U g mk q => by obtain ⟨q0, q1, qP, qK, qD⟩ := q; exact ⟨q0, q1, qP, va_K.moved (u := U) (U := U.calling g mk a) (Vm.Alike.refl U.vm) qK, qD⟩, fun U hU hW => ⟨rfl, by rw [hU], by rw [hU]; exact hPc, va_K.moved hW.alike hKc, hDc.weaken (fun _ _ _ _ => trivial)⟩⟩ rfl hlen hsz hst (lv_room hroom) hdg hcs) hS (fun q _ h => hFc q h) hFc (fun r u t H1 locs1 ht hvm hp hB hz1 hk1 hS1 => ?_)
  obtain ⟨hP1, hK1, hD1⟩ := hB
  rw [ht] at hP1
  obtain ⟨hP2, hD2⟩ := va_join (wr := wr) (w1 := w1 u) hP hD isC isR hC hR hnR hdis hk1 hFc hP1 hD1
  exact kk r u H1 locs1 hp hP2 hD2 hS1
/-- array places by a Nat -/
theorem fd_iald (hexec : p.tables.exec = Jvm.exec) (hb : c.code = cc) (hK : va_K D vwCl tys s) (hP : va_P D vwCl w H) (q0 t0 : Nat) {a : Nat} {cA : ClassId} {N : Nat} {f : Nat → Int32} (ha : w[q0]? = some (a, .inl (cA, N, .inl f))) (ht : tys[t0]? = some (cA, .int)) {k : Nat} (hk : k < N) (hN : N < 2 ^ 31) (hdg : decode cc pc = .ok (.iaload, 1))
    (kk : W p l e R s m args below meth c H locs cells slots Q (F0 m (pc + 1) ls (.int (f k) :: rest))) : W p l e R s m args below meth c H locs cells slots Q (F0 m pc ls (.int (nI k) :: .ref a :: rest)) := by
  refine va_iald hexec hb hK hP q0 t0 ha ht (vp_in_nI hk hN) hdg ?_
  rw [nI_clamp (Nat.lt_trans hk hN)]
  exact kk
theorem fd_zald (hexec : p.tables.exec = Jvm.exec) (hb : c.code = cc) (hK : va_K D vwCl tys s) (hP : va_P D vwCl w H) (q0 t0 : Nat) {a : Nat} {cA : ClassId} {N : Nat} {f : Nat → Int32} (ha : w[q0]? = some (a, .inl (cA, N, .inl f))) (ht : tys[t0]? = some (cA, .boolean)) {k : Nat} (hk : k < N) (hN : N < 2 ^ 31) (hdg : decode cc pc = .ok (.baload, 1))
    (kk : W p l e R s m args below meth c H locs cells slots Q (F0 m (pc + 1) ls (.int (f k) :: rest))) : W p l e R s m args below meth c H locs cells slots Q (F0 m pc ls (.int (nI k) :: .ref a :: rest)) := by
  refine va_zald hexec hb hK hP q0 t0 ha ht (vp_in_nI hk hN) hdg ?_
  rw [nI_clamp (Nat.lt_trans hk hN)]
  exact kk
theorem fd_iast (hexec : p.tables.exec = Jvm.exec) (hb : c.code = cc) (hK : va_K D vwCl tys s) (hP : va_P D vwCl w H) (hD : va_D A w) (hS : va_S A s.heap H locs) (q0 t0 : Nat) {a : Nat} {cA : ClassId} {N : Nat} {f : Nat → Int32} (ha : w[q0]? = some (a, .inl (cA, N, .inl f))) (ht : tys[t0]? = some (cA, .int)) {k : Nat} {x : Int32} (hk : k < N) (hN : N < 2 ^ 31) (hdg : decode cc pc = .ok (.iastore, 1))
    (kk : ∀ (H1 : Heap) (locs1 : List Loc), va_P D vwCl (w.set q0 (a, .inl (cA, N, .inl (upd f k x)))) H1 → va_D A (w.set q0 (a, .inl (cA, N, .inl (upd f k x)))) → va_S A s.heap H1 locs1 → W p l e R s m args below meth c H1 locs1 cells slots Q (F0 m (pc + 1) ls rest)) : W p l e R s m args below meth c H locs cells slots Q (F0 m pc ls (.int x :: .int (nI k) :: .ref a :: rest)) := by
  refine va_iast hexec hb hK hP hD hS q0 t0 ha ht (vp_in_nI hk hN) hdg (fun H1 locs1 hP1 hD1 hS1 => ?_)
  rw [nI_clamp (Nat.lt_trans hk hN)] at hP1 hD1
  exact kk H1 locs1 hP1 hD1 hS1
theorem fd_zast (hexec : p.tables.exec = Jvm.exec) (hb : c.code = cc) (hK : va_K D vwCl tys s) (hP : va_P D vwCl w H) (hD : va_D A w) (hS : va_S A s.heap H locs) (q0 t0 : Nat) {a : Nat} {cA : ClassId} {N : Nat} {f : Nat → Int32} (ha : w[q0]? = some (a, .inl (cA, N, .inl f))) (ht : tys[t0]? = some (cA, .boolean)) {k : Nat} {x : Int32} (hx : vp_nar .boolean x = x) (hk : k < N) (hN : N < 2 ^ 31) (hdg : decode cc pc = .ok (.bastore, 1))
    (kk : ∀ (H1 : Heap) (locs1 : List Loc), va_P D vwCl (w.set q0 (a, .inl (cA, N, .inl (upd f k x)))) H1 → va_D A (w.set q0 (a, .inl (cA, N, .inl (upd f k x)))) → va_S A s.heap H1 locs1 → W p l e R s m args below meth c H1 locs1 cells slots Q (F0 m (pc + 1) ls rest)) : W p l e R s m args below meth c H locs cells slots Q (F0 m pc ls (.int x :: .int (nI k) :: .ref a :: rest)) := by
  refine va_zast hexec hb hK hP hD hS q0 t0 ha ht (vp_in_nI hk hN) hdg (fun H1 locs1 hP1 hD1 hS1 => ?_)
  rw [nI_clamp (Nat.lt_trans hk hN), hx] at hP1 hD1
  exact kk H1 locs1 hP1 hD1 hS1
end fd_base
end
section
/-! WORLDS of the two classes, and WHAT EACH METHOD COMPUTES, word for word, as functions (Int32 as the machine has them; counters as Nat) -/
abbrev xW (g : Nat → Nat) (d : Nat → ClassId) (S V : Nat → Int32) (n cnt : Nat) (R U : Nat → Int32) (N : Nat) (B L X : Int32) : va_W := [(g 0, .inr (0, [.ref (g 1), .ref (g 2), .ref (g 3), .ref (g 4), .int (nI n), .int (nI cnt), .int (nI N), .int B, .int L, .int X])), (g 1, .inl (d 1, 16, .inl S)), (g 2, .inl (d 2, 16, .inl V)), (g 3, .inl (d 3, 8, .inl R)), (g 4, .inl (d 4, 8, .inl U))]
abbrev xT (d : Nat → ClassId) : List (ClassId × FieldType) := [(d 1, .int), (d 2, .int), (d 3, .int), (d 4, .int)]
abbrev yW (g : Nat → Nat) (d : Nat → ClassId) (S V : Nat → Int32) (n cnt : Nat) (O T : Nat → Int32) (sm al : Int32) : va_W := [(g 0, .inr (1, [.ref (g 1), .ref (g 2), .ref (g 3), .ref (g 4), .int (nI n), .int (nI cnt), .int sm, .int al])), (g 1, .inl (d 1, 16, .inl S)), (g 2, .inl (d 2, 16, .inl V)), (g 3, .inl (d 3, 256, .inl O)), (g 4, .inl (d 4, 256, .inl T))]
abbrev yT (d : Nat → ClassId) : List (ClassId × FieldType) := [(d 1, .int), (d 2, .int), (d 3, .boolean), (d 4, .boolean)]
/-- the rows: their sets, their values, how many, sound, left, leftValue -/
abbrev raST : Type := (Nat → Int32) × (Nat → Int32) × Nat × Int32 × Int32 × Int32
/-- the symbols: sets, values, how many -/
abbrev syST : Type := (Nat → Int32) × (Nat → Int32) × Nat
def bI (b : Bool) : Int32 := if b = true then 1 else 0
def alB (f : Nat → Bool) : Nat → Bool
  | 0 => true
  | k + 1 => alB f k && f k
def onesM (a : Int32) : Nat → Int32
  | 0 => 0
  | k + 1 => onesM a k + ((a >>> (nI k &&& 31)) &&& 1)
def topM : Nat → Int32 → Int32
  | 0, _ => 1
  | j + 1, a => if a &&& nI (2 ^ (j + 1)) = 0 then topM j a else nI (2 ^ (j + 1))
def drS (n X : Nat) : Nat → Nat
  | 0 => 0
  | k + 1 => drS n X k ^^^ 2 ^ (X / n ^ k % n)
def drX (j : Nat) : Nat := j * 7919 + 104729
def drN (n j : Nat) : Nat := if drS n (drX j) (1 + drX j / 7 % 3) = 0 then 1 else drS n (drX j) (1 + drX j / 7 % 3)
def soM (n : Nat) (r : Int32) : Int32 := if r < 0 ∨ 9999 < r then -1 else nI (drN n r.toNatClampNeg)
def rcF (n : Nat) (S V : Nat → Int32) (cnt : Nat) (a b : Int32) : Int32 × syST :=
  if a < 1 ∨ nI (2 ^ n) ≤ a then (-1, S, V, cnt) else if b < 0 ∨ 255 < b then (-2, S, V, cnt) else if cnt = 16 then (-3, S, V, cnt) else (nI cnt, upd S cnt a, upd V cnt b, cnt + 1)
def dwF (n : Nat) (S V : Nat → Int32) (cnt : Nat) (a b : Int32) : Int32 × syST :=
  if a < 0 ∨ 9999 < a then (-1, S, V, cnt) else if b < 0 ∨ 255 < b then (-2, S, V, cnt) else if cnt = 16 then (-3, S, V, cnt) else (nI (drN n a.toNatClampNeg), upd S cnt (nI (drN n a.toNatClampNeg)), upd V cnt b, cnt + 1)
def loS (S : Nat → Int32) (i : Nat) : Nat → Nat → Int32
  | 0 => S
  | j + 1 => upd (loS S i j) (i + j) (loS S i j (i + j + 1))
def loF (S V : Nat → Int32) (cnt : Nat) (a : Int32) : Int32 × syST :=
  if a < 0 ∨ nI cnt ≤ a then (-1, S, V, cnt) else (nI (cnt - 1), loS S a.toNatClampNeg (cnt - 1 - a.toNatClampNeg), loS V a.toNatClampNeg (cnt - 1 - a.toNatClampNeg), cnt - 1)
-- FountainDecoder
def rdM (R U : Nat → Int32) (a b : Int32) : Nat → Int32 × Int32
  | 0 => (a, b)
  | k + 1 => if (rdM R U a b k).1 &&& topM 7 (R k) = 0 then rdM R U a b k else ((rdM R U a b k).1 ^^^ R k, (rdM R U a b k).2 ^^^ U k)
def enL (R U : Nat → Int32) (t a b : Int32) : Nat → (Nat → Int32) × (Nat → Int32)
  | 0 => (R, U)
  | k + 1 => if (enL R U t a b k).1 k &&& t = 0 then enL R U t a b k else (upd (enL R U t a b k).1 k ((enL R U t a b k).1 k ^^^ a), upd (enL R U t a b k).2 k ((enL R U t a b k).2 k ^^^ b))
def enM (R U : Nat → Int32) (N : Nat) (B a b : Int32) : raST :=
  if (rdM R U a b N).1 = 0 then (R, U, N, (if B = 0 then 0 else if (rdM R U a b N).2 = 0 then 1 else 0), (rdM R U a b N).1, (rdM R U a b N).2)
  else (upd (enL R U (topM 7 (rdM R U a b N).1) (rdM R U a b N).1 (rdM R U a b N).2 N).1 N (rdM R U a b N).1, upd (enL R U (topM 7 (rdM R U a b N).1) (rdM R U a b N).1 (rdM R U a b N).2 N).2 N (rdM R U a b N).2, N + 1, B, (rdM R U a b N).1, (rdM R U a b N).2)
def raM (S V : Nat → Int32) (wo : Int32) (st : raST) : Nat → raST
  | 0 => st
  | k + 1 => if nI k = wo then raM S V wo st k else enM (raM S V wo st k).1 (raM S V wo st k).2.1 (raM S V wo st k).2.2.1 (raM S V wo st k).2.2.2.1 (S k) (V k)
/-- all symbols but one, from whatever lay in the rows before -/
def raA (S V : Nat → Int32) (cnt : Nat) (wo : Int32) (R U : Nat → Int32) (L X : Int32) : raST := raM S V wo (R, U, 0, 1, L, X) cnt
/-- the rows never run out -/
def raOK (S V : Nat → Int32) (cnt : Nat) : Prop := ∀ (wo : Int32) (R U : Nat → Int32) (L X : Int32) (k : Nat), k ≤ cnt → (raM S V wo (R, U, 0, 1, L, X) k).2.2.1 ≤ 8 ∧ (k < cnt → ¬ nI k = wo → ¬ (rdM (raM S V wo (R, U, 0, 1, L, X) k).1 (raM S V wo (R, U, 0, 1, L, X) k).2.1 (S k) (V k) (raM S V wo (R, U, 0, 1, L, X) k).2.2.1).1 = 0 → (raM S V wo (R, U, 0, 1, L, X) k).2.2.1 < 8)
def knM (R : Nat → Int32) (B : Int32) : Nat → Int32
  | 0 => 0
  | k + 1 => if B = 0 then knM R B k else if R k &&& (R k - 1) = 0 then knM R B k ||| R k else knM R B k
def knU (u : raST) : Int32 := knM u.1 u.2.2.2.1 u.2.2.1
def seM (B : Int32) (q : Int32 × Int32) : Int32 := if B = 0 then -1 else if q.1 = 0 then q.2 else -1
def unM (a : Int32) : Int32 := if a &&& (a - 1) = 0 then a else 0
def whR (R : Nat → Int32) (f t : Int32) (k : Nat) : Int32 := if R k &&& t = 0 then R k else R k ^^^ f
def whL (R : Nat → Int32) (f t : Int32) : Nat → Int32
  | 0 => unM f
  | k + 1 => whL R f t k ||| unM (whR R f t k)
def whM (R U : Nat → Int32) (N : Nat) (a now : Int32) : Int32 := if whL R (rdM R U a 0 N).1 (topM 7 (rdM R U a 0 N).1) N &&& (now ^^^ (-1)) = 0 then 0 else 1
def plO (S : Nat → Int32) (a : Int32) (k : Nat) : Int32 := S k &&& (a ^^^ (-1))
def plM (S : Nat → Int32) (a : Int32) : Nat → Int32
  | 0 => a
  | k + 1 => if plO S (plM S a k) k &&& (plO S (plM S a k) k - 1) = 0 then plM S a k ||| plO S (plM S a k) k else plM S a k
def prM (S : Nat → Int32) (cnt : Nat) : Nat → Int32 → Int32
  | 0, a => a
  | j + 1, a => if a = plM S a cnt then plM S a cnt else prM S cnt j (plM S a cnt)
def ppM (S : Nat → Int32) (n cnt : Nat) (a : Int32) : Int32 := prM S cnt (n + 1) a
def isM (n : Nat) (a : Int32) : Int32 := if a < 0 ∨ nI (2 ^ n) ≤ a then 0 else 1
def idM (n : Nat) (pf : Int32 → Int32) (a : Int32) : Int32 := if a < 0 ∨ nI (2 ^ n) ≤ a then -1 else if pf a = nI (2 ^ n - 1) then 1 else 0
def sdM (S : Nat → Int32) (n cnt : Nat) : Nat → Int32
  | 0 => nI (2 ^ n - 1)
  | k + 1 => if onesM (sdM S n cnt k) 8 ≤ onesM (nI k) 8 then sdM S n cnt k else if ppM S n cnt (nI k) = nI (2 ^ n - 1) then nI k else sdM S n cnt k
def coM (u : raST) : Int32 := if u.2.2.2.1 = 0 then 0 else 1
def neM (a : Int32) : Int32 := if a < 0 then -2 else a
def seU (u : raST) (a : Int32) : Int32 := seM u.2.2.2.1 (rdM u.1 u.2.1 a 0 u.2.2.1)
def vaM (n : Nat) (u : raST) (a : Int32) : Int32 := if a < 0 ∨ nI n ≤ a then -1 else neM (seU u ((1 : Int32) <<< (a &&& 31)))
def smM (n : Nat) (u : raST) (a : Int32) : Int32 := if a < 0 ∨ nI (2 ^ n) ≤ a then -1 else neM (seU u a)
def spM (kf : Int32 → Int32) : Nat → Int32
  | 0 => 0
  | k + 1 => if kf (-1) &&& (kf (nI k) ^^^ (-1)) = 0 then spM kf k + 1 else spM kf k
/-- r is the first number below N with c, or -1 -/
def fdP (c : Nat → Prop) (N : Nat) (r : Int32) : Prop := (∃ j, j < N ∧ (∀ i, i < j → ¬ c i) ∧ c j ∧ r = nI j) ∨ ((∀ i, i < N → ¬ c i) ∧ r = -1)
def usC (n : Nat) (u : raST) (j : Nat) : Prop := seU u (nI (drN n j)) < 0 ∧ ¬ whM u.1 u.2.1 u.2.2.1 (nI (drN n j)) (knU u) = 0
def usP (n : Nat) (u : raST) (r : Int32) : Prop := (u.2.2.2.1 = 0 ∧ r = -1) ∨ (¬ u.2.2.2.1 = 0 ∧ fdP (usC n u) 10000 r)
-- FountainDecoderModel
def bsM (n : Nat) (a : Int32) : Int32 := if a < 0 ∨ nI (2 ^ n) ≤ a then 1 else 0
def sgM (a : Int32) : Int32 := if a = 0 then 0 else if a &&& (a - 1) = 0 then 1 else 0
def dueM (V : Nat → Int32) (bit : Int32) (i : Nat) : Int32 := if (V i >>> (bit &&& 31)) &&& 1 = 1 then 1 else 0
def svK (S V O : Nat → Int32) (a bit lf : Int32) (i : Nat) : Bool := decide (nI i = lf) || decide (O (a &&& S i).toNatClampNeg = dueM V bit i)
def svB (S V O : Nat → Int32) (cnt : Nat) (a bit lf : Int32) : Bool := alB (svK S V O a bit lf) cnt
def slM (S V O : Nat → Int32) (n cnt : Nat) (bit lf : Int32) : Nat → Bool × Int32 × Int32
  | 0 => (false, 0, nI (2 ^ n - 1))
  | a + 1 => if svB S V O cnt (nI a) bit lf = true then (true, (slM S V O n cnt bit lf a).2.1 ||| nI a, (slM S V O n cnt bit lf a).2.2 &&& nI a) else slM S V O n cnt bit lf a
def slA (S V O : Nat → Int32) (n cnt : Nat) (lf : Int32) (bit : Nat) : Bool × Int32 × Int32 := slM S V O n cnt (nI bit) lf (2 ^ n)
def kwO (S V O : Nat → Int32) (n cnt : Nat) (lf : Int32) : Nat → Int32
  | 0 => 0
  | k + 1 => kwO S V O n cnt lf k ||| ((slA S V O n cnt lf k).2.1 ^^^ (slA S V O n cnt lf k).2.2)
def kwM (S V O : Nat → Int32) (n cnt : Nat) (lf : Int32) : Int32 := if alB (fun b => (slA S V O n cnt lf b).1) 8 = true then nI (2 ^ n - 1) - kwO S V O n cnt lf 8 else 0
def c2M (S V O : Nat → Int32) (n cnt : Nat) : Int32 := bI (alB (fun b => (slA S V O n cnt (-1) b).1) 8)
def kdM (S V O : Nat → Int32) (cnt : Nat) (set bit : Int32) : Nat → Int32
  | 0 => 0
  | a + 1 => if svB S V O cnt (nI a) bit (-1) = true then kdM S V O cnt set bit a ||| (if O (nI a &&& set).toNatClampNeg = 0 then 1 else 2) else kdM S V O cnt set bit a
def kdA (S V O : Nat → Int32) (n cnt : Nat) (set : Int32) (bit : Nat) : Int32 := kdM S V O cnt set (nI bit) (2 ^ n)
def suM (S V O : Nat → Int32) (n cnt : Nat) (set : Int32) : Nat → Int32
  | 0 => 0
  | b + 1 => if kdA S V O n cnt set b = 2 then suM S V O n cnt set b ||| ((1 : Int32) <<< (nI b &&& 31)) else suM S V O n cnt set b
def s2M (S V O : Nat → Int32) (n cnt : Nat) (a : Int32) : Int32 := if a < 0 ∨ nI (2 ^ n) ≤ a then -1 else if alB (fun b => decide (¬ kdA S V O n cnt a b = 0 ∧ ¬ kdA S V O n cnt a b = 3)) 8 = true then suM S V O n cnt a 8 else -2
def v2M (S V O : Nat → Int32) (n cnt : Nat) (a : Int32) : Int32 := if a < 0 ∨ nI n ≤ a then -1 else s2M S V O n cnt ((1 : Int32) <<< (a &&& 31))
def pl2 (S : Nat → Int32) (a : Int32) : Nat → Int32
  | 0 => a
  | k + 1 => if sgM (plO S (pl2 S a k) k) = 0 then pl2 S a k else pl2 S a k ||| plO S (pl2 S a k) k
def pr2 (S : Nat → Int32) (cnt : Nat) (a : Int32) : Nat → Int32
  | 0 => a
  | j + 1 => pl2 S (pr2 S cnt a j) cnt
def pq2 (S : Nat → Int32) (n cnt : Nat) (a : Int32) : Int32 := pr2 S cnt a n
def sd2 (S : Nat → Int32) (n cnt : Nat) : Nat → Int32 × Int32
  | 0 => (nI (2 ^ n - 1), nI n)
  | k + 1 => if (sd2 S n cnt k).2 ≤ onesM (nI k) 8 then sd2 S n cnt k else if idM n (pq2 S n cnt) (nI k) = 1 then (nI k, onesM (nI k) 8) else sd2 S n cnt k
def sp2 (kf : Int32 → Int32) : Nat → Int32
  | 0 => 0
  | k + 1 => if kf (nI k) &&& kf (-1) = kf (-1) then sp2 kf k + 1 else sp2 kf k
def hpL (S V O : Nat → Int32) (n cnt : Nat) (set : Int32) : Nat → Bool × Int32 × Int32
  | 0 => (false, 0, nI (2 ^ n - 1))
  | a + 1 => if O (nI a &&& set).toNatClampNeg = 0 then (if svB S V O cnt (nI a) 0 (-1) = true then (true, (hpL S V O n cnt set a).2.1 ||| nI a, (hpL S V O n cnt set a).2.2 &&& nI a) else hpL S V O n cnt set a) else hpL S V O n cnt set a
def hpM (S V O : Nat → Int32) (n cnt : Nat) (set bef : Int32) : Int32 := if (hpL S V O n cnt set (2 ^ n)).1 = true then (if nI (2 ^ n - 1) - ((hpL S V O n cnt set (2 ^ n)).2.1 ^^^ (hpL S V O n cnt set (2 ^ n)).2.2) = bef then 0 else 1) else 0
def u2P (S V O : Nat → Int32) (n cnt : Nat) (r : Int32) : Prop := (c2M S V O n cnt = 0 ∧ r = -1) ∨ (¬ c2M S V O n cnt = 0 ∧ fdP (fun j => ¬ hpM S V O n cnt (nI (drN n j)) (kwM S V O n cnt (-1)) = 0) 10000 r)
def tkI (T : Nat → Int32) : Nat → Nat → Int32
  | 0 => T
  | k + 1 => upd (tkI T k) k (if nI k = 0 then 1 else 0)
def tkS (T : Nat → Int32) (a : Int32) : Nat → Nat → Int32
  | 0 => T
  | k + 1 => if tkS T a k k = 0 then tkS T a k else upd (tkS T a k) (nI k ^^^ a).toNatClampNeg 1
def tkR (T S : Nat → Int32) : Nat → Nat → Int32
  | 0 => tkI T 256
  | i + 1 => tkS (tkR T S i) (S i) 256
def tkC (T : Nat → Int32) : Nat → Nat
  | 0 => 0
  | k + 1 => if T k = 0 then tkC T k else tkC T k + 1
def lgM (c : Nat) : Nat → Nat → Nat
  | 0, r => r
  | j + 1, r => if c ≤ 2 ^ r then r else lgM c j (r + 1)
def rkM (T S : Nat → Int32) (cnt : Nat) : Int32 := nI (lgM (tkC (tkR T S cnt) 256) 8 0)
def odI : Nat → Nat → Int32
  | 0 => fun _ => 0
  | k + 1 => upd (odI k) k (if onesM (nI k) 8 - onesM (nI k) 8 / 2 * 2 = 1 then 1 else 0)
/-- the sets of the symbols are sets of at most 8 blocks -/
def gdS (S : Nat → Int32) (cnt : Nat) : Prop := ∀ j, j < cnt → ∃ v : Nat, v < 256 ∧ S j = nI v
/-! numbers -/
theorem alB_false {f : Nat → Bool} {k : Nat} (h : f k = false) : ∀ m, k < m → alB f m = false := by
  intro m
  induction m with
  | zero => intro hk; exact absurd hk (Nat.not_lt_zero _)
  | succ m ih =>
    intro hk
    show (alB f m && f m) = false
    rcases Nat.lt_or_ge k m with q | q
    · rw [ih q]; rfl
    · have : k = m := by omega
      subst this
      rw [h]; exact Bool.and_false _
theorem alB_true {f : Nat → Bool} : ∀ {m : Nat}, alB f m = true ↔ ∀ k, k < m → f k = true := by
  intro m
  induction m with
  | zero => exact ⟨fun _ k hk => absurd hk (Nat.not_lt_zero _), fun _ => rfl⟩
  | succ m ih =>
    show (alB f m && f m) = true ↔ _
    rw [Bool.and_eq_true, ih]
    constructor
    · intro h k hk
      rcases Nat.lt_or_ge k m with q | q
      · exact h.1 k q
      · have : k = m := by omega
        subst this; exact h.2
    · intro h
      exact ⟨fun k hk => h k (by omega), h m (by omega)⟩
theorem fd_pw0 : ∀ n, n < 9 → (1 : Int32) <<< (nI n &&& 31) = nI (2 ^ n) := by decide +kernel
theorem fd_pw {n : Nat} (h : n ≤ 8) : (1 : Int32) <<< (nI n &&& 31) = nI (2 ^ n) := fd_pw0 n (by omega)
theorem fd_p1 {n : Nat} (h : n ≤ 8) : 1 ≤ 2 ^ n ∧ 2 ^ n ≤ 256 := ⟨Nat.one_le_two_pow, Nat.pow_le_pow_right (by decide) h⟩
theorem fd_pred {k : Nat} (h : 1 ≤ k) : nI k - 1 = nI (k - 1) := by
  have := pk_sub (a := k) (b := 1) h
  exact this
theorem fd_xor (a b : Nat) : nI a ^^^ nI b = nI (a ^^^ b) := by
  apply Int32.toBitVec_inj.mp
  show BitVec.ofNat 32 a ^^^ BitVec.ofNat 32 b = BitVec.ofNat 32 (a ^^^ b)
  exact BitVec.ofNat_xor.symm
theorem fd_and (a b : Nat) : nI a &&& nI b = nI (a &&& b) := by
  apply Int32.toBitVec_inj.mp
  show BitVec.ofNat 32 a &&& BitVec.ofNat 32 b = BitVec.ofNat 32 (a &&& b)
  exact BitVec.ofNat_and.symm
theorem fd_or (a b : Nat) : nI a ||| nI b = nI (a ||| b) := by
  apply Int32.toBitVec_inj.mp
  show BitVec.ofNat 32 a ||| BitVec.ofNat 32 b = BitVec.ofNat 32 (a ||| b)
  exact BitVec.ofNat_or.symm
theorem fd_half : ∀ j, j < 8 → nI (2 ^ (j + 1)) >>> ((1 : Int32) &&& 31) = nI (2 ^ j) := by decide +kernel
theorem fd_nar (b : Bool) : narrow .boolean (.int (bI b)) = .int (bI b) := by cases b <;> rfl
theorem fd_nb {a : Int32} (h : a = 0 ∨ a = 1) : narrow .boolean (.int a) = .int a := by rcases h with h | h <;> rw [h] <;> rfl
theorem fd_vb {a : Int32} (h : a = 0 ∨ a = 1) : vp_nar .boolean a = a := by rcases h with h | h <;> rw [h] <;> rfl
theorem fd_in {a b : Int32} {v : Nat} (h : v < 256) (e : b = nI v) : vp_in (a &&& b) 256 := by
  rw [vp_in_iff, e]
  have h1 : (a &&& nI v).toBitVec.toNat ≤ v := by
    show (a.toBitVec &&& BitVec.ofNat 32 v).toNat ≤ v
    rw [BitVec.toNat_and, BitVec.toNat_ofNat, Nat.mod_eq_of_lt (by omega)]
    exact Nat.and_le_right
  have h2 : (a &&& nI v).toInt = ((a &&& nI v).toBitVec.toNat : Int) := by
    show (a &&& nI v).toBitVec.toInt = _
    rw [BitVec.toInt_eq_toNat_of_lt (by omega)]
  omega
theorem fd_raw {x : Int32} {n : Nat} (hn : n < 2 ^ 31) (h0 : ¬ x < 0) (h1 : ¬ nI n ≤ x) : ∃ j : Nat, j < n ∧ x = nI j := by
  rcases pk_ix x hn with q | q | q
  · exact absurd q h0
  · exact absurd q h1
  · exact q
theorem drS_lt {n X : Nat} (h1 : 1 ≤ n) (h : n ≤ 8) : ∀ k, drS n X k < 2 ^ 8 := by
  intro k
  induction k with
  | zero => exact Nat.two_pow_pos 8
  | succ k ih =>
    refine Nat.xor_lt_two_pow ih ?_
    exact Nat.pow_lt_pow_right (by decide) (Nat.lt_of_lt_of_le (Nat.mod_lt _ (by omega)) h)
theorem drN_lt {n j : Nat} (h1 : 1 ≤ n) (h : n ≤ 8) : drN n j < 256 := by
  unfold drN
  split
  · decide
  · exact drS_lt h1 h _
theorem isM_0 {n : Nat} {a : Int32} : isM n a = 0 ↔ (a < 0 ∨ nI (2 ^ n) ≤ a) := by
  unfold isM
  by_cases q : a < 0 ∨ nI (2 ^ n) ≤ a
  · rw [if_pos q]; exact ⟨fun _ => q, fun _ => rfl⟩
  · rw [if_neg q]; exact ⟨fun h => absurd h (by decide), fun h => absurd h q⟩
theorem bsM_0 {n : Nat} {a : Int32} : bsM n a = 0 ↔ ¬ (a < 0 ∨ nI (2 ^ n) ≤ a) := by
  unfold bsM
  by_cases q : a < 0 ∨ nI (2 ^ n) ≤ a
  · rw [if_pos q]; exact ⟨fun h => absurd h (by decide), fun h => absurd q h⟩
  · rw [if_neg q]; exact ⟨fun _ => q, fun _ => rfl⟩
theorem fd_9999 {a : Int32} : a < 10000 ↔ ¬ 9999 < a := by
  rw [Int32.lt_iff_toInt_lt, Int32.lt_iff_toInt_lt, show (10000 : Int32).toInt = 10000 from by decide, show (9999 : Int32).toInt = 9999 from by decide]
  omega
theorem fd_dr {a : Int32} (h0 : ¬ a < 0) (h1 : a < 10000) : ∃ j : Nat, j < 10000 ∧ a = nI j := fd_raw (n := 10000) (by decide) h0 (Int32.not_le.mpr h1)
end
section
/-! small rows for the walks of FountainDecoderModel -/
theorem bI_0 {b : Bool} : bI b = 0 ↔ b = false := by cases b <;> decide
theorem bI_n0 {b : Bool} : ¬ bI b = 0 ↔ b = true := by cases b <;> decide
theorem bsM_n0 {n : Nat} {a : Int32} : ¬ bsM n a = 0 ↔ (a < 0 ∨ nI (2 ^ n) ≤ a) := by
  rw [bsM_0, Decidable.not_not]
theorem soM_nI {n j : Nat} (h : j < 10000) : soM n (nI j) = nI (drN n j) := by
  have h1 : ¬ nI j < 0 := nI_pos (by omega)
  have h2 : ¬ (9999 : Int32) < nI j := nI_nlt (a := 9999) (b := j) (by omega) (by decide)
  rw [soM, if_neg (fun h => h.elim h1 h2), nI_clamp (by omega)]
theorem fd_lt1 {a : Int32} : a < 1 ↔ (a < 0 ∨ a = 0) := by
  rw [Int32.lt_iff_toInt_lt, Int32.lt_iff_toInt_lt, ← Int32.toInt_inj, show (1 : Int32).toInt = 1 from by decide, show (0 : Int32).toInt = 0 from by decide]
  omega
theorem rc_bad {n : Nat} {a : Int32} (h : ¬ bsM n a = 0) : a < 1 ∨ nI (2 ^ n) ≤ a := (bsM_n0.mp h).imp (fun q => fd_lt1.mpr (Or.inl q)) id
theorem rc_zero {n : Nat} {a : Int32} (h : a = 0) : a < 1 ∨ nI (2 ^ n) ≤ a := Or.inl (fd_lt1.mpr (Or.inr h))
theorem rc_ok {n : Nat} {a : Int32} (h : bsM n a = 0) (h0 : ¬ a = 0) : ¬ (a < 1 ∨ nI (2 ^ n) ≤ a) := by
  intro q
  rcases q with q | q
  · rcases fd_lt1.mp q with r | r
    · exact bsM_0.mp h (Or.inl r)
    · exact h0 r
  · exact bsM_0.mp h (Or.inr q)
theorem fd_inx {k : Nat} {b : Int32} (h : k < 256) (e : ∃ v : Nat, v < 256 ∧ b = nI v) : vp_in (nI k ^^^ b) 256 := by
  obtain ⟨v, hv, rfl⟩ := e
  rw [fd_xor]
  exact vp_in_nI (Nat.xor_lt_two_pow (n := 8) h hv) (by decide)
theorem tkC_le (T : Nat → Int32) : ∀ k, tkC T k ≤ k := by
  intro k
  induction k with
  | zero => exact Nat.le_refl _
  | succ k ih =>
    unfold tkC
    split
    · omega
    · omega
end
section
/-! constructors: a contract that makes cells -/
def fd_N {T : Type} (l : Launch) (y : MethodName) (ws : List Cond) (rm : Room) (D : va_G) (av : List Value) (w0 : va_W) (post : T → Prop) (w1 : T → va_W) (tys1 : T → List (ClassId × FieldType)) (mc ms : Nat) : Prop :=
  ∀ sz : Nat, Met l y ws rm (va_Pc av (fd_Pre D [] w0 sz)) (va_Qv post (fun u t => va_P D vwCl (w1 u) t.heap ∧ va_K D vwCl (tys1 u) t ∧ va_D (va_A w0 sz) (w1 u)) (va_A w0 sz)) mc ms (va_A w0 sz)
set_option maxHeartbeats 1000000 in
theorem fd_Nof {T : Type} {l : Launch} {y : MethodName} {cc : ByteArray} {maxL : Nat} {rm : Room} {D : va_G} {av : List Value} {w0 : va_W} {post : T → Prop} {w1 : T → va_W} {tys1 : T → List (ClassId × FieldType)} {mc ms : Nat} {lv : List (Nat × Value)} {own : String}
    (how : y.cls = own) (hyn : y.name = "<init>") (hy : plainName y.cls = true) (hlen : (lg_sl av).length ≤ maxL) (hlv : lv_args 0 av = lv)
    (body : ∀ (p : Program) (e : Env) (s : State) (m : MethodId) (below : List Frame) (meth : Method) (c : Code) (A : Nat → Prop) (ls : Array Slot) (Q : State → Prop),
      CallFix p m c cc maxL s av.toArray lw_all own → meth.name = "<init>" → va_K D vwCl [] s → va_P D vwCl w0 s.heap → va_D A w0 → (∀ q : Nat, s.heap.size ≤ q → A q) → lv_has ls maxL lv →
      (∀ (u : T) (pc : Nat) (H : Heap) (locs : List Loc) (ls : Array Slot), decode cc pc = .ok (.return_, 1) → (post u ∧ va_K D vwCl (tys1 u) s) → va_P D vwCl (w1 u) H → va_D A (w1 u) → va_S A s.heap H locs → W p l e rm s m av.toArray below meth c H locs mc ms Q (F0 m pc ls [])) →
      W p l e rm s m av.toArray below meth c s.heap [] 0 0 Q (F0 m 0 ls [])) :
    fd_N l y (ws_ y cc maxL none) rm D av w0 post w1 tys1 mc ms := by
  intro sz
  refine Met.ofW (cc := cc) (maxL := maxL) (ret := none) hy rfl ?_
  intro p e s m args below meth c s₁ B hml hv
  obtain ⟨rfl, hsz, hP, hK, hD0⟩ := hv
  have hts := atoms_spec (ws := ws_ y cc maxL none) B.pre
  have hts : ∀ w ∈ lw_all, w.before _ s = true := fun w h => hts w (List.mem_cons_of_mem _ h)
  have hown : s.vm.findClass y.cls = some m.cls := findClass_of_methodNamed B.named
  rw [how] at hown
  have hlocks := B.notSynchronized
  have hin : meth.name = "<init>" := hyn ▸ (name_of_methodNamed B.named B.method).1
  subst hsz
  have hD := hD0.self (sz := s.heap.size)
  have hl := lv_entry av (n := maxL) hlen
  rw [hlv] at hl
  rw [lg_entry_eq]
  generalize (lg_sl av ++ List.replicate (maxL - (lg_sl av).length) Slot.unset).toArray = ls at hl ⊢
  refine body p e s m below meth c (va_A w0 s.heap.size) ls _ ⟨B.exec, B.bytes, hml, hown, hts⟩ hin hK hP hD (fun q h => Or.inr h) hl ?_
  intro u pc H locs ls hdg hp hP1 hD1 hS
  exact W.vret B.exec B.bytes B.returns (fun t ht hW => ⟨⟨u, rfl, hp.1, by rw [ht]; exact hP1, va_K.moved hW.alike hp.2, hD1⟩, hS.F ht⟩) hS.2.2 hdg
/-- the number of blocks -/
def nCl (a : Int32) : Nat := if a < 1 then 1 else if 8 < a then 8 else a.toNatClampNeg
theorem nCl_lo {a : Int32} (h : ¬ 1 ≤ a) : nCl a = 1 := if_pos (Int32.not_le.mp h)
theorem nCl_mid {k : Nat} (hk : k < 2 ^ 31) (h : (1 : Int32) ≤ nI k) (h8 : k ≤ 8) : nCl (nI k) = k := by
  rw [nCl, if_neg (Int32.not_lt.mpr h), if_neg (show ¬ (8 : Int32) < nI k from nI_nlt (a := 8) (b := k) h8 (by decide)), nI_clamp hk]
theorem nCl_hi {k : Nat} (hk : k < 2 ^ 31) (h : (1 : Int32) ≤ nI k) (h8 : ¬ k ≤ 8) : nCl (nI k) = 8 := by
  rw [nCl, if_neg (Int32.not_lt.mpr h), if_pos (show (8 : Int32) < nI k from nI_lt (a := 8) (b := k) (by omega) hk)]
theorem fd_ge1 {a : Int32} (h : 1 ≤ a) : ¬ a < 0 := by
  rw [Int32.lt_iff_toInt_lt]
  rw [Int32.le_iff_toInt_le] at h
  rw [show (1 : Int32).toInt = 1 from by decide] at h
  rw [show (0 : Int32).toInt = 0 from by decide]
  omega
theorem nCl_in (a : Int32) : 1 ≤ nCl a ∧ nCl a ≤ 8 := by
  by_cases h : 1 ≤ a
  · obtain ⟨k, hk, rfl⟩ := nI_of (fd_ge1 h)
    have h1 : 1 ≤ k := (nI_leI (a := 1) (b := k) (by decide) hk).mp h
    by_cases h8 : k ≤ 8
    · rw [nCl_mid hk h h8]; omega
    · rw [nCl_hi hk h h8]; omega
  · rw [nCl_lo h]; omega
end
section
/-! FountainDecoder: topBit, ones, isSet, put, drawn -/
abbrev rmX1_topBit : Room := { frames := 0, cells := 0, slots := 0, locals := 0 }
set_option maxHeartbeats 4000000 in
set_option maxRecDepth 100000 in
theorem metX1_topBit (l : Launch) (D : va_G)  (a : Int32)  : fd_I l yX1_topBit (ws_ yX1_topBit cX1_topBit 2 (some .int)) rmX1_topBit D [] [.int a] ([]) (fun (r : Int32) (u : Unit) => r = topM 7 a) (fun (u : Unit) => []) := by
  refine fd_Iof (lv := [(0, .int a)]) rfl (by decide) (Nat.le_of_ble_eq_true rfl) rfl ?_
  intro p e s m below meth c A ls Q S0 hK hP hD hA hl hret
  obtain ⟨hx, hb, hml, hown, hts⟩ := id S0
  have hS : va_S A s.heap s.heap [] := va_S.rf
  refine lv_sipush (v := nI (2 ^ 7)) hx hb dX1_topBit_0 (by decide) ?_
  refine lv_istore_n (lv' := [(1, .int (nI (2 ^ 7))), (0, .int a)]) hx hb dX1_topBit_3 rfl hl (by decide) rfl (fun ls hl => ?_)
  have LP4 : ∀ (Nf4 : Nat) (j : Nat) (H : Heap) (locs : List Loc) (ls : Array Slot), j < Nf4 → (j ≤ 7) → (topM j a = topM 7 a) → va_P D vwCl ([]) H → va_D A ([]) → va_S A s.heap H locs → lv_has ls 2 [(0, .int a), (1, .int (nI (2 ^ j)))] → W p l e rmX1_topBit s m ([.int a] : List Value).toArray below meth c H locs 0 0 Q (F0 m 4 ls []) := by
    intro Nf4
    induction Nf4 with
    | zero => intro j H locs ls hmu; exact absurd hmu (Nat.not_lt_zero _)
    | succ Nf4 ih4 =>
      intro j H locs ls hmu4 hj ht hP hD hS hl
      have h2 : 2 ^ j ≤ 2 ^ 7 := Nat.pow_le_pow_right (by decide) hj
      refine lv_iload_n hx hb dX1_topBit_4 rfl (lv_at hl 1 rfl) ?_
      refine lv_iconst (v := nI 1) hx hb dX1_topBit_5 (by decide) ?_
      refine lv_icmp_le (tgt := 22) hx hb dX1_topBit_6 (by decide) (fun c6 => ?_) (fun c6 => ?_)
      · have c6 : (2 ^ j) ≤ 1 := (nI_leI (a := (2 ^ j)) (b := 1) (by omega) (by omega)).mp c6
        obtain rfl : 0 = j := by
          rcases Nat.eq_zero_or_pos j with h | h
          · exact h.symm
          · exact absurd (Nat.le_trans (Nat.pow_le_pow_right (show 0 < 2 by decide) h) c6) (by decide)
        refine lv_iload_n hx hb dX1_topBit_22 rfl (lv_at hl 1 rfl) ?_
        exact hret (nI (2 ^ 0)) () _ _ _ _ dX1_topBit_23 rfl (by first | (rw [← ht]; show nI (2 ^ 0) = 1; decide) | rw [← ht, topM, if_neg c12]) hP hD hS
      have c6 : ¬ ((2 ^ j) ≤ 1) := fun h => c6 ((nI_leI (a := (2 ^ j)) (b := 1) (by omega) (by omega)).mpr h)
      obtain ⟨i, rfl⟩ : ∃ i, j = i + 1 := by
        rcases Nat.eq_zero_or_pos j with h | h
        · exact absurd (by rw [h]; decide) c6
        · exact ⟨j - 1, by omega⟩
      refine lv_iload_n hx hb dX1_topBit_9 rfl (lv_at hl 0 rfl) ?_
      refine lv_iload_n hx hb dX1_topBit_10 rfl (lv_at hl 1 rfl) ?_
      refine lv_iand hx hb dX1_topBit_11 ?_
      refine lv_if_ne (tgt := 22) hx hb dX1_topBit_12 (by decide) (fun c12 => ?_) (fun c12 => ?_)
      · refine lv_iload_n hx hb dX1_topBit_22 rfl (lv_at hl 1 rfl) ?_
        exact hret (nI (2 ^ (i + 1))) () _ _ _ _ dX1_topBit_23 rfl (by first | (rw [← ht]; show nI (2 ^ 0) = 1; decide) | rw [← ht, topM, if_neg c12]) hP hD hS
      refine lv_iload_n hx hb dX1_topBit_15 rfl (lv_at hl 1 rfl) ?_
      refine lv_iconst (v := (1 : Int32)) hx hb dX1_topBit_16 (by decide) ?_
      refine lv_ishr hx hb dX1_topBit_17 ?_
      refine fd_as (show ((nI (2 ^ (i + 1))) >>> ((1 : Int32) &&& 31)) = nI (2 ^ i) from fd_half i (by omega)) ?_
      refine lv_istore_n (lv' := [(1, .int (nI (2 ^ i))), (0, .int a)]) hx hb dX1_topBit_18 rfl hl (by decide) rfl (fun ls hl => ?_)
      refine lv_goto (tgt := 4) hx hb dX1_topBit_19 (by decide) ?_
      exact ih4 i _ _ _ (by omega) (by omega) (by rw [← ht, topM, if_pos c12]) hP hD hS (lv_sub hl [1, 0] rfl)
  exact LP4 _ 7 _ _ _ (Nat.lt_succ_self _) (by omega) rfl hP hD hS (lv_sub hl [1, 0] rfl)
abbrev rmX1_ones : Room := { frames := 0, cells := 0, slots := 0, locals := 0 }
set_option maxHeartbeats 4000000 in
set_option maxRecDepth 100000 in
theorem metX1_ones (l : Launch) (D : va_G)  (a : Int32)  : fd_I l yX1_ones (ws_ yX1_ones cX1_ones 3 (some .int)) rmX1_ones D [] [.int a] ([]) (fun (r : Int32) (u : Unit) => r = onesM a 8) (fun (u : Unit) => []) := by
  refine fd_Iof (lv := [(0, .int a)]) rfl (by decide) (Nat.le_of_ble_eq_true rfl) rfl ?_
  intro p e s m below meth c A ls Q S0 hK hP hD hA hl hret
  obtain ⟨hx, hb, hml, hown, hts⟩ := id S0
  have hS : va_S A s.heap s.heap [] := va_S.rf
  refine lv_iconst (v := (0 : Int32)) hx hb dX1_ones_0 (by decide) ?_
  refine lv_istore_n (lv' := [(1, .int (0 : Int32)), (0, .int a)]) hx hb dX1_ones_1 rfl hl (by decide) rfl (fun ls hl => ?_)
  refine lv_iconst (v := nI 0) hx hb dX1_ones_2 (by decide) ?_
  refine lv_istore_n (lv' := [(2, .int (nI 0)), (1, .int (0 : Int32)), (0, .int a)]) hx hb dX1_ones_3 rfl hl (by decide) rfl (fun ls hl => ?_)
  have LP4 : ∀ (Nf4 : Nat) (k : Nat) (x1 : Int32) (H : Heap) (locs : List Loc) (ls : Array Slot), 8 - k < Nf4 → (k ≤ 8) → x1 = onesM a k → va_P D vwCl ([]) H → va_D A ([]) → va_S A s.heap H locs → lv_has ls 3 [(0, .int a), (1, .int x1), (2, .int (nI k))] → W p l e rmX1_ones s m ([.int a] : List Value).toArray below meth c H locs 0 0 Q (F0 m 4 ls []) := by
    intro Nf4
    induction Nf4 with
    | zero => intro k x1 H locs ls hmu; exact absurd hmu (Nat.not_lt_zero _)
    | succ Nf4 ih4 =>
      intro k x1 H locs ls hmu4 hc4_0 ex1 hP hD hS hl
      subst ex1
      refine lv_iload_n hx hb dX1_ones_4 rfl (lv_at hl 2 rfl) ?_
      refine lv_bipush (v := nI 8) hx hb dX1_ones_5 (by decide) ?_
      refine lv_icmp_ge (tgt := 24) hx hb dX1_ones_7 (by decide) (fun c7 => ?_) (fun c7 => ?_)
      · have c7 : 8 ≤ k := (nI_leI (a := 8) (b := k) (by omega) (by omega)).mp c7
        obtain rfl : 8 = k := by omega
        refine lv_iload_n hx hb dX1_ones_24 rfl (lv_at hl 1 rfl) ?_
        exact hret (onesM a 8) () _ _ _ _ dX1_ones_25 rfl rfl hP hD hS
      have c7 : ¬ (8 ≤ k) := fun h => c7 ((nI_leI (a := 8) (b := k) (by omega) (by omega)).mpr h)
      refine lv_iload_n hx hb dX1_ones_10 rfl (lv_at hl 1 rfl) ?_
      refine lv_iload_n hx hb dX1_ones_11 rfl (lv_at hl 0 rfl) ?_
      refine lv_iload_n hx hb dX1_ones_12 rfl (lv_at hl 2 rfl) ?_
      refine lv_ishr hx hb dX1_ones_13 ?_
      refine lv_iconst (v := (1 : Int32)) hx hb dX1_ones_14 (by decide) ?_
      refine lv_iand hx hb dX1_ones_15 ?_
      refine lv_iadd hx hb dX1_ones_16 ?_
      refine lv_istore_n (lv' := [(1, .int ((onesM a k) + ((a >>> ((nI k) &&& 31)) &&& (1 : Int32)))), (0, .int a), (2, .int (nI k))]) hx hb dX1_ones_17 rfl hl (by decide) rfl (fun ls hl => ?_)
      refine lv_iinc (v := nI (k + 1)) (lv' := [(2, .int (nI (k + 1))), (1, .int ((onesM a k) + ((a >>> ((nI k) &&& 31)) &&& (1 : Int32)))), (0, .int a)]) hx hb dX1_ones_18 hl (k := 2) rfl (fd_inc _) (by decide) rfl (fun ls hl => ?_)
      refine lv_goto (tgt := 4) hx hb dX1_ones_21 (by decide) ?_
      exact ih4 (k + 1) ((onesM a k) + ((a >>> ((nI k) &&& 31)) &&& (1 : Int32))) _ _ _ (by omega) (by omega) rfl hP hD hS (lv_sub hl [2, 1, 0] rfl)
  exact LP4 _ 0 (0 : Int32) _ _ _ (Nat.lt_succ_self _) (by omega) rfl hP hD hS (lv_sub hl [2, 1, 0] rfl)
abbrev rmX1_isSet : Room := { frames := 0, cells := 0, slots := 0, locals := 0 }
set_option maxHeartbeats 4000000 in
set_option maxRecDepth 100000 in
theorem metX1_isSet (l : Launch) (D : va_G) (g : Nat → Nat) (d : Nat → ClassId) (S V : Nat → Int32) (n cnt : Nat) (R U : Nat → Int32) (N : Nat) (B L X : Int32) (a : Int32) (hn8 : n ≤ 8) : fd_I l yX1_isSet (ws_ yX1_isSet cX1_isSet 2 (some .boolean)) rmX1_isSet D (xT d) [.ref (g 0), .int a] (xW g d S V n cnt R U N B L X) (fun (r : Int32) (u : Unit) => r = isM n a) (fun (u : Unit) => xW g d S V n cnt R U N B L X) := by
  refine fd_Iof (lv := [(0, .ref (g 0)), (1, .int a)]) rfl (by decide) (Nat.le_of_ble_eq_true rfl) rfl ?_
  intro p e s m below meth c A ls Q S0 hK hP hD hA hl hret
  obtain ⟨hx, hb, hml, hown, hts⟩ := id S0
  have hS : va_S A s.heap s.heap [] := va_S.rf
  refine lv_iload_n hx hb dX1_isSet_0 rfl (lv_at hl 1 rfl) ?_
  refine lv_if_lt (tgt := 18) hx hb dX1_isSet_1 (by decide) (fun c1 => ?_) (fun c1 => ?_)
  · refine lv_iconst (v := (0 : Int32)) hx hb dX1_isSet_18 (by decide) ?_
    exact hret (0 : Int32) () _ _ _ _ dX1_isSet_19 rfl (by first | rw [isM, if_pos (Or.inl c1)] | rw [isM, if_pos (Or.inr c11)] | rw [isM, if_neg (fun h => h.elim c1 c11)]) hP hD hS
  refine lv_iload_n hx hb dX1_isSet_4 rfl (lv_at hl 1 rfl) ?_
  refine lv_iconst (v := (1 : Int32)) hx hb dX1_isSet_5 (by decide) ?_
  refine lv_aload_n hx hb dX1_isSet_6 rfl (lv_at hl 0 rfl) ?_
  refine va_get (D := D) (ci := 0) (v := .int (nI n)) (C := RX1) (T := TX1) (N := 10) hx hb hts in_X1 hown hK hP 0 rfl rfl 4 (by decide) (hts _ q35) (fun _ h9 => h9) rfl dX1_isSet_7 ?_
  refine lv_ishl hx hb dX1_isSet_10 ?_
  refine fd_as (show ((1 : Int32) <<< ((nI n) &&& 31)) = nI (2 ^ n) from fd_pw hn8) ?_
  refine lv_icmp_ge (tgt := 18) hx hb dX1_isSet_11 (by decide) (fun c11 => ?_) (fun c11 => ?_)
  · refine lv_iconst (v := (0 : Int32)) hx hb dX1_isSet_18 (by decide) ?_
    exact hret (0 : Int32) () _ _ _ _ dX1_isSet_19 rfl (by first | rw [isM, if_pos (Or.inl c1)] | rw [isM, if_pos (Or.inr c11)] | rw [isM, if_neg (fun h => h.elim c1 c11)]) hP hD hS
  refine lv_iconst (v := (1 : Int32)) hx hb dX1_isSet_14 (by decide) ?_
  refine lv_goto (tgt := 19) hx hb dX1_isSet_15 (by decide) ?_
  exact hret (1 : Int32) () _ _ _ _ dX1_isSet_19 rfl (by first | rw [isM, if_pos (Or.inl c1)] | rw [isM, if_pos (Or.inr c11)] | rw [isM, if_neg (fun h => h.elim c1 c11)]) hP hD hS
abbrev rmX1_put : Room := { frames := 0, cells := 0, slots := 0, locals := 0 }
set_option maxHeartbeats 4000000 in
set_option maxRecDepth 100000 in
theorem metX1_put (l : Launch) (D : va_G) (g : Nat → Nat) (d : Nat → ClassId) (S V : Nat → Int32) (n cnt : Nat) (R U : Nat → Int32) (N : Nat) (B L X : Int32) (a b : Int32) (hc16 : cnt < 16) : fd_V l yX1_put (ws_ yX1_put cX1_put 3 none) rmX1_put D (xT d) [.ref (g 0), .int a, .int b] (xW g d S V n cnt R U N B L X) (fun (u : Unit) => True) (fun (u : Unit) => xW g d (upd S cnt a) (upd V cnt b) n (cnt + 1) R U N B L X) := by
  refine fd_Vof (lv := [(0, .ref (g 0)), (1, .int a), (2, .int b)]) rfl (by decide) (Nat.le_of_ble_eq_true rfl) rfl ?_
  intro p e s m below meth c A ls Q S0 hK hP hD hA hl hret
  obtain ⟨hx, hb, hml, hown, hts⟩ := id S0
  have hS : va_S A s.heap s.heap [] := va_S.rf
  refine lv_aload_n hx hb dX1_put_0 rfl (lv_at hl 0 rfl) ?_
  refine va_get (D := D) (ci := 0) (v := .ref (g 1)) (C := RX1) (T := TX1) (N := 10) hx hb hts in_X1 hown hK hP 0 rfl rfl 0 (by decide) (hts _ q31) (fun _ h9 => h9) rfl dX1_put_1 ?_
  refine lv_aload_n hx hb dX1_put_4 rfl (lv_at hl 0 rfl) ?_
  refine va_get (D := D) (ci := 0) (v := .int (nI cnt)) (C := RX1) (T := TX1) (N := 10) hx hb hts in_X1 hown hK hP 0 rfl rfl 5 (by decide) (hts _ q36) (fun _ h9 => h9) rfl dX1_put_5 ?_
  refine lv_iload_n hx hb dX1_put_8 rfl (lv_at hl 1 rfl) ?_
  refine fd_iast hx hb hK hP hD hS 1 0 rfl rfl (k := cnt) (by omega) (by decide) dX1_put_9 (fun H locs hP hD hS => ?_)
  have hP : va_P D vwCl (xW g d (upd S cnt a) V n cnt R U N B L X) H := hP
  have hD : va_D A (xW g d (upd S cnt a) V n cnt R U N B L X) := hD
  refine lv_aload_n hx hb dX1_put_10 rfl (lv_at hl 0 rfl) ?_
  refine va_get (D := D) (ci := 0) (v := .ref (g 2)) (C := RX1) (T := TX1) (N := 10) hx hb hts in_X1 hown hK hP 0 rfl rfl 1 (by decide) (hts _ q32) (fun _ h9 => h9) rfl dX1_put_11 ?_
  refine lv_aload_n hx hb dX1_put_14 rfl (lv_at hl 0 rfl) ?_
  refine va_get (D := D) (ci := 0) (v := .int (nI cnt)) (C := RX1) (T := TX1) (N := 10) hx hb hts in_X1 hown hK hP 0 rfl rfl 5 (by decide) (hts _ q36) (fun _ h9 => h9) rfl dX1_put_15 ?_
  refine lv_iload_n hx hb dX1_put_18 rfl (lv_at hl 2 rfl) ?_
  refine fd_iast hx hb hK hP hD hS 2 1 rfl rfl (k := cnt) (by omega) (by decide) dX1_put_19 (fun H locs hP hD hS => ?_)
  have hP : va_P D vwCl (xW g d (upd S cnt a) (upd V cnt b) n cnt R U N B L X) H := hP
  have hD : va_D A (xW g d (upd S cnt a) (upd V cnt b) n cnt R U N B L X) := hD
  refine lv_aload_n hx hb dX1_put_20 rfl (lv_at hl 0 rfl) ?_
  refine lv_dup hx hb dX1_put_21 rfl ?_
  refine va_get (D := D) (ci := 0) (v := .int (nI cnt)) (C := RX1) (T := TX1) (N := 10) hx hb hts in_X1 hown hK hP 0 rfl rfl 5 (by decide) (hts _ q36) (fun _ h9 => h9) rfl dX1_put_22 ?_
  refine lv_iconst (v := (1 : Int32)) hx hb dX1_put_25 (by decide) ?_
  refine lv_iadd hx hb dX1_put_26 ?_
  refine fd_as (nI_1 cnt) ?_
  refine va_put (D := D) (ci := 0) (v := .int (nI (cnt + 1))) (ty := .int) (C := RX1) (T := TX1) (N := 10) hx hb hts in_X1 tyX1 tyX1_ok nmX1 hown hK hP hD hS 0 rfl rfl 5 (by decide) (hts _ q36) (fun _ h9 => h9) rfl (by decide +kernel) rfl rfl (Nat.le_of_ble_eq_true rfl) dX1_put_27 (fun H locs hP hD hS => ?_)
  have hP : va_P D vwCl (xW g d (upd S cnt a) (upd V cnt b) n (cnt + 1) R U N B L X) H := hP
  have hD : va_D A (xW g d (upd S cnt a) (upd V cnt b) n (cnt + 1) R U N B L X) := hD
  exact hret () _ _ _ _ dX1_put_30 trivial hP hD hS
abbrev rmX1_drawn : Room := { frames := 0, cells := 0, slots := 0, locals := 0 }
set_option maxHeartbeats 4000000 in
set_option maxRecDepth 100000 in
theorem metX1_drawn (l : Launch) (D : va_G) (g : Nat → Nat) (d : Nat → ClassId) (S V : Nat → Int32) (n cnt : Nat) (R U : Nat → Int32) (N : Nat) (B L X : Int32) (j : Nat) (hn1 : 1 ≤ n) (hn8 : n ≤ 8) (hj : j < 10000) : fd_I l yX1_drawn (ws_ yX1_drawn cX1_drawn 8 (some .int)) rmX1_drawn D (xT d) [.ref (g 0), .int (nI j)] (xW g d S V n cnt R U N B L X) (fun (r : Int32) (u : Unit) => r = nI (drN n j)) (fun (u : Unit) => xW g d S V n cnt R U N B L X) := by
  refine fd_Iof (lv := [(0, .ref (g 0)), (1, .int (nI j))]) rfl (by decide) (Nat.le_of_ble_eq_true rfl) rfl ?_
  intro p e s m below meth c A ls Q S0 hK hP hD hA hl hret
  obtain ⟨hx, hb, hml, hown, hts⟩ := id S0
  have hS : va_S A s.heap s.heap [] := va_S.rf
  have hX : drX j < 2 ^ 31 := by unfold drX; omega
  refine lv_iload_n hx hb dX1_drawn_0 rfl (lv_at hl 1 rfl) ?_
  refine lv_sipush (v := nI 7919) hx hb dX1_drawn_1 (by decide) ?_
  refine lv_imul hx hb dX1_drawn_4 ?_
  refine fd_as (show ((nI j) * (nI 7919)) = nI (j * 7919) from pk_mul _ _) ?_
  refine lv_ldc (v := 104729) hx hb hown (hts _ q83) dX1_drawn_5 ?_
  refine lv_iadd hx hb dX1_drawn_7 ?_
  refine fd_as (show ((nI (j * 7919)) + (104729 : Int32)) = nI (drX j) from nI_add (j * 7919) 104729) ?_
  refine lv_istore_n (lv' := [(2, .int (nI (drX j))), (0, .ref (g 0)), (1, .int (nI j))]) hx hb dX1_drawn_8 rfl hl (by decide) rfl (fun ls hl => ?_)
  refine lv_iconst (v := nI 1) hx hb dX1_drawn_9 (by decide) ?_
  refine lv_iload_n hx hb dX1_drawn_10 rfl (lv_at hl 0 rfl) ?_
  refine lv_bipush (v := nI 7) hx hb dX1_drawn_11 (by decide) ?_
  refine lv_idiv hx hb dX1_drawn_13 (by decide) ?_
  refine fd_as (show ((nI (drX j)) / (nI 7)) = nI (drX j / 7) from pk_div hX (by decide) (by decide)) ?_
  refine lv_iconst (v := nI 3) hx hb dX1_drawn_14 (by decide) ?_
  refine lv_irem hx hb dX1_drawn_15 (by decide) ?_
  refine fd_as (show ((nI (drX j / 7)) - (nI (drX j / 7)) / (nI 3) * (nI 3)) = nI (drX j / 7 % 3) from pk_rem (by omega) (by decide) (by decide)) ?_
  refine lv_iadd hx hb dX1_drawn_16 ?_
  refine fd_as (show ((nI 1) + (nI (drX j / 7 % 3))) = nI (1 + drX j / 7 % 3) from nI_add _ _) ?_
  refine lv_istore_n (lv' := [(3, .int (nI (1 + drX j / 7 % 3))), (2, .int (nI (drX j))), (0, .ref (g 0)), (1, .int (nI j))]) hx hb dX1_drawn_17 rfl hl (by decide) rfl (fun ls hl => ?_)
  refine lv_aload_n hx hb dX1_drawn_18 rfl (lv_at hl 2 rfl) ?_
  refine va_get (D := D) (ci := 0) (v := .int (nI n)) (C := RX1) (T := TX1) (N := 10) hx hb hts in_X1 hown hK hP 0 rfl rfl 4 (by decide) (hts _ q35) (fun _ h9 => h9) rfl dX1_drawn_19 ?_
  refine lv_if_le (tgt := 32) hx hb dX1_drawn_22 (by decide) (fun c22 => ?_) (fun c22 => ?_)
  · exact absurd c22 (nI_nle (by omega) (by omega))
  refine lv_aload_n hx hb dX1_drawn_25 rfl (lv_at hl 2 rfl) ?_
  refine va_get (D := D) (ci := 0) (v := .int (nI n)) (C := RX1) (T := TX1) (N := 10) hx hb hts in_X1 hown hK hP 0 rfl rfl 4 (by decide) (hts _ q35) (fun _ h9 => h9) rfl dX1_drawn_26 ?_
  refine lv_goto (tgt := 33) hx hb dX1_drawn_29 (by decide) ?_
  refine lv_istore (lv' := [(4, .int (nI n)), (3, .int (nI (1 + drX j / 7 % 3))), (2, .int (nI (drX j))), (0, .ref (g 0)), (1, .int (nI j))]) hx hb dX1_drawn_33 hl (by decide) rfl (fun ls hl => ?_)
  refine lv_iconst (v := nI 0) hx hb dX1_drawn_35 (by decide) ?_
  refine lv_istore (lv' := [(5, .int (nI 0)), (4, .int (nI n)), (3, .int (nI (1 + drX j / 7 % 3))), (2, .int (nI (drX j))), (0, .ref (g 0)), (1, .int (nI j))]) hx hb dX1_drawn_36 hl (by decide) rfl (fun ls hl => ?_)
  refine lv_iload_n hx hb dX1_drawn_38 rfl (lv_at hl 3 rfl) ?_
  refine lv_istore (lv' := [(6, .int (nI (drX j))), (5, .int (nI 0)), (4, .int (nI n)), (3, .int (nI (1 + drX j / 7 % 3))), (2, .int (nI (drX j))), (0, .ref (g 0)), (1, .int (nI j))]) hx hb dX1_drawn_39 hl (by decide) rfl (fun ls hl => ?_)
  refine lv_iconst (v := nI 0) hx hb dX1_drawn_41 (by decide) ?_
  refine lv_istore (lv' := [(7, .int (nI 0)), (6, .int (nI (drX j))), (5, .int (nI 0)), (4, .int (nI n)), (3, .int (nI (1 + drX j / 7 % 3))), (2, .int (nI (drX j))), (0, .ref (g 0)), (1, .int (nI j))]) hx hb dX1_drawn_42 hl (by decide) rfl (fun ls hl => ?_)
  have LP44 : ∀ (Nf44 : Nat) (k : Nat) (x5 : Int32) (x6 : Int32) (H : Heap) (locs : List Loc) (ls : Array Slot), 1 + drX j / 7 % 3 - k < Nf44 → (k ≤ 1 + drX j / 7 % 3) → x5 = nI (drS n (drX j) k) → x6 = nI (drX j / n ^ k) → va_P D vwCl (xW g d S V n cnt R U N B L X) H → va_D A (xW g d S V n cnt R U N B L X) → va_S A s.heap H locs → lv_has ls 8 [(3, .int (nI (1 + drX j / 7 % 3))), (4, .int (nI n)), (5, .int x5), (6, .int x6), (7, .int (nI k))] → W p l e rmX1_drawn s m ([.ref (g 0), .int (nI j)] : List Value).toArray below meth c H locs 0 0 Q (F0 m 44 ls []) := by
    intro Nf44
    induction Nf44 with
    | zero => intro k x5 x6 H locs ls hmu; exact absurd hmu (Nat.not_lt_zero _)
    | succ Nf44 ih44 =>
      intro k x5 x6 H locs ls hmu44 hc44_0 ex5 ex6 hP hD hS hl
      subst ex5
      subst ex6
      refine lv_iload hx hb dX1_drawn_44 (lv_at hl 4 rfl) ?_
      refine lv_iload_n hx hb dX1_drawn_46 rfl (lv_at hl 0 rfl) ?_
      refine lv_icmp_ge (tgt := 75) hx hb dX1_drawn_47 (by decide) (fun c47 => ?_) (fun c47 => ?_)
      · have c47 : (1 + drX j / 7 % 3) ≤ k := (nI_leI (a := (1 + drX j / 7 % 3)) (b := k) (by omega) (by omega)).mp c47
        obtain rfl : 1 + drX j / 7 % 3 = k := by omega
        refine lv_iload hx hb dX1_drawn_75 (lv_at hl 2 rfl) ?_
        refine lv_if_ne (tgt := 84) hx hb dX1_drawn_77 (by decide) (fun c77 => ?_) (fun c77 => ?_)
        · refine lv_iload hx hb dX1_drawn_84 (lv_at hl 2 rfl) ?_
          exact hret (nI (drS n (drX j) (1 + drX j / 7 % 3))) () _ _ _ _ dX1_drawn_86 rfl (by first | rw [drN, if_neg (fun h => c77 (by rw [h]; rfl))] | rw [drN, if_pos ((nI_eq (Nat.lt_trans (drS_lt hn1 hn8 _) (by decide)) (by decide)).mp c77)]) hP hD hS
        refine lv_iconst (v := nI 1) hx hb dX1_drawn_80 (by decide) ?_
        refine lv_goto (tgt := 86) hx hb dX1_drawn_81 (by decide) ?_
        exact hret (nI 1) () _ _ _ _ dX1_drawn_86 rfl (by first | rw [drN, if_neg (fun h => c77 (by rw [h]; rfl))] | rw [drN, if_pos ((nI_eq (Nat.lt_trans (drS_lt hn1 hn8 _) (by decide)) (by decide)).mp c77)]) hP hD hS
      have c47 : ¬ ((1 + drX j / 7 % 3) ≤ k) := fun h => c47 ((nI_leI (a := (1 + drX j / 7 % 3)) (b := k) (by omega) (by omega)).mpr h)
      refine lv_iload hx hb dX1_drawn_50 (lv_at hl 2 rfl) ?_
      refine lv_iconst (v := (1 : Int32)) hx hb dX1_drawn_52 (by decide) ?_
      refine lv_iload hx hb dX1_drawn_53 (lv_at hl 3 rfl) ?_
      refine lv_iload hx hb dX1_drawn_55 (lv_at hl 1 rfl) ?_
      refine lv_irem hx hb dX1_drawn_57 (nI_ne0 (by omega) (by omega)) ?_
      refine fd_as (show ((nI (drX j / n ^ k)) - (nI (drX j / n ^ k)) / (nI n) * (nI n)) = nI (drX j / n ^ k % n) from pk_rem (Nat.lt_of_le_of_lt (Nat.div_le_self _ _) hX) (by omega) (by omega)) ?_
      refine lv_ishl hx hb dX1_drawn_58 ?_
      refine fd_as (show ((1 : Int32) <<< ((nI (drX j / n ^ k % n)) &&& 31)) = nI (2 ^ (drX j / n ^ k % n)) from fd_pw (Nat.le_of_lt (Nat.lt_of_lt_of_le (Nat.mod_lt _ (by omega)) hn8))) ?_
      refine lv_ixor hx hb dX1_drawn_59 ?_
      refine fd_as (show ((nI (drS n (drX j) k)) ^^^ (nI (2 ^ (drX j / n ^ k % n)))) = nI (drS n (drX j) (k + 1)) from fd_xor _ _) ?_
      refine lv_istore (lv' := [(5, .int (nI (drS n (drX j) (k + 1)))), (3, .int (nI (1 + drX j / 7 % 3))), (4, .int (nI n)), (6, .int (nI (drX j / n ^ k))), (7, .int (nI k))]) hx hb dX1_drawn_60 hl (by decide) rfl (fun ls hl => ?_)
      refine lv_iload hx hb dX1_drawn_62 (lv_at hl 3 rfl) ?_
      refine lv_iload hx hb dX1_drawn_64 (lv_at hl 2 rfl) ?_
      refine lv_idiv hx hb dX1_drawn_66 (nI_ne0 (by omega) (by omega)) ?_
      refine fd_as (show ((nI (drX j / n ^ k)) / (nI n)) = nI (drX j / n ^ (k + 1)) from by rw [pk_div (Nat.lt_of_le_of_lt (Nat.div_le_self _ _) hX) (by omega) (by omega), Nat.div_div_eq_div_mul, ← Nat.pow_succ]) ?_
      refine lv_istore (lv' := [(6, .int (nI (drX j / n ^ (k + 1)))), (5, .int (nI (drS n (drX j) (k + 1)))), (3, .int (nI (1 + drX j / 7 % 3))), (4, .int (nI n)), (7, .int (nI k))]) hx hb dX1_drawn_67 hl (by decide) rfl (fun ls hl => ?_)
      refine lv_iinc (v := nI (k + 1)) (lv' := [(7, .int (nI (k + 1))), (6, .int (nI (drX j / n ^ (k + 1)))), (5, .int (nI (drS n (drX j) (k + 1)))), (3, .int (nI (1 + drX j / 7 % 3))), (4, .int (nI n))]) hx hb dX1_drawn_69 hl (k := 4) rfl (fd_inc _) (by decide) rfl (fun ls hl => ?_)
      refine lv_goto (tgt := 44) hx hb dX1_drawn_72 (by decide) ?_
      exact ih44 (k + 1) (nI (drS n (drX j) (k + 1))) (nI (drX j / n ^ (k + 1))) _ _ _ (by omega) (by omega) rfl rfl hP hD hS (lv_sub hl [3, 4, 2, 1, 0] rfl)
  exact LP44 _ 0 (nI 0) (nI (drX j)) _ _ _ (Nat.lt_succ_self _) (by omega) rfl (by rw [Nat.pow_zero, Nat.div_one]) hP hD hS (lv_sub hl [4, 3, 2, 1, 0] rfl)
end
section
/-! FountainDecoder: reduce, enter, reduceAll, knownNow -/
abbrev rmX1_reduce : Room := { frames := 1, cells := 0, slots := 0, locals := 21 }
set_option maxHeartbeats 4000000 in
set_option maxRecDepth 100000 in
theorem metX1_reduce (l : Launch) (D : va_G) (g : Nat → Nat) (d : Nat → ClassId) (S V : Nat → Int32) (n cnt : Nat) (R U : Nat → Int32) (N : Nat) (B L X : Int32) (a b : Int32) (hN : N ≤ 8) : fd_V l yX1_reduce (ws_ yX1_reduce cX1_reduce 5 none) rmX1_reduce D (xT d) [.ref (g 0), .int a, .int b] (xW g d S V n cnt R U N B L X) (fun (u : Unit) => True) (fun (u : Unit) => xW g d S V n cnt R U N B ((rdM R U a b N).1) ((rdM R U a b N).2)) := by
  refine fd_Vof (lv := [(0, .ref (g 0)), (1, .int a), (2, .int b)]) rfl (by decide) (Nat.le_of_ble_eq_true rfl) rfl ?_
  intro p e s m below meth c A ls Q S0 hK hP hD hA hl hret
  obtain ⟨hx, hb, hml, hown, hts⟩ := id S0
  have hS : va_S A s.heap s.heap [] := va_S.rf
  refine lv_aload_n hx hb dX1_reduce_0 rfl (lv_at hl 0 rfl) ?_
  refine lv_iload_n hx hb dX1_reduce_1 rfl (lv_at hl 1 rfl) ?_
  refine va_put (D := D) (ci := 0) (v := .int a) (ty := .int) (C := RX1) (T := TX1) (N := 10) hx hb hts in_X1 tyX1 tyX1_ok nmX1 hown hK hP hD hS 0 rfl rfl 8 (by decide) (hts _ q39) (fun _ h9 => h9) rfl (by decide +kernel) rfl rfl (Nat.le_of_ble_eq_true rfl) dX1_reduce_2 (fun H locs hP hD hS => ?_)
  have hP : va_P D vwCl (xW g d S V n cnt R U N B a X) H := hP
  have hD : va_D A (xW g d S V n cnt R U N B a X) := hD
  refine lv_aload_n hx hb dX1_reduce_5 rfl (lv_at hl 0 rfl) ?_
  refine lv_iload_n hx hb dX1_reduce_6 rfl (lv_at hl 2 rfl) ?_
  refine va_put (D := D) (ci := 0) (v := .int b) (ty := .int) (C := RX1) (T := TX1) (N := 10) hx hb hts in_X1 tyX1 tyX1_ok nmX1 hown hK hP hD hS 0 rfl rfl 9 (by decide) (hts _ q40) (fun _ h9 => h9) rfl (by decide +kernel) rfl rfl (Nat.le_of_ble_eq_true rfl) dX1_reduce_7 (fun H locs hP hD hS => ?_)
  have hP : va_P D vwCl (xW g d S V n cnt R U N B a b) H := hP
  have hD : va_D A (xW g d S V n cnt R U N B a b) := hD
  refine lv_iconst (v := nI 0) hx hb dX1_reduce_10 (by decide) ?_
  refine lv_istore_n (lv' := [(3, .int (nI 0)), (0, .ref (g 0)), (1, .int a), (2, .int b)]) hx hb dX1_reduce_11 rfl hl (by decide) rfl (fun ls hl => ?_)
  have LP12 : ∀ (Nf12 : Nat) (k : Nat) (xL : Int32) (xX : Int32) (H : Heap) (locs : List Loc) (ls : Array Slot), N - k < Nf12 → (k ≤ N) → xL = (rdM R U a b k).1 → xX = (rdM R U a b k).2 → va_P D vwCl (xW g d S V n cnt R U N B xL xX) H → va_D A (xW g d S V n cnt R U N B xL xX) → va_S A s.heap H locs → lv_has ls 5 [(0, .ref (g 0)), (3, .int (nI k))] → W p l e rmX1_reduce s m ([.ref (g 0), .int a, .int b] : List Value).toArray below meth c H locs 0 0 Q (F0 m 12 ls []) := by
    intro Nf12
    induction Nf12 with
    | zero => intro k xL xX H locs ls hmu; exact absurd hmu (Nat.not_lt_zero _)
    | succ Nf12 ih12 =>
      intro k xL xX H locs ls hmu12 hc12_0 exL exX hP hD hS hl
      subst exL
      subst exX
      refine lv_iload_n hx hb dX1_reduce_12 rfl (lv_at hl 1 rfl) ?_
      refine lv_aload_n hx hb dX1_reduce_13 rfl (lv_at hl 0 rfl) ?_
      refine va_get (D := D) (ci := 0) (v := .int (nI N)) (C := RX1) (T := TX1) (N := 10) hx hb hts in_X1 hown hK hP 0 rfl rfl 6 (by decide) (hts _ q37) (fun _ h9 => h9) rfl dX1_reduce_14 ?_
      refine lv_icmp_ge (tgt := 77) hx hb dX1_reduce_17 (by decide) (fun c17 => ?_) (fun c17 => ?_)
      · have c17 : N ≤ k := (nI_leI (a := N) (b := k) (by omega) (by omega)).mp c17
        obtain rfl : N = k := by omega
        exact hret () _ _ _ _ dX1_reduce_77 trivial hP hD hS
      have c17 : ¬ (N ≤ k) := fun h => c17 ((nI_leI (a := N) (b := k) (by omega) (by omega)).mpr h)
      refine lv_aload_n hx hb dX1_reduce_20 rfl (lv_at hl 0 rfl) ?_
      refine va_get (D := D) (ci := 0) (v := .ref (g 3)) (C := RX1) (T := TX1) (N := 10) hx hb hts in_X1 hown hK hP 0 rfl rfl 2 (by decide) (hts _ q33) (fun _ h9 => h9) rfl dX1_reduce_21 ?_
      refine lv_iload_n hx hb dX1_reduce_24 rfl (lv_at hl 1 rfl) ?_
      refine fd_iald hx hb hK hP 3 2 rfl rfl (k := k) (by omega) (by decide) dX1_reduce_25 ?_
      refine fd_callSi (n := 1) (rest := []) (As := [.int (R k)]) (wr := xW g d S V n cnt R U N B ((rdM R U a b k).1) ((rdM R U a b k).2)) S0 hK hP hD hS hA [] [0, 1, 2, 3, 4] [] (metX1_topBit l D (R k)) q112 q113 q21 q114 dX1_reduce_26 rfl rfl rfl rfl ⟨⟨rfl, rfl⟩, Nat.le_of_ble_eq_true rfl, Nat.le_of_ble_eq_true rfl⟩ (by decide +kernel) rfl hl.1 rfl (Nat.le_of_ble_eq_true rfl) ⟨Nat.le_of_ble_eq_true rfl, Nat.le_of_ble_eq_true rfl⟩ (fun r26 u26 H locs hq26 hP hD hS => ?_)
      subst hq26
      have hP : va_P D vwCl (xW g d S V n cnt R U N B ((rdM R U a b k).1) ((rdM R U a b k).2)) H := hP
      have hD : va_D A (xW g d S V n cnt R U N B ((rdM R U a b k).1) ((rdM R U a b k).2)) := hD
      refine lv_istore (lv' := [(4, .int (topM 7 (R k))), (0, .ref (g 0)), (3, .int (nI k))]) hx hb dX1_reduce_29 hl (by decide) rfl (fun ls hl => ?_)
      refine lv_aload_n hx hb dX1_reduce_31 rfl (lv_at hl 1 rfl) ?_
      refine va_get (D := D) (ci := 0) (v := .int ((rdM R U a b k).1)) (C := RX1) (T := TX1) (N := 10) hx hb hts in_X1 hown hK hP 0 rfl rfl 8 (by decide) (hts _ q39) (fun _ h9 => h9) rfl dX1_reduce_32 ?_
      refine lv_iload hx hb dX1_reduce_35 (lv_at hl 0 rfl) ?_
      refine lv_iand hx hb dX1_reduce_37 ?_
      refine lv_if_eq (tgt := 71) hx hb dX1_reduce_38 (by decide) (fun c38 => ?_) (fun c38 => ?_)
      · refine lv_iinc (v := nI (k + 1)) (lv' := [(3, .int (nI (k + 1))), (4, .int (topM 7 (R k))), (0, .ref (g 0))]) hx hb dX1_reduce_71 hl (k := 2) rfl (fd_inc _) (by decide) rfl (fun ls hl => ?_)
        refine lv_goto (tgt := 12) hx hb dX1_reduce_74 (by decide) ?_
        exact ih12 (k + 1) ((rdM R U a b k).1) ((rdM R U a b k).2) _ _ _ (by omega) (by omega) (by first | rw [rdM, if_pos c38] | rw [rdM, if_neg c38]) (by first | rw [rdM, if_pos c38] | rw [rdM, if_neg c38]) hP hD hS (lv_sub hl [2, 0] rfl)
      refine lv_aload_n hx hb dX1_reduce_41 rfl (lv_at hl 1 rfl) ?_
      refine lv_aload_n hx hb dX1_reduce_42 rfl (lv_at hl 1 rfl) ?_
      refine va_get (D := D) (ci := 0) (v := .int ((rdM R U a b k).1)) (C := RX1) (T := TX1) (N := 10) hx hb hts in_X1 hown hK hP 0 rfl rfl 8 (by decide) (hts _ q39) (fun _ h9 => h9) rfl dX1_reduce_43 ?_
      refine lv_aload_n hx hb dX1_reduce_46 rfl (lv_at hl 1 rfl) ?_
      refine va_get (D := D) (ci := 0) (v := .ref (g 3)) (C := RX1) (T := TX1) (N := 10) hx hb hts in_X1 hown hK hP 0 rfl rfl 2 (by decide) (hts _ q33) (fun _ h9 => h9) rfl dX1_reduce_47 ?_
      refine lv_iload_n hx hb dX1_reduce_50 rfl (lv_at hl 2 rfl) ?_
      refine fd_iald hx hb hK hP 3 2 rfl rfl (k := k) (by omega) (by decide) dX1_reduce_51 ?_
      refine lv_ixor hx hb dX1_reduce_52 ?_
      refine va_put (D := D) (ci := 0) (v := .int (((rdM R U a b k).1) ^^^ (R k))) (ty := .int) (C := RX1) (T := TX1) (N := 10) hx hb hts in_X1 tyX1 tyX1_ok nmX1 hown hK hP hD hS 0 rfl rfl 8 (by decide) (hts _ q39) (fun _ h9 => h9) rfl (by decide +kernel) rfl rfl (Nat.le_of_ble_eq_true rfl) dX1_reduce_53 (fun H locs hP hD hS => ?_)
      have hP : va_P D vwCl (xW g d S V n cnt R U N B (((rdM R U a b k).1) ^^^ (R k)) ((rdM R U a b k).2)) H := hP
      have hD : va_D A (xW g d S V n cnt R U N B (((rdM R U a b k).1) ^^^ (R k)) ((rdM R U a b k).2)) := hD
      refine lv_aload_n hx hb dX1_reduce_56 rfl (lv_at hl 1 rfl) ?_
      refine lv_aload_n hx hb dX1_reduce_57 rfl (lv_at hl 1 rfl) ?_
      refine va_get (D := D) (ci := 0) (v := .int ((rdM R U a b k).2)) (C := RX1) (T := TX1) (N := 10) hx hb hts in_X1 hown hK hP 0 rfl rfl 9 (by decide) (hts _ q40) (fun _ h9 => h9) rfl dX1_reduce_58 ?_
      refine lv_aload_n hx hb dX1_reduce_61 rfl (lv_at hl 1 rfl) ?_
      refine va_get (D := D) (ci := 0) (v := .ref (g 4)) (C := RX1) (T := TX1) (N := 10) hx hb hts in_X1 hown hK hP 0 rfl rfl 3 (by decide) (hts _ q34) (fun _ h9 => h9) rfl dX1_reduce_62 ?_
      refine lv_iload_n hx hb dX1_reduce_65 rfl (lv_at hl 2 rfl) ?_
      refine fd_iald hx hb hK hP 4 3 rfl rfl (k := k) (by omega) (by decide) dX1_reduce_66 ?_
      refine lv_ixor hx hb dX1_reduce_67 ?_
      refine va_put (D := D) (ci := 0) (v := .int (((rdM R U a b k).2) ^^^ (U k))) (ty := .int) (C := RX1) (T := TX1) (N := 10) hx hb hts in_X1 tyX1 tyX1_ok nmX1 hown hK hP hD hS 0 rfl rfl 9 (by decide) (hts _ q40) (fun _ h9 => h9) rfl (by decide +kernel) rfl rfl (Nat.le_of_ble_eq_true rfl) dX1_reduce_68 (fun H locs hP hD hS => ?_)
      have hP : va_P D vwCl (xW g d S V n cnt R U N B (((rdM R U a b k).1) ^^^ (R k)) (((rdM R U a b k).2) ^^^ (U k))) H := hP
      have hD : va_D A (xW g d S V n cnt R U N B (((rdM R U a b k).1) ^^^ (R k)) (((rdM R U a b k).2) ^^^ (U k))) := hD
      refine lv_iinc (v := nI (k + 1)) (lv' := [(3, .int (nI (k + 1))), (4, .int (topM 7 (R k))), (0, .ref (g 0))]) hx hb dX1_reduce_71 hl (k := 2) rfl (fd_inc _) (by decide) rfl (fun ls hl => ?_)
      refine lv_goto (tgt := 12) hx hb dX1_reduce_74 (by decide) ?_
      exact ih12 (k + 1) (((rdM R U a b k).1) ^^^ (R k)) (((rdM R U a b k).2) ^^^ (U k)) _ _ _ (by omega) (by omega) (by first | rw [rdM, if_pos c38] | rw [rdM, if_neg c38]) (by first | rw [rdM, if_pos c38] | rw [rdM, if_neg c38]) hP hD hS (lv_sub hl [2, 0] rfl)
  exact LP12 _ 0 a b _ _ _ (Nat.lt_succ_self _) (by omega) rfl rfl hP hD hS (lv_sub hl [1, 0] rfl)
abbrev rmX1_enter : Room := { frames := 2, cells := 0, slots := 0, locals := 45 }
set_option maxHeartbeats 4000000 in
set_option maxRecDepth 100000 in
theorem metX1_enter (l : Launch) (D : va_G) (g : Nat → Nat) (d : Nat → ClassId) (S V : Nat → Int32) (n cnt : Nat) (R U : Nat → Int32) (N : Nat) (B L X : Int32) (a b : Int32) (hN : N ≤ 8) (hlt : ¬ (rdM R U a b N).1 = 0 → N < 8) : fd_V l yX1_enter (ws_ yX1_enter cX1_enter 5 none) rmX1_enter D (xT d) [.ref (g 0), .int a, .int b] (xW g d S V n cnt R U N B L X) (fun (u : raST) => u = enM R U N B a b) (fun (u : raST) => xW g d S V n cnt u.1 u.2.1 u.2.2.1 u.2.2.2.1 u.2.2.2.2.1 u.2.2.2.2.2) := by
  refine fd_Vof (lv := [(0, .ref (g 0)), (1, .int a), (2, .int b)]) rfl (by decide) (Nat.le_of_ble_eq_true rfl) rfl ?_
  intro p e s m below meth c A ls Q S0 hK hP hD hA hl hret
  obtain ⟨hx, hb, hml, hown, hts⟩ := id S0
  have hS : va_S A s.heap s.heap [] := va_S.rf
  refine lv_aload_n hx hb dX1_enter_0 rfl (lv_at hl 0 rfl) ?_
  refine lv_iload_n hx hb dX1_enter_1 rfl (lv_at hl 1 rfl) ?_
  refine lv_iload_n hx hb dX1_enter_2 rfl (lv_at hl 2 rfl) ?_
  refine fd_callVv (n := 2) (rest := []) (As := [.int a, .int b]) (wr := []) S0 hK hP hD hS hA [0, 1, 2, 3, 4] [] [0, 1, 2, 3] (metX1_reduce l D g d S V n cnt R U N B L X a b hN) q108 q110 qs4 q21 q111 dX1_enter_3 rfl rfl rfl rfl ⟨⟨rfl, rfl⟩, Nat.le_of_ble_eq_true rfl, Nat.le_of_ble_eq_true rfl⟩ (by decide +kernel) rfl rfl (q0 := 0) rfl rfl hl.1 rfl (Nat.le_of_ble_eq_true rfl) ⟨Nat.le_of_ble_eq_true rfl, Nat.le_of_ble_eq_true rfl⟩ (fun u3 H locs hq3 hP hD hS => ?_)
  have hP : va_P D vwCl (xW g d S V n cnt R U N B ((rdM R U a b N).1) ((rdM R U a b N).2)) H := hP
  have hD : va_D A (xW g d S V n cnt R U N B ((rdM R U a b N).1) ((rdM R U a b N).2)) := hD
  refine lv_aload_n hx hb dX1_enter_6 rfl (lv_at hl 0 rfl) ?_
  refine va_get (D := D) (ci := 0) (v := .int ((rdM R U a b N).1)) (C := RX1) (T := TX1) (N := 10) hx hb hts in_X1 hown hK hP 0 rfl rfl 8 (by decide) (hts _ q39) (fun _ h9 => h9) rfl dX1_enter_7 ?_
  refine lv_if_ne (tgt := 37) hx hb dX1_enter_10 (by decide) (fun c10 => ?_) (fun c10 => ?_)
  · have hN8 : N < 8 := hlt c10
    refine lv_aload_n hx hb dX1_enter_37 rfl (lv_at hl 0 rfl) ?_
    refine va_get (D := D) (ci := 0) (v := .int ((rdM R U a b N).1)) (C := RX1) (T := TX1) (N := 10) hx hb hts in_X1 hown hK hP 0 rfl rfl 8 (by decide) (hts _ q39) (fun _ h9 => h9) rfl dX1_enter_38 ?_
    refine fd_callSi (n := 1) (rest := []) (As := [.int ((rdM R U a b N).1)]) (wr := xW g d S V n cnt R U N B ((rdM R U a b N).1) ((rdM R U a b N).2)) S0 hK hP hD hS hA [] [0, 1, 2, 3, 4] [] (metX1_topBit l D ((rdM R U a b N).1)) q112 q113 q21 q114 dX1_enter_41 rfl rfl rfl rfl ⟨⟨rfl, rfl⟩, Nat.le_of_ble_eq_true rfl, Nat.le_of_ble_eq_true rfl⟩ (by decide +kernel) rfl hl.1 rfl (Nat.le_of_ble_eq_true rfl) ⟨Nat.le_of_ble_eq_true rfl, Nat.le_of_ble_eq_true rfl⟩ (fun r41 u41 H locs hq41 hP hD hS => ?_)
    subst hq41
    have hP : va_P D vwCl (xW g d S V n cnt R U N B ((rdM R U a b N).1) ((rdM R U a b N).2)) H := hP
    have hD : va_D A (xW g d S V n cnt R U N B ((rdM R U a b N).1) ((rdM R U a b N).2)) := hD
    refine lv_istore_n (lv' := [(3, .int (topM 7 ((rdM R U a b N).1))), (0, .ref (g 0)), (1, .int a), (2, .int b)]) hx hb dX1_enter_44 rfl hl (by decide) rfl (fun ls hl => ?_)
    refine lv_iconst (v := nI 0) hx hb dX1_enter_45 (by decide) ?_
    refine lv_istore (lv' := [(4, .int (nI 0)), (3, .int (topM 7 ((rdM R U a b N).1))), (0, .ref (g 0)), (1, .int a), (2, .int b)]) hx hb dX1_enter_46 hl (by decide) rfl (fun ls hl => ?_)
    have LP48 : ∀ (Nf48 : Nat) (k : Nat) (xR : Nat → Int32) (xU : Nat → Int32) (H : Heap) (locs : List Loc) (ls : Array Slot), N - k < Nf48 → (k ≤ N) → xR = (enL R U (topM 7 (rdM R U a b N).1) (rdM R U a b N).1 (rdM R U a b N).2 k).1 → xU = (enL R U (topM 7 (rdM R U a b N).1) (rdM R U a b N).1 (rdM R U a b N).2 k).2 → va_P D vwCl (xW g d S V n cnt xR xU N B ((rdM R U a b N).1) ((rdM R U a b N).2)) H → va_D A (xW g d S V n cnt xR xU N B ((rdM R U a b N).1) ((rdM R U a b N).2)) → va_S A s.heap H locs → lv_has ls 5 [(0, .ref (g 0)), (3, .int (topM 7 (rdM R U a b N).1)), (4, .int (nI k))] → W p l e rmX1_enter s m ([.ref (g 0), .int a, .int b] : List Value).toArray below meth c H locs 0 0 Q (F0 m 48 ls []) := by
      intro Nf48
      induction Nf48 with
      | zero => intro k xR xU H locs ls hmu; exact absurd hmu (Nat.not_lt_zero _)
      | succ Nf48 ih48 =>
        intro k xR xU H locs ls hmu48 hc48_0 exR exU hP hD hS hl
        subst exR
        subst exU
        refine lv_iload hx hb dX1_enter_48 (lv_at hl 2 rfl) ?_
        refine lv_aload_n hx hb dX1_enter_50 rfl (lv_at hl 0 rfl) ?_
        refine va_get (D := D) (ci := 0) (v := .int (nI N)) (C := RX1) (T := TX1) (N := 10) hx hb hts in_X1 hown hK hP 0 rfl rfl 6 (by decide) (hts _ q37) (fun _ h9 => h9) rfl dX1_enter_51 ?_
        refine lv_icmp_ge (tgt := 113) hx hb dX1_enter_54 (by decide) (fun c54 => ?_) (fun c54 => ?_)
        · have c54 : N ≤ k := (nI_leI (a := N) (b := k) (by omega) (by omega)).mp c54
          obtain rfl : N = k := by omega
          refine lv_aload_n hx hb dX1_enter_113 rfl (lv_at hl 0 rfl) ?_
          refine va_get (D := D) (ci := 0) (v := .ref (g 3)) (C := RX1) (T := TX1) (N := 10) hx hb hts in_X1 hown hK hP 0 rfl rfl 2 (by decide) (hts _ q33) (fun _ h9 => h9) rfl dX1_enter_114 ?_
          refine lv_aload_n hx hb dX1_enter_117 rfl (lv_at hl 0 rfl) ?_
          refine va_get (D := D) (ci := 0) (v := .int (nI N)) (C := RX1) (T := TX1) (N := 10) hx hb hts in_X1 hown hK hP 0 rfl rfl 6 (by decide) (hts _ q37) (fun _ h9 => h9) rfl dX1_enter_118 ?_
          refine lv_aload_n hx hb dX1_enter_121 rfl (lv_at hl 0 rfl) ?_
          refine va_get (D := D) (ci := 0) (v := .int ((rdM R U a b N).1)) (C := RX1) (T := TX1) (N := 10) hx hb hts in_X1 hown hK hP 0 rfl rfl 8 (by decide) (hts _ q39) (fun _ h9 => h9) rfl dX1_enter_122 ?_
          refine fd_iast hx hb hK hP hD hS 3 2 rfl rfl (k := N) (by omega) (by decide) dX1_enter_125 (fun H locs hP hD hS => ?_)
          have hP : va_P D vwCl (xW g d S V n cnt (upd ((enL R U (topM 7 (rdM R U a b N).1) (rdM R U a b N).1 (rdM R U a b N).2 N).1) N ((rdM R U a b N).1)) ((enL R U (topM 7 (rdM R U a b N).1) (rdM R U a b N).1 (rdM R U a b N).2 N).2) N B ((rdM R U a b N).1) ((rdM R U a b N).2)) H := hP
          have hD : va_D A (xW g d S V n cnt (upd ((enL R U (topM 7 (rdM R U a b N).1) (rdM R U a b N).1 (rdM R U a b N).2 N).1) N ((rdM R U a b N).1)) ((enL R U (topM 7 (rdM R U a b N).1) (rdM R U a b N).1 (rdM R U a b N).2 N).2) N B ((rdM R U a b N).1) ((rdM R U a b N).2)) := hD
          refine lv_aload_n hx hb dX1_enter_126 rfl (lv_at hl 0 rfl) ?_
          refine va_get (D := D) (ci := 0) (v := .ref (g 4)) (C := RX1) (T := TX1) (N := 10) hx hb hts in_X1 hown hK hP 0 rfl rfl 3 (by decide) (hts _ q34) (fun _ h9 => h9) rfl dX1_enter_127 ?_
          refine lv_aload_n hx hb dX1_enter_130 rfl (lv_at hl 0 rfl) ?_
          refine va_get (D := D) (ci := 0) (v := .int (nI N)) (C := RX1) (T := TX1) (N := 10) hx hb hts in_X1 hown hK hP 0 rfl rfl 6 (by decide) (hts _ q37) (fun _ h9 => h9) rfl dX1_enter_131 ?_
          refine lv_aload_n hx hb dX1_enter_134 rfl (lv_at hl 0 rfl) ?_
          refine va_get (D := D) (ci := 0) (v := .int ((rdM R U a b N).2)) (C := RX1) (T := TX1) (N := 10) hx hb hts in_X1 hown hK hP 0 rfl rfl 9 (by decide) (hts _ q40) (fun _ h9 => h9) rfl dX1_enter_135 ?_
          refine fd_iast hx hb hK hP hD hS 4 3 rfl rfl (k := N) (by omega) (by decide) dX1_enter_138 (fun H locs hP hD hS => ?_)
          have hP : va_P D vwCl (xW g d S V n cnt (upd ((enL R U (topM 7 (rdM R U a b N).1) (rdM R U a b N).1 (rdM R U a b N).2 N).1) N ((rdM R U a b N).1)) (upd ((enL R U (topM 7 (rdM R U a b N).1) (rdM R U a b N).1 (rdM R U a b N).2 N).2) N ((rdM R U a b N).2)) N B ((rdM R U a b N).1) ((rdM R U a b N).2)) H := hP
          have hD : va_D A (xW g d S V n cnt (upd ((enL R U (topM 7 (rdM R U a b N).1) (rdM R U a b N).1 (rdM R U a b N).2 N).1) N ((rdM R U a b N).1)) (upd ((enL R U (topM 7 (rdM R U a b N).1) (rdM R U a b N).1 (rdM R U a b N).2 N).2) N ((rdM R U a b N).2)) N B ((rdM R U a b N).1) ((rdM R U a b N).2)) := hD
          refine lv_aload_n hx hb dX1_enter_139 rfl (lv_at hl 0 rfl) ?_
          refine lv_dup hx hb dX1_enter_140 rfl ?_
          refine va_get (D := D) (ci := 0) (v := .int (nI N)) (C := RX1) (T := TX1) (N := 10) hx hb hts in_X1 hown hK hP 0 rfl rfl 6 (by decide) (hts _ q37) (fun _ h9 => h9) rfl dX1_enter_141 ?_
          refine lv_iconst (v := (1 : Int32)) hx hb dX1_enter_144 (by decide) ?_
          refine lv_iadd hx hb dX1_enter_145 ?_
          refine fd_as (nI_1 N) ?_
          refine va_put (D := D) (ci := 0) (v := .int (nI (N + 1))) (ty := .int) (C := RX1) (T := TX1) (N := 10) hx hb hts in_X1 tyX1 tyX1_ok nmX1 hown hK hP hD hS 0 rfl rfl 6 (by decide) (hts _ q37) (fun _ h9 => h9) rfl (by decide +kernel) rfl rfl (Nat.le_of_ble_eq_true rfl) dX1_enter_146 (fun H locs hP hD hS => ?_)
          have hP : va_P D vwCl (xW g d S V n cnt (upd ((enL R U (topM 7 (rdM R U a b N).1) (rdM R U a b N).1 (rdM R U a b N).2 N).1) N ((rdM R U a b N).1)) (upd ((enL R U (topM 7 (rdM R U a b N).1) (rdM R U a b N).1 (rdM R U a b N).2 N).2) N ((rdM R U a b N).2)) (N + 1) B ((rdM R U a b N).1) ((rdM R U a b N).2)) H := hP
          have hD : va_D A (xW g d S V n cnt (upd ((enL R U (topM 7 (rdM R U a b N).1) (rdM R U a b N).1 (rdM R U a b N).2 N).1) N ((rdM R U a b N).1)) (upd ((enL R U (topM 7 (rdM R U a b N).1) (rdM R U a b N).1 (rdM R U a b N).2 N).2) N ((rdM R U a b N).2)) (N + 1) B ((rdM R U a b N).1) ((rdM R U a b N).2)) := hD
          exact hret ((upd ((enL R U (topM 7 (rdM R U a b N).1) (rdM R U a b N).1 (rdM R U a b N).2 N).1) N ((rdM R U a b N).1)), (upd ((enL R U (topM 7 (rdM R U a b N).1) (rdM R U a b N).1 (rdM R U a b N).2 N).2) N ((rdM R U a b N).2)), (N + 1), B, (rdM R U a b N).1, (rdM R U a b N).2) _ _ _ _ dX1_enter_149 (by first | rw [enM, if_neg c10] | rw [enM, if_pos c10, if_pos c18] | rw [enM, if_pos c10, if_neg c18, if_neg c25] | rw [enM, if_pos c10, if_neg c18, if_pos c25]) hP hD hS
        have c54 : ¬ (N ≤ k) := fun h => c54 ((nI_leI (a := N) (b := k) (by omega) (by omega)).mpr h)
        refine lv_aload_n hx hb dX1_enter_57 rfl (lv_at hl 0 rfl) ?_
        refine va_get (D := D) (ci := 0) (v := .ref (g 3)) (C := RX1) (T := TX1) (N := 10) hx hb hts in_X1 hown hK hP 0 rfl rfl 2 (by decide) (hts _ q33) (fun _ h9 => h9) rfl dX1_enter_58 ?_
        refine lv_iload hx hb dX1_enter_61 (lv_at hl 2 rfl) ?_
        refine fd_iald hx hb hK hP 3 2 rfl rfl (k := k) (by omega) (by decide) dX1_enter_63 ?_
        refine lv_iload_n hx hb dX1_enter_64 rfl (lv_at hl 1 rfl) ?_
        refine lv_iand hx hb dX1_enter_65 ?_
        refine lv_if_eq (tgt := 107) hx hb dX1_enter_66 (by decide) (fun c66 => ?_) (fun c66 => ?_)
        · refine lv_iinc (v := nI (k + 1)) (lv' := [(4, .int (nI (k + 1))), (0, .ref (g 0)), (3, .int (topM 7 (rdM R U a b N).1))]) hx hb dX1_enter_107 hl (k := 2) rfl (fd_inc _) (by decide) rfl (fun ls hl => ?_)
          refine lv_goto (tgt := 48) hx hb dX1_enter_110 (by decide) ?_
          exact ih48 (k + 1) ((enL R U (topM 7 (rdM R U a b N).1) (rdM R U a b N).1 (rdM R U a b N).2 k).1) ((enL R U (topM 7 (rdM R U a b N).1) (rdM R U a b N).1 (rdM R U a b N).2 k).2) _ _ _ (by omega) (by omega) (by first | rw [enL, if_pos c66] | rw [enL, if_neg c66]) (by first | rw [enL, if_pos c66] | rw [enL, if_neg c66]) hP hD hS (lv_sub hl [1, 2, 0] rfl)
        refine lv_aload_n hx hb dX1_enter_69 rfl (lv_at hl 0 rfl) ?_
        refine va_get (D := D) (ci := 0) (v := .ref (g 3)) (C := RX1) (T := TX1) (N := 10) hx hb hts in_X1 hown hK hP 0 rfl rfl 2 (by decide) (hts _ q33) (fun _ h9 => h9) rfl dX1_enter_70 ?_
        refine lv_iload hx hb dX1_enter_73 (lv_at hl 2 rfl) ?_
        refine lv_aload_n hx hb dX1_enter_75 rfl (lv_at hl 0 rfl) ?_
        refine va_get (D := D) (ci := 0) (v := .ref (g 3)) (C := RX1) (T := TX1) (N := 10) hx hb hts in_X1 hown hK hP 0 rfl rfl 2 (by decide) (hts _ q33) (fun _ h9 => h9) rfl dX1_enter_76 ?_
        refine lv_iload hx hb dX1_enter_79 (lv_at hl 2 rfl) ?_
        refine fd_iald hx hb hK hP 3 2 rfl rfl (k := k) (by omega) (by decide) dX1_enter_81 ?_
        refine lv_aload_n hx hb dX1_enter_82 rfl (lv_at hl 0 rfl) ?_
        refine va_get (D := D) (ci := 0) (v := .int ((rdM R U a b N).1)) (C := RX1) (T := TX1) (N := 10) hx hb hts in_X1 hown hK hP 0 rfl rfl 8 (by decide) (hts _ q39) (fun _ h9 => h9) rfl dX1_enter_83 ?_
        refine lv_ixor hx hb dX1_enter_86 ?_
        refine fd_iast hx hb hK hP hD hS 3 2 rfl rfl (k := k) (by omega) (by decide) dX1_enter_87 (fun H locs hP hD hS => ?_)
        have hP : va_P D vwCl (xW g d S V n cnt (upd ((enL R U (topM 7 (rdM R U a b N).1) (rdM R U a b N).1 (rdM R U a b N).2 k).1) k ((((enL R U (topM 7 (rdM R U a b N).1) (rdM R U a b N).1 (rdM R U a b N).2 k).1) k) ^^^ ((rdM R U a b N).1))) ((enL R U (topM 7 (rdM R U a b N).1) (rdM R U a b N).1 (rdM R U a b N).2 k).2) N B ((rdM R U a b N).1) ((rdM R U a b N).2)) H := hP
        have hD : va_D A (xW g d S V n cnt (upd ((enL R U (topM 7 (rdM R U a b N).1) (rdM R U a b N).1 (rdM R U a b N).2 k).1) k ((((enL R U (topM 7 (rdM R U a b N).1) (rdM R U a b N).1 (rdM R U a b N).2 k).1) k) ^^^ ((rdM R U a b N).1))) ((enL R U (topM 7 (rdM R U a b N).1) (rdM R U a b N).1 (rdM R U a b N).2 k).2) N B ((rdM R U a b N).1) ((rdM R U a b N).2)) := hD
        refine lv_aload_n hx hb dX1_enter_88 rfl (lv_at hl 0 rfl) ?_
        refine va_get (D := D) (ci := 0) (v := .ref (g 4)) (C := RX1) (T := TX1) (N := 10) hx hb hts in_X1 hown hK hP 0 rfl rfl 3 (by decide) (hts _ q34) (fun _ h9 => h9) rfl dX1_enter_89 ?_
        refine lv_iload hx hb dX1_enter_92 (lv_at hl 2 rfl) ?_
        refine lv_aload_n hx hb dX1_enter_94 rfl (lv_at hl 0 rfl) ?_
        refine va_get (D := D) (ci := 0) (v := .ref (g 4)) (C := RX1) (T := TX1) (N := 10) hx hb hts in_X1 hown hK hP 0 rfl rfl 3 (by decide) (hts _ q34) (fun _ h9 => h9) rfl dX1_enter_95 ?_
        refine lv_iload hx hb dX1_enter_98 (lv_at hl 2 rfl) ?_
        refine fd_iald hx hb hK hP 4 3 rfl rfl (k := k) (by omega) (by decide) dX1_enter_100 ?_
        refine lv_aload_n hx hb dX1_enter_101 rfl (lv_at hl 0 rfl) ?_
        refine va_get (D := D) (ci := 0) (v := .int ((rdM R U a b N).2)) (C := RX1) (T := TX1) (N := 10) hx hb hts in_X1 hown hK hP 0 rfl rfl 9 (by decide) (hts _ q40) (fun _ h9 => h9) rfl dX1_enter_102 ?_
        refine lv_ixor hx hb dX1_enter_105 ?_
        refine fd_iast hx hb hK hP hD hS 4 3 rfl rfl (k := k) (by omega) (by decide) dX1_enter_106 (fun H locs hP hD hS => ?_)
        have hP : va_P D vwCl (xW g d S V n cnt (upd ((enL R U (topM 7 (rdM R U a b N).1) (rdM R U a b N).1 (rdM R U a b N).2 k).1) k ((((enL R U (topM 7 (rdM R U a b N).1) (rdM R U a b N).1 (rdM R U a b N).2 k).1) k) ^^^ ((rdM R U a b N).1))) (upd ((enL R U (topM 7 (rdM R U a b N).1) (rdM R U a b N).1 (rdM R U a b N).2 k).2) k ((((enL R U (topM 7 (rdM R U a b N).1) (rdM R U a b N).1 (rdM R U a b N).2 k).2) k) ^^^ ((rdM R U a b N).2))) N B ((rdM R U a b N).1) ((rdM R U a b N).2)) H := hP
        have hD : va_D A (xW g d S V n cnt (upd ((enL R U (topM 7 (rdM R U a b N).1) (rdM R U a b N).1 (rdM R U a b N).2 k).1) k ((((enL R U (topM 7 (rdM R U a b N).1) (rdM R U a b N).1 (rdM R U a b N).2 k).1) k) ^^^ ((rdM R U a b N).1))) (upd ((enL R U (topM 7 (rdM R U a b N).1) (rdM R U a b N).1 (rdM R U a b N).2 k).2) k ((((enL R U (topM 7 (rdM R U a b N).1) (rdM R U a b N).1 (rdM R U a b N).2 k).2) k) ^^^ ((rdM R U a b N).2))) N B ((rdM R U a b N).1) ((rdM R U a b N).2)) := hD
        refine lv_iinc (v := nI (k + 1)) (lv' := [(4, .int (nI (k + 1))), (0, .ref (g 0)), (3, .int (topM 7 (rdM R U a b N).1))]) hx hb dX1_enter_107 hl (k := 2) rfl (fd_inc _) (by decide) rfl (fun ls hl => ?_)
        refine lv_goto (tgt := 48) hx hb dX1_enter_110 (by decide) ?_
        exact ih48 (k + 1) (upd ((enL R U (topM 7 (rdM R U a b N).1) (rdM R U a b N).1 (rdM R U a b N).2 k).1) k ((((enL R U (topM 7 (rdM R U a b N).1) (rdM R U a b N).1 (rdM R U a b N).2 k).1) k) ^^^ ((rdM R U a b N).1))) (upd ((enL R U (topM 7 (rdM R U a b N).1) (rdM R U a b N).1 (rdM R U a b N).2 k).2) k ((((enL R U (topM 7 (rdM R U a b N).1) (rdM R U a b N).1 (rdM R U a b N).2 k).2) k) ^^^ ((rdM R U a b N).2))) _ _ _ (by omega) (by omega) (by first | rw [enL, if_pos c66] | rw [enL, if_neg c66]) (by first | rw [enL, if_pos c66] | rw [enL, if_neg c66]) hP hD hS (lv_sub hl [1, 2, 0] rfl)
    exact LP48 _ 0 R U _ _ _ (Nat.lt_succ_self _) (by omega) rfl rfl hP hD hS (lv_sub hl [2, 1, 0] rfl)
  refine lv_aload_n hx hb dX1_enter_13 rfl (lv_at hl 0 rfl) ?_
  refine lv_aload_n hx hb dX1_enter_14 rfl (lv_at hl 0 rfl) ?_
  refine va_get (D := D) (ci := 0) (v := .int B) (C := RX1) (T := TX1) (N := 10) hx hb hts in_X1 hown hK hP 0 rfl rfl 7 (by decide) (hts _ q38) (fun _ h9 => h9) rfl dX1_enter_15 ?_
  refine lv_if_eq (tgt := 32) hx hb dX1_enter_18 (by decide) (fun c18 => ?_) (fun c18 => ?_)
  · refine lv_iconst (v := (0 : Int32)) hx hb dX1_enter_32 (by decide) ?_
    refine va_put (D := D) (ci := 0) (v := .int (0 : Int32)) (ty := .boolean) (C := RX1) (T := TX1) (N := 10) hx hb hts in_X1 tyX1 tyX1_ok nmX1 hown hK hP hD hS 0 rfl rfl 7 (by decide) (hts _ q38) (fun _ h9 => h9) rfl (by decide +kernel) rfl rfl (Nat.le_of_ble_eq_true rfl) dX1_enter_33 (fun H locs hP hD hS => ?_)
    have hP : va_P D vwCl (xW g d S V n cnt R U N (0 : Int32) ((rdM R U a b N).1) ((rdM R U a b N).2)) H := hP
    have hD : va_D A (xW g d S V n cnt R U N (0 : Int32) ((rdM R U a b N).1) ((rdM R U a b N).2)) := hD
    exact hret (R, U, N, (0 : Int32), (rdM R U a b N).1, (rdM R U a b N).2) _ _ _ _ dX1_enter_36 (by first | rw [enM, if_neg c10] | rw [enM, if_pos c10, if_pos c18] | rw [enM, if_pos c10, if_neg c18, if_neg c25] | rw [enM, if_pos c10, if_neg c18, if_pos c25]) hP hD hS
  refine lv_aload_n hx hb dX1_enter_21 rfl (lv_at hl 0 rfl) ?_
  refine va_get (D := D) (ci := 0) (v := .int ((rdM R U a b N).2)) (C := RX1) (T := TX1) (N := 10) hx hb hts in_X1 hown hK hP 0 rfl rfl 9 (by decide) (hts _ q40) (fun _ h9 => h9) rfl dX1_enter_22 ?_
  refine lv_if_ne (tgt := 32) hx hb dX1_enter_25 (by decide) (fun c25 => ?_) (fun c25 => ?_)
  · refine lv_iconst (v := (0 : Int32)) hx hb dX1_enter_32 (by decide) ?_
    refine va_put (D := D) (ci := 0) (v := .int (0 : Int32)) (ty := .boolean) (C := RX1) (T := TX1) (N := 10) hx hb hts in_X1 tyX1 tyX1_ok nmX1 hown hK hP hD hS 0 rfl rfl 7 (by decide) (hts _ q38) (fun _ h9 => h9) rfl (by decide +kernel) rfl rfl (Nat.le_of_ble_eq_true rfl) dX1_enter_33 (fun H locs hP hD hS => ?_)
    have hP : va_P D vwCl (xW g d S V n cnt R U N (0 : Int32) ((rdM R U a b N).1) ((rdM R U a b N).2)) H := hP
    have hD : va_D A (xW g d S V n cnt R U N (0 : Int32) ((rdM R U a b N).1) ((rdM R U a b N).2)) := hD
    exact hret (R, U, N, (0 : Int32), (rdM R U a b N).1, (rdM R U a b N).2) _ _ _ _ dX1_enter_36 (by first | rw [enM, if_neg c10] | rw [enM, if_pos c10, if_pos c18] | rw [enM, if_pos c10, if_neg c18, if_neg c25] | rw [enM, if_pos c10, if_neg c18, if_pos c25]) hP hD hS
  refine lv_iconst (v := (1 : Int32)) hx hb dX1_enter_28 (by decide) ?_
  refine lv_goto (tgt := 33) hx hb dX1_enter_29 (by decide) ?_
  refine va_put (D := D) (ci := 0) (v := .int (1 : Int32)) (ty := .boolean) (C := RX1) (T := TX1) (N := 10) hx hb hts in_X1 tyX1 tyX1_ok nmX1 hown hK hP hD hS 0 rfl rfl 7 (by decide) (hts _ q38) (fun _ h9 => h9) rfl (by decide +kernel) rfl rfl (Nat.le_of_ble_eq_true rfl) dX1_enter_33 (fun H locs hP hD hS => ?_)
  have hP : va_P D vwCl (xW g d S V n cnt R U N (1 : Int32) ((rdM R U a b N).1) ((rdM R U a b N).2)) H := hP
  have hD : va_D A (xW g d S V n cnt R U N (1 : Int32) ((rdM R U a b N).1) ((rdM R U a b N).2)) := hD
  exact hret (R, U, N, (1 : Int32), (rdM R U a b N).1, (rdM R U a b N).2) _ _ _ _ dX1_enter_36 (by first | rw [enM, if_neg c10] | rw [enM, if_pos c10, if_pos c18] | rw [enM, if_pos c10, if_neg c18, if_neg c25] | rw [enM, if_pos c10, if_neg c18, if_pos c25]) hP hD hS
abbrev rmX1_reduceAll : Room := { frames := 3, cells := 0, slots := 0, locals := 69 }
set_option maxHeartbeats 4000000 in
set_option maxRecDepth 100000 in
theorem metX1_reduceAll (l : Launch) (D : va_G) (g : Nat → Nat) (d : Nat → ClassId) (S V : Nat → Int32) (n cnt : Nat) (R U : Nat → Int32) (N : Nat) (B L X : Int32) (wo : Int32) (hc : cnt ≤ 16) (hra : raOK S V cnt) : fd_V l yX1_reduceAll (ws_ yX1_reduceAll cX1_reduceAll 3 none) rmX1_reduceAll D (xT d) [.ref (g 0), .int wo] (xW g d S V n cnt R U N B L X) (fun (u : raST) => u = raA S V cnt wo R U L X) (fun (u : raST) => xW g d S V n cnt u.1 u.2.1 u.2.2.1 u.2.2.2.1 u.2.2.2.2.1 u.2.2.2.2.2) := by
  refine fd_Vof (lv := [(0, .ref (g 0)), (1, .int wo)]) rfl (by decide) (Nat.le_of_ble_eq_true rfl) rfl ?_
  intro p e s m below meth c A ls Q S0 hK hP hD hA hl hret
  obtain ⟨hx, hb, hml, hown, hts⟩ := id S0
  have hS : va_S A s.heap s.heap [] := va_S.rf
  refine lv_aload_n hx hb dX1_reduceAll_0 rfl (lv_at hl 0 rfl) ?_
  refine lv_iconst (v := nI 0) hx hb dX1_reduceAll_1 (by decide) ?_
  refine va_put (D := D) (ci := 0) (v := .int (nI 0)) (ty := .int) (C := RX1) (T := TX1) (N := 10) hx hb hts in_X1 tyX1 tyX1_ok nmX1 hown hK hP hD hS 0 rfl rfl 6 (by decide) (hts _ q37) (fun _ h9 => h9) rfl (by decide +kernel) rfl rfl (Nat.le_of_ble_eq_true rfl) dX1_reduceAll_2 (fun H locs hP hD hS => ?_)
  have hP : va_P D vwCl (xW g d S V n cnt R U 0 B L X) H := hP
  have hD : va_D A (xW g d S V n cnt R U 0 B L X) := hD
  refine lv_aload_n hx hb dX1_reduceAll_5 rfl (lv_at hl 0 rfl) ?_
  refine lv_iconst (v := (1 : Int32)) hx hb dX1_reduceAll_6 (by decide) ?_
  refine va_put (D := D) (ci := 0) (v := .int (1 : Int32)) (ty := .boolean) (C := RX1) (T := TX1) (N := 10) hx hb hts in_X1 tyX1 tyX1_ok nmX1 hown hK hP hD hS 0 rfl rfl 7 (by decide) (hts _ q38) (fun _ h9 => h9) rfl (by decide +kernel) rfl rfl (Nat.le_of_ble_eq_true rfl) dX1_reduceAll_7 (fun H locs hP hD hS => ?_)
  have hP : va_P D vwCl (xW g d S V n cnt R U 0 (1 : Int32) L X) H := hP
  have hD : va_D A (xW g d S V n cnt R U 0 (1 : Int32) L X) := hD
  refine lv_iconst (v := nI 0) hx hb dX1_reduceAll_10 (by decide) ?_
  refine lv_istore_n (lv' := [(2, .int (nI 0)), (0, .ref (g 0)), (1, .int wo)]) hx hb dX1_reduceAll_11 rfl hl (by decide) rfl (fun ls hl => ?_)
  have LP12 : ∀ (Nf12 : Nat) (k : Nat) (xR : Nat → Int32) (xU : Nat → Int32) (xN : Nat) (xB : Int32) (xL : Int32) (xX : Int32) (H : Heap) (locs : List Loc) (ls : Array Slot), cnt - k < Nf12 → (k ≤ cnt) → xR = (raM S V wo (R, U, 0, 1, L, X) k).1 → xU = (raM S V wo (R, U, 0, 1, L, X) k).2.1 → xN = (raM S V wo (R, U, 0, 1, L, X) k).2.2.1 → xB = (raM S V wo (R, U, 0, 1, L, X) k).2.2.2.1 → xL = (raM S V wo (R, U, 0, 1, L, X) k).2.2.2.2.1 → xX = (raM S V wo (R, U, 0, 1, L, X) k).2.2.2.2.2 → va_P D vwCl (xW g d S V n cnt xR xU xN xB xL xX) H → va_D A (xW g d S V n cnt xR xU xN xB xL xX) → va_S A s.heap H locs → lv_has ls 3 [(0, .ref (g 0)), (1, .int wo), (2, .int (nI k))] → W p l e rmX1_reduceAll s m ([.ref (g 0), .int wo] : List Value).toArray below meth c H locs 0 0 Q (F0 m 12 ls []) := by
    intro Nf12
    induction Nf12 with
    | zero => intro k xR xU xN xB xL xX H locs ls hmu; exact absurd hmu (Nat.not_lt_zero _)
    | succ Nf12 ih12 =>
      intro k xR xU xN xB xL xX H locs ls hmu12 hc12_0 exR exU exN exB exL exX hP hD hS hl
      subst exR
      subst exU
      subst exN
      subst exB
      subst exL
      subst exX
      refine lv_iload_n hx hb dX1_reduceAll_12 rfl (lv_at hl 2 rfl) ?_
      refine lv_aload_n hx hb dX1_reduceAll_13 rfl (lv_at hl 0 rfl) ?_
      refine va_get (D := D) (ci := 0) (v := .int (nI cnt)) (C := RX1) (T := TX1) (N := 10) hx hb hts in_X1 hown hK hP 0 rfl rfl 5 (by decide) (hts _ q36) (fun _ h9 => h9) rfl dX1_reduceAll_14 ?_
      refine lv_icmp_ge (tgt := 47) hx hb dX1_reduceAll_17 (by decide) (fun c17 => ?_) (fun c17 => ?_)
      · have c17 : cnt ≤ k := (nI_leI (a := cnt) (b := k) (by omega) (by omega)).mp c17
        obtain rfl : cnt = k := by omega
        exact hret (raA S V cnt wo R U L X) _ _ _ _ dX1_reduceAll_47 rfl hP hD hS
      have c17 : ¬ (cnt ≤ k) := fun h => c17 ((nI_leI (a := cnt) (b := k) (by omega) (by omega)).mpr h)
      refine lv_iload_n hx hb dX1_reduceAll_20 rfl (lv_at hl 2 rfl) ?_
      refine lv_iload_n hx hb dX1_reduceAll_21 rfl (lv_at hl 1 rfl) ?_
      refine lv_icmp_eq (tgt := 41) hx hb dX1_reduceAll_22 (by decide) (fun c22 => ?_) (fun c22 => ?_)
      · refine lv_iinc (v := nI (k + 1)) (lv' := [(2, .int (nI (k + 1))), (0, .ref (g 0)), (1, .int wo)]) hx hb dX1_reduceAll_41 hl (k := 2) rfl (fd_inc _) (by decide) rfl (fun ls hl => ?_)
        refine lv_goto (tgt := 12) hx hb dX1_reduceAll_44 (by decide) ?_
        exact ih12 (k + 1) ((raM S V wo (R, U, 0, 1, L, X) k).1) ((raM S V wo (R, U, 0, 1, L, X) k).2.1) ((raM S V wo (R, U, 0, 1, L, X) k).2.2.1) ((raM S V wo (R, U, 0, 1, L, X) k).2.2.2.1) ((raM S V wo (R, U, 0, 1, L, X) k).2.2.2.2.1) ((raM S V wo (R, U, 0, 1, L, X) k).2.2.2.2.2) _ _ _ (by omega) (by omega) (by first | rw [raM, if_pos c22] | rw [hq38, raM, if_neg c22]) (by first | rw [raM, if_pos c22] | rw [hq38, raM, if_neg c22]) (by first | rw [raM, if_pos c22] | rw [hq38, raM, if_neg c22]) (by first | rw [raM, if_pos c22] | rw [hq38, raM, if_neg c22]) (by first | rw [raM, if_pos c22] | rw [hq38, raM, if_neg c22]) (by first | rw [raM, if_pos c22] | rw [hq38, raM, if_neg c22]) hP hD hS (lv_sub hl [1, 2, 0] rfl)
      refine lv_aload_n hx hb dX1_reduceAll_25 rfl (lv_at hl 0 rfl) ?_
      refine lv_aload_n hx hb dX1_reduceAll_26 rfl (lv_at hl 0 rfl) ?_
      refine va_get (D := D) (ci := 0) (v := .ref (g 1)) (C := RX1) (T := TX1) (N := 10) hx hb hts in_X1 hown hK hP 0 rfl rfl 0 (by decide) (hts _ q31) (fun _ h9 => h9) rfl dX1_reduceAll_27 ?_
      refine lv_iload_n hx hb dX1_reduceAll_30 rfl (lv_at hl 2 rfl) ?_
      refine fd_iald hx hb hK hP 1 0 rfl rfl (k := k) (by omega) (by decide) dX1_reduceAll_31 ?_
      refine lv_aload_n hx hb dX1_reduceAll_32 rfl (lv_at hl 0 rfl) ?_
      refine va_get (D := D) (ci := 0) (v := .ref (g 2)) (C := RX1) (T := TX1) (N := 10) hx hb hts in_X1 hown hK hP 0 rfl rfl 1 (by decide) (hts _ q32) (fun _ h9 => h9) rfl dX1_reduceAll_33 ?_
      refine lv_iload_n hx hb dX1_reduceAll_36 rfl (lv_at hl 2 rfl) ?_
      refine fd_iald hx hb hK hP 2 1 rfl rfl (k := k) (by omega) (by decide) dX1_reduceAll_37 ?_
      refine fd_callVv (n := 2) (rest := []) (As := [.int (S k), .int (V k)]) (wr := []) S0 hK hP hD hS hA [0, 1, 2, 3, 4] [] [0, 1, 2, 3] (metX1_enter l D g d S V n cnt ((raM S V wo (R, U, 0, 1, L, X) k).1) ((raM S V wo (R, U, 0, 1, L, X) k).2.1) ((raM S V wo (R, U, 0, 1, L, X) k).2.2.1) ((raM S V wo (R, U, 0, 1, L, X) k).2.2.2.1) ((raM S V wo (R, U, 0, 1, L, X) k).2.2.2.2.1) ((raM S V wo (R, U, 0, 1, L, X) k).2.2.2.2.2) (S k) (V k) (hra wo R U L X k (by omega)).1 ((hra wo R U L X k (by omega)).2 (by omega) c22)) q104 q106 qs3 q21 q107 dX1_reduceAll_38 rfl rfl rfl rfl ⟨⟨rfl, rfl⟩, Nat.le_of_ble_eq_true rfl, Nat.le_of_ble_eq_true rfl⟩ (by decide +kernel) rfl rfl (q0 := 0) rfl rfl hl.1 rfl (Nat.le_of_ble_eq_true rfl) ⟨Nat.le_of_ble_eq_true rfl, Nat.le_of_ble_eq_true rfl⟩ (fun u38 H locs hq38 hP hD hS => ?_)
      have hP : va_P D vwCl (xW g d S V n cnt u38.1 u38.2.1 u38.2.2.1 u38.2.2.2.1 u38.2.2.2.2.1 u38.2.2.2.2.2) H := hP
      have hD : va_D A (xW g d S V n cnt u38.1 u38.2.1 u38.2.2.1 u38.2.2.2.1 u38.2.2.2.2.1 u38.2.2.2.2.2) := hD
      refine lv_iinc (v := nI (k + 1)) (lv' := [(2, .int (nI (k + 1))), (0, .ref (g 0)), (1, .int wo)]) hx hb dX1_reduceAll_41 hl (k := 2) rfl (fd_inc _) (by decide) rfl (fun ls hl => ?_)
      refine lv_goto (tgt := 12) hx hb dX1_reduceAll_44 (by decide) ?_
      exact ih12 (k + 1) u38.1 u38.2.1 u38.2.2.1 u38.2.2.2.1 u38.2.2.2.2.1 u38.2.2.2.2.2 _ _ _ (by omega) (by omega) (by first | rw [raM, if_pos c22] | rw [hq38, raM, if_neg c22]) (by first | rw [raM, if_pos c22] | rw [hq38, raM, if_neg c22]) (by first | rw [raM, if_pos c22] | rw [hq38, raM, if_neg c22]) (by first | rw [raM, if_pos c22] | rw [hq38, raM, if_neg c22]) (by first | rw [raM, if_pos c22] | rw [hq38, raM, if_neg c22]) (by first | rw [raM, if_pos c22] | rw [hq38, raM, if_neg c22]) hP hD hS (lv_sub hl [1, 2, 0] rfl)
  exact LP12 _ 0 R U 0 (1 : Int32) L X _ _ _ (Nat.lt_succ_self _) (by omega) rfl rfl rfl rfl rfl rfl hP hD hS (lv_sub hl [1, 2, 0] rfl)
abbrev rmX1_knownNow : Room := { frames := 0, cells := 0, slots := 0, locals := 0 }
set_option maxHeartbeats 4000000 in
set_option maxRecDepth 100000 in
theorem metX1_knownNow (l : Launch) (D : va_G) (g : Nat → Nat) (d : Nat → ClassId) (S V : Nat → Int32) (n cnt : Nat) (R U : Nat → Int32) (N : Nat) (B L X : Int32)  (hN : N ≤ 8) : fd_I l yX1_knownNow (ws_ yX1_knownNow cX1_knownNow 3 (some .int)) rmX1_knownNow D (xT d) [.ref (g 0)] (xW g d S V n cnt R U N B L X) (fun (r : Int32) (u : Unit) => r = knM R B N) (fun (u : Unit) => xW g d S V n cnt R U N B L X) := by
  refine fd_Iof (lv := [(0, .ref (g 0))]) rfl (by decide) (Nat.le_of_ble_eq_true rfl) rfl ?_
  intro p e s m below meth c A ls Q S0 hK hP hD hA hl hret
  obtain ⟨hx, hb, hml, hown, hts⟩ := id S0
  have hS : va_S A s.heap s.heap [] := va_S.rf
  refine lv_iconst (v := (0 : Int32)) hx hb dX1_knownNow_0 (by decide) ?_
  refine lv_istore_n (lv' := [(1, .int (0 : Int32)), (0, .ref (g 0))]) hx hb dX1_knownNow_1 rfl hl (by decide) rfl (fun ls hl => ?_)
  refine lv_iconst (v := nI 0) hx hb dX1_knownNow_2 (by decide) ?_
  refine lv_istore_n (lv' := [(2, .int (nI 0)), (1, .int (0 : Int32)), (0, .ref (g 0))]) hx hb dX1_knownNow_3 rfl hl (by decide) rfl (fun ls hl => ?_)
  have LP4 : ∀ (Nf4 : Nat) (k : Nat) (x1 : Int32) (H : Heap) (locs : List Loc) (ls : Array Slot), N - k < Nf4 → (k ≤ N) → x1 = knM R B k → va_P D vwCl (xW g d S V n cnt R U N B L X) H → va_D A (xW g d S V n cnt R U N B L X) → va_S A s.heap H locs → lv_has ls 3 [(0, .ref (g 0)), (1, .int x1), (2, .int (nI k))] → W p l e rmX1_knownNow s m ([.ref (g 0)] : List Value).toArray below meth c H locs 0 0 Q (F0 m 4 ls []) := by
    intro Nf4
    induction Nf4 with
    | zero => intro k x1 H locs ls hmu; exact absurd hmu (Nat.not_lt_zero _)
    | succ Nf4 ih4 =>
      intro k x1 H locs ls hmu4 hc4_0 ex1 hP hD hS hl
      subst ex1
      refine lv_iload_n hx hb dX1_knownNow_4 rfl (lv_at hl 2 rfl) ?_
      refine lv_aload_n hx hb dX1_knownNow_5 rfl (lv_at hl 0 rfl) ?_
      refine va_get (D := D) (ci := 0) (v := .int (nI N)) (C := RX1) (T := TX1) (N := 10) hx hb hts in_X1 hown hK hP 0 rfl rfl 6 (by decide) (hts _ q37) (fun _ h9 => h9) rfl dX1_knownNow_6 ?_
      refine lv_icmp_ge (tgt := 52) hx hb dX1_knownNow_9 (by decide) (fun c9 => ?_) (fun c9 => ?_)
      · have c9 : N ≤ k := (nI_leI (a := N) (b := k) (by omega) (by omega)).mp c9
        obtain rfl : N = k := by omega
        refine lv_iload_n hx hb dX1_knownNow_52 rfl (lv_at hl 1 rfl) ?_
        exact hret (knM R B N) () _ _ _ _ dX1_knownNow_53 rfl rfl hP hD hS
      have c9 : ¬ (N ≤ k) := fun h => c9 ((nI_leI (a := N) (b := k) (by omega) (by omega)).mpr h)
      refine lv_aload_n hx hb dX1_knownNow_12 rfl (lv_at hl 0 rfl) ?_
      refine va_get (D := D) (ci := 0) (v := .int B) (C := RX1) (T := TX1) (N := 10) hx hb hts in_X1 hown hK hP 0 rfl rfl 7 (by decide) (hts _ q38) (fun _ h9 => h9) rfl dX1_knownNow_13 ?_
      refine lv_if_eq (tgt := 46) hx hb dX1_knownNow_16 (by decide) (fun c16 => ?_) (fun c16 => ?_)
      · refine lv_iinc (v := nI (k + 1)) (lv' := [(2, .int (nI (k + 1))), (0, .ref (g 0)), (1, .int (knM R B k))]) hx hb dX1_knownNow_46 hl (k := 2) rfl (fd_inc _) (by decide) rfl (fun ls hl => ?_)
        refine lv_goto (tgt := 4) hx hb dX1_knownNow_49 (by decide) ?_
        exact ih4 (k + 1) (knM R B k) _ _ _ (by omega) (by omega) (by first | rw [knM, if_pos c16] | rw [knM, if_neg c16, if_neg c34] | rw [knM, if_neg c16, if_pos c34]) hP hD hS (lv_sub hl [1, 2, 0] rfl)
      refine lv_aload_n hx hb dX1_knownNow_19 rfl (lv_at hl 0 rfl) ?_
      refine va_get (D := D) (ci := 0) (v := .ref (g 3)) (C := RX1) (T := TX1) (N := 10) hx hb hts in_X1 hown hK hP 0 rfl rfl 2 (by decide) (hts _ q33) (fun _ h9 => h9) rfl dX1_knownNow_20 ?_
      refine lv_iload_n hx hb dX1_knownNow_23 rfl (lv_at hl 2 rfl) ?_
      refine fd_iald hx hb hK hP 3 2 rfl rfl (k := k) (by omega) (by decide) dX1_knownNow_24 ?_
      refine lv_aload_n hx hb dX1_knownNow_25 rfl (lv_at hl 0 rfl) ?_
      refine va_get (D := D) (ci := 0) (v := .ref (g 3)) (C := RX1) (T := TX1) (N := 10) hx hb hts in_X1 hown hK hP 0 rfl rfl 2 (by decide) (hts _ q33) (fun _ h9 => h9) rfl dX1_knownNow_26 ?_
      refine lv_iload_n hx hb dX1_knownNow_29 rfl (lv_at hl 2 rfl) ?_
      refine fd_iald hx hb hK hP 3 2 rfl rfl (k := k) (by omega) (by decide) dX1_knownNow_30 ?_
      refine lv_iconst (v := (1 : Int32)) hx hb dX1_knownNow_31 (by decide) ?_
      refine lv_isub hx hb dX1_knownNow_32 ?_
      refine lv_iand hx hb dX1_knownNow_33 ?_
      refine lv_if_ne (tgt := 46) hx hb dX1_knownNow_34 (by decide) (fun c34 => ?_) (fun c34 => ?_)
      · refine lv_iinc (v := nI (k + 1)) (lv' := [(2, .int (nI (k + 1))), (0, .ref (g 0)), (1, .int (knM R B k))]) hx hb dX1_knownNow_46 hl (k := 2) rfl (fd_inc _) (by decide) rfl (fun ls hl => ?_)
        refine lv_goto (tgt := 4) hx hb dX1_knownNow_49 (by decide) ?_
        exact ih4 (k + 1) (knM R B k) _ _ _ (by omega) (by omega) (by first | rw [knM, if_pos c16] | rw [knM, if_neg c16, if_neg c34] | rw [knM, if_neg c16, if_pos c34]) hP hD hS (lv_sub hl [1, 2, 0] rfl)
      refine lv_iload_n hx hb dX1_knownNow_37 rfl (lv_at hl 1 rfl) ?_
      refine lv_aload_n hx hb dX1_knownNow_38 rfl (lv_at hl 0 rfl) ?_
      refine va_get (D := D) (ci := 0) (v := .ref (g 3)) (C := RX1) (T := TX1) (N := 10) hx hb hts in_X1 hown hK hP 0 rfl rfl 2 (by decide) (hts _ q33) (fun _ h9 => h9) rfl dX1_knownNow_39 ?_
      refine lv_iload_n hx hb dX1_knownNow_42 rfl (lv_at hl 2 rfl) ?_
      refine fd_iald hx hb hK hP 3 2 rfl rfl (k := k) (by omega) (by decide) dX1_knownNow_43 ?_
      refine lv_ior hx hb dX1_knownNow_44 ?_
      refine lv_istore_n (lv' := [(1, .int ((knM R B k) ||| (R k))), (0, .ref (g 0)), (2, .int (nI k))]) hx hb dX1_knownNow_45 rfl hl (by decide) rfl (fun ls hl => ?_)
      refine lv_iinc (v := nI (k + 1)) (lv' := [(2, .int (nI (k + 1))), (1, .int ((knM R B k) ||| (R k))), (0, .ref (g 0))]) hx hb dX1_knownNow_46 hl (k := 2) rfl (fd_inc _) (by decide) rfl (fun ls hl => ?_)
      refine lv_goto (tgt := 4) hx hb dX1_knownNow_49 (by decide) ?_
      exact ih4 (k + 1) ((knM R B k) ||| (R k)) _ _ _ (by omega) (by omega) (by first | rw [knM, if_pos c16] | rw [knM, if_neg c16, if_neg c34] | rw [knM, if_neg c16, if_pos c34]) hP hD hS (lv_sub hl [2, 1, 0] rfl)
  exact LP4 _ 0 (0 : Int32) _ _ _ (Nat.lt_succ_self _) (by omega) rfl hP hD hS (lv_sub hl [2, 1, 0] rfl)
end
section
/-! FountainDecoder: settle, wouldHelp, peelFrom, blocks, symbols, consistent, rank, known, value, sumOf -/
abbrev rmX1_settle : Room := { frames := 2, cells := 0, slots := 0, locals := 45 }
set_option maxHeartbeats 4000000 in
set_option maxRecDepth 100000 in
theorem metX1_settle (l : Launch) (D : va_G) (g : Nat → Nat) (d : Nat → ClassId) (S V : Nat → Int32) (n cnt : Nat) (R U : Nat → Int32) (N : Nat) (B L X : Int32) (a : Int32) (hN : N ≤ 8) : fd_I l yX1_settle (ws_ yX1_settle cX1_settle 2 (some .int)) rmX1_settle D (xT d) [.ref (g 0), .int a] (xW g d S V n cnt R U N B L X) (fun (r : Int32) (u : Unit) => r = seM B (rdM R U a 0 N)) (fun (u : Unit) => xW g d S V n cnt R U N B ((rdM R U a 0 N).1) ((rdM R U a 0 N).2)) := by
  refine fd_Iof (lv := [(0, .ref (g 0)), (1, .int a)]) rfl (by decide) (Nat.le_of_ble_eq_true rfl) rfl ?_
  intro p e s m below meth c A ls Q S0 hK hP hD hA hl hret
  obtain ⟨hx, hb, hml, hown, hts⟩ := id S0
  have hS : va_S A s.heap s.heap [] := va_S.rf
  refine lv_aload_n hx hb dX1_settle_0 rfl (lv_at hl 0 rfl) ?_
  refine lv_iload_n hx hb dX1_settle_1 rfl (lv_at hl 1 rfl) ?_
  refine lv_iconst (v := (0 : Int32)) hx hb dX1_settle_2 (by decide) ?_
  refine fd_callVv (n := 2) (rest := []) (As := [.int a, .int (0 : Int32)]) (wr := []) S0 hK hP hD hS hA [0, 1, 2, 3, 4] [] [0, 1, 2, 3] (metX1_reduce l D g d S V n cnt R U N B L X a (0 : Int32) hN) q108 q110 qs4 q21 q111 dX1_settle_3 rfl rfl rfl rfl ⟨⟨rfl, rfl⟩, Nat.le_of_ble_eq_true rfl, Nat.le_of_ble_eq_true rfl⟩ (by decide +kernel) rfl rfl (q0 := 0) rfl rfl hl.1 rfl (Nat.le_of_ble_eq_true rfl) ⟨Nat.le_of_ble_eq_true rfl, Nat.le_of_ble_eq_true rfl⟩ (fun u3 H locs hq3 hP hD hS => ?_)
  have hP : va_P D vwCl (xW g d S V n cnt R U N B ((rdM R U a (0 : Int32) N).1) ((rdM R U a (0 : Int32) N).2)) H := hP
  have hD : va_D A (xW g d S V n cnt R U N B ((rdM R U a (0 : Int32) N).1) ((rdM R U a (0 : Int32) N).2)) := hD
  refine lv_aload_n hx hb dX1_settle_6 rfl (lv_at hl 0 rfl) ?_
  refine va_get (D := D) (ci := 0) (v := .int B) (C := RX1) (T := TX1) (N := 10) hx hb hts in_X1 hown hK hP 0 rfl rfl 7 (by decide) (hts _ q38) (fun _ h9 => h9) rfl dX1_settle_7 ?_
  refine lv_if_eq (tgt := 27) hx hb dX1_settle_10 (by decide) (fun c10 => ?_) (fun c10 => ?_)
  · refine lv_iconst (v := (-1 : Int32)) hx hb dX1_settle_27 (by decide) ?_
    exact hret (-1 : Int32) () _ _ _ _ dX1_settle_28 rfl (by first | rw [seM, if_pos c10] | rw [seM, if_neg c10, if_neg c17] | rw [seM, if_neg c10, if_pos c17]) hP hD hS
  refine lv_aload_n hx hb dX1_settle_13 rfl (lv_at hl 0 rfl) ?_
  refine va_get (D := D) (ci := 0) (v := .int ((rdM R U a (0 : Int32) N).1)) (C := RX1) (T := TX1) (N := 10) hx hb hts in_X1 hown hK hP 0 rfl rfl 8 (by decide) (hts _ q39) (fun _ h9 => h9) rfl dX1_settle_14 ?_
  refine lv_if_ne (tgt := 27) hx hb dX1_settle_17 (by decide) (fun c17 => ?_) (fun c17 => ?_)
  · refine lv_iconst (v := (-1 : Int32)) hx hb dX1_settle_27 (by decide) ?_
    exact hret (-1 : Int32) () _ _ _ _ dX1_settle_28 rfl (by first | rw [seM, if_pos c10] | rw [seM, if_neg c10, if_neg c17] | rw [seM, if_neg c10, if_pos c17]) hP hD hS
  refine lv_aload_n hx hb dX1_settle_20 rfl (lv_at hl 0 rfl) ?_
  refine va_get (D := D) (ci := 0) (v := .int ((rdM R U a (0 : Int32) N).2)) (C := RX1) (T := TX1) (N := 10) hx hb hts in_X1 hown hK hP 0 rfl rfl 9 (by decide) (hts _ q40) (fun _ h9 => h9) rfl dX1_settle_21 ?_
  refine lv_goto (tgt := 28) hx hb dX1_settle_24 (by decide) ?_
  exact hret ((rdM R U a (0 : Int32) N).2) () _ _ _ _ dX1_settle_28 rfl (by first | rw [seM, if_pos c10] | rw [seM, if_neg c10, if_neg c17] | rw [seM, if_neg c10, if_pos c17]) hP hD hS
abbrev rmX1_wouldHelp : Room := { frames := 2, cells := 0, slots := 0, locals := 45 }
set_option maxHeartbeats 4000000 in
set_option maxRecDepth 100000 in
theorem metX1_wouldHelp (l : Launch) (D : va_G) (g : Nat → Nat) (d : Nat → ClassId) (S V : Nat → Int32) (n cnt : Nat) (R U : Nat → Int32) (N : Nat) (B L X : Int32) (a now : Int32) (hN : N ≤ 8) : fd_I l yX1_wouldHelp (ws_ yX1_wouldHelp cX1_wouldHelp 8 (some .boolean)) rmX1_wouldHelp D (xT d) [.ref (g 0), .int a, .int now] (xW g d S V n cnt R U N B L X) (fun (r : Int32) (u : Unit) => r = whM R U N a now) (fun (u : Unit) => xW g d S V n cnt R U N B ((rdM R U a 0 N).1) ((rdM R U a 0 N).2)) := by
  refine fd_Iof (lv := [(0, .ref (g 0)), (1, .int a), (2, .int now)]) rfl (by decide) (Nat.le_of_ble_eq_true rfl) rfl ?_
  intro p e s m below meth c A ls Q S0 hK hP hD hA hl hret
  obtain ⟨hx, hb, hml, hown, hts⟩ := id S0
  have hS : va_S A s.heap s.heap [] := va_S.rf
  refine lv_aload_n hx hb dX1_wouldHelp_0 rfl (lv_at hl 0 rfl) ?_
  refine lv_iload_n hx hb dX1_wouldHelp_1 rfl (lv_at hl 1 rfl) ?_
  refine lv_iconst (v := (0 : Int32)) hx hb dX1_wouldHelp_2 (by decide) ?_
  refine fd_callVv (n := 2) (rest := []) (As := [.int a, .int (0 : Int32)]) (wr := []) S0 hK hP hD hS hA [0, 1, 2, 3, 4] [] [0, 1, 2, 3] (metX1_reduce l D g d S V n cnt R U N B L X a (0 : Int32) hN) q108 q110 qs4 q21 q111 dX1_wouldHelp_3 rfl rfl rfl rfl ⟨⟨rfl, rfl⟩, Nat.le_of_ble_eq_true rfl, Nat.le_of_ble_eq_true rfl⟩ (by decide +kernel) rfl rfl (q0 := 0) rfl rfl hl.1 rfl (Nat.le_of_ble_eq_true rfl) ⟨Nat.le_of_ble_eq_true rfl, Nat.le_of_ble_eq_true rfl⟩ (fun u3 H locs hq3 hP hD hS => ?_)
  have hP : va_P D vwCl (xW g d S V n cnt R U N B ((rdM R U a (0 : Int32) N).1) ((rdM R U a (0 : Int32) N).2)) H := hP
  have hD : va_D A (xW g d S V n cnt R U N B ((rdM R U a (0 : Int32) N).1) ((rdM R U a (0 : Int32) N).2)) := hD
  refine lv_aload_n hx hb dX1_wouldHelp_6 rfl (lv_at hl 0 rfl) ?_
  refine va_get (D := D) (ci := 0) (v := .int ((rdM R U a (0 : Int32) N).1)) (C := RX1) (T := TX1) (N := 10) hx hb hts in_X1 hown hK hP 0 rfl rfl 8 (by decide) (hts _ q39) (fun _ h9 => h9) rfl dX1_wouldHelp_7 ?_
  refine lv_istore_n (lv' := [(3, .int ((rdM R U a (0 : Int32) N).1)), (0, .ref (g 0)), (1, .int a), (2, .int now)]) hx hb dX1_wouldHelp_10 rfl hl (by decide) rfl (fun ls hl => ?_)
  refine lv_iload_n hx hb dX1_wouldHelp_11 rfl (lv_at hl 0 rfl) ?_
  refine fd_callSi (n := 1) (rest := []) (As := [.int ((rdM R U a (0 : Int32) N).1)]) (wr := xW g d S V n cnt R U N B ((rdM R U a (0 : Int32) N).1) ((rdM R U a (0 : Int32) N).2)) S0 hK hP hD hS hA [] [0, 1, 2, 3, 4] [] (metX1_topBit l D ((rdM R U a (0 : Int32) N).1)) q112 q113 q21 q114 dX1_wouldHelp_12 rfl rfl rfl rfl ⟨⟨rfl, rfl⟩, Nat.le_of_ble_eq_true rfl, Nat.le_of_ble_eq_true rfl⟩ (by decide +kernel) rfl hl.1 rfl (Nat.le_of_ble_eq_true rfl) ⟨Nat.le_of_ble_eq_true rfl, Nat.le_of_ble_eq_true rfl⟩ (fun r12 u12 H locs hq12 hP hD hS => ?_)
  subst hq12
  have hP : va_P D vwCl (xW g d S V n cnt R U N B ((rdM R U a (0 : Int32) N).1) ((rdM R U a (0 : Int32) N).2)) H := hP
  have hD : va_D A (xW g d S V n cnt R U N B ((rdM R U a (0 : Int32) N).1) ((rdM R U a (0 : Int32) N).2)) := hD
  refine lv_istore (lv' := [(4, .int (topM 7 ((rdM R U a (0 : Int32) N).1))), (3, .int ((rdM R U a (0 : Int32) N).1)), (0, .ref (g 0)), (1, .int a), (2, .int now)]) hx hb dX1_wouldHelp_15 hl (by decide) rfl (fun ls hl => ?_)
  refine lv_iload_n hx hb dX1_wouldHelp_17 rfl (lv_at hl 1 rfl) ?_
  refine lv_iload_n hx hb dX1_wouldHelp_18 rfl (lv_at hl 1 rfl) ?_
  refine lv_iconst (v := (1 : Int32)) hx hb dX1_wouldHelp_19 (by decide) ?_
  refine lv_isub hx hb dX1_wouldHelp_20 ?_
  refine lv_iand hx hb dX1_wouldHelp_21 ?_
  have LP35 : ∀ (Nf35 : Nat) (k : Nat) (x5 : Int32) (H : Heap) (locs : List Loc) (ls : Array Slot), N - k < Nf35 → (k ≤ N) → x5 = whL R (rdM R U a 0 N).1 (topM 7 (rdM R U a 0 N).1) k → va_P D vwCl (xW g d S V n cnt R U N B ((rdM R U a (0 : Int32) N).1) ((rdM R U a (0 : Int32) N).2)) H → va_D A (xW g d S V n cnt R U N B ((rdM R U a (0 : Int32) N).1) ((rdM R U a (0 : Int32) N).2)) → va_S A s.heap H locs → lv_has ls 8 [(0, .ref (g 0)), (2, .int now), (3, .int (rdM R U a 0 N).1), (4, .int (topM 7 (rdM R U a 0 N).1)), (5, .int x5), (6, .int (nI k))] → W p l e rmX1_wouldHelp s m ([.ref (g 0), .int a, .int now] : List Value).toArray below meth c H locs 0 0 Q (F0 m 35 ls []) := by
    intro Nf35
    induction Nf35 with
    | zero => intro k x5 H locs ls hmu; exact absurd hmu (Nat.not_lt_zero _)
    | succ Nf35 ih35 =>
      intro k x5 H locs ls hmu35 hc35_0 ex5 hP hD hS hl
      subst ex5
      refine lv_iload hx hb dX1_wouldHelp_35 (lv_at hl 5 rfl) ?_
      refine lv_aload_n hx hb dX1_wouldHelp_37 rfl (lv_at hl 0 rfl) ?_
      refine va_get (D := D) (ci := 0) (v := .int (nI N)) (C := RX1) (T := TX1) (N := 10) hx hb hts in_X1 hown hK hP 0 rfl rfl 6 (by decide) (hts _ q37) (fun _ h9 => h9) rfl dX1_wouldHelp_38 ?_
      refine lv_icmp_ge (tgt := 105) hx hb dX1_wouldHelp_41 (by decide) (fun c41 => ?_) (fun c41 => ?_)
      · have c41 : N ≤ k := (nI_leI (a := N) (b := k) (by omega) (by omega)).mp c41
        obtain rfl : N = k := by omega
        refine lv_iload hx hb dX1_wouldHelp_105 (lv_at hl 4 rfl) ?_
        refine lv_iload_n hx hb dX1_wouldHelp_107 rfl (lv_at hl 1 rfl) ?_
        refine lv_iconst (v := (-1 : Int32)) hx hb dX1_wouldHelp_108 (by decide) ?_
        refine lv_ixor hx hb dX1_wouldHelp_109 ?_
        refine lv_iand hx hb dX1_wouldHelp_110 ?_
        refine lv_if_eq (tgt := 118) hx hb dX1_wouldHelp_111 (by decide) (fun c111 => ?_) (fun c111 => ?_)
        · refine lv_iconst (v := (0 : Int32)) hx hb dX1_wouldHelp_118 (by decide) ?_
          exact hret (0 : Int32) () _ _ _ _ dX1_wouldHelp_119 rfl (by first | rw [whM, if_pos c111] | rw [whM, if_neg c111]) hP hD hS
        refine lv_iconst (v := (1 : Int32)) hx hb dX1_wouldHelp_114 (by decide) ?_
        refine lv_goto (tgt := 119) hx hb dX1_wouldHelp_115 (by decide) ?_
        exact hret (1 : Int32) () _ _ _ _ dX1_wouldHelp_119 rfl (by first | rw [whM, if_pos c111] | rw [whM, if_neg c111]) hP hD hS
      have c41 : ¬ (N ≤ k) := fun h => c41 ((nI_leI (a := N) (b := k) (by omega) (by omega)).mpr h)
      refine lv_aload_n hx hb dX1_wouldHelp_44 rfl (lv_at hl 0 rfl) ?_
      refine va_get (D := D) (ci := 0) (v := .ref (g 3)) (C := RX1) (T := TX1) (N := 10) hx hb hts in_X1 hown hK hP 0 rfl rfl 2 (by decide) (hts _ q33) (fun _ h9 => h9) rfl dX1_wouldHelp_45 ?_
      refine lv_iload hx hb dX1_wouldHelp_48 (lv_at hl 5 rfl) ?_
      refine fd_iald hx hb hK hP 3 2 rfl rfl (k := k) (by omega) (by decide) dX1_wouldHelp_50 ?_
      refine lv_iload hx hb dX1_wouldHelp_51 (lv_at hl 3 rfl) ?_
      refine lv_iand hx hb dX1_wouldHelp_53 ?_
      refine lv_if_eq (tgt := 69) hx hb dX1_wouldHelp_54 (by decide) (fun c54 => ?_) (fun c54 => ?_)
      · refine lv_aload_n hx hb dX1_wouldHelp_69 rfl (lv_at hl 0 rfl) ?_
        refine va_get (D := D) (ci := 0) (v := .ref (g 3)) (C := RX1) (T := TX1) (N := 10) hx hb hts in_X1 hown hK hP 0 rfl rfl 2 (by decide) (hts _ q33) (fun _ h9 => h9) rfl dX1_wouldHelp_70 ?_
        refine lv_iload hx hb dX1_wouldHelp_73 (lv_at hl 5 rfl) ?_
        refine fd_iald hx hb hK hP 3 2 rfl rfl (k := k) (by omega) (by decide) dX1_wouldHelp_75 ?_
        refine lv_istore (lv' := [(7, .int (R k)), (0, .ref (g 0)), (2, .int now), (3, .int ((rdM R U a 0 N).1)), (4, .int (topM 7 (rdM R U a 0 N).1)), (5, .int (whL R (rdM R U a 0 N).1 (topM 7 (rdM R U a 0 N).1) k)), (6, .int (nI k))]) hx hb dX1_wouldHelp_76 hl (by decide) rfl (fun ls hl => ?_)
        refine lv_iload hx hb dX1_wouldHelp_78 (lv_at hl 5 rfl) ?_
        refine lv_iload hx hb dX1_wouldHelp_80 (lv_at hl 0 rfl) ?_
        refine lv_iload hx hb dX1_wouldHelp_82 (lv_at hl 0 rfl) ?_
        refine lv_iconst (v := (1 : Int32)) hx hb dX1_wouldHelp_84 (by decide) ?_
        refine lv_isub hx hb dX1_wouldHelp_85 ?_
        refine lv_iand hx hb dX1_wouldHelp_86 ?_
        refine lv_if_ne (tgt := 95) hx hb dX1_wouldHelp_87 (by decide) (fun c87 => ?_) (fun c87 => ?_)
        · refine lv_iconst (v := (0 : Int32)) hx hb dX1_wouldHelp_95 (by decide) ?_
          refine lv_ior hx hb dX1_wouldHelp_96 ?_
          refine lv_istore (lv' := [(5, .int ((whL R (rdM R U a 0 N).1 (topM 7 (rdM R U a 0 N).1) k) ||| (0 : Int32))), (7, .int (R k)), (0, .ref (g 0)), (2, .int now), (3, .int ((rdM R U a 0 N).1)), (4, .int (topM 7 (rdM R U a 0 N).1)), (6, .int (nI k))]) hx hb dX1_wouldHelp_97 hl (by decide) rfl (fun ls hl => ?_)
          refine lv_iinc (v := nI (k + 1)) (lv' := [(6, .int (nI (k + 1))), (5, .int ((whL R (rdM R U a 0 N).1 (topM 7 (rdM R U a 0 N).1) k) ||| (0 : Int32))), (7, .int (R k)), (0, .ref (g 0)), (2, .int now), (3, .int ((rdM R U a 0 N).1)), (4, .int (topM 7 (rdM R U a 0 N).1))]) hx hb dX1_wouldHelp_99 hl (k := 6) rfl (fd_inc _) (by decide) rfl (fun ls hl => ?_)
          refine lv_goto (tgt := 35) hx hb dX1_wouldHelp_102 (by decide) ?_
          exact ih35 (k + 1) ((whL R (rdM R U a 0 N).1 (topM 7 (rdM R U a 0 N).1) k) ||| (0 : Int32)) _ _ _ (by omega) (by omega) (by first | rw [whL, unM, whR, if_pos c54, if_pos c87] | rw [whL, unM, whR, if_pos c54, if_neg c87] | rw [whL, unM, whR, if_neg c54, if_pos c87] | rw [whL, unM, whR, if_neg c54, if_neg c87] | rw [whL, unM, if_pos c22] | rw [whL, unM, if_neg c22]) hP hD hS (lv_sub hl [3, 4, 5, 6, 1, 0] rfl)
        refine lv_iload hx hb dX1_wouldHelp_90 (lv_at hl 0 rfl) ?_
        refine lv_goto (tgt := 96) hx hb dX1_wouldHelp_92 (by decide) ?_
        refine lv_ior hx hb dX1_wouldHelp_96 ?_
        refine lv_istore (lv' := [(5, .int ((whL R (rdM R U a 0 N).1 (topM 7 (rdM R U a 0 N).1) k) ||| (R k))), (7, .int (R k)), (0, .ref (g 0)), (2, .int now), (3, .int ((rdM R U a 0 N).1)), (4, .int (topM 7 (rdM R U a 0 N).1)), (6, .int (nI k))]) hx hb dX1_wouldHelp_97 hl (by decide) rfl (fun ls hl => ?_)
        refine lv_iinc (v := nI (k + 1)) (lv' := [(6, .int (nI (k + 1))), (5, .int ((whL R (rdM R U a 0 N).1 (topM 7 (rdM R U a 0 N).1) k) ||| (R k))), (7, .int (R k)), (0, .ref (g 0)), (2, .int now), (3, .int ((rdM R U a 0 N).1)), (4, .int (topM 7 (rdM R U a 0 N).1))]) hx hb dX1_wouldHelp_99 hl (k := 6) rfl (fd_inc _) (by decide) rfl (fun ls hl => ?_)
        refine lv_goto (tgt := 35) hx hb dX1_wouldHelp_102 (by decide) ?_
        exact ih35 (k + 1) ((whL R (rdM R U a 0 N).1 (topM 7 (rdM R U a 0 N).1) k) ||| (R k)) _ _ _ (by omega) (by omega) (by first | rw [whL, unM, whR, if_pos c54, if_pos c87] | rw [whL, unM, whR, if_pos c54, if_neg c87] | rw [whL, unM, whR, if_neg c54, if_pos c87] | rw [whL, unM, whR, if_neg c54, if_neg c87] | rw [whL, unM, if_pos c22] | rw [whL, unM, if_neg c22]) hP hD hS (lv_sub hl [3, 4, 5, 6, 1, 0] rfl)
      refine lv_aload_n hx hb dX1_wouldHelp_57 rfl (lv_at hl 0 rfl) ?_
      refine va_get (D := D) (ci := 0) (v := .ref (g 3)) (C := RX1) (T := TX1) (N := 10) hx hb hts in_X1 hown hK hP 0 rfl rfl 2 (by decide) (hts _ q33) (fun _ h9 => h9) rfl dX1_wouldHelp_58 ?_
      refine lv_iload hx hb dX1_wouldHelp_61 (lv_at hl 5 rfl) ?_
      refine fd_iald hx hb hK hP 3 2 rfl rfl (k := k) (by omega) (by decide) dX1_wouldHelp_63 ?_
      refine lv_iload_n hx hb dX1_wouldHelp_64 rfl (lv_at hl 2 rfl) ?_
      refine lv_ixor hx hb dX1_wouldHelp_65 ?_
      refine lv_goto (tgt := 76) hx hb dX1_wouldHelp_66 (by decide) ?_
      refine lv_istore (lv' := [(7, .int ((R k) ^^^ ((rdM R U a 0 N).1))), (0, .ref (g 0)), (2, .int now), (3, .int ((rdM R U a 0 N).1)), (4, .int (topM 7 (rdM R U a 0 N).1)), (5, .int (whL R (rdM R U a 0 N).1 (topM 7 (rdM R U a 0 N).1) k)), (6, .int (nI k))]) hx hb dX1_wouldHelp_76 hl (by decide) rfl (fun ls hl => ?_)
      refine lv_iload hx hb dX1_wouldHelp_78 (lv_at hl 5 rfl) ?_
      refine lv_iload hx hb dX1_wouldHelp_80 (lv_at hl 0 rfl) ?_
      refine lv_iload hx hb dX1_wouldHelp_82 (lv_at hl 0 rfl) ?_
      refine lv_iconst (v := (1 : Int32)) hx hb dX1_wouldHelp_84 (by decide) ?_
      refine lv_isub hx hb dX1_wouldHelp_85 ?_
      refine lv_iand hx hb dX1_wouldHelp_86 ?_
      refine lv_if_ne (tgt := 95) hx hb dX1_wouldHelp_87 (by decide) (fun c87 => ?_) (fun c87 => ?_)
      · refine lv_iconst (v := (0 : Int32)) hx hb dX1_wouldHelp_95 (by decide) ?_
        refine lv_ior hx hb dX1_wouldHelp_96 ?_
        refine lv_istore (lv' := [(5, .int ((whL R (rdM R U a 0 N).1 (topM 7 (rdM R U a 0 N).1) k) ||| (0 : Int32))), (7, .int ((R k) ^^^ ((rdM R U a 0 N).1))), (0, .ref (g 0)), (2, .int now), (3, .int ((rdM R U a 0 N).1)), (4, .int (topM 7 (rdM R U a 0 N).1)), (6, .int (nI k))]) hx hb dX1_wouldHelp_97 hl (by decide) rfl (fun ls hl => ?_)
        refine lv_iinc (v := nI (k + 1)) (lv' := [(6, .int (nI (k + 1))), (5, .int ((whL R (rdM R U a 0 N).1 (topM 7 (rdM R U a 0 N).1) k) ||| (0 : Int32))), (7, .int ((R k) ^^^ ((rdM R U a 0 N).1))), (0, .ref (g 0)), (2, .int now), (3, .int ((rdM R U a 0 N).1)), (4, .int (topM 7 (rdM R U a 0 N).1))]) hx hb dX1_wouldHelp_99 hl (k := 6) rfl (fd_inc _) (by decide) rfl (fun ls hl => ?_)
        refine lv_goto (tgt := 35) hx hb dX1_wouldHelp_102 (by decide) ?_
        exact ih35 (k + 1) ((whL R (rdM R U a 0 N).1 (topM 7 (rdM R U a 0 N).1) k) ||| (0 : Int32)) _ _ _ (by omega) (by omega) (by first | rw [whL, unM, whR, if_pos c54, if_pos c87] | rw [whL, unM, whR, if_pos c54, if_neg c87] | rw [whL, unM, whR, if_neg c54, if_pos c87] | rw [whL, unM, whR, if_neg c54, if_neg c87] | rw [whL, unM, if_pos c22] | rw [whL, unM, if_neg c22]) hP hD hS (lv_sub hl [3, 4, 5, 6, 1, 0] rfl)
      refine lv_iload hx hb dX1_wouldHelp_90 (lv_at hl 0 rfl) ?_
      refine lv_goto (tgt := 96) hx hb dX1_wouldHelp_92 (by decide) ?_
      refine lv_ior hx hb dX1_wouldHelp_96 ?_
      refine lv_istore (lv' := [(5, .int ((whL R (rdM R U a 0 N).1 (topM 7 (rdM R U a 0 N).1) k) ||| ((R k) ^^^ ((rdM R U a 0 N).1)))), (7, .int ((R k) ^^^ ((rdM R U a 0 N).1))), (0, .ref (g 0)), (2, .int now), (3, .int ((rdM R U a 0 N).1)), (4, .int (topM 7 (rdM R U a 0 N).1)), (6, .int (nI k))]) hx hb dX1_wouldHelp_97 hl (by decide) rfl (fun ls hl => ?_)
      refine lv_iinc (v := nI (k + 1)) (lv' := [(6, .int (nI (k + 1))), (5, .int ((whL R (rdM R U a 0 N).1 (topM 7 (rdM R U a 0 N).1) k) ||| ((R k) ^^^ ((rdM R U a 0 N).1)))), (7, .int ((R k) ^^^ ((rdM R U a 0 N).1))), (0, .ref (g 0)), (2, .int now), (3, .int ((rdM R U a 0 N).1)), (4, .int (topM 7 (rdM R U a 0 N).1))]) hx hb dX1_wouldHelp_99 hl (k := 6) rfl (fd_inc _) (by decide) rfl (fun ls hl => ?_)
      refine lv_goto (tgt := 35) hx hb dX1_wouldHelp_102 (by decide) ?_
      exact ih35 (k + 1) ((whL R (rdM R U a 0 N).1 (topM 7 (rdM R U a 0 N).1) k) ||| ((R k) ^^^ ((rdM R U a 0 N).1))) _ _ _ (by omega) (by omega) (by first | rw [whL, unM, whR, if_pos c54, if_pos c87] | rw [whL, unM, whR, if_pos c54, if_neg c87] | rw [whL, unM, whR, if_neg c54, if_pos c87] | rw [whL, unM, whR, if_neg c54, if_neg c87] | rw [whL, unM, if_pos c22] | rw [whL, unM, if_neg c22]) hP hD hS (lv_sub hl [3, 4, 5, 6, 1, 0] rfl)
  refine lv_if_ne (tgt := 29) hx hb dX1_wouldHelp_22 (by decide) (fun c22 => ?_) (fun c22 => ?_)
  · refine lv_iconst (v := (0 : Int32)) hx hb dX1_wouldHelp_29 (by decide) ?_
    refine lv_istore (lv' := [(5, .int (0 : Int32)), (4, .int (topM 7 ((rdM R U a (0 : Int32) N).1))), (3, .int ((rdM R U a (0 : Int32) N).1)), (0, .ref (g 0)), (1, .int a), (2, .int now)]) hx hb dX1_wouldHelp_30 hl (by decide) rfl (fun ls hl => ?_)
    refine lv_iconst (v := nI 0) hx hb dX1_wouldHelp_32 (by decide) ?_
    refine lv_istore (lv' := [(6, .int (nI 0)), (5, .int (0 : Int32)), (4, .int (topM 7 ((rdM R U a (0 : Int32) N).1))), (3, .int ((rdM R U a (0 : Int32) N).1)), (0, .ref (g 0)), (1, .int a), (2, .int now)]) hx hb dX1_wouldHelp_33 hl (by decide) rfl (fun ls hl => ?_)
    exact LP35 _ 0 (0 : Int32) _ _ _ (Nat.lt_succ_self _) (by omega) (by first | rw [whL, unM, whR, if_pos c54, if_pos c87] | rw [whL, unM, whR, if_pos c54, if_neg c87] | rw [whL, unM, whR, if_neg c54, if_pos c87] | rw [whL, unM, whR, if_neg c54, if_neg c87] | rw [whL, unM, if_pos c22] | rw [whL, unM, if_neg c22]) hP hD hS (lv_sub hl [4, 6, 3, 2, 1, 0] rfl)
  refine lv_iload_n hx hb dX1_wouldHelp_25 rfl (lv_at hl 1 rfl) ?_
  refine lv_goto (tgt := 30) hx hb dX1_wouldHelp_26 (by decide) ?_
  refine lv_istore (lv' := [(5, .int ((rdM R U a (0 : Int32) N).1)), (4, .int (topM 7 ((rdM R U a (0 : Int32) N).1))), (3, .int ((rdM R U a (0 : Int32) N).1)), (0, .ref (g 0)), (1, .int a), (2, .int now)]) hx hb dX1_wouldHelp_30 hl (by decide) rfl (fun ls hl => ?_)
  refine lv_iconst (v := nI 0) hx hb dX1_wouldHelp_32 (by decide) ?_
  refine lv_istore (lv' := [(6, .int (nI 0)), (5, .int ((rdM R U a (0 : Int32) N).1)), (4, .int (topM 7 ((rdM R U a (0 : Int32) N).1))), (3, .int ((rdM R U a (0 : Int32) N).1)), (0, .ref (g 0)), (1, .int a), (2, .int now)]) hx hb dX1_wouldHelp_33 hl (by decide) rfl (fun ls hl => ?_)
  exact LP35 _ 0 ((rdM R U a (0 : Int32) N).1) _ _ _ (Nat.lt_succ_self _) (by omega) (by first | rw [whL, unM, whR, if_pos c54, if_pos c87] | rw [whL, unM, whR, if_pos c54, if_neg c87] | rw [whL, unM, whR, if_neg c54, if_pos c87] | rw [whL, unM, whR, if_neg c54, if_neg c87] | rw [whL, unM, if_pos c22] | rw [whL, unM, if_neg c22]) hP hD hS (lv_sub hl [4, 6, 3, 2, 1, 0] rfl)
abbrev rmX1_peelFrom : Room := { frames := 0, cells := 0, slots := 0, locals := 0 }
set_option maxHeartbeats 4000000 in
set_option maxRecDepth 100000 in
theorem metX1_peelFrom (l : Launch) (D : va_G) (g : Nat → Nat) (d : Nat → ClassId) (S V : Nat → Int32) (n cnt : Nat) (R U : Nat → Int32) (N : Nat) (B L X : Int32) (a : Int32) (hn8 : n ≤ 8) (hc : cnt ≤ 16) : fd_I l yX1_peelFrom (ws_ yX1_peelFrom cX1_peelFrom 7 (some .int)) rmX1_peelFrom D (xT d) [.ref (g 0), .int a] (xW g d S V n cnt R U N B L X) (fun (r : Int32) (u : Unit) => r = ppM S n cnt a) (fun (u : Unit) => xW g d S V n cnt R U N B L X) := by
  refine fd_Iof (lv := [(0, .ref (g 0)), (1, .int a)]) rfl (by decide) (Nat.le_of_ble_eq_true rfl) rfl ?_
  intro p e s m below meth c A ls Q S0 hK hP hD hA hl hret
  obtain ⟨hx, hb, hml, hown, hts⟩ := id S0
  have hS : va_S A s.heap s.heap [] := va_S.rf
  refine lv_iload_n hx hb dX1_peelFrom_0 rfl (lv_at hl 1 rfl) ?_
  refine lv_istore_n (lv' := [(2, .int a), (0, .ref (g 0)), (1, .int a)]) hx hb dX1_peelFrom_1 rfl hl (by decide) rfl (fun ls hl => ?_)
  refine lv_iconst (v := nI 0) hx hb dX1_peelFrom_2 (by decide) ?_
  refine lv_istore_n (lv' := [(3, .int (nI 0)), (2, .int a), (0, .ref (g 0)), (1, .int a)]) hx hb dX1_peelFrom_3 rfl hl (by decide) rfl (fun ls hl => ?_)
  have LP4 : ∀ (Nf4 : Nat) (j : Nat) (x2 : Int32) (H : Heap) (locs : List Loc) (ls : Array Slot), n + 1 - j < Nf4 → (j ≤ n + 1) → (prM S cnt (n + 1 - j) x2 = ppM S n cnt a) → va_P D vwCl (xW g d S V n cnt R U N B L X) H → va_D A (xW g d S V n cnt R U N B L X) → va_S A s.heap H locs → lv_has ls 7 [(0, .ref (g 0)), (2, .int x2), (3, .int (nI j))] → W p l e rmX1_peelFrom s m ([.ref (g 0), .int a] : List Value).toArray below meth c H locs 0 0 Q (F0 m 4 ls []) := by
    intro Nf4
    induction Nf4 with
    | zero => intro j x2 H locs ls hmu; exact absurd hmu (Nat.not_lt_zero _)
    | succ Nf4 ih4 =>
      intro j x2 H locs ls hmu4 hj hp hP hD hS hl
      refine lv_iload_n hx hb dX1_peelFrom_4 rfl (lv_at hl 2 rfl) ?_
      refine lv_aload_n hx hb dX1_peelFrom_5 rfl (lv_at hl 0 rfl) ?_
      refine va_get (D := D) (ci := 0) (v := .int (nI n)) (C := RX1) (T := TX1) (N := 10) hx hb hts in_X1 hown hK hP 0 rfl rfl 4 (by decide) (hts _ q35) (fun _ h9 => h9) rfl dX1_peelFrom_6 ?_
      refine lv_icmp_gt (tgt := 76) hx hb dX1_peelFrom_9 (by decide) (fun c9 => ?_) (fun c9 => ?_)
      · have c9 : n < j := (nI_ltI (a := n) (b := j) (by omega) (by omega)).mp c9
        refine lv_iload_n hx hb dX1_peelFrom_76 rfl (lv_at hl 1 rfl) ?_
        exact hret x2 () _ _ _ _ dX1_peelFrom_77 rfl (by first | (rw [← hp, show n + 1 - j = 0 by omega]; rfl) | rw [← hp, show n + 1 - j = (n - j) + 1 by omega, prM, if_pos c64]) hP hD hS
      have c9 : ¬ (n < j) := fun h => c9 ((nI_ltI (a := n) (b := j) (by omega) (by omega)).mpr h)
      refine lv_iload_n hx hb dX1_peelFrom_12 rfl (lv_at hl 1 rfl) ?_
      refine lv_istore (lv' := [(4, .int x2), (0, .ref (g 0)), (2, .int x2), (3, .int (nI j))]) hx hb dX1_peelFrom_13 hl (by decide) rfl (fun ls hl => ?_)
      refine lv_iconst (v := nI 0) hx hb dX1_peelFrom_15 (by decide) ?_
      refine lv_istore (lv' := [(5, .int (nI 0)), (4, .int x2), (0, .ref (g 0)), (2, .int x2), (3, .int (nI j))]) hx hb dX1_peelFrom_16 hl (by decide) rfl (fun ls hl => ?_)
      have LP18 : ∀ (Nf18 : Nat) (k : Nat) (y2 : Int32) (H : Heap) (locs : List Loc) (ls : Array Slot), cnt - k < Nf18 → (k ≤ cnt) → y2 = plM S x2 k → va_P D vwCl (xW g d S V n cnt R U N B L X) H → va_D A (xW g d S V n cnt R U N B L X) → va_S A s.heap H locs → lv_has ls 7 [(0, .ref (g 0)), (2, .int y2), (3, .int (nI j)), (4, .int x2), (5, .int (nI k))] → W p l e rmX1_peelFrom s m ([.ref (g 0), .int a] : List Value).toArray below meth c H locs 0 0 Q (F0 m 18 ls []) := by
        intro Nf18
        induction Nf18 with
        | zero => intro k y2 H locs ls hmu; exact absurd hmu (Nat.not_lt_zero _)
        | succ Nf18 ih18 =>
          intro k y2 H locs ls hmu18 hc18_0 ey2 hP hD hS hl
          subst ey2
          refine lv_iload hx hb dX1_peelFrom_18 (lv_at hl 4 rfl) ?_
          refine lv_aload_n hx hb dX1_peelFrom_20 rfl (lv_at hl 0 rfl) ?_
          refine va_get (D := D) (ci := 0) (v := .int (nI cnt)) (C := RX1) (T := TX1) (N := 10) hx hb hts in_X1 hown hK hP 0 rfl rfl 5 (by decide) (hts _ q36) (fun _ h9 => h9) rfl dX1_peelFrom_21 ?_
          refine lv_icmp_ge (tgt := 61) hx hb dX1_peelFrom_24 (by decide) (fun c24 => ?_) (fun c24 => ?_)
          · have c24 : cnt ≤ k := (nI_leI (a := cnt) (b := k) (by omega) (by omega)).mp c24
            obtain rfl : cnt = k := by omega
            refine lv_iload hx hb dX1_peelFrom_61 (lv_at hl 3 rfl) ?_
            refine lv_iload_n hx hb dX1_peelFrom_63 rfl (lv_at hl 1 rfl) ?_
            refine lv_icmp_ne (tgt := 70) hx hb dX1_peelFrom_64 (by decide) (fun c64 => ?_) (fun c64 => ?_)
            · refine lv_iinc (v := nI (j + 1)) (lv' := [(3, .int (nI (j + 1))), (0, .ref (g 0)), (2, .int (plM S x2 cnt)), (4, .int x2), (5, .int (nI cnt))]) hx hb dX1_peelFrom_70 hl (k := 2) rfl (fd_inc _) (by decide) rfl (fun ls hl => ?_)
              refine lv_goto (tgt := 4) hx hb dX1_peelFrom_73 (by decide) ?_
              exact ih4 (j + 1) (plM S x2 cnt) _ _ _ (by omega) (by omega) (by rw [← hp, show n + 1 - j = (n + 1 - (j + 1)) + 1 by omega, prM, if_neg c64]) hP hD hS (lv_sub hl [1, 2, 0] rfl)
            refine lv_goto (tgt := 76) hx hb dX1_peelFrom_67 (by decide) ?_
            refine lv_iload_n hx hb dX1_peelFrom_76 rfl (lv_at hl 1 rfl) ?_
            exact hret (plM S x2 cnt) () _ _ _ _ dX1_peelFrom_77 rfl (by first | (rw [← hp, show n + 1 - j = 0 by omega]; rfl) | rw [← hp, show n + 1 - j = (n - j) + 1 by omega, prM, if_pos c64]) hP hD hS
          have c24 : ¬ (cnt ≤ k) := fun h => c24 ((nI_leI (a := cnt) (b := k) (by omega) (by omega)).mpr h)
          refine lv_aload_n hx hb dX1_peelFrom_27 rfl (lv_at hl 0 rfl) ?_
          refine va_get (D := D) (ci := 0) (v := .ref (g 1)) (C := RX1) (T := TX1) (N := 10) hx hb hts in_X1 hown hK hP 0 rfl rfl 0 (by decide) (hts _ q31) (fun _ h9 => h9) rfl dX1_peelFrom_28 ?_
          refine lv_iload hx hb dX1_peelFrom_31 (lv_at hl 4 rfl) ?_
          refine fd_iald hx hb hK hP 1 0 rfl rfl (k := k) (by omega) (by decide) dX1_peelFrom_33 ?_
          refine lv_iload_n hx hb dX1_peelFrom_34 rfl (lv_at hl 1 rfl) ?_
          refine lv_iconst (v := (-1 : Int32)) hx hb dX1_peelFrom_35 (by decide) ?_
          refine lv_ixor hx hb dX1_peelFrom_36 ?_
          refine lv_iand hx hb dX1_peelFrom_37 ?_
          refine fd_as (show ((S k) &&& ((plM S x2 k) ^^^ (-1 : Int32))) = plO S (plM S x2 k) k from rfl) ?_
          refine lv_istore (lv' := [(6, .int (plO S (plM S x2 k) k)), (0, .ref (g 0)), (2, .int (plM S x2 k)), (3, .int (nI j)), (4, .int x2), (5, .int (nI k))]) hx hb dX1_peelFrom_38 hl (by decide) rfl (fun ls hl => ?_)
          refine lv_iload hx hb dX1_peelFrom_40 (lv_at hl 0 rfl) ?_
          refine lv_iload hx hb dX1_peelFrom_42 (lv_at hl 0 rfl) ?_
          refine lv_iconst (v := (1 : Int32)) hx hb dX1_peelFrom_44 (by decide) ?_
          refine lv_isub hx hb dX1_peelFrom_45 ?_
          refine lv_iand hx hb dX1_peelFrom_46 ?_
          refine lv_if_ne (tgt := 55) hx hb dX1_peelFrom_47 (by decide) (fun c47 => ?_) (fun c47 => ?_)
          · refine lv_iinc (v := nI (k + 1)) (lv' := [(5, .int (nI (k + 1))), (6, .int (plO S (plM S x2 k) k)), (0, .ref (g 0)), (2, .int (plM S x2 k)), (3, .int (nI j)), (4, .int x2)]) hx hb dX1_peelFrom_55 hl (k := 5) rfl (fd_inc _) (by decide) rfl (fun ls hl => ?_)
            refine lv_goto (tgt := 18) hx hb dX1_peelFrom_58 (by decide) ?_
            exact ih18 (k + 1) (plM S x2 k) _ _ _ (by omega) (by omega) (by first | rw [plM, if_pos c47] | rw [plM, if_neg c47]) hP hD hS (lv_sub hl [2, 3, 4, 5, 0] rfl)
          refine lv_iload_n hx hb dX1_peelFrom_50 rfl (lv_at hl 2 rfl) ?_
          refine lv_iload hx hb dX1_peelFrom_51 (lv_at hl 0 rfl) ?_
          refine lv_ior hx hb dX1_peelFrom_53 ?_
          refine lv_istore_n (lv' := [(2, .int ((plM S x2 k) ||| (plO S (plM S x2 k) k))), (6, .int (plO S (plM S x2 k) k)), (0, .ref (g 0)), (3, .int (nI j)), (4, .int x2), (5, .int (nI k))]) hx hb dX1_peelFrom_54 rfl hl (by decide) rfl (fun ls hl => ?_)
          refine lv_iinc (v := nI (k + 1)) (lv' := [(5, .int (nI (k + 1))), (2, .int ((plM S x2 k) ||| (plO S (plM S x2 k) k))), (6, .int (plO S (plM S x2 k) k)), (0, .ref (g 0)), (3, .int (nI j)), (4, .int x2)]) hx hb dX1_peelFrom_55 hl (k := 5) rfl (fd_inc _) (by decide) rfl (fun ls hl => ?_)
          refine lv_goto (tgt := 18) hx hb dX1_peelFrom_58 (by decide) ?_
          exact ih18 (k + 1) ((plM S x2 k) ||| (plO S (plM S x2 k) k)) _ _ _ (by omega) (by omega) (by first | rw [plM, if_pos c47] | rw [plM, if_neg c47]) hP hD hS (lv_sub hl [3, 1, 4, 5, 0] rfl)
      exact LP18 _ 0 x2 _ _ _ (Nat.lt_succ_self _) (by omega) rfl hP hD hS (lv_sub hl [2, 3, 4, 1, 0] rfl)
  exact LP4 _ 0 a _ _ _ (Nat.lt_succ_self _) (by omega) rfl hP hD hS (lv_sub hl [2, 1, 0] rfl)
abbrev rmX1_blocks : Room := { frames := 0, cells := 0, slots := 0, locals := 0 }
set_option maxHeartbeats 4000000 in
set_option maxRecDepth 100000 in
theorem metX1_blocks (l : Launch) (D : va_G) (g : Nat → Nat) (d : Nat → ClassId) (S V : Nat → Int32) (n cnt : Nat) (R U : Nat → Int32) (N : Nat) (B L X : Int32)   : fd_I l yX1_blocks (ws_ yX1_blocks cX1_blocks 1 (some .int)) rmX1_blocks D (xT d) [.ref (g 0)] (xW g d S V n cnt R U N B L X) (fun (r : Int32) (u : Unit) => r = nI n) (fun (u : Unit) => xW g d S V n cnt R U N B L X) := by
  refine fd_Iof (lv := [(0, .ref (g 0))]) rfl (by decide) (Nat.le_of_ble_eq_true rfl) rfl ?_
  intro p e s m below meth c A ls Q S0 hK hP hD hA hl hret
  obtain ⟨hx, hb, hml, hown, hts⟩ := id S0
  have hS : va_S A s.heap s.heap [] := va_S.rf
  refine lv_aload_n hx hb dX1_blocks_0 rfl (lv_at hl 0 rfl) ?_
  refine va_get (D := D) (ci := 0) (v := .int (nI n)) (C := RX1) (T := TX1) (N := 10) hx hb hts in_X1 hown hK hP 0 rfl rfl 4 (by decide) (hts _ q35) (fun _ h9 => h9) rfl dX1_blocks_1 ?_
  exact hret (nI n) () _ _ _ _ dX1_blocks_4 rfl rfl hP hD hS
abbrev rmX1_symbols : Room := { frames := 0, cells := 0, slots := 0, locals := 0 }
set_option maxHeartbeats 4000000 in
set_option maxRecDepth 100000 in
theorem metX1_symbols (l : Launch) (D : va_G) (g : Nat → Nat) (d : Nat → ClassId) (S V : Nat → Int32) (n cnt : Nat) (R U : Nat → Int32) (N : Nat) (B L X : Int32)   : fd_I l yX1_symbols (ws_ yX1_symbols cX1_symbols 1 (some .int)) rmX1_symbols D (xT d) [.ref (g 0)] (xW g d S V n cnt R U N B L X) (fun (r : Int32) (u : Unit) => r = nI cnt) (fun (u : Unit) => xW g d S V n cnt R U N B L X) := by
  refine fd_Iof (lv := [(0, .ref (g 0))]) rfl (by decide) (Nat.le_of_ble_eq_true rfl) rfl ?_
  intro p e s m below meth c A ls Q S0 hK hP hD hA hl hret
  obtain ⟨hx, hb, hml, hown, hts⟩ := id S0
  have hS : va_S A s.heap s.heap [] := va_S.rf
  refine lv_aload_n hx hb dX1_symbols_0 rfl (lv_at hl 0 rfl) ?_
  refine va_get (D := D) (ci := 0) (v := .int (nI cnt)) (C := RX1) (T := TX1) (N := 10) hx hb hts in_X1 hown hK hP 0 rfl rfl 5 (by decide) (hts _ q36) (fun _ h9 => h9) rfl dX1_symbols_1 ?_
  exact hret (nI cnt) () _ _ _ _ dX1_symbols_4 rfl rfl hP hD hS
abbrev rmX1_consistent : Room := { frames := 4, cells := 0, slots := 0, locals := 91 }
set_option maxHeartbeats 4000000 in
set_option maxRecDepth 100000 in
theorem metX1_consistent (l : Launch) (D : va_G) (g : Nat → Nat) (d : Nat → ClassId) (S V : Nat → Int32) (n cnt : Nat) (R U : Nat → Int32) (N : Nat) (B L X : Int32)  (hc : cnt ≤ 16) (hra : raOK S V cnt) : fd_I l yX1_consistent (ws_ yX1_consistent cX1_consistent 1 (some .int)) rmX1_consistent D (xT d) [.ref (g 0)] (xW g d S V n cnt R U N B L X) (fun (r : Int32) (u : raST) => u = (raA S V cnt (-1) R U L X) ∧ r = coM u) (fun (u : raST) => xW g d S V n cnt u.1 u.2.1 u.2.2.1 u.2.2.2.1 u.2.2.2.2.1 u.2.2.2.2.2) := by
  refine fd_Iof (lv := [(0, .ref (g 0))]) rfl (by decide) (Nat.le_of_ble_eq_true rfl) rfl ?_
  intro p e s m below meth c A ls Q S0 hK hP hD hA hl hret
  obtain ⟨hx, hb, hml, hown, hts⟩ := id S0
  have hS : va_S A s.heap s.heap [] := va_S.rf
  refine lv_aload_n hx hb dX1_consistent_0 rfl (lv_at hl 0 rfl) ?_
  refine lv_iconst (v := (-1 : Int32)) hx hb dX1_consistent_1 (by decide) ?_
  refine fd_callVv (n := 1) (rest := []) (As := [.int (-1 : Int32)]) (wr := []) S0 hK hP hD hS hA [0, 1, 2, 3, 4] [] [0, 1, 2, 3] (metX1_reduceAll l D g d S V n cnt R U N B L X (-1 : Int32) hc hra) q100 q102 qs2 q21 q103 dX1_consistent_2 rfl rfl rfl rfl ⟨⟨rfl, rfl⟩, Nat.le_of_ble_eq_true rfl, Nat.le_of_ble_eq_true rfl⟩ (by decide +kernel) rfl rfl (q0 := 0) rfl rfl hl.1 rfl (Nat.le_of_ble_eq_true rfl) ⟨Nat.le_of_ble_eq_true rfl, Nat.le_of_ble_eq_true rfl⟩ (fun u2 H locs hq2 hP hD hS => ?_)
  have hP : va_P D vwCl (xW g d S V n cnt u2.1 u2.2.1 u2.2.2.1 u2.2.2.2.1 u2.2.2.2.2.1 u2.2.2.2.2.2) H := hP
  have hD : va_D A (xW g d S V n cnt u2.1 u2.2.1 u2.2.2.1 u2.2.2.2.1 u2.2.2.2.2.1 u2.2.2.2.2.2) := hD
  refine lv_aload_n hx hb dX1_consistent_5 rfl (lv_at hl 0 rfl) ?_
  refine va_get (D := D) (ci := 0) (v := .int u2.2.2.2.1) (C := RX1) (T := TX1) (N := 10) hx hb hts in_X1 hown hK hP 0 rfl rfl 7 (by decide) (hts _ q38) (fun _ h9 => h9) rfl dX1_consistent_6 ?_
  refine lv_if_eq (tgt := 16) hx hb dX1_consistent_9 (by decide) (fun c9 => ?_) (fun c9 => ?_)
  · refine lv_iconst (v := (0 : Int32)) hx hb dX1_consistent_16 (by decide) ?_
    exact hret (0 : Int32) u2 _ _ _ _ dX1_consistent_17 rfl (⟨hq2, (by first | rw [coM, if_pos c9] | rw [coM, if_neg c9])⟩) hP hD hS
  refine lv_iconst (v := (1 : Int32)) hx hb dX1_consistent_12 (by decide) ?_
  refine lv_goto (tgt := 17) hx hb dX1_consistent_13 (by decide) ?_
  exact hret (1 : Int32) u2 _ _ _ _ dX1_consistent_17 rfl (⟨hq2, (by first | rw [coM, if_pos c9] | rw [coM, if_neg c9])⟩) hP hD hS
abbrev rmX1_rank : Room := { frames := 4, cells := 0, slots := 0, locals := 91 }
set_option maxHeartbeats 4000000 in
set_option maxRecDepth 100000 in
theorem metX1_rank (l : Launch) (D : va_G) (g : Nat → Nat) (d : Nat → ClassId) (S V : Nat → Int32) (n cnt : Nat) (R U : Nat → Int32) (N : Nat) (B L X : Int32)  (hc : cnt ≤ 16) (hra : raOK S V cnt) : fd_I l yX1_rank (ws_ yX1_rank cX1_rank 1 (some .int)) rmX1_rank D (xT d) [.ref (g 0)] (xW g d S V n cnt R U N B L X) (fun (r : Int32) (u : raST) => u = (raA S V cnt (-1) R U L X) ∧ r = nI u.2.2.1) (fun (u : raST) => xW g d S V n cnt u.1 u.2.1 u.2.2.1 u.2.2.2.1 u.2.2.2.2.1 u.2.2.2.2.2) := by
  refine fd_Iof (lv := [(0, .ref (g 0))]) rfl (by decide) (Nat.le_of_ble_eq_true rfl) rfl ?_
  intro p e s m below meth c A ls Q S0 hK hP hD hA hl hret
  obtain ⟨hx, hb, hml, hown, hts⟩ := id S0
  have hS : va_S A s.heap s.heap [] := va_S.rf
  refine lv_aload_n hx hb dX1_rank_0 rfl (lv_at hl 0 rfl) ?_
  refine lv_iconst (v := (-1 : Int32)) hx hb dX1_rank_1 (by decide) ?_
  refine fd_callVv (n := 1) (rest := []) (As := [.int (-1 : Int32)]) (wr := []) S0 hK hP hD hS hA [0, 1, 2, 3, 4] [] [0, 1, 2, 3] (metX1_reduceAll l D g d S V n cnt R U N B L X (-1 : Int32) hc hra) q100 q102 qs2 q21 q103 dX1_rank_2 rfl rfl rfl rfl ⟨⟨rfl, rfl⟩, Nat.le_of_ble_eq_true rfl, Nat.le_of_ble_eq_true rfl⟩ (by decide +kernel) rfl rfl (q0 := 0) rfl rfl hl.1 rfl (Nat.le_of_ble_eq_true rfl) ⟨Nat.le_of_ble_eq_true rfl, Nat.le_of_ble_eq_true rfl⟩ (fun u2 H locs hq2 hP hD hS => ?_)
  have hP : va_P D vwCl (xW g d S V n cnt u2.1 u2.2.1 u2.2.2.1 u2.2.2.2.1 u2.2.2.2.2.1 u2.2.2.2.2.2) H := hP
  have hD : va_D A (xW g d S V n cnt u2.1 u2.2.1 u2.2.2.1 u2.2.2.2.1 u2.2.2.2.2.1 u2.2.2.2.2.2) := hD
  refine lv_aload_n hx hb dX1_rank_5 rfl (lv_at hl 0 rfl) ?_
  refine va_get (D := D) (ci := 0) (v := .int (nI u2.2.2.1)) (C := RX1) (T := TX1) (N := 10) hx hb hts in_X1 hown hK hP 0 rfl rfl 6 (by decide) (hts _ q37) (fun _ h9 => h9) rfl dX1_rank_6 ?_
  exact hret (nI u2.2.2.1) u2 _ _ _ _ dX1_rank_9 rfl (⟨hq2, rfl⟩) hP hD hS
abbrev rmX1_known : Room := { frames := 4, cells := 0, slots := 0, locals := 91 }
set_option maxHeartbeats 4000000 in
set_option maxRecDepth 100000 in
theorem metX1_known (l : Launch) (D : va_G) (g : Nat → Nat) (d : Nat → ClassId) (S V : Nat → Int32) (n cnt : Nat) (R U : Nat → Int32) (N : Nat) (B L X : Int32)  (hc : cnt ≤ 16) (hra : raOK S V cnt) : fd_I l yX1_known (ws_ yX1_known cX1_known 1 (some .int)) rmX1_known D (xT d) [.ref (g 0)] (xW g d S V n cnt R U N B L X) (fun (r : Int32) (u : raST) => u = (raA S V cnt (-1) R U L X) ∧ r = knU u) (fun (u : raST) => xW g d S V n cnt u.1 u.2.1 u.2.2.1 u.2.2.2.1 u.2.2.2.2.1 u.2.2.2.2.2) := by
  refine fd_Iof (lv := [(0, .ref (g 0))]) rfl (by decide) (Nat.le_of_ble_eq_true rfl) rfl ?_
  intro p e s m below meth c A ls Q S0 hK hP hD hA hl hret
  obtain ⟨hx, hb, hml, hown, hts⟩ := id S0
  have hS : va_S A s.heap s.heap [] := va_S.rf
  refine lv_aload_n hx hb dX1_known_0 rfl (lv_at hl 0 rfl) ?_
  refine lv_iconst (v := (-1 : Int32)) hx hb dX1_known_1 (by decide) ?_
  refine fd_callVv (n := 1) (rest := []) (As := [.int (-1 : Int32)]) (wr := []) S0 hK hP hD hS hA [0, 1, 2, 3, 4] [] [0, 1, 2, 3] (metX1_reduceAll l D g d S V n cnt R U N B L X (-1 : Int32) hc hra) q100 q102 qs2 q21 q103 dX1_known_2 rfl rfl rfl rfl ⟨⟨rfl, rfl⟩, Nat.le_of_ble_eq_true rfl, Nat.le_of_ble_eq_true rfl⟩ (by decide +kernel) rfl rfl (q0 := 0) rfl rfl hl.1 rfl (Nat.le_of_ble_eq_true rfl) ⟨Nat.le_of_ble_eq_true rfl, Nat.le_of_ble_eq_true rfl⟩ (fun u2 H locs hq2 hP hD hS => ?_)
  have hP : va_P D vwCl (xW g d S V n cnt u2.1 u2.2.1 u2.2.2.1 u2.2.2.2.1 u2.2.2.2.2.1 u2.2.2.2.2.2) H := hP
  have hD : va_D A (xW g d S V n cnt u2.1 u2.2.1 u2.2.2.1 u2.2.2.2.1 u2.2.2.2.2.1 u2.2.2.2.2.2) := hD
  refine lv_aload_n hx hb dX1_known_5 rfl (lv_at hl 0 rfl) ?_
  refine fd_callVi (n := 0) (rest := []) (As := []) (wr := []) S0 hK hP hD hS hA [0, 1, 2, 3, 4] [] [0, 1, 2, 3] (metX1_knownNow l D g d S V n cnt u2.1 u2.2.1 u2.2.2.1 u2.2.2.2.1 u2.2.2.2.2.1 u2.2.2.2.2.2 (by rw [hq2]; exact (hra (-1) R U L X cnt (Nat.le_refl _)).1)) q123 q125 qs5 q21 q126 dX1_known_6 rfl rfl rfl rfl ⟨⟨rfl, rfl⟩, Nat.le_of_ble_eq_true rfl, Nat.le_of_ble_eq_true rfl⟩ (by decide +kernel) rfl rfl (q0 := 0) rfl rfl hl.1 rfl (Nat.le_of_ble_eq_true rfl) ⟨Nat.le_of_ble_eq_true rfl, Nat.le_of_ble_eq_true rfl⟩ (fun r6 u6 H locs hq6 hP hD hS => ?_)
  subst hq6
  have hP : va_P D vwCl (xW g d S V n cnt u2.1 u2.2.1 u2.2.2.1 u2.2.2.2.1 u2.2.2.2.2.1 u2.2.2.2.2.2) H := hP
  have hD : va_D A (xW g d S V n cnt u2.1 u2.2.1 u2.2.2.1 u2.2.2.2.1 u2.2.2.2.2.1 u2.2.2.2.2.2) := hD
  exact hret (knM u2.1 u2.2.2.2.1 u2.2.2.1) u2 _ _ _ _ dX1_known_9 rfl (⟨hq2, rfl⟩) hP hD hS
abbrev rmX1_value : Room := { frames := 4, cells := 0, slots := 0, locals := 91 }
set_option maxHeartbeats 4000000 in
set_option maxRecDepth 100000 in
theorem metX1_value (l : Launch) (D : va_G) (g : Nat → Nat) (d : Nat → ClassId) (S V : Nat → Int32) (n cnt : Nat) (R U : Nat → Int32) (N : Nat) (B L X : Int32) (a : Int32) (hc : cnt ≤ 16) (hra : raOK S V cnt) : fd_I l yX1_value (ws_ yX1_value cX1_value 3 (some .int)) rmX1_value D (xT d) [.ref (g 0), .int a] (xW g d S V n cnt R U N B L X) (fun (r : Int32) (u : raST) => r = vaM n (raA S V cnt (-1) R U L X) a) (fun (u : raST) => xW g d S V n cnt u.1 u.2.1 u.2.2.1 u.2.2.2.1 u.2.2.2.2.1 u.2.2.2.2.2) := by
  refine fd_Iof (lv := [(0, .ref (g 0)), (1, .int a)]) rfl (by decide) (Nat.le_of_ble_eq_true rfl) rfl ?_
  intro p e s m below meth c A ls Q S0 hK hP hD hA hl hret
  obtain ⟨hx, hb, hml, hown, hts⟩ := id S0
  have hS : va_S A s.heap s.heap [] := va_S.rf
  refine lv_iload_n hx hb dX1_value_0 rfl (lv_at hl 1 rfl) ?_
  refine lv_if_lt (tgt := 12) hx hb dX1_value_1 (by decide) (fun c1 => ?_) (fun c1 => ?_)
  · refine lv_iconst (v := (-1 : Int32)) hx hb dX1_value_12 (by decide) ?_
    exact hret (-1 : Int32) (R, U, N, B, L, X) _ _ _ _ dX1_value_13 rfl (by first | rw [vaM, if_pos (Or.inl c1)] | rw [vaM, if_pos (Or.inr (Int32.not_lt.mp c9))]) hP hD hS
  refine lv_iload_n hx hb dX1_value_4 rfl (lv_at hl 1 rfl) ?_
  refine lv_aload_n hx hb dX1_value_5 rfl (lv_at hl 0 rfl) ?_
  refine va_get (D := D) (ci := 0) (v := .int (nI n)) (C := RX1) (T := TX1) (N := 10) hx hb hts in_X1 hown hK hP 0 rfl rfl 4 (by decide) (hts _ q35) (fun _ h9 => h9) rfl dX1_value_6 ?_
  refine lv_icmp_lt (tgt := 14) hx hb dX1_value_9 (by decide) (fun c9 => ?_) (fun c9 => ?_)
  · refine lv_aload_n hx hb dX1_value_14 rfl (lv_at hl 0 rfl) ?_
    refine lv_iconst (v := (-1 : Int32)) hx hb dX1_value_15 (by decide) ?_
    refine fd_callVv (n := 1) (rest := []) (As := [.int (-1 : Int32)]) (wr := []) S0 hK hP hD hS hA [0, 1, 2, 3, 4] [] [0, 1, 2, 3] (metX1_reduceAll l D g d S V n cnt R U N B L X (-1 : Int32) hc hra) q100 q102 qs2 q21 q103 dX1_value_16 rfl rfl rfl rfl ⟨⟨rfl, rfl⟩, Nat.le_of_ble_eq_true rfl, Nat.le_of_ble_eq_true rfl⟩ (by decide +kernel) rfl rfl (q0 := 0) rfl rfl hl.1 rfl (Nat.le_of_ble_eq_true rfl) ⟨Nat.le_of_ble_eq_true rfl, Nat.le_of_ble_eq_true rfl⟩ (fun u16 H locs hq16 hP hD hS => ?_)
    have hP : va_P D vwCl (xW g d S V n cnt u16.1 u16.2.1 u16.2.2.1 u16.2.2.2.1 u16.2.2.2.2.1 u16.2.2.2.2.2) H := hP
    have hD : va_D A (xW g d S V n cnt u16.1 u16.2.1 u16.2.2.1 u16.2.2.2.1 u16.2.2.2.2.1 u16.2.2.2.2.2) := hD
    refine lv_aload_n hx hb dX1_value_19 rfl (lv_at hl 0 rfl) ?_
    refine lv_iconst (v := (1 : Int32)) hx hb dX1_value_20 (by decide) ?_
    refine lv_iload_n hx hb dX1_value_21 rfl (lv_at hl 1 rfl) ?_
    refine lv_ishl hx hb dX1_value_22 ?_
    refine fd_callVi (n := 1) (rest := []) (As := [.int ((1 : Int32) <<< (a &&& 31))]) (wr := []) S0 hK hP hD hS hA [0, 1, 2, 3, 4] [] [0, 1, 2, 3] (metX1_settle l D g d S V n cnt u16.1 u16.2.1 u16.2.2.1 u16.2.2.2.1 u16.2.2.2.2.1 u16.2.2.2.2.2 ((1 : Int32) <<< (a &&& 31)) (by rw [hq16]; exact (hra (-1) R U L X cnt (Nat.le_refl _)).1)) q131 q133 qs6 q21 q134 dX1_value_23 rfl rfl rfl rfl ⟨⟨rfl, rfl⟩, Nat.le_of_ble_eq_true rfl, Nat.le_of_ble_eq_true rfl⟩ (by decide +kernel) rfl rfl (q0 := 0) rfl rfl hl.1 rfl (Nat.le_of_ble_eq_true rfl) ⟨Nat.le_of_ble_eq_true rfl, Nat.le_of_ble_eq_true rfl⟩ (fun r23 u23 H locs hq23 hP hD hS => ?_)
    subst hq23
    have hP : va_P D vwCl (xW g d S V n cnt u16.1 u16.2.1 u16.2.2.1 u16.2.2.2.1 ((rdM u16.1 u16.2.1 ((1 : Int32) <<< (a &&& 31)) 0 u16.2.2.1).1) ((rdM u16.1 u16.2.1 ((1 : Int32) <<< (a &&& 31)) 0 u16.2.2.1).2)) H := hP
    have hD : va_D A (xW g d S V n cnt u16.1 u16.2.1 u16.2.2.1 u16.2.2.2.1 ((rdM u16.1 u16.2.1 ((1 : Int32) <<< (a &&& 31)) 0 u16.2.2.1).1) ((rdM u16.1 u16.2.1 ((1 : Int32) <<< (a &&& 31)) 0 u16.2.2.1).2)) := hD
    refine lv_istore_n (lv' := [(2, .int (seM u16.2.2.2.1 (rdM u16.1 u16.2.1 ((1 : Int32) <<< (a &&& 31)) 0 u16.2.2.1))), (0, .ref (g 0)), (1, .int a)]) hx hb dX1_value_26 rfl hl (by decide) rfl (fun ls hl => ?_)
    refine lv_iload_n hx hb dX1_value_27 rfl (lv_at hl 0 rfl) ?_
    refine lv_if_ge (tgt := 36) hx hb dX1_value_28 (by decide) (fun c28 => ?_) (fun c28 => ?_)
    · refine lv_iload_n hx hb dX1_value_36 rfl (lv_at hl 0 rfl) ?_
      exact hret (seM u16.2.2.2.1 (rdM u16.1 u16.2.1 ((1 : Int32) <<< (a &&& 31)) 0 u16.2.2.1)) (u16.1, u16.2.1, u16.2.2.1, u16.2.2.2.1, (rdM u16.1 u16.2.1 ((1 : Int32) <<< (a &&& 31)) 0 u16.2.2.1).1, (rdM u16.1 u16.2.1 ((1 : Int32) <<< (a &&& 31)) 0 u16.2.2.1).2) _ _ _ _ dX1_value_37 rfl (by first | (rw [← hq16, vaM, if_neg (fun h => h.elim c1 (Int32.not_le.mpr c9)), neM]; exact (if_neg (Int32.not_lt.mpr c28)).symm) | (rw [← hq16, vaM, if_neg (fun h => h.elim c1 (Int32.not_le.mpr c9)), neM]; exact (if_pos (Int32.not_le.mp c28)).symm)) hP hD hS
    refine lv_bipush (v := (-2 : Int32)) hx hb dX1_value_31 (by decide) ?_
    refine lv_goto (tgt := 37) hx hb dX1_value_33 (by decide) ?_
    exact hret (-2 : Int32) (u16.1, u16.2.1, u16.2.2.1, u16.2.2.2.1, (rdM u16.1 u16.2.1 ((1 : Int32) <<< (a &&& 31)) 0 u16.2.2.1).1, (rdM u16.1 u16.2.1 ((1 : Int32) <<< (a &&& 31)) 0 u16.2.2.1).2) _ _ _ _ dX1_value_37 rfl (by first | (rw [← hq16, vaM, if_neg (fun h => h.elim c1 (Int32.not_le.mpr c9)), neM]; exact (if_neg (Int32.not_lt.mpr c28)).symm) | (rw [← hq16, vaM, if_neg (fun h => h.elim c1 (Int32.not_le.mpr c9)), neM]; exact (if_pos (Int32.not_le.mp c28)).symm)) hP hD hS
  refine lv_iconst (v := (-1 : Int32)) hx hb dX1_value_12 (by decide) ?_
  exact hret (-1 : Int32) (R, U, N, B, L, X) _ _ _ _ dX1_value_13 rfl (by first | rw [vaM, if_pos (Or.inl c1)] | rw [vaM, if_pos (Or.inr (Int32.not_lt.mp c9))]) hP hD hS
abbrev rmX1_sumOf : Room := { frames := 4, cells := 0, slots := 0, locals := 91 }
set_option maxHeartbeats 4000000 in
set_option maxRecDepth 100000 in
theorem metX1_sumOf (l : Launch) (D : va_G) (g : Nat → Nat) (d : Nat → ClassId) (S V : Nat → Int32) (n cnt : Nat) (R U : Nat → Int32) (N : Nat) (B L X : Int32) (a : Int32) (hn8 : n ≤ 8) (hc : cnt ≤ 16) (hra : raOK S V cnt) : fd_I l yX1_sumOf (ws_ yX1_sumOf cX1_sumOf 3 (some .int)) rmX1_sumOf D (xT d) [.ref (g 0), .int a] (xW g d S V n cnt R U N B L X) (fun (r : Int32) (u : raST) => r = smM n (raA S V cnt (-1) R U L X) a) (fun (u : raST) => xW g d S V n cnt u.1 u.2.1 u.2.2.1 u.2.2.2.1 u.2.2.2.2.1 u.2.2.2.2.2) := by
  refine fd_Iof (lv := [(0, .ref (g 0)), (1, .int a)]) rfl (by decide) (Nat.le_of_ble_eq_true rfl) rfl ?_
  intro p e s m below meth c A ls Q S0 hK hP hD hA hl hret
  obtain ⟨hx, hb, hml, hown, hts⟩ := id S0
  have hS : va_S A s.heap s.heap [] := va_S.rf
  refine lv_aload_n hx hb dX1_sumOf_0 rfl (lv_at hl 0 rfl) ?_
  refine lv_iload_n hx hb dX1_sumOf_1 rfl (lv_at hl 1 rfl) ?_
  refine fd_callVi (n := 1) (rest := []) (As := [.int a]) (wr := []) S0 hK hP hD hS hA [0, 1, 2, 3, 4] [] [0, 1, 2, 3] (metX1_isSet l D g d S V n cnt R U N B L X a hn8) q139 q141 qs7 q21 q142 dX1_sumOf_2 rfl rfl rfl rfl ⟨⟨rfl, rfl⟩, Nat.le_of_ble_eq_true rfl, Nat.le_of_ble_eq_true rfl⟩ (by decide +kernel) rfl rfl (q0 := 0) rfl rfl hl.1 rfl (Nat.le_of_ble_eq_true rfl) ⟨Nat.le_of_ble_eq_true rfl, Nat.le_of_ble_eq_true rfl⟩ (fun r2 u2 H locs hq2 hP hD hS => ?_)
  subst hq2
  have hP : va_P D vwCl (xW g d S V n cnt R U N B L X) H := hP
  have hD : va_D A (xW g d S V n cnt R U N B L X) := hD
  refine lv_if_ne (tgt := 10) hx hb dX1_sumOf_5 (by decide) (fun c5 => ?_) (fun c5 => ?_)
  · refine lv_aload_n hx hb dX1_sumOf_10 rfl (lv_at hl 0 rfl) ?_
    refine lv_iconst (v := (-1 : Int32)) hx hb dX1_sumOf_11 (by decide) ?_
    refine fd_callVv (n := 1) (rest := []) (As := [.int (-1 : Int32)]) (wr := []) S0 hK hP hD hS hA [0, 1, 2, 3, 4] [] [0, 1, 2, 3] (metX1_reduceAll l D g d S V n cnt R U N B L X (-1 : Int32) hc hra) q100 q102 qs2 q21 q103 dX1_sumOf_12 rfl rfl rfl rfl ⟨⟨rfl, rfl⟩, Nat.le_of_ble_eq_true rfl, Nat.le_of_ble_eq_true rfl⟩ (by decide +kernel) rfl rfl (q0 := 0) rfl rfl hl.1 rfl (Nat.le_of_ble_eq_true rfl) ⟨Nat.le_of_ble_eq_true rfl, Nat.le_of_ble_eq_true rfl⟩ (fun u12 H locs hq12 hP hD hS => ?_)
    have hP : va_P D vwCl (xW g d S V n cnt u12.1 u12.2.1 u12.2.2.1 u12.2.2.2.1 u12.2.2.2.2.1 u12.2.2.2.2.2) H := hP
    have hD : va_D A (xW g d S V n cnt u12.1 u12.2.1 u12.2.2.1 u12.2.2.2.1 u12.2.2.2.2.1 u12.2.2.2.2.2) := hD
    refine lv_aload_n hx hb dX1_sumOf_15 rfl (lv_at hl 0 rfl) ?_
    refine lv_iload_n hx hb dX1_sumOf_16 rfl (lv_at hl 1 rfl) ?_
    refine fd_callVi (n := 1) (rest := []) (As := [.int a]) (wr := []) S0 hK hP hD hS hA [0, 1, 2, 3, 4] [] [0, 1, 2, 3] (metX1_settle l D g d S V n cnt u12.1 u12.2.1 u12.2.2.1 u12.2.2.2.1 u12.2.2.2.2.1 u12.2.2.2.2.2 a (by rw [hq12]; exact (hra (-1) R U L X cnt (Nat.le_refl _)).1)) q131 q133 qs6 q21 q134 dX1_sumOf_17 rfl rfl rfl rfl ⟨⟨rfl, rfl⟩, Nat.le_of_ble_eq_true rfl, Nat.le_of_ble_eq_true rfl⟩ (by decide +kernel) rfl rfl (q0 := 0) rfl rfl hl.1 rfl (Nat.le_of_ble_eq_true rfl) ⟨Nat.le_of_ble_eq_true rfl, Nat.le_of_ble_eq_true rfl⟩ (fun r17 u17 H locs hq17 hP hD hS => ?_)
    subst hq17
    have hP : va_P D vwCl (xW g d S V n cnt u12.1 u12.2.1 u12.2.2.1 u12.2.2.2.1 ((rdM u12.1 u12.2.1 a 0 u12.2.2.1).1) ((rdM u12.1 u12.2.1 a 0 u12.2.2.1).2)) H := hP
    have hD : va_D A (xW g d S V n cnt u12.1 u12.2.1 u12.2.2.1 u12.2.2.2.1 ((rdM u12.1 u12.2.1 a 0 u12.2.2.1).1) ((rdM u12.1 u12.2.1 a 0 u12.2.2.1).2)) := hD
    refine lv_istore_n (lv' := [(2, .int (seM u12.2.2.2.1 (rdM u12.1 u12.2.1 a 0 u12.2.2.1))), (0, .ref (g 0)), (1, .int a)]) hx hb dX1_sumOf_20 rfl hl (by decide) rfl (fun ls hl => ?_)
    refine lv_iload_n hx hb dX1_sumOf_21 rfl (lv_at hl 0 rfl) ?_
    refine lv_if_ge (tgt := 30) hx hb dX1_sumOf_22 (by decide) (fun c22 => ?_) (fun c22 => ?_)
    · refine lv_iload_n hx hb dX1_sumOf_30 rfl (lv_at hl 0 rfl) ?_
      exact hret (seM u12.2.2.2.1 (rdM u12.1 u12.2.1 a 0 u12.2.2.1)) (u12.1, u12.2.1, u12.2.2.1, u12.2.2.2.1, (rdM u12.1 u12.2.1 a 0 u12.2.2.1).1, (rdM u12.1 u12.2.1 a 0 u12.2.2.1).2) _ _ _ _ dX1_sumOf_31 rfl (by first | (rw [← hq12, smM, if_neg (fun h => c5 (isM_0.mpr h)), neM]; exact (if_neg (Int32.not_lt.mpr c22)).symm) | (rw [← hq12, smM, if_neg (fun h => c5 (isM_0.mpr h)), neM]; exact (if_pos (Int32.not_le.mp c22)).symm)) hP hD hS
    refine lv_bipush (v := (-2 : Int32)) hx hb dX1_sumOf_25 (by decide) ?_
    refine lv_goto (tgt := 31) hx hb dX1_sumOf_27 (by decide) ?_
    exact hret (-2 : Int32) (u12.1, u12.2.1, u12.2.2.1, u12.2.2.2.1, (rdM u12.1 u12.2.1 a 0 u12.2.2.1).1, (rdM u12.1 u12.2.1 a 0 u12.2.2.1).2) _ _ _ _ dX1_sumOf_31 rfl (by first | (rw [← hq12, smM, if_neg (fun h => c5 (isM_0.mpr h)), neM]; exact (if_neg (Int32.not_lt.mpr c22)).symm) | (rw [← hq12, smM, if_neg (fun h => c5 (isM_0.mpr h)), neM]; exact (if_pos (Int32.not_le.mp c22)).symm)) hP hD hS
  refine lv_iconst (v := (-1 : Int32)) hx hb dX1_sumOf_8 (by decide) ?_
  exact hret (-1 : Int32) (R, U, N, B, L, X) _ _ _ _ dX1_sumOf_9 rfl (by rw [smM, if_pos (isM_0.mp c5)]) hP hD hS
end
section
/-! FountainDecoder: peeled, isSeed, seed, seedSize, spare, useful, receive, draw, setOf, lose -/
abbrev rmX1_peeled : Room := { frames := 1, cells := 0, slots := 0, locals := 26 }
set_option maxHeartbeats 4000000 in
set_option maxRecDepth 100000 in
theorem metX1_peeled (l : Launch) (D : va_G) (g : Nat → Nat) (d : Nat → ClassId) (S V : Nat → Int32) (n cnt : Nat) (R U : Nat → Int32) (N : Nat) (B L X : Int32)  (hn8 : n ≤ 8) (hc : cnt ≤ 16) : fd_I l yX1_peeled (ws_ yX1_peeled cX1_peeled 1 (some .int)) rmX1_peeled D (xT d) [.ref (g 0)] (xW g d S V n cnt R U N B L X) (fun (r : Int32) (u : Unit) => r = ppM S n cnt 0) (fun (u : Unit) => xW g d S V n cnt R U N B L X) := by
  refine fd_Iof (lv := [(0, .ref (g 0))]) rfl (by decide) (Nat.le_of_ble_eq_true rfl) rfl ?_
  intro p e s m below meth c A ls Q S0 hK hP hD hA hl hret
  obtain ⟨hx, hb, hml, hown, hts⟩ := id S0
  have hS : va_S A s.heap s.heap [] := va_S.rf
  refine lv_aload_n hx hb dX1_peeled_0 rfl (lv_at hl 0 rfl) ?_
  refine lv_iconst (v := (0 : Int32)) hx hb dX1_peeled_1 (by decide) ?_
  refine fd_callVi (n := 1) (rest := []) (As := [.int (0 : Int32)]) (wr := []) S0 hK hP hD hS hA [0, 1, 2, 3, 4] [] [0, 1, 2, 3] (metX1_peelFrom l D g d S V n cnt R U N B L X (0 : Int32) hn8 hc) q147 q149 qs8 q21 q150 dX1_peeled_2 rfl rfl rfl rfl ⟨⟨rfl, rfl⟩, Nat.le_of_ble_eq_true rfl, Nat.le_of_ble_eq_true rfl⟩ (by decide +kernel) rfl rfl (q0 := 0) rfl rfl hl.1 rfl (Nat.le_of_ble_eq_true rfl) ⟨Nat.le_of_ble_eq_true rfl, Nat.le_of_ble_eq_true rfl⟩ (fun r2 u2 H locs hq2 hP hD hS => ?_)
  subst hq2
  have hP : va_P D vwCl (xW g d S V n cnt R U N B L X) H := hP
  have hD : va_D A (xW g d S V n cnt R U N B L X) := hD
  exact hret (ppM S n cnt (0 : Int32)) () _ _ _ _ dX1_peeled_5 rfl rfl hP hD hS
abbrev rmX1_isSeed : Room := { frames := 1, cells := 0, slots := 0, locals := 26 }
set_option maxHeartbeats 4000000 in
set_option maxRecDepth 100000 in
theorem metX1_isSeed (l : Launch) (D : va_G) (g : Nat → Nat) (d : Nat → ClassId) (S V : Nat → Int32) (n cnt : Nat) (R U : Nat → Int32) (N : Nat) (B L X : Int32) (a : Int32) (hn8 : n ≤ 8) (hc : cnt ≤ 16) : fd_I l yX1_isSeed (ws_ yX1_isSeed cX1_isSeed 2 (some .int)) rmX1_isSeed D (xT d) [.ref (g 0), .int a] (xW g d S V n cnt R U N B L X) (fun (r : Int32) (u : Unit) => r = idM n (ppM S n cnt) a) (fun (u : Unit) => xW g d S V n cnt R U N B L X) := by
  refine fd_Iof (lv := [(0, .ref (g 0)), (1, .int a)]) rfl (by decide) (Nat.le_of_ble_eq_true rfl) rfl ?_
  intro p e s m below meth c A ls Q S0 hK hP hD hA hl hret
  obtain ⟨hx, hb, hml, hown, hts⟩ := id S0
  have hS : va_S A s.heap s.heap [] := va_S.rf
  refine lv_aload_n hx hb dX1_isSeed_0 rfl (lv_at hl 0 rfl) ?_
  refine lv_iload_n hx hb dX1_isSeed_1 rfl (lv_at hl 1 rfl) ?_
  refine fd_callVi (n := 1) (rest := []) (As := [.int a]) (wr := []) S0 hK hP hD hS hA [0, 1, 2, 3, 4] [] [0, 1, 2, 3] (metX1_isSet l D g d S V n cnt R U N B L X a hn8) q139 q141 qs7 q21 q142 dX1_isSeed_2 rfl rfl rfl rfl ⟨⟨rfl, rfl⟩, Nat.le_of_ble_eq_true rfl, Nat.le_of_ble_eq_true rfl⟩ (by decide +kernel) rfl rfl (q0 := 0) rfl rfl hl.1 rfl (Nat.le_of_ble_eq_true rfl) ⟨Nat.le_of_ble_eq_true rfl, Nat.le_of_ble_eq_true rfl⟩ (fun r2 u2 H locs hq2 hP hD hS => ?_)
  subst hq2
  have hP : va_P D vwCl (xW g d S V n cnt R U N B L X) H := hP
  have hD : va_D A (xW g d S V n cnt R U N B L X) := hD
  refine lv_if_ne (tgt := 10) hx hb dX1_isSeed_5 (by decide) (fun c5 => ?_) (fun c5 => ?_)
  · refine lv_aload_n hx hb dX1_isSeed_10 rfl (lv_at hl 0 rfl) ?_
    refine lv_iload_n hx hb dX1_isSeed_11 rfl (lv_at hl 1 rfl) ?_
    refine fd_callVi (n := 1) (rest := []) (As := [.int a]) (wr := []) S0 hK hP hD hS hA [0, 1, 2, 3, 4] [] [0, 1, 2, 3] (metX1_peelFrom l D g d S V n cnt R U N B L X a hn8 hc) q147 q149 qs8 q21 q150 dX1_isSeed_12 rfl rfl rfl rfl ⟨⟨rfl, rfl⟩, Nat.le_of_ble_eq_true rfl, Nat.le_of_ble_eq_true rfl⟩ (by decide +kernel) rfl rfl (q0 := 0) rfl rfl hl.1 rfl (Nat.le_of_ble_eq_true rfl) ⟨Nat.le_of_ble_eq_true rfl, Nat.le_of_ble_eq_true rfl⟩ (fun r12 u12 H locs hq12 hP hD hS => ?_)
    subst hq12
    have hP : va_P D vwCl (xW g d S V n cnt R U N B L X) H := hP
    have hD : va_D A (xW g d S V n cnt R U N B L X) := hD
    refine lv_iconst (v := (1 : Int32)) hx hb dX1_isSeed_15 (by decide) ?_
    refine lv_aload_n hx hb dX1_isSeed_16 rfl (lv_at hl 0 rfl) ?_
    refine va_get (D := D) (ci := 0) (v := .int (nI n)) (C := RX1) (T := TX1) (N := 10) hx hb hts in_X1 hown hK hP 0 rfl rfl 4 (by decide) (hts _ q35) (fun _ h9 => h9) rfl dX1_isSeed_17 ?_
    refine lv_ishl hx hb dX1_isSeed_20 ?_
    refine fd_as (show ((1 : Int32) <<< ((nI n) &&& 31)) = nI (2 ^ n) from fd_pw hn8) ?_
    refine lv_iconst (v := (1 : Int32)) hx hb dX1_isSeed_21 (by decide) ?_
    refine lv_isub hx hb dX1_isSeed_22 ?_
    refine fd_as (show ((nI (2 ^ n)) - (1 : Int32)) = nI (2 ^ n - 1) from fd_pred (fd_p1 hn8).1) ?_
    refine lv_icmp_ne (tgt := 30) hx hb dX1_isSeed_23 (by decide) (fun c23 => ?_) (fun c23 => ?_)
    · refine lv_iconst (v := (0 : Int32)) hx hb dX1_isSeed_30 (by decide) ?_
      exact hret (0 : Int32) () _ _ _ _ dX1_isSeed_31 rfl (by first | rw [idM, if_neg (fun h => c5 (isM_0.mpr h)), if_neg c23] | rw [idM, if_neg (fun h => c5 (isM_0.mpr h)), if_pos c23]) hP hD hS
    refine lv_iconst (v := (1 : Int32)) hx hb dX1_isSeed_26 (by decide) ?_
    refine lv_goto (tgt := 31) hx hb dX1_isSeed_27 (by decide) ?_
    exact hret (1 : Int32) () _ _ _ _ dX1_isSeed_31 rfl (by first | rw [idM, if_neg (fun h => c5 (isM_0.mpr h)), if_neg c23] | rw [idM, if_neg (fun h => c5 (isM_0.mpr h)), if_pos c23]) hP hD hS
  refine lv_iconst (v := (-1 : Int32)) hx hb dX1_isSeed_8 (by decide) ?_
  exact hret (-1 : Int32) () _ _ _ _ dX1_isSeed_9 rfl (by rw [idM, if_pos (isM_0.mp c5)]) hP hD hS
abbrev rmX1_seed : Room := { frames := 1, cells := 0, slots := 0, locals := 26 }
set_option maxHeartbeats 4000000 in
set_option maxRecDepth 100000 in
theorem metX1_seed (l : Launch) (D : va_G) (g : Nat → Nat) (d : Nat → ClassId) (S V : Nat → Int32) (n cnt : Nat) (R U : Nat → Int32) (N : Nat) (B L X : Int32)  (hn8 : n ≤ 8) (hc : cnt ≤ 16) : fd_I l yX1_seed (ws_ yX1_seed cX1_seed 4 (some .int)) rmX1_seed D (xT d) [.ref (g 0)] (xW g d S V n cnt R U N B L X) (fun (r : Int32) (u : Unit) => r = sdM S n cnt (2 ^ n - 1)) (fun (u : Unit) => xW g d S V n cnt R U N B L X) := by
  refine fd_Iof (lv := [(0, .ref (g 0))]) rfl (by decide) (Nat.le_of_ble_eq_true rfl) rfl ?_
  intro p e s m below meth c A ls Q S0 hK hP hD hA hl hret
  obtain ⟨hx, hb, hml, hown, hts⟩ := id S0
  have hS : va_S A s.heap s.heap [] := va_S.rf
  obtain ⟨hp1, hp2⟩ := fd_p1 hn8
  refine lv_iconst (v := (1 : Int32)) hx hb dX1_seed_0 (by decide) ?_
  refine lv_aload_n hx hb dX1_seed_1 rfl (lv_at hl 0 rfl) ?_
  refine va_get (D := D) (ci := 0) (v := .int (nI n)) (C := RX1) (T := TX1) (N := 10) hx hb hts in_X1 hown hK hP 0 rfl rfl 4 (by decide) (hts _ q35) (fun _ h9 => h9) rfl dX1_seed_2 ?_
  refine lv_ishl hx hb dX1_seed_5 ?_
  refine fd_as (show ((1 : Int32) <<< ((nI n) &&& 31)) = nI (2 ^ n) from fd_pw hn8) ?_
  refine lv_iconst (v := (1 : Int32)) hx hb dX1_seed_6 (by decide) ?_
  refine lv_isub hx hb dX1_seed_7 ?_
  refine fd_as (show ((nI (2 ^ n)) - (1 : Int32)) = nI (2 ^ n - 1) from fd_pred (fd_p1 hn8).1) ?_
  refine lv_istore_n (lv' := [(1, .int (nI (2 ^ n - 1))), (0, .ref (g 0))]) hx hb dX1_seed_8 rfl hl (by decide) rfl (fun ls hl => ?_)
  refine lv_iload_n hx hb dX1_seed_9 rfl (lv_at hl 0 rfl) ?_
  refine lv_istore_n (lv' := [(2, .int (nI (2 ^ n - 1))), (1, .int (nI (2 ^ n - 1))), (0, .ref (g 0))]) hx hb dX1_seed_10 rfl hl (by decide) rfl (fun ls hl => ?_)
  refine lv_iconst (v := nI 0) hx hb dX1_seed_11 (by decide) ?_
  refine lv_istore_n (lv' := [(3, .int (nI 0)), (2, .int (nI (2 ^ n - 1))), (1, .int (nI (2 ^ n - 1))), (0, .ref (g 0))]) hx hb dX1_seed_12 rfl hl (by decide) rfl (fun ls hl => ?_)
  have LP13 : ∀ (Nf13 : Nat) (k : Nat) (x2 : Int32) (H : Heap) (locs : List Loc) (ls : Array Slot), 2 ^ n - 1 - k < Nf13 → (k ≤ 2 ^ n - 1) → x2 = sdM S n cnt k → va_P D vwCl (xW g d S V n cnt R U N B L X) H → va_D A (xW g d S V n cnt R U N B L X) → va_S A s.heap H locs → lv_has ls 4 [(0, .ref (g 0)), (1, .int (nI (2 ^ n - 1))), (2, .int x2), (3, .int (nI k))] → W p l e rmX1_seed s m ([.ref (g 0)] : List Value).toArray below meth c H locs 0 0 Q (F0 m 13 ls []) := by
    intro Nf13
    induction Nf13 with
    | zero => intro k x2 H locs ls hmu; exact absurd hmu (Nat.not_lt_zero _)
    | succ Nf13 ih13 =>
      intro k x2 H locs ls hmu13 hc13_0 ex2 hP hD hS hl
      subst ex2
      refine lv_iload_n hx hb dX1_seed_13 rfl (lv_at hl 3 rfl) ?_
      refine lv_iload_n hx hb dX1_seed_14 rfl (lv_at hl 1 rfl) ?_
      refine lv_icmp_ge (tgt := 46) hx hb dX1_seed_15 (by decide) (fun c15 => ?_) (fun c15 => ?_)
      · have c15 : (2 ^ n - 1) ≤ k := (nI_leI (a := (2 ^ n - 1)) (b := k) (by omega) (by omega)).mp c15
        obtain rfl : 2 ^ n - 1 = k := by omega
        refine lv_iload_n hx hb dX1_seed_46 rfl (lv_at hl 2 rfl) ?_
        exact hret (sdM S n cnt (2 ^ n - 1)) () _ _ _ _ dX1_seed_47 rfl rfl hP hD hS
      have c15 : ¬ ((2 ^ n - 1) ≤ k) := fun h => c15 ((nI_leI (a := (2 ^ n - 1)) (b := k) (by omega) (by omega)).mpr h)
      refine lv_iload_n hx hb dX1_seed_18 rfl (lv_at hl 3 rfl) ?_
      refine fd_callSi (n := 1) (rest := []) (As := [.int (nI k)]) (wr := xW g d S V n cnt R U N B L X) S0 hK hP hD hS hA [] [0, 1, 2, 3, 4] [] (metX1_ones l D (nI k)) q163 q164 q21 q165 dX1_seed_19 rfl rfl rfl rfl ⟨⟨rfl, rfl⟩, Nat.le_of_ble_eq_true rfl, Nat.le_of_ble_eq_true rfl⟩ (by decide +kernel) rfl hl.1 rfl (Nat.le_of_ble_eq_true rfl) ⟨Nat.le_of_ble_eq_true rfl, Nat.le_of_ble_eq_true rfl⟩ (fun r19 u19 H locs hq19 hP hD hS => ?_)
      subst hq19
      have hP : va_P D vwCl (xW g d S V n cnt R U N B L X) H := hP
      have hD : va_D A (xW g d S V n cnt R U N B L X) := hD
      refine lv_iload_n hx hb dX1_seed_22 rfl (lv_at hl 2 rfl) ?_
      refine fd_callSi (n := 1) (rest := [.int (onesM (nI k) 8)]) (As := [.int (sdM S n cnt k)]) (wr := xW g d S V n cnt R U N B L X) S0 hK hP hD hS hA [] [0, 1, 2, 3, 4] [] (metX1_ones l D (sdM S n cnt k)) q163 q164 q21 q165 dX1_seed_23 rfl rfl rfl rfl ⟨⟨rfl, rfl⟩, Nat.le_of_ble_eq_true rfl, Nat.le_of_ble_eq_true rfl⟩ (by decide +kernel) rfl hl.1 rfl (Nat.le_of_ble_eq_true rfl) ⟨Nat.le_of_ble_eq_true rfl, Nat.le_of_ble_eq_true rfl⟩ (fun r23 u23 H locs hq23 hP hD hS => ?_)
      subst hq23
      have hP : va_P D vwCl (xW g d S V n cnt R U N B L X) H := hP
      have hD : va_D A (xW g d S V n cnt R U N B L X) := hD
      refine lv_icmp_ge (tgt := 40) hx hb dX1_seed_26 (by decide) (fun c26 => ?_) (fun c26 => ?_)
      · refine lv_iinc (v := nI (k + 1)) (lv' := [(3, .int (nI (k + 1))), (0, .ref (g 0)), (1, .int (nI (2 ^ n - 1))), (2, .int (sdM S n cnt k))]) hx hb dX1_seed_40 hl (k := 3) rfl (fd_inc _) (by decide) rfl (fun ls hl => ?_)
        refine lv_goto (tgt := 13) hx hb dX1_seed_43 (by decide) ?_
        exact ih13 (k + 1) (sdM S n cnt k) _ _ _ (by omega) (by omega) (by first | rw [sdM, if_pos c26] | rw [sdM, if_neg c26, if_neg c35] | rw [sdM, if_neg c26, if_pos c35]) hP hD hS (lv_sub hl [1, 2, 3, 0] rfl)
      refine lv_aload_n hx hb dX1_seed_29 rfl (lv_at hl 0 rfl) ?_
      refine lv_iload_n hx hb dX1_seed_30 rfl (lv_at hl 3 rfl) ?_
      refine fd_callVi (n := 1) (rest := []) (As := [.int (nI k)]) (wr := []) S0 hK hP hD hS hA [0, 1, 2, 3, 4] [] [0, 1, 2, 3] (metX1_peelFrom l D g d S V n cnt R U N B L X (nI k) hn8 hc) q147 q149 qs8 q21 q150 dX1_seed_31 rfl rfl rfl rfl ⟨⟨rfl, rfl⟩, Nat.le_of_ble_eq_true rfl, Nat.le_of_ble_eq_true rfl⟩ (by decide +kernel) rfl rfl (q0 := 0) rfl rfl hl.1 rfl (Nat.le_of_ble_eq_true rfl) ⟨Nat.le_of_ble_eq_true rfl, Nat.le_of_ble_eq_true rfl⟩ (fun r31 u31 H locs hq31 hP hD hS => ?_)
      subst hq31
      have hP : va_P D vwCl (xW g d S V n cnt R U N B L X) H := hP
      have hD : va_D A (xW g d S V n cnt R U N B L X) := hD
      refine lv_iload_n hx hb dX1_seed_34 rfl (lv_at hl 1 rfl) ?_
      refine lv_icmp_ne (tgt := 40) hx hb dX1_seed_35 (by decide) (fun c35 => ?_) (fun c35 => ?_)
      · refine lv_iinc (v := nI (k + 1)) (lv' := [(3, .int (nI (k + 1))), (0, .ref (g 0)), (1, .int (nI (2 ^ n - 1))), (2, .int (sdM S n cnt k))]) hx hb dX1_seed_40 hl (k := 3) rfl (fd_inc _) (by decide) rfl (fun ls hl => ?_)
        refine lv_goto (tgt := 13) hx hb dX1_seed_43 (by decide) ?_
        exact ih13 (k + 1) (sdM S n cnt k) _ _ _ (by omega) (by omega) (by first | rw [sdM, if_pos c26] | rw [sdM, if_neg c26, if_neg c35] | rw [sdM, if_neg c26, if_pos c35]) hP hD hS (lv_sub hl [1, 2, 3, 0] rfl)
      refine lv_iload_n hx hb dX1_seed_38 rfl (lv_at hl 3 rfl) ?_
      refine lv_istore_n (lv' := [(2, .int (nI k)), (0, .ref (g 0)), (1, .int (nI (2 ^ n - 1))), (3, .int (nI k))]) hx hb dX1_seed_39 rfl hl (by decide) rfl (fun ls hl => ?_)
      refine lv_iinc (v := nI (k + 1)) (lv' := [(3, .int (nI (k + 1))), (2, .int (nI k)), (0, .ref (g 0)), (1, .int (nI (2 ^ n - 1)))]) hx hb dX1_seed_40 hl (k := 3) rfl (fd_inc _) (by decide) rfl (fun ls hl => ?_)
      refine lv_goto (tgt := 13) hx hb dX1_seed_43 (by decide) ?_
      exact ih13 (k + 1) (nI k) _ _ _ (by omega) (by omega) (by first | rw [sdM, if_pos c26] | rw [sdM, if_neg c26, if_neg c35] | rw [sdM, if_neg c26, if_pos c35]) hP hD hS (lv_sub hl [2, 3, 1, 0] rfl)
  exact LP13 _ 0 (nI (2 ^ n - 1)) _ _ _ (Nat.lt_succ_self _) (by omega) rfl hP hD hS (lv_sub hl [3, 2, 1, 0] rfl)
abbrev rmX1_seedSize : Room := { frames := 2, cells := 0, slots := 0, locals := 49 }
set_option maxHeartbeats 4000000 in
set_option maxRecDepth 100000 in
theorem metX1_seedSize (l : Launch) (D : va_G) (g : Nat → Nat) (d : Nat → ClassId) (S V : Nat → Int32) (n cnt : Nat) (R U : Nat → Int32) (N : Nat) (B L X : Int32)  (hn8 : n ≤ 8) (hc : cnt ≤ 16) : fd_I l yX1_seedSize (ws_ yX1_seedSize cX1_seedSize 2 (some .int)) rmX1_seedSize D (xT d) [.ref (g 0)] (xW g d S V n cnt R U N B L X) (fun (r : Int32) (u : Unit) => r = onesM (sdM S n cnt (2 ^ n - 1)) 8) (fun (u : Unit) => xW g d S V n cnt R U N B L X) := by
  refine fd_Iof (lv := [(0, .ref (g 0))]) rfl (by decide) (Nat.le_of_ble_eq_true rfl) rfl ?_
  intro p e s m below meth c A ls Q S0 hK hP hD hA hl hret
  obtain ⟨hx, hb, hml, hown, hts⟩ := id S0
  have hS : va_S A s.heap s.heap [] := va_S.rf
  refine lv_aload_n hx hb dX1_seedSize_0 rfl (lv_at hl 0 rfl) ?_
  refine fd_callVi (n := 0) (rest := []) (As := []) (wr := []) S0 hK hP hD hS hA [0, 1, 2, 3, 4] [] [0, 1, 2, 3] (metX1_seed l D g d S V n cnt R U N B L X hn8 hc) q159 q160 q161 q21 q162 dX1_seedSize_1 rfl rfl rfl rfl ⟨⟨rfl, rfl⟩, Nat.le_of_ble_eq_true rfl, Nat.le_of_ble_eq_true rfl⟩ (by decide +kernel) rfl rfl (q0 := 0) rfl rfl hl.1 rfl (Nat.le_of_ble_eq_true rfl) ⟨Nat.le_of_ble_eq_true rfl, Nat.le_of_ble_eq_true rfl⟩ (fun r1 u1 H locs hq1 hP hD hS => ?_)
  subst hq1
  have hP : va_P D vwCl (xW g d S V n cnt R U N B L X) H := hP
  have hD : va_D A (xW g d S V n cnt R U N B L X) := hD
  refine lv_istore_n (lv' := [(1, .int (sdM S n cnt (2 ^ n - 1))), (0, .ref (g 0))]) hx hb dX1_seedSize_4 rfl hl (by decide) rfl (fun ls hl => ?_)
  refine lv_iload_n hx hb dX1_seedSize_5 rfl (lv_at hl 0 rfl) ?_
  refine fd_callSi (n := 1) (rest := []) (As := [.int (sdM S n cnt (2 ^ n - 1))]) (wr := xW g d S V n cnt R U N B L X) S0 hK hP hD hS hA [] [0, 1, 2, 3, 4] [] (metX1_ones l D (sdM S n cnt (2 ^ n - 1))) q163 q164 q21 q165 dX1_seedSize_6 rfl rfl rfl rfl ⟨⟨rfl, rfl⟩, Nat.le_of_ble_eq_true rfl, Nat.le_of_ble_eq_true rfl⟩ (by decide +kernel) rfl hl.1 rfl (Nat.le_of_ble_eq_true rfl) ⟨Nat.le_of_ble_eq_true rfl, Nat.le_of_ble_eq_true rfl⟩ (fun r6 u6 H locs hq6 hP hD hS => ?_)
  subst hq6
  have hP : va_P D vwCl (xW g d S V n cnt R U N B L X) H := hP
  have hD : va_D A (xW g d S V n cnt R U N B L X) := hD
  exact hret (onesM (sdM S n cnt (2 ^ n - 1)) 8) () _ _ _ _ dX1_seedSize_9 rfl rfl hP hD hS
abbrev rmX1_spare : Room := { frames := 4, cells := 0, slots := 0, locals := 91 }
set_option maxHeartbeats 4000000 in
set_option maxRecDepth 100000 in
theorem metX1_spare (l : Launch) (D : va_G) (g : Nat → Nat) (d : Nat → ClassId) (S V : Nat → Int32) (n cnt : Nat) (R U : Nat → Int32) (N : Nat) (B L X : Int32) (kf : Int32 → Int32) (hc : cnt ≤ 16) (hra : raOK S V cnt) (hkf : ∀ (wo : Int32) (R U : Nat → Int32) (L X : Int32), knU (raA S V cnt wo R U L X) = kf wo) : fd_I l yX1_spare (ws_ yX1_spare cX1_spare 5 (some .int)) rmX1_spare D (xT d) [.ref (g 0)] (xW g d S V n cnt R U N B L X) (fun (r : Int32) (u : raST) => r = spM kf cnt) (fun (u : raST) => xW g d S V n cnt u.1 u.2.1 u.2.2.1 u.2.2.2.1 u.2.2.2.2.1 u.2.2.2.2.2) := by
  refine fd_Iof (lv := [(0, .ref (g 0))]) rfl (by decide) (Nat.le_of_ble_eq_true rfl) rfl ?_
  intro p e s m below meth c A ls Q S0 hK hP hD hA hl hret
  obtain ⟨hx, hb, hml, hown, hts⟩ := id S0
  have hS : va_S A s.heap s.heap [] := va_S.rf
  refine lv_aload_n hx hb dX1_spare_0 rfl (lv_at hl 0 rfl) ?_
  refine lv_iconst (v := (-1 : Int32)) hx hb dX1_spare_1 (by decide) ?_
  refine fd_callVv (n := 1) (rest := []) (As := [.int (-1 : Int32)]) (wr := []) S0 hK hP hD hS hA [0, 1, 2, 3, 4] [] [0, 1, 2, 3] (metX1_reduceAll l D g d S V n cnt R U N B L X (-1 : Int32) hc hra) q100 q102 qs2 q21 q103 dX1_spare_2 rfl rfl rfl rfl ⟨⟨rfl, rfl⟩, Nat.le_of_ble_eq_true rfl, Nat.le_of_ble_eq_true rfl⟩ (by decide +kernel) rfl rfl (q0 := 0) rfl rfl hl.1 rfl (Nat.le_of_ble_eq_true rfl) ⟨Nat.le_of_ble_eq_true rfl, Nat.le_of_ble_eq_true rfl⟩ (fun u2 H locs hq2 hP hD hS => ?_)
  have hP : va_P D vwCl (xW g d S V n cnt u2.1 u2.2.1 u2.2.2.1 u2.2.2.2.1 u2.2.2.2.2.1 u2.2.2.2.2.2) H := hP
  have hD : va_D A (xW g d S V n cnt u2.1 u2.2.1 u2.2.2.1 u2.2.2.2.1 u2.2.2.2.2.1 u2.2.2.2.2.2) := hD
  refine lv_aload_n hx hb dX1_spare_5 rfl (lv_at hl 0 rfl) ?_
  refine fd_callVi (n := 0) (rest := []) (As := []) (wr := []) S0 hK hP hD hS hA [0, 1, 2, 3, 4] [] [0, 1, 2, 3] (metX1_knownNow l D g d S V n cnt u2.1 u2.2.1 u2.2.2.1 u2.2.2.2.1 u2.2.2.2.2.1 u2.2.2.2.2.2 (by rw [hq2]; exact (hra (-1) R U L X cnt (Nat.le_refl _)).1)) q123 q125 qs5 q21 q126 dX1_spare_6 rfl rfl rfl rfl ⟨⟨rfl, rfl⟩, Nat.le_of_ble_eq_true rfl, Nat.le_of_ble_eq_true rfl⟩ (by decide +kernel) rfl rfl (q0 := 0) rfl rfl hl.1 rfl (Nat.le_of_ble_eq_true rfl) ⟨Nat.le_of_ble_eq_true rfl, Nat.le_of_ble_eq_true rfl⟩ (fun r6 u6 H locs hq6 hP hD hS => ?_)
  subst hq6
  have hP : va_P D vwCl (xW g d S V n cnt u2.1 u2.2.1 u2.2.2.1 u2.2.2.2.1 u2.2.2.2.2.1 u2.2.2.2.2.2) H := hP
  have hD : va_D A (xW g d S V n cnt u2.1 u2.2.1 u2.2.2.1 u2.2.2.2.1 u2.2.2.2.2.1 u2.2.2.2.2.2) := hD
  refine fd_as (show (knM u2.1 u2.2.2.2.1 u2.2.2.1) = kf (-1) from by show knU u2 = _; rw [hq2]; exact hkf _ _ _ _ _) ?_
  refine lv_istore_n (lv' := [(1, .int (kf (-1))), (0, .ref (g 0))]) hx hb dX1_spare_9 rfl hl (by decide) rfl (fun ls hl => ?_)
  refine lv_iconst (v := (0 : Int32)) hx hb dX1_spare_10 (by decide) ?_
  refine lv_istore_n (lv' := [(2, .int (0 : Int32)), (1, .int (kf (-1))), (0, .ref (g 0))]) hx hb dX1_spare_11 rfl hl (by decide) rfl (fun ls hl => ?_)
  refine lv_iconst (v := nI 0) hx hb dX1_spare_12 (by decide) ?_
  refine lv_istore_n (lv' := [(3, .int (nI 0)), (2, .int (0 : Int32)), (1, .int (kf (-1))), (0, .ref (g 0))]) hx hb dX1_spare_13 rfl hl (by decide) rfl (fun ls hl => ?_)
  have LP14 : ∀ (Nf14 : Nat) (k : Nat) (x2 : Int32) (xR : Nat → Int32) (xU : Nat → Int32) (xN : Nat) (xB : Int32) (xL : Int32) (xX : Int32) (H : Heap) (locs : List Loc) (ls : Array Slot), cnt - k < Nf14 → (k ≤ cnt) → x2 = spM kf k → va_P D vwCl (xW g d S V n cnt xR xU xN xB xL xX) H → va_D A (xW g d S V n cnt xR xU xN xB xL xX) → va_S A s.heap H locs → lv_has ls 5 [(0, .ref (g 0)), (1, .int (kf (-1))), (2, .int x2), (3, .int (nI k))] → W p l e rmX1_spare s m ([.ref (g 0)] : List Value).toArray below meth c H locs 0 0 Q (F0 m 14 ls []) := by
    intro Nf14
    induction Nf14 with
    | zero => intro k x2 xR xU xN xB xL xX H locs ls hmu; exact absurd hmu (Nat.not_lt_zero _)
    | succ Nf14 ih14 =>
      intro k x2 xR xU xN xB xL xX H locs ls hmu14 hc14_0 ex2 hP hD hS hl
      subst ex2
      refine lv_iload_n hx hb dX1_spare_14 rfl (lv_at hl 3 rfl) ?_
      refine lv_aload_n hx hb dX1_spare_15 rfl (lv_at hl 0 rfl) ?_
      refine va_get (D := D) (ci := 0) (v := .int (nI cnt)) (C := RX1) (T := TX1) (N := 10) hx hb hts in_X1 hown hK hP 0 rfl rfl 5 (by decide) (hts _ q36) (fun _ h9 => h9) rfl dX1_spare_16 ?_
      refine lv_icmp_ge (tgt := 56) hx hb dX1_spare_19 (by decide) (fun c19 => ?_) (fun c19 => ?_)
      · have c19 : cnt ≤ k := (nI_leI (a := cnt) (b := k) (by omega) (by omega)).mp c19
        obtain rfl : cnt = k := by omega
        refine lv_iload_n hx hb dX1_spare_56 rfl (lv_at hl 2 rfl) ?_
        exact hret (spM kf cnt) (xR, xU, xN, xB, xL, xX) _ _ _ _ dX1_spare_57 rfl rfl hP hD hS
      have c19 : ¬ (cnt ≤ k) := fun h => c19 ((nI_leI (a := cnt) (b := k) (by omega) (by omega)).mpr h)
      refine lv_aload_n hx hb dX1_spare_22 rfl (lv_at hl 0 rfl) ?_
      refine lv_iload_n hx hb dX1_spare_23 rfl (lv_at hl 3 rfl) ?_
      refine fd_callVv (n := 1) (rest := []) (As := [.int (nI k)]) (wr := []) S0 hK hP hD hS hA [0, 1, 2, 3, 4] [] [0, 1, 2, 3] (metX1_reduceAll l D g d S V n cnt xR xU xN xB xL xX (nI k) hc hra) q100 q102 qs2 q21 q103 dX1_spare_24 rfl rfl rfl rfl ⟨⟨rfl, rfl⟩, Nat.le_of_ble_eq_true rfl, Nat.le_of_ble_eq_true rfl⟩ (by decide +kernel) rfl rfl (q0 := 0) rfl rfl hl.1 rfl (Nat.le_of_ble_eq_true rfl) ⟨Nat.le_of_ble_eq_true rfl, Nat.le_of_ble_eq_true rfl⟩ (fun u24 H locs hq24 hP hD hS => ?_)
      have hP : va_P D vwCl (xW g d S V n cnt u24.1 u24.2.1 u24.2.2.1 u24.2.2.2.1 u24.2.2.2.2.1 u24.2.2.2.2.2) H := hP
      have hD : va_D A (xW g d S V n cnt u24.1 u24.2.1 u24.2.2.1 u24.2.2.2.1 u24.2.2.2.2.1 u24.2.2.2.2.2) := hD
      refine lv_aload_n hx hb dX1_spare_27 rfl (lv_at hl 0 rfl) ?_
      refine fd_callVi (n := 0) (rest := []) (As := []) (wr := []) S0 hK hP hD hS hA [0, 1, 2, 3, 4] [] [0, 1, 2, 3] (metX1_knownNow l D g d S V n cnt u24.1 u24.2.1 u24.2.2.1 u24.2.2.2.1 u24.2.2.2.2.1 u24.2.2.2.2.2 (by rw [hq24]; exact (hra (nI k) xR xU xL xX cnt (Nat.le_refl _)).1)) q123 q125 qs5 q21 q126 dX1_spare_28 rfl rfl rfl rfl ⟨⟨rfl, rfl⟩, Nat.le_of_ble_eq_true rfl, Nat.le_of_ble_eq_true rfl⟩ (by decide +kernel) rfl rfl (q0 := 0) rfl rfl hl.1 rfl (Nat.le_of_ble_eq_true rfl) ⟨Nat.le_of_ble_eq_true rfl, Nat.le_of_ble_eq_true rfl⟩ (fun r28 u28 H locs hq28 hP hD hS => ?_)
      subst hq28
      have hP : va_P D vwCl (xW g d S V n cnt u24.1 u24.2.1 u24.2.2.1 u24.2.2.2.1 u24.2.2.2.2.1 u24.2.2.2.2.2) H := hP
      have hD : va_D A (xW g d S V n cnt u24.1 u24.2.1 u24.2.2.1 u24.2.2.2.1 u24.2.2.2.2.1 u24.2.2.2.2.2) := hD
      refine fd_as (show (knM u24.1 u24.2.2.2.1 u24.2.2.1) = kf (nI k) from by show knU u24 = _; rw [hq24]; exact hkf _ _ _ _ _) ?_
      refine lv_istore (lv' := [(4, .int (kf (nI k))), (0, .ref (g 0)), (1, .int (kf (-1))), (2, .int (spM kf k)), (3, .int (nI k))]) hx hb dX1_spare_31 hl (by decide) rfl (fun ls hl => ?_)
      refine lv_iload_n hx hb dX1_spare_33 rfl (lv_at hl 3 rfl) ?_
      refine lv_iload_n hx hb dX1_spare_34 rfl (lv_at hl 2 rfl) ?_
      refine lv_iload hx hb dX1_spare_35 (lv_at hl 0 rfl) ?_
      refine lv_iconst (v := (-1 : Int32)) hx hb dX1_spare_37 (by decide) ?_
      refine lv_ixor hx hb dX1_spare_38 ?_
      refine lv_iand hx hb dX1_spare_39 ?_
      refine lv_if_ne (tgt := 47) hx hb dX1_spare_40 (by decide) (fun c40 => ?_) (fun c40 => ?_)
      · refine lv_iconst (v := (0 : Int32)) hx hb dX1_spare_47 (by decide) ?_
        refine lv_iadd hx hb dX1_spare_48 ?_
        refine lv_istore_n (lv' := [(2, .int ((spM kf k) + (0 : Int32))), (4, .int (kf (nI k))), (0, .ref (g 0)), (1, .int (kf (-1))), (3, .int (nI k))]) hx hb dX1_spare_49 rfl hl (by decide) rfl (fun ls hl => ?_)
        refine lv_iinc (v := nI (k + 1)) (lv' := [(3, .int (nI (k + 1))), (2, .int ((spM kf k) + (0 : Int32))), (4, .int (kf (nI k))), (0, .ref (g 0)), (1, .int (kf (-1)))]) hx hb dX1_spare_50 hl (k := 4) rfl (fd_inc _) (by decide) rfl (fun ls hl => ?_)
        refine lv_goto (tgt := 14) hx hb dX1_spare_53 (by decide) ?_
        exact ih14 (k + 1) ((spM kf k) + (0 : Int32)) u24.1 u24.2.1 u24.2.2.1 u24.2.2.2.1 u24.2.2.2.2.1 u24.2.2.2.2.2 _ _ _ (by omega) (by omega) (by first | rw [spM, if_pos c40] | (rw [spM, if_neg c40]; exact Int32.add_zero _)) hP hD hS (lv_sub hl [3, 4, 1, 0] rfl)
      refine lv_iconst (v := (1 : Int32)) hx hb dX1_spare_43 (by decide) ?_
      refine lv_goto (tgt := 48) hx hb dX1_spare_44 (by decide) ?_
      refine lv_iadd hx hb dX1_spare_48 ?_
      refine lv_istore_n (lv' := [(2, .int ((spM kf k) + (1 : Int32))), (4, .int (kf (nI k))), (0, .ref (g 0)), (1, .int (kf (-1))), (3, .int (nI k))]) hx hb dX1_spare_49 rfl hl (by decide) rfl (fun ls hl => ?_)
      refine lv_iinc (v := nI (k + 1)) (lv' := [(3, .int (nI (k + 1))), (2, .int ((spM kf k) + (1 : Int32))), (4, .int (kf (nI k))), (0, .ref (g 0)), (1, .int (kf (-1)))]) hx hb dX1_spare_50 hl (k := 4) rfl (fd_inc _) (by decide) rfl (fun ls hl => ?_)
      refine lv_goto (tgt := 14) hx hb dX1_spare_53 (by decide) ?_
      exact ih14 (k + 1) ((spM kf k) + (1 : Int32)) u24.1 u24.2.1 u24.2.2.1 u24.2.2.2.1 u24.2.2.2.2.1 u24.2.2.2.2.2 _ _ _ (by omega) (by omega) (by first | rw [spM, if_pos c40] | (rw [spM, if_neg c40]; exact Int32.add_zero _)) hP hD hS (lv_sub hl [3, 4, 1, 0] rfl)
  exact LP14 _ 0 (0 : Int32) u2.1 u2.2.1 u2.2.2.1 u2.2.2.2.1 u2.2.2.2.2.1 u2.2.2.2.2.2 _ _ _ (Nat.lt_succ_self _) (by omega) rfl hP hD hS (lv_sub hl [3, 2, 1, 0] rfl)
abbrev rmX1_useful : Room := { frames := 4, cells := 0, slots := 0, locals := 91 }
set_option maxHeartbeats 4000000 in
set_option maxRecDepth 100000 in
theorem metX1_useful (l : Launch) (D : va_G) (g : Nat → Nat) (d : Nat → ClassId) (S V : Nat → Int32) (n cnt : Nat) (R U : Nat → Int32) (N : Nat) (B L X : Int32)  (hn1 : 1 ≤ n) (hn8 : n ≤ 8) (hc : cnt ≤ 16) (hra : raOK S V cnt) : fd_I l yX1_useful (ws_ yX1_useful cX1_useful 4 (some .int)) rmX1_useful D (xT d) [.ref (g 0)] (xW g d S V n cnt R U N B L X) (fun (r : Int32) (u : raST) => usP n (raA S V cnt (-1) R U L X) r) (fun (u : raST) => xW g d S V n cnt u.1 u.2.1 u.2.2.1 u.2.2.2.1 u.2.2.2.2.1 u.2.2.2.2.2) := by
  refine fd_Iof (lv := [(0, .ref (g 0))]) rfl (by decide) (Nat.le_of_ble_eq_true rfl) rfl ?_
  intro p e s m below meth c A ls Q S0 hK hP hD hA hl hret
  obtain ⟨hx, hb, hml, hown, hts⟩ := id S0
  have hS : va_S A s.heap s.heap [] := va_S.rf
  refine lv_aload_n hx hb dX1_useful_0 rfl (lv_at hl 0 rfl) ?_
  refine lv_iconst (v := (-1 : Int32)) hx hb dX1_useful_1 (by decide) ?_
  refine fd_callVv (n := 1) (rest := []) (As := [.int (-1 : Int32)]) (wr := []) S0 hK hP hD hS hA [0, 1, 2, 3, 4] [] [0, 1, 2, 3] (metX1_reduceAll l D g d S V n cnt R U N B L X (-1 : Int32) hc hra) q100 q102 qs2 q21 q103 dX1_useful_2 rfl rfl rfl rfl ⟨⟨rfl, rfl⟩, Nat.le_of_ble_eq_true rfl, Nat.le_of_ble_eq_true rfl⟩ (by decide +kernel) rfl rfl (q0 := 0) rfl rfl hl.1 rfl (Nat.le_of_ble_eq_true rfl) ⟨Nat.le_of_ble_eq_true rfl, Nat.le_of_ble_eq_true rfl⟩ (fun u2 H locs hq2 hP hD hS => ?_)
  have hP : va_P D vwCl (xW g d S V n cnt u2.1 u2.2.1 u2.2.2.1 u2.2.2.2.1 u2.2.2.2.2.1 u2.2.2.2.2.2) H := hP
  have hD : va_D A (xW g d S V n cnt u2.1 u2.2.1 u2.2.2.1 u2.2.2.2.1 u2.2.2.2.2.1 u2.2.2.2.2.2) := hD
  have hN2 : u2.2.2.1 ≤ 8 := (by rw [hq2]; exact (hra (-1) R U L X cnt (Nat.le_refl _)).1)
  refine lv_aload_n hx hb dX1_useful_5 rfl (lv_at hl 0 rfl) ?_
  refine va_get (D := D) (ci := 0) (v := .int u2.2.2.2.1) (C := RX1) (T := TX1) (N := 10) hx hb hts in_X1 hown hK hP 0 rfl rfl 7 (by decide) (hts _ q38) (fun _ h9 => h9) rfl dX1_useful_6 ?_
  refine lv_if_ne (tgt := 14) hx hb dX1_useful_9 (by decide) (fun c9 => ?_) (fun c9 => ?_)
  · refine lv_aload_n hx hb dX1_useful_14 rfl (lv_at hl 0 rfl) ?_
    refine fd_callVi (n := 0) (rest := []) (As := []) (wr := []) S0 hK hP hD hS hA [0, 1, 2, 3, 4] [] [0, 1, 2, 3] (metX1_knownNow l D g d S V n cnt u2.1 u2.2.1 u2.2.2.1 u2.2.2.2.1 u2.2.2.2.2.1 u2.2.2.2.2.2 hN2) q123 q125 qs5 q21 q126 dX1_useful_15 rfl rfl rfl rfl ⟨⟨rfl, rfl⟩, Nat.le_of_ble_eq_true rfl, Nat.le_of_ble_eq_true rfl⟩ (by decide +kernel) rfl rfl (q0 := 0) rfl rfl hl.1 rfl (Nat.le_of_ble_eq_true rfl) ⟨Nat.le_of_ble_eq_true rfl, Nat.le_of_ble_eq_true rfl⟩ (fun r15 u15 H locs hq15 hP hD hS => ?_)
    subst hq15
    have hP : va_P D vwCl (xW g d S V n cnt u2.1 u2.2.1 u2.2.2.1 u2.2.2.2.1 u2.2.2.2.2.1 u2.2.2.2.2.2) H := hP
    have hD : va_D A (xW g d S V n cnt u2.1 u2.2.1 u2.2.2.1 u2.2.2.2.1 u2.2.2.2.2.1 u2.2.2.2.2.2) := hD
    refine fd_as (show (knM u2.1 u2.2.2.2.1 u2.2.2.1) = knU u2 from rfl) ?_
    refine lv_istore_n (lv' := [(1, .int (knU u2)), (0, .ref (g 0))]) hx hb dX1_useful_18 rfl hl (by decide) rfl (fun ls hl => ?_)
    refine lv_iconst (v := nI 0) hx hb dX1_useful_19 (by decide) ?_
    refine lv_istore_n (lv' := [(2, .int (nI 0)), (1, .int (knU u2)), (0, .ref (g 0))]) hx hb dX1_useful_20 rfl hl (by decide) rfl (fun ls hl => ?_)
    have LP21 : ∀ (Nf21 : Nat) (k : Nat) (xL : Int32) (xX : Int32) (H : Heap) (locs : List Loc) (ls : Array Slot), 10000 - k < Nf21 → (k ≤ 10000) → (∀ i, i < k → ¬ usC n u2 i) → va_P D vwCl (xW g d S V n cnt u2.1 u2.2.1 u2.2.2.1 u2.2.2.2.1 xL xX) H → va_D A (xW g d S V n cnt u2.1 u2.2.1 u2.2.2.1 u2.2.2.2.1 xL xX) → va_S A s.heap H locs → lv_has ls 4 [(0, .ref (g 0)), (1, .int (knU u2)), (2, .int (nI k))] → W p l e rmX1_useful s m ([.ref (g 0)] : List Value).toArray below meth c H locs 0 0 Q (F0 m 21 ls []) := by
      intro Nf21
      induction Nf21 with
      | zero => intro k xL xX H locs ls hmu; exact absurd hmu (Nat.not_lt_zero _)
      | succ Nf21 ih21 =>
        intro k xL xX H locs ls hmu21 hk hall hP hD hS hl
        refine lv_iload_n hx hb dX1_useful_21 rfl (lv_at hl 2 rfl) ?_
        refine lv_sipush (v := nI 10000) hx hb dX1_useful_22 (by decide) ?_
        refine lv_icmp_ge (tgt := 59) hx hb dX1_useful_25 (by decide) (fun c25 => ?_) (fun c25 => ?_)
        · have c25 : 10000 ≤ k := (nI_leI (a := 10000) (b := k) (by omega) (by omega)).mp c25
          obtain rfl : 10000 = k := by omega
          refine lv_iconst (v := (-1 : Int32)) hx hb dX1_useful_59 (by decide) ?_
          exact hret (-1 : Int32) (u2.1, u2.2.1, u2.2.2.1, u2.2.2.2.1, xL, xX) _ _ _ _ dX1_useful_60 rfl (by rw [← hq2]; exact Or.inr ⟨c9, Or.inr ⟨hall, rfl⟩⟩) hP hD hS
        have c25 : ¬ (10000 ≤ k) := fun h => c25 ((nI_leI (a := 10000) (b := k) (by omega) (by omega)).mpr h)
        refine lv_aload_n hx hb dX1_useful_28 rfl (lv_at hl 0 rfl) ?_
        refine lv_iload_n hx hb dX1_useful_29 rfl (lv_at hl 2 rfl) ?_
        refine fd_callVi (n := 1) (rest := []) (As := [.int (nI k)]) (wr := []) S0 hK hP hD hS hA [0, 1, 2, 3, 4] [] [0, 1, 2, 3] (metX1_drawn l D g d S V n cnt u2.1 u2.2.1 u2.2.2.1 u2.2.2.2.1 xL xX k hn1 hn8 (by omega)) q79 q81 qs1 q21 q82 dX1_useful_30 rfl rfl rfl rfl ⟨⟨rfl, rfl⟩, Nat.le_of_ble_eq_true rfl, Nat.le_of_ble_eq_true rfl⟩ (by decide +kernel) rfl rfl (q0 := 0) rfl rfl hl.1 rfl (Nat.le_of_ble_eq_true rfl) ⟨Nat.le_of_ble_eq_true rfl, Nat.le_of_ble_eq_true rfl⟩ (fun r30 u30 H locs hq30 hP hD hS => ?_)
        subst hq30
        have hP : va_P D vwCl (xW g d S V n cnt u2.1 u2.2.1 u2.2.2.1 u2.2.2.2.1 xL xX) H := hP
        have hD : va_D A (xW g d S V n cnt u2.1 u2.2.1 u2.2.2.1 u2.2.2.2.1 xL xX) := hD
        refine lv_istore_n (lv' := [(3, .int (nI (drN n k))), (0, .ref (g 0)), (1, .int (knU u2)), (2, .int (nI k))]) hx hb dX1_useful_33 rfl hl (by decide) rfl (fun ls hl => ?_)
        refine lv_aload_n hx hb dX1_useful_34 rfl (lv_at hl 1 rfl) ?_
        refine lv_iload_n hx hb dX1_useful_35 rfl (lv_at hl 0 rfl) ?_
        refine fd_callVi (n := 1) (rest := []) (As := [.int (nI (drN n k))]) (wr := []) S0 hK hP hD hS hA [0, 1, 2, 3, 4] [] [0, 1, 2, 3] (metX1_settle l D g d S V n cnt u2.1 u2.2.1 u2.2.2.1 u2.2.2.2.1 xL xX (nI (drN n k)) hN2) q131 q133 qs6 q21 q134 dX1_useful_36 rfl rfl rfl rfl ⟨⟨rfl, rfl⟩, Nat.le_of_ble_eq_true rfl, Nat.le_of_ble_eq_true rfl⟩ (by decide +kernel) rfl rfl (q0 := 0) rfl rfl hl.1 rfl (Nat.le_of_ble_eq_true rfl) ⟨Nat.le_of_ble_eq_true rfl, Nat.le_of_ble_eq_true rfl⟩ (fun r36 u36 H locs hq36 hP hD hS => ?_)
        subst hq36
        have hP : va_P D vwCl (xW g d S V n cnt u2.1 u2.2.1 u2.2.2.1 u2.2.2.2.1 ((rdM u2.1 u2.2.1 (nI (drN n k)) 0 u2.2.2.1).1) ((rdM u2.1 u2.2.1 (nI (drN n k)) 0 u2.2.2.1).2)) H := hP
        have hD : va_D A (xW g d S V n cnt u2.1 u2.2.1 u2.2.2.1 u2.2.2.2.1 ((rdM u2.1 u2.2.1 (nI (drN n k)) 0 u2.2.2.1).1) ((rdM u2.1 u2.2.1 (nI (drN n k)) 0 u2.2.2.1).2)) := hD
        refine lv_if_ge (tgt := 53) hx hb dX1_useful_39 (by decide) (fun c39 => ?_) (fun c39 => ?_)
        · refine lv_iinc (v := nI (k + 1)) (lv' := [(2, .int (nI (k + 1))), (3, .int (nI (drN n k))), (0, .ref (g 0)), (1, .int (knU u2))]) hx hb dX1_useful_53 hl (k := 3) rfl (fd_inc _) (by decide) rfl (fun ls hl => ?_)
          refine lv_goto (tgt := 21) hx hb dX1_useful_56 (by decide) ?_
          exact ih21 (k + 1) ((rdM u2.1 u2.2.1 (nI (drN n k)) 0 u2.2.2.1).1) ((rdM u2.1 u2.2.1 (nI (drN n k)) 0 u2.2.2.1).2) _ _ _ (by omega) (by omega) (by first | exact lt_s hall (fun h => Int32.not_lt.mpr c39 h.1) | exact lt_s hall (fun h => h.2 c48)) hP hD hS (lv_sub hl [2, 3, 0] rfl)
        refine lv_aload_n hx hb dX1_useful_42 rfl (lv_at hl 1 rfl) ?_
        refine lv_iload_n hx hb dX1_useful_43 rfl (lv_at hl 0 rfl) ?_
        refine lv_iload_n hx hb dX1_useful_44 rfl (lv_at hl 2 rfl) ?_
        refine fd_callVi (n := 2) (rest := []) (As := [.int (nI (drN n k)), .int (knU u2)]) (wr := []) S0 hK hP hD hS hA [0, 1, 2, 3, 4] [] [0, 1, 2, 3] (metX1_wouldHelp l D g d S V n cnt u2.1 u2.2.1 u2.2.2.1 u2.2.2.2.1 ((rdM u2.1 u2.2.1 (nI (drN n k)) 0 u2.2.2.1).1) ((rdM u2.1 u2.2.1 (nI (drN n k)) 0 u2.2.2.1).2) (nI (drN n k)) (knU u2) hN2) q175 q177 qs9 q21 q178 dX1_useful_45 rfl rfl rfl rfl ⟨⟨rfl, rfl⟩, Nat.le_of_ble_eq_true rfl, Nat.le_of_ble_eq_true rfl⟩ (by decide +kernel) rfl rfl (q0 := 0) rfl rfl hl.1 rfl (Nat.le_of_ble_eq_true rfl) ⟨Nat.le_of_ble_eq_true rfl, Nat.le_of_ble_eq_true rfl⟩ (fun r45 u45 H locs hq45 hP hD hS => ?_)
        subst hq45
        have hP : va_P D vwCl (xW g d S V n cnt u2.1 u2.2.1 u2.2.2.1 u2.2.2.2.1 ((rdM u2.1 u2.2.1 (nI (drN n k)) 0 u2.2.2.1).1) ((rdM u2.1 u2.2.1 (nI (drN n k)) 0 u2.2.2.1).2)) H := hP
        have hD : va_D A (xW g d S V n cnt u2.1 u2.2.1 u2.2.2.1 u2.2.2.2.1 ((rdM u2.1 u2.2.1 (nI (drN n k)) 0 u2.2.2.1).1) ((rdM u2.1 u2.2.1 (nI (drN n k)) 0 u2.2.2.1).2)) := hD
        refine lv_if_eq (tgt := 53) hx hb dX1_useful_48 (by decide) (fun c48 => ?_) (fun c48 => ?_)
        · refine lv_iinc (v := nI (k + 1)) (lv' := [(2, .int (nI (k + 1))), (3, .int (nI (drN n k))), (0, .ref (g 0)), (1, .int (knU u2))]) hx hb dX1_useful_53 hl (k := 3) rfl (fd_inc _) (by decide) rfl (fun ls hl => ?_)
          refine lv_goto (tgt := 21) hx hb dX1_useful_56 (by decide) ?_
          exact ih21 (k + 1) ((rdM u2.1 u2.2.1 (nI (drN n k)) 0 u2.2.2.1).1) ((rdM u2.1 u2.2.1 (nI (drN n k)) 0 u2.2.2.1).2) _ _ _ (by omega) (by omega) (by first | exact lt_s hall (fun h => Int32.not_lt.mpr c39 h.1) | exact lt_s hall (fun h => h.2 c48)) hP hD hS (lv_sub hl [2, 3, 0] rfl)
        refine lv_iload_n hx hb dX1_useful_51 rfl (lv_at hl 3 rfl) ?_
        exact hret (nI k) (u2.1, u2.2.1, u2.2.2.1, u2.2.2.2.1, (rdM u2.1 u2.2.1 (nI (drN n k)) 0 u2.2.2.1).1, (rdM u2.1 u2.2.1 (nI (drN n k)) 0 u2.2.2.1).2) _ _ _ _ dX1_useful_52 rfl (by rw [← hq2]; exact Or.inr ⟨c9, Or.inl ⟨k, by omega, hall, ⟨Int32.not_le.mp c39, c48⟩, rfl⟩⟩) hP hD hS
    exact LP21 _ 0 u2.2.2.2.2.1 u2.2.2.2.2.2 _ _ _ (Nat.lt_succ_self _) (by omega) lt_0 hP hD hS (lv_sub hl [2, 1, 0] rfl)
  refine lv_iconst (v := (-1 : Int32)) hx hb dX1_useful_12 (by decide) ?_
  exact hret (-1 : Int32) (u2.1, u2.2.1, u2.2.2.1, u2.2.2.2.1, u2.2.2.2.2.1, u2.2.2.2.2.2) _ _ _ _ dX1_useful_13 rfl (by rw [← hq2]; exact Or.inl ⟨c9, rfl⟩) hP hD hS
abbrev rmX1_receive : Room := { frames := 1, cells := 0, slots := 0, locals := 22 }
set_option maxHeartbeats 4000000 in
set_option maxRecDepth 100000 in
theorem metX1_receive (l : Launch) (D : va_G) (g : Nat → Nat) (d : Nat → ClassId) (S V : Nat → Int32) (n cnt : Nat) (R U : Nat → Int32) (N : Nat) (B L X : Int32) (a b : Int32) (hn8 : n ≤ 8) (hc : cnt ≤ 16) : fd_I l yX1_receive (ws_ yX1_receive cX1_receive 3 (some .int)) rmX1_receive D (xT d) [.ref (g 0), .int a, .int b] (xW g d S V n cnt R U N B L X) (fun (r : Int32) (u : syST) => (r, u) = rcF n S V cnt a b) (fun (u : syST) => xW g d u.1 u.2.1 n u.2.2 R U N B L X) := by
  refine fd_Iof (lv := [(0, .ref (g 0)), (1, .int a), (2, .int b)]) rfl (by decide) (Nat.le_of_ble_eq_true rfl) rfl ?_
  intro p e s m below meth c A ls Q S0 hK hP hD hA hl hret
  obtain ⟨hx, hb, hml, hown, hts⟩ := id S0
  have hS : va_S A s.heap s.heap [] := va_S.rf
  refine lv_iload_n hx hb dX1_receive_0 rfl (lv_at hl 1 rfl) ?_
  refine lv_iconst (v := (1 : Int32)) hx hb dX1_receive_1 (by decide) ?_
  refine lv_icmp_lt (tgt := 15) hx hb dX1_receive_2 (by decide) (fun c2 => ?_) (fun c2 => ?_)
  · refine lv_iconst (v := (-1 : Int32)) hx hb dX1_receive_15 (by decide) ?_
    exact hret (-1 : Int32) (S, V, cnt) _ _ _ _ dX1_receive_16 rfl (by first | rw [rcF, if_pos (Or.inl c2)] | rw [rcF, if_pos (Or.inr (Int32.not_lt.mp c12))] | rw [rcF, if_neg (fun h => h.elim c2 (Int32.not_le.mpr c12)), if_pos (Or.inl c18)] | rw [rcF, if_neg (fun h => h.elim c2 (Int32.not_le.mpr c12)), if_pos (Or.inr (Int32.not_le.mp c25))] | rw [rcF, if_neg (fun h => h.elim c2 (Int32.not_le.mpr c12)), if_neg (fun h => h.elim c18 (Int32.not_lt.mpr c25)), if_pos c37] | rw [rcF, if_neg (fun h => h.elim c2 (Int32.not_le.mpr c12)), if_neg (fun h => h.elim c18 (Int32.not_lt.mpr c25)), if_neg c37]) hP hD hS
  refine lv_iload_n hx hb dX1_receive_5 rfl (lv_at hl 1 rfl) ?_
  refine lv_iconst (v := (1 : Int32)) hx hb dX1_receive_6 (by decide) ?_
  refine lv_aload_n hx hb dX1_receive_7 rfl (lv_at hl 0 rfl) ?_
  refine va_get (D := D) (ci := 0) (v := .int (nI n)) (C := RX1) (T := TX1) (N := 10) hx hb hts in_X1 hown hK hP 0 rfl rfl 4 (by decide) (hts _ q35) (fun _ h9 => h9) rfl dX1_receive_8 ?_
  refine lv_ishl hx hb dX1_receive_11 ?_
  refine fd_as (show ((1 : Int32) <<< ((nI n) &&& 31)) = nI (2 ^ n) from fd_pw hn8) ?_
  refine lv_icmp_lt (tgt := 17) hx hb dX1_receive_12 (by decide) (fun c12 => ?_) (fun c12 => ?_)
  · refine lv_iload_n hx hb dX1_receive_17 rfl (lv_at hl 2 rfl) ?_
    refine lv_if_lt (tgt := 28) hx hb dX1_receive_18 (by decide) (fun c18 => ?_) (fun c18 => ?_)
    · refine lv_bipush (v := (-2 : Int32)) hx hb dX1_receive_28 (by decide) ?_
      exact hret (-2 : Int32) (S, V, cnt) _ _ _ _ dX1_receive_30 rfl (by first | rw [rcF, if_pos (Or.inl c2)] | rw [rcF, if_pos (Or.inr (Int32.not_lt.mp c12))] | rw [rcF, if_neg (fun h => h.elim c2 (Int32.not_le.mpr c12)), if_pos (Or.inl c18)] | rw [rcF, if_neg (fun h => h.elim c2 (Int32.not_le.mpr c12)), if_pos (Or.inr (Int32.not_le.mp c25))] | rw [rcF, if_neg (fun h => h.elim c2 (Int32.not_le.mpr c12)), if_neg (fun h => h.elim c18 (Int32.not_lt.mpr c25)), if_pos c37] | rw [rcF, if_neg (fun h => h.elim c2 (Int32.not_le.mpr c12)), if_neg (fun h => h.elim c18 (Int32.not_lt.mpr c25)), if_neg c37]) hP hD hS
    refine lv_iload_n hx hb dX1_receive_21 rfl (lv_at hl 2 rfl) ?_
    refine lv_sipush (v := (255 : Int32)) hx hb dX1_receive_22 (by decide) ?_
    refine lv_icmp_le (tgt := 31) hx hb dX1_receive_25 (by decide) (fun c25 => ?_) (fun c25 => ?_)
    · refine lv_aload_n hx hb dX1_receive_31 rfl (lv_at hl 0 rfl) ?_
      refine va_get (D := D) (ci := 0) (v := .int (nI cnt)) (C := RX1) (T := TX1) (N := 10) hx hb hts in_X1 hown hK hP 0 rfl rfl 5 (by decide) (hts _ q36) (fun _ h9 => h9) rfl dX1_receive_32 ?_
      refine lv_bipush (v := nI 16) hx hb dX1_receive_35 (by decide) ?_
      refine lv_icmp_ne (tgt := 43) hx hb dX1_receive_37 (by decide) (fun c37 => ?_) (fun c37 => ?_)
      · have c37 : ¬ (cnt = 16) := fun h => c37 ((nI_eq (a := cnt) (b := 16) (by omega) (by omega)).mpr h)
        refine lv_aload_n hx hb dX1_receive_43 rfl (lv_at hl 0 rfl) ?_
        refine lv_iload_n hx hb dX1_receive_44 rfl (lv_at hl 1 rfl) ?_
        refine lv_iload_n hx hb dX1_receive_45 rfl (lv_at hl 2 rfl) ?_
        refine fd_callVv (n := 2) (rest := []) (As := [.int a, .int b]) (wr := []) S0 hK hP hD hS hA [0, 1, 2, 3, 4] [] [0, 1, 2, 3] (metX1_put l D g d S V n cnt R U N B L X a b (by omega)) q71 q73 qs0 q21 q74 dX1_receive_46 rfl rfl rfl rfl ⟨⟨rfl, rfl⟩, Nat.le_of_ble_eq_true rfl, Nat.le_of_ble_eq_true rfl⟩ (by decide +kernel) rfl rfl (q0 := 0) rfl rfl hl.1 rfl (Nat.le_of_ble_eq_true rfl) ⟨Nat.le_of_ble_eq_true rfl, Nat.le_of_ble_eq_true rfl⟩ (fun u46 H locs hq46 hP hD hS => ?_)
        have hP : va_P D vwCl (xW g d (upd S cnt a) (upd V cnt b) n (cnt + 1) R U N B L X) H := hP
        have hD : va_D A (xW g d (upd S cnt a) (upd V cnt b) n (cnt + 1) R U N B L X) := hD
        refine lv_aload_n hx hb dX1_receive_49 rfl (lv_at hl 0 rfl) ?_
        refine va_get (D := D) (ci := 0) (v := .int (nI (cnt + 1))) (C := RX1) (T := TX1) (N := 10) hx hb hts in_X1 hown hK hP 0 rfl rfl 5 (by decide) (hts _ q36) (fun _ h9 => h9) rfl dX1_receive_50 ?_
        refine lv_iconst (v := (1 : Int32)) hx hb dX1_receive_53 (by decide) ?_
        refine lv_isub hx hb dX1_receive_54 ?_
        refine fd_as (show ((nI (cnt + 1)) - (1 : Int32)) = nI cnt from nI_pred cnt) ?_
        exact hret (nI cnt) ((upd S cnt a), (upd V cnt b), (cnt + 1)) _ _ _ _ dX1_receive_55 rfl (by first | rw [rcF, if_pos (Or.inl c2)] | rw [rcF, if_pos (Or.inr (Int32.not_lt.mp c12))] | rw [rcF, if_neg (fun h => h.elim c2 (Int32.not_le.mpr c12)), if_pos (Or.inl c18)] | rw [rcF, if_neg (fun h => h.elim c2 (Int32.not_le.mpr c12)), if_pos (Or.inr (Int32.not_le.mp c25))] | rw [rcF, if_neg (fun h => h.elim c2 (Int32.not_le.mpr c12)), if_neg (fun h => h.elim c18 (Int32.not_lt.mpr c25)), if_pos c37] | rw [rcF, if_neg (fun h => h.elim c2 (Int32.not_le.mpr c12)), if_neg (fun h => h.elim c18 (Int32.not_lt.mpr c25)), if_neg c37]) hP hD hS
      have c37 : cnt = 16 := (nI_eq (a := cnt) (b := 16) (by omega) (by omega)).mp c37
      refine lv_bipush (v := (-3 : Int32)) hx hb dX1_receive_40 (by decide) ?_
      exact hret (-3 : Int32) (S, V, cnt) _ _ _ _ dX1_receive_42 rfl (by first | rw [rcF, if_pos (Or.inl c2)] | rw [rcF, if_pos (Or.inr (Int32.not_lt.mp c12))] | rw [rcF, if_neg (fun h => h.elim c2 (Int32.not_le.mpr c12)), if_pos (Or.inl c18)] | rw [rcF, if_neg (fun h => h.elim c2 (Int32.not_le.mpr c12)), if_pos (Or.inr (Int32.not_le.mp c25))] | rw [rcF, if_neg (fun h => h.elim c2 (Int32.not_le.mpr c12)), if_neg (fun h => h.elim c18 (Int32.not_lt.mpr c25)), if_pos c37] | rw [rcF, if_neg (fun h => h.elim c2 (Int32.not_le.mpr c12)), if_neg (fun h => h.elim c18 (Int32.not_lt.mpr c25)), if_neg c37]) hP hD hS
    refine lv_bipush (v := (-2 : Int32)) hx hb dX1_receive_28 (by decide) ?_
    exact hret (-2 : Int32) (S, V, cnt) _ _ _ _ dX1_receive_30 rfl (by first | rw [rcF, if_pos (Or.inl c2)] | rw [rcF, if_pos (Or.inr (Int32.not_lt.mp c12))] | rw [rcF, if_neg (fun h => h.elim c2 (Int32.not_le.mpr c12)), if_pos (Or.inl c18)] | rw [rcF, if_neg (fun h => h.elim c2 (Int32.not_le.mpr c12)), if_pos (Or.inr (Int32.not_le.mp c25))] | rw [rcF, if_neg (fun h => h.elim c2 (Int32.not_le.mpr c12)), if_neg (fun h => h.elim c18 (Int32.not_lt.mpr c25)), if_pos c37] | rw [rcF, if_neg (fun h => h.elim c2 (Int32.not_le.mpr c12)), if_neg (fun h => h.elim c18 (Int32.not_lt.mpr c25)), if_neg c37]) hP hD hS
  refine lv_iconst (v := (-1 : Int32)) hx hb dX1_receive_15 (by decide) ?_
  exact hret (-1 : Int32) (S, V, cnt) _ _ _ _ dX1_receive_16 rfl (by first | rw [rcF, if_pos (Or.inl c2)] | rw [rcF, if_pos (Or.inr (Int32.not_lt.mp c12))] | rw [rcF, if_neg (fun h => h.elim c2 (Int32.not_le.mpr c12)), if_pos (Or.inl c18)] | rw [rcF, if_neg (fun h => h.elim c2 (Int32.not_le.mpr c12)), if_pos (Or.inr (Int32.not_le.mp c25))] | rw [rcF, if_neg (fun h => h.elim c2 (Int32.not_le.mpr c12)), if_neg (fun h => h.elim c18 (Int32.not_lt.mpr c25)), if_pos c37] | rw [rcF, if_neg (fun h => h.elim c2 (Int32.not_le.mpr c12)), if_neg (fun h => h.elim c18 (Int32.not_lt.mpr c25)), if_neg c37]) hP hD hS
abbrev rmX1_draw : Room := { frames := 1, cells := 0, slots := 0, locals := 27 }
set_option maxHeartbeats 4000000 in
set_option maxRecDepth 100000 in
theorem metX1_draw (l : Launch) (D : va_G) (g : Nat → Nat) (d : Nat → ClassId) (S V : Nat → Int32) (n cnt : Nat) (R U : Nat → Int32) (N : Nat) (B L X : Int32) (a b : Int32) (hn1 : 1 ≤ n) (hn8 : n ≤ 8) (hc : cnt ≤ 16) : fd_I l yX1_draw (ws_ yX1_draw cX1_draw 4 (some .int)) rmX1_draw D (xT d) [.ref (g 0), .int a, .int b] (xW g d S V n cnt R U N B L X) (fun (r : Int32) (u : syST) => (r, u) = dwF n S V cnt a b) (fun (u : syST) => xW g d u.1 u.2.1 n u.2.2 R U N B L X) := by
  refine fd_Iof (lv := [(0, .ref (g 0)), (1, .int a), (2, .int b)]) rfl (by decide) (Nat.le_of_ble_eq_true rfl) rfl ?_
  intro p e s m below meth c A ls Q S0 hK hP hD hA hl hret
  obtain ⟨hx, hb, hml, hown, hts⟩ := id S0
  have hS : va_S A s.heap s.heap [] := va_S.rf
  refine lv_iload_n hx hb dX1_draw_0 rfl (lv_at hl 1 rfl) ?_
  refine lv_if_lt (tgt := 11) hx hb dX1_draw_1 (by decide) (fun c1 => ?_) (fun c1 => ?_)
  · refine lv_iconst (v := (-1 : Int32)) hx hb dX1_draw_11 (by decide) ?_
    exact hret (-1 : Int32) (S, V, cnt) _ _ _ _ dX1_draw_12 rfl (by first | rw [dwF, if_pos (Or.inl c1)] | rw [dwF, if_pos (Or.inr (Decidable.not_not.mp (fun h => c8 (fd_9999.mpr h))))] | rw [dwF, if_neg (fun h => h.elim c1 (fd_9999.mp c8)), if_pos (Or.inl c14)] | rw [dwF, if_neg (fun h => h.elim c1 (fd_9999.mp c8)), if_pos (Or.inr (Int32.not_le.mp c21))] | rw [dwF, if_neg (fun h => h.elim c1 (fd_9999.mp c8)), if_neg (fun h => h.elim c14 (Int32.not_lt.mpr c21)), if_pos c33] | rw [dwF, if_neg (fun h => h.elim c1 (fd_9999.mp c8)), if_neg (fun h => h.elim c14 (Int32.not_lt.mpr c21)), if_neg c33, nI_clamp (by omega)]) hP hD hS
  refine lv_iload_n hx hb dX1_draw_4 rfl (lv_at hl 1 rfl) ?_
  refine lv_sipush (v := (10000 : Int32)) hx hb dX1_draw_5 (by decide) ?_
  refine lv_icmp_lt (tgt := 13) hx hb dX1_draw_8 (by decide) (fun c8 => ?_) (fun c8 => ?_)
  · obtain ⟨j, hj, rfl⟩ := fd_dr c1 c8
    refine lv_iload_n hx hb dX1_draw_13 rfl (lv_at hl 2 rfl) ?_
    refine lv_if_lt (tgt := 24) hx hb dX1_draw_14 (by decide) (fun c14 => ?_) (fun c14 => ?_)
    · refine lv_bipush (v := (-2 : Int32)) hx hb dX1_draw_24 (by decide) ?_
      exact hret (-2 : Int32) (S, V, cnt) _ _ _ _ dX1_draw_26 rfl (by first | rw [dwF, if_pos (Or.inl c1)] | rw [dwF, if_pos (Or.inr (Decidable.not_not.mp (fun h => c8 (fd_9999.mpr h))))] | rw [dwF, if_neg (fun h => h.elim c1 (fd_9999.mp c8)), if_pos (Or.inl c14)] | rw [dwF, if_neg (fun h => h.elim c1 (fd_9999.mp c8)), if_pos (Or.inr (Int32.not_le.mp c21))] | rw [dwF, if_neg (fun h => h.elim c1 (fd_9999.mp c8)), if_neg (fun h => h.elim c14 (Int32.not_lt.mpr c21)), if_pos c33] | rw [dwF, if_neg (fun h => h.elim c1 (fd_9999.mp c8)), if_neg (fun h => h.elim c14 (Int32.not_lt.mpr c21)), if_neg c33, nI_clamp (by omega)]) hP hD hS
    refine lv_iload_n hx hb dX1_draw_17 rfl (lv_at hl 2 rfl) ?_
    refine lv_sipush (v := (255 : Int32)) hx hb dX1_draw_18 (by decide) ?_
    refine lv_icmp_le (tgt := 27) hx hb dX1_draw_21 (by decide) (fun c21 => ?_) (fun c21 => ?_)
    · refine lv_aload_n hx hb dX1_draw_27 rfl (lv_at hl 0 rfl) ?_
      refine va_get (D := D) (ci := 0) (v := .int (nI cnt)) (C := RX1) (T := TX1) (N := 10) hx hb hts in_X1 hown hK hP 0 rfl rfl 5 (by decide) (hts _ q36) (fun _ h9 => h9) rfl dX1_draw_28 ?_
      refine lv_bipush (v := nI 16) hx hb dX1_draw_31 (by decide) ?_
      refine lv_icmp_ne (tgt := 39) hx hb dX1_draw_33 (by decide) (fun c33 => ?_) (fun c33 => ?_)
      · have c33 : ¬ (cnt = 16) := fun h => c33 ((nI_eq (a := cnt) (b := 16) (by omega) (by omega)).mpr h)
        refine lv_aload_n hx hb dX1_draw_39 rfl (lv_at hl 0 rfl) ?_
        refine lv_iload_n hx hb dX1_draw_40 rfl (lv_at hl 1 rfl) ?_
        refine fd_callVi (n := 1) (rest := []) (As := [.int (nI j)]) (wr := []) S0 hK hP hD hS hA [0, 1, 2, 3, 4] [] [0, 1, 2, 3] (metX1_drawn l D g d S V n cnt R U N B L X j hn1 hn8 (by omega)) q79 q81 qs1 q21 q82 dX1_draw_41 rfl rfl rfl rfl ⟨⟨rfl, rfl⟩, Nat.le_of_ble_eq_true rfl, Nat.le_of_ble_eq_true rfl⟩ (by decide +kernel) rfl rfl (q0 := 0) rfl rfl hl.1 rfl (Nat.le_of_ble_eq_true rfl) ⟨Nat.le_of_ble_eq_true rfl, Nat.le_of_ble_eq_true rfl⟩ (fun r41 u41 H locs hq41 hP hD hS => ?_)
        subst hq41
        have hP : va_P D vwCl (xW g d S V n cnt R U N B L X) H := hP
        have hD : va_D A (xW g d S V n cnt R U N B L X) := hD
        refine lv_istore_n (lv' := [(3, .int (nI (drN n j))), (0, .ref (g 0)), (1, .int (nI j)), (2, .int b)]) hx hb dX1_draw_44 rfl hl (by decide) rfl (fun ls hl => ?_)
        refine lv_aload_n hx hb dX1_draw_45 rfl (lv_at hl 1 rfl) ?_
        refine lv_iload_n hx hb dX1_draw_46 rfl (lv_at hl 0 rfl) ?_
        refine lv_iload_n hx hb dX1_draw_47 rfl (lv_at hl 3 rfl) ?_
        refine fd_callVv (n := 2) (rest := []) (As := [.int (nI (drN n j)), .int b]) (wr := []) S0 hK hP hD hS hA [0, 1, 2, 3, 4] [] [0, 1, 2, 3] (metX1_put l D g d S V n cnt R U N B L X (nI (drN n j)) b (by omega)) q71 q73 qs0 q21 q74 dX1_draw_48 rfl rfl rfl rfl ⟨⟨rfl, rfl⟩, Nat.le_of_ble_eq_true rfl, Nat.le_of_ble_eq_true rfl⟩ (by decide +kernel) rfl rfl (q0 := 0) rfl rfl hl.1 rfl (Nat.le_of_ble_eq_true rfl) ⟨Nat.le_of_ble_eq_true rfl, Nat.le_of_ble_eq_true rfl⟩ (fun u48 H locs hq48 hP hD hS => ?_)
        have hP : va_P D vwCl (xW g d (upd S cnt (nI (drN n j))) (upd V cnt b) n (cnt + 1) R U N B L X) H := hP
        have hD : va_D A (xW g d (upd S cnt (nI (drN n j))) (upd V cnt b) n (cnt + 1) R U N B L X) := hD
        refine lv_iload_n hx hb dX1_draw_51 rfl (lv_at hl 0 rfl) ?_
        exact hret (nI (drN n j)) ((upd S cnt (nI (drN n j))), (upd V cnt b), (cnt + 1)) _ _ _ _ dX1_draw_52 rfl (by first | rw [dwF, if_pos (Or.inl c1)] | rw [dwF, if_pos (Or.inr (Decidable.not_not.mp (fun h => c8 (fd_9999.mpr h))))] | rw [dwF, if_neg (fun h => h.elim c1 (fd_9999.mp c8)), if_pos (Or.inl c14)] | rw [dwF, if_neg (fun h => h.elim c1 (fd_9999.mp c8)), if_pos (Or.inr (Int32.not_le.mp c21))] | rw [dwF, if_neg (fun h => h.elim c1 (fd_9999.mp c8)), if_neg (fun h => h.elim c14 (Int32.not_lt.mpr c21)), if_pos c33] | rw [dwF, if_neg (fun h => h.elim c1 (fd_9999.mp c8)), if_neg (fun h => h.elim c14 (Int32.not_lt.mpr c21)), if_neg c33, nI_clamp (by omega)]) hP hD hS
      have c33 : cnt = 16 := (nI_eq (a := cnt) (b := 16) (by omega) (by omega)).mp c33
      refine lv_bipush (v := (-3 : Int32)) hx hb dX1_draw_36 (by decide) ?_
      exact hret (-3 : Int32) (S, V, cnt) _ _ _ _ dX1_draw_38 rfl (by first | rw [dwF, if_pos (Or.inl c1)] | rw [dwF, if_pos (Or.inr (Decidable.not_not.mp (fun h => c8 (fd_9999.mpr h))))] | rw [dwF, if_neg (fun h => h.elim c1 (fd_9999.mp c8)), if_pos (Or.inl c14)] | rw [dwF, if_neg (fun h => h.elim c1 (fd_9999.mp c8)), if_pos (Or.inr (Int32.not_le.mp c21))] | rw [dwF, if_neg (fun h => h.elim c1 (fd_9999.mp c8)), if_neg (fun h => h.elim c14 (Int32.not_lt.mpr c21)), if_pos c33] | rw [dwF, if_neg (fun h => h.elim c1 (fd_9999.mp c8)), if_neg (fun h => h.elim c14 (Int32.not_lt.mpr c21)), if_neg c33, nI_clamp (by omega)]) hP hD hS
    refine lv_bipush (v := (-2 : Int32)) hx hb dX1_draw_24 (by decide) ?_
    exact hret (-2 : Int32) (S, V, cnt) _ _ _ _ dX1_draw_26 rfl (by first | rw [dwF, if_pos (Or.inl c1)] | rw [dwF, if_pos (Or.inr (Decidable.not_not.mp (fun h => c8 (fd_9999.mpr h))))] | rw [dwF, if_neg (fun h => h.elim c1 (fd_9999.mp c8)), if_pos (Or.inl c14)] | rw [dwF, if_neg (fun h => h.elim c1 (fd_9999.mp c8)), if_pos (Or.inr (Int32.not_le.mp c21))] | rw [dwF, if_neg (fun h => h.elim c1 (fd_9999.mp c8)), if_neg (fun h => h.elim c14 (Int32.not_lt.mpr c21)), if_pos c33] | rw [dwF, if_neg (fun h => h.elim c1 (fd_9999.mp c8)), if_neg (fun h => h.elim c14 (Int32.not_lt.mpr c21)), if_neg c33, nI_clamp (by omega)]) hP hD hS
  refine lv_iconst (v := (-1 : Int32)) hx hb dX1_draw_11 (by decide) ?_
  exact hret (-1 : Int32) (S, V, cnt) _ _ _ _ dX1_draw_12 rfl (by first | rw [dwF, if_pos (Or.inl c1)] | rw [dwF, if_pos (Or.inr (Decidable.not_not.mp (fun h => c8 (fd_9999.mpr h))))] | rw [dwF, if_neg (fun h => h.elim c1 (fd_9999.mp c8)), if_pos (Or.inl c14)] | rw [dwF, if_neg (fun h => h.elim c1 (fd_9999.mp c8)), if_pos (Or.inr (Int32.not_le.mp c21))] | rw [dwF, if_neg (fun h => h.elim c1 (fd_9999.mp c8)), if_neg (fun h => h.elim c14 (Int32.not_lt.mpr c21)), if_pos c33] | rw [dwF, if_neg (fun h => h.elim c1 (fd_9999.mp c8)), if_neg (fun h => h.elim c14 (Int32.not_lt.mpr c21)), if_neg c33, nI_clamp (by omega)]) hP hD hS
abbrev rmX1_setOf : Room := { frames := 1, cells := 0, slots := 0, locals := 27 }
set_option maxHeartbeats 4000000 in
set_option maxRecDepth 100000 in
theorem metX1_setOf (l : Launch) (D : va_G) (g : Nat → Nat) (d : Nat → ClassId) (S V : Nat → Int32) (n cnt : Nat) (R U : Nat → Int32) (N : Nat) (B L X : Int32) (a : Int32) (hn1 : 1 ≤ n) (hn8 : n ≤ 8) : fd_I l yX1_setOf (ws_ yX1_setOf cX1_setOf 2 (some .int)) rmX1_setOf D (xT d) [.ref (g 0), .int a] (xW g d S V n cnt R U N B L X) (fun (r : Int32) (u : Unit) => r = soM n a) (fun (u : Unit) => xW g d S V n cnt R U N B L X) := by
  refine fd_Iof (lv := [(0, .ref (g 0)), (1, .int a)]) rfl (by decide) (Nat.le_of_ble_eq_true rfl) rfl ?_
  intro p e s m below meth c A ls Q S0 hK hP hD hA hl hret
  obtain ⟨hx, hb, hml, hown, hts⟩ := id S0
  have hS : va_S A s.heap s.heap [] := va_S.rf
  refine lv_iload_n hx hb dX1_setOf_0 rfl (lv_at hl 1 rfl) ?_
  refine lv_if_lt (tgt := 19) hx hb dX1_setOf_1 (by decide) (fun c1 => ?_) (fun c1 => ?_)
  · refine lv_iconst (v := (-1 : Int32)) hx hb dX1_setOf_19 (by decide) ?_
    exact hret (-1 : Int32) () _ _ _ _ dX1_setOf_20 rfl (by first | rw [soM, if_pos (Or.inl c1)] | rw [soM, if_pos (Or.inr (Decidable.not_not.mp (fun h => Int32.not_lt.mpr c8 (fd_9999.mpr h))))] | rw [soM, if_neg (fun h => h.elim c1 (fd_9999.mp (Int32.not_le.mp c8))), nI_clamp (by omega)]) hP hD hS
  refine lv_iload_n hx hb dX1_setOf_4 rfl (lv_at hl 1 rfl) ?_
  refine lv_sipush (v := (10000 : Int32)) hx hb dX1_setOf_5 (by decide) ?_
  refine lv_icmp_ge (tgt := 19) hx hb dX1_setOf_8 (by decide) (fun c8 => ?_) (fun c8 => ?_)
  · refine lv_iconst (v := (-1 : Int32)) hx hb dX1_setOf_19 (by decide) ?_
    exact hret (-1 : Int32) () _ _ _ _ dX1_setOf_20 rfl (by first | rw [soM, if_pos (Or.inl c1)] | rw [soM, if_pos (Or.inr (Decidable.not_not.mp (fun h => Int32.not_lt.mpr c8 (fd_9999.mpr h))))] | rw [soM, if_neg (fun h => h.elim c1 (fd_9999.mp (Int32.not_le.mp c8))), nI_clamp (by omega)]) hP hD hS
  obtain ⟨j, hj, rfl⟩ := fd_dr c1 (Int32.not_le.mp c8)
  refine lv_aload_n hx hb dX1_setOf_11 rfl (lv_at hl 0 rfl) ?_
  refine lv_iload_n hx hb dX1_setOf_12 rfl (lv_at hl 1 rfl) ?_
  refine fd_callVi (n := 1) (rest := []) (As := [.int (nI j)]) (wr := []) S0 hK hP hD hS hA [0, 1, 2, 3, 4] [] [0, 1, 2, 3] (metX1_drawn l D g d S V n cnt R U N B L X j hn1 hn8 (by omega)) q79 q81 qs1 q21 q82 dX1_setOf_13 rfl rfl rfl rfl ⟨⟨rfl, rfl⟩, Nat.le_of_ble_eq_true rfl, Nat.le_of_ble_eq_true rfl⟩ (by decide +kernel) rfl rfl (q0 := 0) rfl rfl hl.1 rfl (Nat.le_of_ble_eq_true rfl) ⟨Nat.le_of_ble_eq_true rfl, Nat.le_of_ble_eq_true rfl⟩ (fun r13 u13 H locs hq13 hP hD hS => ?_)
  subst hq13
  have hP : va_P D vwCl (xW g d S V n cnt R U N B L X) H := hP
  have hD : va_D A (xW g d S V n cnt R U N B L X) := hD
  refine lv_goto (tgt := 20) hx hb dX1_setOf_16 (by decide) ?_
  exact hret (nI (drN n j)) () _ _ _ _ dX1_setOf_20 rfl (by first | rw [soM, if_pos (Or.inl c1)] | rw [soM, if_pos (Or.inr (Decidable.not_not.mp (fun h => Int32.not_lt.mpr c8 (fd_9999.mpr h))))] | rw [soM, if_neg (fun h => h.elim c1 (fd_9999.mp (Int32.not_le.mp c8))), nI_clamp (by omega)]) hP hD hS
abbrev rmX1_lose : Room := { frames := 0, cells := 0, slots := 0, locals := 0 }
set_option maxHeartbeats 4000000 in
set_option maxRecDepth 100000 in
theorem metX1_lose (l : Launch) (D : va_G) (g : Nat → Nat) (d : Nat → ClassId) (S V : Nat → Int32) (n cnt : Nat) (R U : Nat → Int32) (N : Nat) (B L X : Int32) (a : Int32) (hc : cnt ≤ 16) : fd_I l yX1_lose (ws_ yX1_lose cX1_lose 3 (some .int)) rmX1_lose D (xT d) [.ref (g 0), .int a] (xW g d S V n cnt R U N B L X) (fun (r : Int32) (u : syST) => (r, u) = loF S V cnt a) (fun (u : syST) => xW g d u.1 u.2.1 n u.2.2 R U N B L X) := by
  refine fd_Iof (lv := [(0, .ref (g 0)), (1, .int a)]) rfl (by decide) (Nat.le_of_ble_eq_true rfl) rfl ?_
  intro p e s m below meth c A ls Q S0 hK hP hD hA hl hret
  obtain ⟨hx, hb, hml, hown, hts⟩ := id S0
  have hS : va_S A s.heap s.heap [] := va_S.rf
  refine lv_iload_n hx hb dX1_lose_0 rfl (lv_at hl 1 rfl) ?_
  refine lv_if_lt (tgt := 12) hx hb dX1_lose_1 (by decide) (fun c1 => ?_) (fun c1 => ?_)
  · refine lv_iconst (v := (-1 : Int32)) hx hb dX1_lose_12 (by decide) ?_
    exact hret (-1 : Int32) (S, V, cnt) _ _ _ _ dX1_lose_13 rfl (by first | rw [loF, if_pos (Or.inl c1)] | rw [loF, if_pos (Or.inr (Int32.not_lt.mp c9))] | rw [loF, if_neg (fun h => h.elim c1 (Int32.not_le.mpr c9)), nI_clamp (by omega)]) hP hD hS
  refine lv_iload_n hx hb dX1_lose_4 rfl (lv_at hl 1 rfl) ?_
  refine lv_aload_n hx hb dX1_lose_5 rfl (lv_at hl 0 rfl) ?_
  refine va_get (D := D) (ci := 0) (v := .int (nI cnt)) (C := RX1) (T := TX1) (N := 10) hx hb hts in_X1 hown hK hP 0 rfl rfl 5 (by decide) (hts _ q36) (fun _ h9 => h9) rfl dX1_lose_6 ?_
  refine lv_icmp_lt (tgt := 14) hx hb dX1_lose_9 (by decide) (fun c9 => ?_) (fun c9 => ?_)
  · obtain ⟨i, hi, rfl⟩ := fd_raw (n := cnt) (by omega) c1 (Int32.not_le.mpr c9)
    refine lv_iload_n hx hb dX1_lose_14 rfl (lv_at hl 1 rfl) ?_
    refine lv_iconst (v := (1 : Int32)) hx hb dX1_lose_15 (by decide) ?_
    refine lv_iadd hx hb dX1_lose_16 ?_
    refine fd_as (nI_1 i) ?_
    refine lv_istore_n (lv' := [(2, .int (nI (i + 1))), (0, .ref (g 0)), (1, .int (nI i))]) hx hb dX1_lose_17 rfl hl (by decide) rfl (fun ls hl => ?_)
    have LP18 : ∀ (Nf18 : Nat) (t : Nat) (xS : Nat → Int32) (xV : Nat → Int32) (H : Heap) (locs : List Loc) (ls : Array Slot), cnt - 1 - i - t < Nf18 → (t ≤ cnt - 1 - i) → xS = loS S i t → xV = loS V i t → va_P D vwCl (xW g d xS xV n cnt R U N B L X) H → va_D A (xW g d xS xV n cnt R U N B L X) → va_S A s.heap H locs → lv_has ls 3 [(0, .ref (g 0)), (2, .int (nI (i + 1 + t)))] → W p l e rmX1_lose s m ([.ref (g 0), .int (nI i)] : List Value).toArray below meth c H locs 0 0 Q (F0 m 18 ls []) := by
      intro Nf18
      induction Nf18 with
      | zero => intro t xS xV H locs ls hmu; exact absurd hmu (Nat.not_lt_zero _)
      | succ Nf18 ih18 =>
        intro t xS xV H locs ls hmu18 hc18_0 exS exV hP hD hS hl
        subst exS
        subst exV
        refine lv_iload_n hx hb dX1_lose_18 rfl (lv_at hl 1 rfl) ?_
        refine lv_aload_n hx hb dX1_lose_19 rfl (lv_at hl 0 rfl) ?_
        refine va_get (D := D) (ci := 0) (v := .int (nI cnt)) (C := RX1) (T := TX1) (N := 10) hx hb hts in_X1 hown hK hP 0 rfl rfl 5 (by decide) (hts _ q36) (fun _ h9 => h9) rfl dX1_lose_20 ?_
        refine lv_icmp_ge (tgt := 60) hx hb dX1_lose_23 (by decide) (fun c23 => ?_) (fun c23 => ?_)
        · have c23 : cnt ≤ (i + 1 + t) := (nI_leI (a := cnt) (b := (i + 1 + t)) (by omega) (by omega)).mp c23
          obtain rfl : cnt - 1 - i = t := by omega
          refine lv_aload_n hx hb dX1_lose_60 rfl (lv_at hl 0 rfl) ?_
          refine lv_dup hx hb dX1_lose_61 rfl ?_
          refine va_get (D := D) (ci := 0) (v := .int (nI cnt)) (C := RX1) (T := TX1) (N := 10) hx hb hts in_X1 hown hK hP 0 rfl rfl 5 (by decide) (hts _ q36) (fun _ h9 => h9) rfl dX1_lose_62 ?_
          refine lv_iconst (v := (1 : Int32)) hx hb dX1_lose_65 (by decide) ?_
          refine lv_isub hx hb dX1_lose_66 ?_
          refine fd_as (show ((nI cnt) - (1 : Int32)) = nI (cnt - 1) from fd_pred (by omega)) ?_
          refine va_put (D := D) (ci := 0) (v := .int (nI (cnt - 1))) (ty := .int) (C := RX1) (T := TX1) (N := 10) hx hb hts in_X1 tyX1 tyX1_ok nmX1 hown hK hP hD hS 0 rfl rfl 5 (by decide) (hts _ q36) (fun _ h9 => h9) rfl (by decide +kernel) rfl rfl (Nat.le_of_ble_eq_true rfl) dX1_lose_67 (fun H locs hP hD hS => ?_)
          have hP : va_P D vwCl (xW g d (loS S i (cnt - 1 - i)) (loS V i (cnt - 1 - i)) n (cnt - 1) R U N B L X) H := hP
          have hD : va_D A (xW g d (loS S i (cnt - 1 - i)) (loS V i (cnt - 1 - i)) n (cnt - 1) R U N B L X) := hD
          refine lv_aload_n hx hb dX1_lose_70 rfl (lv_at hl 0 rfl) ?_
          refine va_get (D := D) (ci := 0) (v := .int (nI (cnt - 1))) (C := RX1) (T := TX1) (N := 10) hx hb hts in_X1 hown hK hP 0 rfl rfl 5 (by decide) (hts _ q36) (fun _ h9 => h9) rfl dX1_lose_71 ?_
          exact hret (nI (cnt - 1)) ((loS S i (cnt - 1 - i)), (loS V i (cnt - 1 - i)), (cnt - 1)) _ _ _ _ dX1_lose_74 rfl (by first | rw [loF, if_pos (Or.inl c1)] | rw [loF, if_pos (Or.inr (Int32.not_lt.mp c9))] | rw [loF, if_neg (fun h => h.elim c1 (Int32.not_le.mpr c9)), nI_clamp (by omega)]) hP hD hS
        have c23 : ¬ (cnt ≤ (i + 1 + t)) := fun h => c23 ((nI_leI (a := cnt) (b := (i + 1 + t)) (by omega) (by omega)).mpr h)
        refine lv_aload_n hx hb dX1_lose_26 rfl (lv_at hl 0 rfl) ?_
        refine va_get (D := D) (ci := 0) (v := .ref (g 1)) (C := RX1) (T := TX1) (N := 10) hx hb hts in_X1 hown hK hP 0 rfl rfl 0 (by decide) (hts _ q31) (fun _ h9 => h9) rfl dX1_lose_27 ?_
        refine lv_iload_n hx hb dX1_lose_30 rfl (lv_at hl 1 rfl) ?_
        refine lv_iconst (v := (1 : Int32)) hx hb dX1_lose_31 (by decide) ?_
        refine lv_isub hx hb dX1_lose_32 ?_
        refine fd_as (show ((nI (i + 1 + t)) - (1 : Int32)) = nI (i + t) from by rw [show i + 1 + t = i + t + 1 by omega]; exact nI_pred _) ?_
        refine lv_aload_n hx hb dX1_lose_33 rfl (lv_at hl 0 rfl) ?_
        refine va_get (D := D) (ci := 0) (v := .ref (g 1)) (C := RX1) (T := TX1) (N := 10) hx hb hts in_X1 hown hK hP 0 rfl rfl 0 (by decide) (hts _ q31) (fun _ h9 => h9) rfl dX1_lose_34 ?_
        refine lv_iload_n hx hb dX1_lose_37 rfl (lv_at hl 1 rfl) ?_
        refine fd_iald hx hb hK hP 1 0 rfl rfl (k := (i + 1 + t)) (by omega) (by decide) dX1_lose_38 ?_
        refine fd_iast hx hb hK hP hD hS 1 0 rfl rfl (k := (i + t)) (by omega) (by decide) dX1_lose_39 (fun H locs hP hD hS => ?_)
        have hP : va_P D vwCl (xW g d (upd (loS S i t) (i + t) ((loS S i t) (i + 1 + t))) (loS V i t) n cnt R U N B L X) H := hP
        have hD : va_D A (xW g d (upd (loS S i t) (i + t) ((loS S i t) (i + 1 + t))) (loS V i t) n cnt R U N B L X) := hD
        refine lv_aload_n hx hb dX1_lose_40 rfl (lv_at hl 0 rfl) ?_
        refine va_get (D := D) (ci := 0) (v := .ref (g 2)) (C := RX1) (T := TX1) (N := 10) hx hb hts in_X1 hown hK hP 0 rfl rfl 1 (by decide) (hts _ q32) (fun _ h9 => h9) rfl dX1_lose_41 ?_
        refine lv_iload_n hx hb dX1_lose_44 rfl (lv_at hl 1 rfl) ?_
        refine lv_iconst (v := (1 : Int32)) hx hb dX1_lose_45 (by decide) ?_
        refine lv_isub hx hb dX1_lose_46 ?_
        refine fd_as (show ((nI (i + 1 + t)) - (1 : Int32)) = nI (i + t) from by rw [show i + 1 + t = i + t + 1 by omega]; exact nI_pred _) ?_
        refine lv_aload_n hx hb dX1_lose_47 rfl (lv_at hl 0 rfl) ?_
        refine va_get (D := D) (ci := 0) (v := .ref (g 2)) (C := RX1) (T := TX1) (N := 10) hx hb hts in_X1 hown hK hP 0 rfl rfl 1 (by decide) (hts _ q32) (fun _ h9 => h9) rfl dX1_lose_48 ?_
        refine lv_iload_n hx hb dX1_lose_51 rfl (lv_at hl 1 rfl) ?_
        refine fd_iald hx hb hK hP 2 1 rfl rfl (k := (i + 1 + t)) (by omega) (by decide) dX1_lose_52 ?_
        refine fd_iast hx hb hK hP hD hS 2 1 rfl rfl (k := (i + t)) (by omega) (by decide) dX1_lose_53 (fun H locs hP hD hS => ?_)
        have hP : va_P D vwCl (xW g d (upd (loS S i t) (i + t) ((loS S i t) (i + 1 + t))) (upd (loS V i t) (i + t) ((loS V i t) (i + 1 + t))) n cnt R U N B L X) H := hP
        have hD : va_D A (xW g d (upd (loS S i t) (i + t) ((loS S i t) (i + 1 + t))) (upd (loS V i t) (i + t) ((loS V i t) (i + 1 + t))) n cnt R U N B L X) := hD
        refine lv_iinc (v := nI ((i + 1 + t) + 1)) (lv' := [(2, .int (nI ((i + 1 + t) + 1))), (0, .ref (g 0))]) hx hb dX1_lose_54 hl (k := 1) rfl (fd_inc _) (by decide) rfl (fun ls hl => ?_)
        refine lv_goto (tgt := 18) hx hb dX1_lose_57 (by decide) ?_
        exact ih18 (t + 1) (upd (loS S i t) (i + t) ((loS S i t) (i + 1 + t))) (upd (loS V i t) (i + t) ((loS V i t) (i + 1 + t))) _ _ _ (by omega) (by omega) (by rw [loS, show i + t + 1 = i + 1 + t by omega]) (by rw [loS, show i + t + 1 = i + 1 + t by omega]) hP hD hS (lv_sub hl [1, 0] rfl)
    exact LP18 _ 0 S V _ _ _ (Nat.lt_succ_self _) (by omega) rfl rfl hP hD hS (lv_sub hl [1, 0] rfl)
  refine lv_iconst (v := (-1 : Int32)) hx hb dX1_lose_12 (by decide) ?_
  exact hret (-1 : Int32) (S, V, cnt) _ _ _ _ dX1_lose_13 rfl (by first | rw [loF, if_pos (Or.inl c1)] | rw [loF, if_pos (Or.inr (Int32.not_lt.mp c9))] | rw [loF, if_neg (fun h => h.elim c1 (Int32.not_le.mpr c9)), nI_clamp (by omega)]) hP hD hS
end
section
/-! FountainDecoderModel: members, badSet, place, single, blocks, symbols, receive, setOf, draw, lose -/
abbrev rmX2_members : Room := { frames := 0, cells := 0, slots := 0, locals := 0 }
set_option maxHeartbeats 4000000 in
set_option maxRecDepth 100000 in
theorem metX2_members (l : Launch) (D : va_G) (g : Nat → Nat) (d : Nat → ClassId) (S V : Nat → Int32) (n cnt : Nat) (O T : Nat → Int32) (sm al : Int32) (a : Int32)  : fd_I l yX2_members (ws_ yX2_members cX2_members 4 (some .int)) rmX2_members D (yT d) [.ref (g 0), .int a] (yW g d S V n cnt O T sm al) (fun (r : Int32) (u : Unit) => r = onesM a 8) (fun (u : Unit) => yW g d S V n cnt O T sm al) := by
  refine fd_Iof (lv := [(0, .ref (g 0)), (1, .int a)]) rfl (by decide) (Nat.le_of_ble_eq_true rfl) rfl ?_
  intro p e s m below meth c A ls Q S0 hK hP hD hA hl hret
  obtain ⟨hx, hb, hml, hown, hts⟩ := id S0
  have hS : va_S A s.heap s.heap [] := va_S.rf
  refine lv_iconst (v := (0 : Int32)) hx hb dX2_members_0 (by decide) ?_
  refine lv_istore_n (lv' := [(2, .int (0 : Int32)), (0, .ref (g 0)), (1, .int a)]) hx hb dX2_members_1 rfl hl (by decide) rfl (fun ls hl => ?_)
  refine lv_iconst (v := nI 0) hx hb dX2_members_2 (by decide) ?_
  refine lv_istore_n (lv' := [(3, .int (nI 0)), (2, .int (0 : Int32)), (0, .ref (g 0)), (1, .int a)]) hx hb dX2_members_3 rfl hl (by decide) rfl (fun ls hl => ?_)
  have LP4 : ∀ (Nf4 : Nat) (k : Nat) (x2 : Int32) (H : Heap) (locs : List Loc) (ls : Array Slot), 8 - k < Nf4 → (k ≤ 8) → x2 = onesM a k → va_P D vwCl (yW g d S V n cnt O T sm al) H → va_D A (yW g d S V n cnt O T sm al) → va_S A s.heap H locs → lv_has ls 4 [(1, .int a), (2, .int x2), (3, .int (nI k))] → W p l e rmX2_members s m ([.ref (g 0), .int a] : List Value).toArray below meth c H locs 0 0 Q (F0 m 4 ls []) := by
    intro Nf4
    induction Nf4 with
    | zero => intro k x2 H locs ls hmu; exact absurd hmu (Nat.not_lt_zero _)
    | succ Nf4 ih4 =>
      intro k x2 H locs ls hmu4 hc4_0 ex2 hP hD hS hl
      subst ex2
      refine lv_iload_n hx hb dX2_members_4 rfl (lv_at hl 2 rfl) ?_
      refine lv_bipush (v := nI 8) hx hb dX2_members_5 (by decide) ?_
      refine lv_icmp_ge (tgt := 24) hx hb dX2_members_7 (by decide) (fun c7 => ?_) (fun c7 => ?_)
      · have c7 : 8 ≤ k := (nI_leI (a := 8) (b := k) (by omega) (by omega)).mp c7
        obtain rfl : 8 = k := by omega
        refine lv_iload_n hx hb dX2_members_24 rfl (lv_at hl 1 rfl) ?_
        exact hret (onesM a 8) () _ _ _ _ dX2_members_25 rfl rfl hP hD hS
      have c7 : ¬ (8 ≤ k) := fun h => c7 ((nI_leI (a := 8) (b := k) (by omega) (by omega)).mpr h)
      refine lv_iload_n hx hb dX2_members_10 rfl (lv_at hl 1 rfl) ?_
      refine lv_iload_n hx hb dX2_members_11 rfl (lv_at hl 0 rfl) ?_
      refine lv_iload_n hx hb dX2_members_12 rfl (lv_at hl 2 rfl) ?_
      refine lv_ishr hx hb dX2_members_13 ?_
      refine lv_iconst (v := (1 : Int32)) hx hb dX2_members_14 (by decide) ?_
      refine lv_iand hx hb dX2_members_15 ?_
      refine lv_iadd hx hb dX2_members_16 ?_
      refine lv_istore_n (lv' := [(2, .int ((onesM a k) + ((a >>> ((nI k) &&& 31)) &&& (1 : Int32)))), (1, .int a), (3, .int (nI k))]) hx hb dX2_members_17 rfl hl (by decide) rfl (fun ls hl => ?_)
      refine lv_iinc (v := nI (k + 1)) (lv' := [(3, .int (nI (k + 1))), (2, .int ((onesM a k) + ((a >>> ((nI k) &&& 31)) &&& (1 : Int32)))), (1, .int a)]) hx hb dX2_members_18 hl (k := 2) rfl (fd_inc _) (by decide) rfl (fun ls hl => ?_)
      refine lv_goto (tgt := 4) hx hb dX2_members_21 (by decide) ?_
      exact ih4 (k + 1) ((onesM a k) + ((a >>> ((nI k) &&& 31)) &&& (1 : Int32))) _ _ _ (by omega) (by omega) rfl hP hD hS (lv_sub hl [2, 1, 0] rfl)
  exact LP4 _ 0 (0 : Int32) _ _ _ (Nat.lt_succ_self _) (by omega) rfl hP hD hS (lv_sub hl [3, 1, 0] rfl)
abbrev rmX2_badSet : Room := { frames := 0, cells := 0, slots := 0, locals := 0 }
set_option maxHeartbeats 4000000 in
set_option maxRecDepth 100000 in
theorem metX2_badSet (l : Launch) (D : va_G) (g : Nat → Nat) (d : Nat → ClassId) (S V : Nat → Int32) (n cnt : Nat) (O T : Nat → Int32) (sm al : Int32) (a : Int32) (hn8 : n ≤ 8) : fd_I l yX2_badSet (ws_ yX2_badSet cX2_badSet 2 (some .boolean)) rmX2_badSet D (yT d) [.ref (g 0), .int a] (yW g d S V n cnt O T sm al) (fun (r : Int32) (u : Unit) => r = bsM n a) (fun (u : Unit) => yW g d S V n cnt O T sm al) := by
  refine fd_Iof (lv := [(0, .ref (g 0)), (1, .int a)]) rfl (by decide) (Nat.le_of_ble_eq_true rfl) rfl ?_
  intro p e s m below meth c A ls Q S0 hK hP hD hA hl hret
  obtain ⟨hx, hb, hml, hown, hts⟩ := id S0
  have hS : va_S A s.heap s.heap [] := va_S.rf
  refine lv_iload_n hx hb dX2_badSet_0 rfl (lv_at hl 1 rfl) ?_
  refine lv_if_lt (tgt := 14) hx hb dX2_badSet_1 (by decide) (fun c1 => ?_) (fun c1 => ?_)
  · refine lv_iconst (v := (1 : Int32)) hx hb dX2_badSet_14 (by decide) ?_
    refine lv_goto (tgt := 19) hx hb dX2_badSet_15 (by decide) ?_
    exact hret (1 : Int32) () _ _ _ _ dX2_badSet_19 rfl (by first | rw [bsM, if_pos (Or.inl c1)] | rw [bsM, if_pos (Or.inr (Int32.not_lt.mp c11))] | rw [bsM, if_neg (fun h => h.elim c1 (Int32.not_le.mpr c11))]) hP hD hS
  refine lv_iload_n hx hb dX2_badSet_4 rfl (lv_at hl 1 rfl) ?_
  refine lv_iconst (v := (1 : Int32)) hx hb dX2_badSet_5 (by decide) ?_
  refine lv_aload_n hx hb dX2_badSet_6 rfl (lv_at hl 0 rfl) ?_
  refine va_get (D := D) (ci := 1) (v := .int (nI n)) (C := RX2) (T := TX2) (N := 8) hx hb hts in_X2 hown hK hP 0 rfl rfl 4 (by decide) (hts _ q196) (fun _ h9 => h9) rfl dX2_badSet_7 ?_
  refine lv_ishl hx hb dX2_badSet_10 ?_
  refine fd_as (show ((1 : Int32) <<< ((nI n) &&& 31)) = nI (2 ^ n) from fd_pw hn8) ?_
  refine lv_icmp_lt (tgt := 18) hx hb dX2_badSet_11 (by decide) (fun c11 => ?_) (fun c11 => ?_)
  · refine lv_iconst (v := (0 : Int32)) hx hb dX2_badSet_18 (by decide) ?_
    exact hret (0 : Int32) () _ _ _ _ dX2_badSet_19 rfl (by first | rw [bsM, if_pos (Or.inl c1)] | rw [bsM, if_pos (Or.inr (Int32.not_lt.mp c11))] | rw [bsM, if_neg (fun h => h.elim c1 (Int32.not_le.mpr c11))]) hP hD hS
  refine lv_iconst (v := (1 : Int32)) hx hb dX2_badSet_14 (by decide) ?_
  refine lv_goto (tgt := 19) hx hb dX2_badSet_15 (by decide) ?_
  exact hret (1 : Int32) () _ _ _ _ dX2_badSet_19 rfl (by first | rw [bsM, if_pos (Or.inl c1)] | rw [bsM, if_pos (Or.inr (Int32.not_lt.mp c11))] | rw [bsM, if_neg (fun h => h.elim c1 (Int32.not_le.mpr c11))]) hP hD hS
abbrev rmX2_place : Room := { frames := 0, cells := 0, slots := 0, locals := 0 }
set_option maxHeartbeats 4000000 in
set_option maxRecDepth 100000 in
theorem metX2_place (l : Launch) (D : va_G) (g : Nat → Nat) (d : Nat → ClassId) (S V : Nat → Int32) (n cnt : Nat) (O T : Nat → Int32) (sm al : Int32) (a b : Int32) (hc16 : cnt < 16) : fd_I l yX2_place (ws_ yX2_place cX2_place 3 (some .int)) rmX2_place D (yT d) [.ref (g 0), .int a, .int b] (yW g d S V n cnt O T sm al) (fun (r : Int32) (u : Unit) => r = nI cnt) (fun (u : Unit) => yW g d (upd S cnt a) (upd V cnt b) n (cnt + 1) O T sm al) := by
  refine fd_Iof (lv := [(0, .ref (g 0)), (1, .int a), (2, .int b)]) rfl (by decide) (Nat.le_of_ble_eq_true rfl) rfl ?_
  intro p e s m below meth c A ls Q S0 hK hP hD hA hl hret
  obtain ⟨hx, hb, hml, hown, hts⟩ := id S0
  have hS : va_S A s.heap s.heap [] := va_S.rf
  refine lv_aload_n hx hb dX2_place_0 rfl (lv_at hl 0 rfl) ?_
  refine va_get (D := D) (ci := 1) (v := .ref (g 1)) (C := RX2) (T := TX2) (N := 8) hx hb hts in_X2 hown hK hP 0 rfl rfl 0 (by decide) (hts _ q192) (fun _ h9 => h9) rfl dX2_place_1 ?_
  refine lv_aload_n hx hb dX2_place_4 rfl (lv_at hl 0 rfl) ?_
  refine va_get (D := D) (ci := 1) (v := .int (nI cnt)) (C := RX2) (T := TX2) (N := 8) hx hb hts in_X2 hown hK hP 0 rfl rfl 5 (by decide) (hts _ q197) (fun _ h9 => h9) rfl dX2_place_5 ?_
  refine lv_iload_n hx hb dX2_place_8 rfl (lv_at hl 1 rfl) ?_
  refine fd_iast hx hb hK hP hD hS 1 0 rfl rfl (k := cnt) (by omega) (by decide) dX2_place_9 (fun H locs hP hD hS => ?_)
  have hP : va_P D vwCl (yW g d (upd S cnt a) V n cnt O T sm al) H := hP
  have hD : va_D A (yW g d (upd S cnt a) V n cnt O T sm al) := hD
  refine lv_aload_n hx hb dX2_place_10 rfl (lv_at hl 0 rfl) ?_
  refine va_get (D := D) (ci := 1) (v := .ref (g 2)) (C := RX2) (T := TX2) (N := 8) hx hb hts in_X2 hown hK hP 0 rfl rfl 1 (by decide) (hts _ q193) (fun _ h9 => h9) rfl dX2_place_11 ?_
  refine lv_aload_n hx hb dX2_place_14 rfl (lv_at hl 0 rfl) ?_
  refine va_get (D := D) (ci := 1) (v := .int (nI cnt)) (C := RX2) (T := TX2) (N := 8) hx hb hts in_X2 hown hK hP 0 rfl rfl 5 (by decide) (hts _ q197) (fun _ h9 => h9) rfl dX2_place_15 ?_
  refine lv_iload_n hx hb dX2_place_18 rfl (lv_at hl 2 rfl) ?_
  refine fd_iast hx hb hK hP hD hS 2 1 rfl rfl (k := cnt) (by omega) (by decide) dX2_place_19 (fun H locs hP hD hS => ?_)
  have hP : va_P D vwCl (yW g d (upd S cnt a) (upd V cnt b) n cnt O T sm al) H := hP
  have hD : va_D A (yW g d (upd S cnt a) (upd V cnt b) n cnt O T sm al) := hD
  refine lv_aload_n hx hb dX2_place_20 rfl (lv_at hl 0 rfl) ?_
  refine lv_dup hx hb dX2_place_21 rfl ?_
  refine va_get (D := D) (ci := 1) (v := .int (nI cnt)) (C := RX2) (T := TX2) (N := 8) hx hb hts in_X2 hown hK hP 0 rfl rfl 5 (by decide) (hts _ q197) (fun _ h9 => h9) rfl dX2_place_22 ?_
  refine lv_iconst (v := (1 : Int32)) hx hb dX2_place_25 (by decide) ?_
  refine lv_iadd hx hb dX2_place_26 ?_
  refine fd_as (nI_1 cnt) ?_
  refine va_put (D := D) (ci := 1) (v := .int (nI (cnt + 1))) (ty := .int) (C := RX2) (T := TX2) (N := 8) hx hb hts in_X2 tyX2 tyX2_ok nmX2 hown hK hP hD hS 0 rfl rfl 5 (by decide) (hts _ q197) (fun _ h9 => h9) rfl (by decide +kernel) rfl rfl (Nat.le_of_ble_eq_true rfl) dX2_place_27 (fun H locs hP hD hS => ?_)
  have hP : va_P D vwCl (yW g d (upd S cnt a) (upd V cnt b) n (cnt + 1) O T sm al) H := hP
  have hD : va_D A (yW g d (upd S cnt a) (upd V cnt b) n (cnt + 1) O T sm al) := hD
  refine lv_aload_n hx hb dX2_place_30 rfl (lv_at hl 0 rfl) ?_
  refine va_get (D := D) (ci := 1) (v := .int (nI (cnt + 1))) (C := RX2) (T := TX2) (N := 8) hx hb hts in_X2 hown hK hP 0 rfl rfl 5 (by decide) (hts _ q197) (fun _ h9 => h9) rfl dX2_place_31 ?_
  refine lv_iconst (v := (1 : Int32)) hx hb dX2_place_34 (by decide) ?_
  refine lv_isub hx hb dX2_place_35 ?_
  refine fd_as (show ((nI (cnt + 1)) - (1 : Int32)) = nI cnt from nI_pred cnt) ?_
  exact hret (nI cnt) () _ _ _ _ dX2_place_36 rfl rfl hP hD hS
abbrev rmX2_single : Room := { frames := 0, cells := 0, slots := 0, locals := 0 }
set_option maxHeartbeats 4000000 in
set_option maxRecDepth 100000 in
theorem metX2_single (l : Launch) (D : va_G) (g : Nat → Nat) (d : Nat → ClassId) (S V : Nat → Int32) (n cnt : Nat) (O T : Nat → Int32) (sm al : Int32) (a : Int32)  : fd_I l yX2_single (ws_ yX2_single cX2_single 2 (some .boolean)) rmX2_single D (yT d) [.ref (g 0), .int a] (yW g d S V n cnt O T sm al) (fun (r : Int32) (u : Unit) => r = sgM a) (fun (u : Unit) => yW g d S V n cnt O T sm al) := by
  refine fd_Iof (lv := [(0, .ref (g 0)), (1, .int a)]) rfl (by decide) (Nat.le_of_ble_eq_true rfl) rfl ?_
  intro p e s m below meth c A ls Q S0 hK hP hD hA hl hret
  obtain ⟨hx, hb, hml, hown, hts⟩ := id S0
  have hS : va_S A s.heap s.heap [] := va_S.rf
  refine lv_iload_n hx hb dX2_single_0 rfl (lv_at hl 1 rfl) ?_
  refine lv_if_eq (tgt := 16) hx hb dX2_single_1 (by decide) (fun c1 => ?_) (fun c1 => ?_)
  · refine lv_iconst (v := (0 : Int32)) hx hb dX2_single_16 (by decide) ?_
    exact hret (0 : Int32) () _ _ _ _ dX2_single_17 rfl (by first | rw [sgM, if_pos c1] | rw [sgM, if_neg c1, if_neg c9] | rw [sgM, if_neg c1, if_pos c9]) hP hD hS
  refine lv_iload_n hx hb dX2_single_4 rfl (lv_at hl 1 rfl) ?_
  refine lv_iload_n hx hb dX2_single_5 rfl (lv_at hl 1 rfl) ?_
  refine lv_iconst (v := (1 : Int32)) hx hb dX2_single_6 (by decide) ?_
  refine lv_isub hx hb dX2_single_7 ?_
  refine lv_iand hx hb dX2_single_8 ?_
  refine lv_if_ne (tgt := 16) hx hb dX2_single_9 (by decide) (fun c9 => ?_) (fun c9 => ?_)
  · refine lv_iconst (v := (0 : Int32)) hx hb dX2_single_16 (by decide) ?_
    exact hret (0 : Int32) () _ _ _ _ dX2_single_17 rfl (by first | rw [sgM, if_pos c1] | rw [sgM, if_neg c1, if_neg c9] | rw [sgM, if_neg c1, if_pos c9]) hP hD hS
  refine lv_iconst (v := (1 : Int32)) hx hb dX2_single_12 (by decide) ?_
  refine lv_goto (tgt := 17) hx hb dX2_single_13 (by decide) ?_
  exact hret (1 : Int32) () _ _ _ _ dX2_single_17 rfl (by first | rw [sgM, if_pos c1] | rw [sgM, if_neg c1, if_neg c9] | rw [sgM, if_neg c1, if_pos c9]) hP hD hS
abbrev rmX2_blocks : Room := { frames := 0, cells := 0, slots := 0, locals := 0 }
set_option maxHeartbeats 4000000 in
set_option maxRecDepth 100000 in
theorem metX2_blocks (l : Launch) (D : va_G) (g : Nat → Nat) (d : Nat → ClassId) (S V : Nat → Int32) (n cnt : Nat) (O T : Nat → Int32) (sm al : Int32)   : fd_I l yX2_blocks (ws_ yX2_blocks cX2_blocks 1 (some .int)) rmX2_blocks D (yT d) [.ref (g 0)] (yW g d S V n cnt O T sm al) (fun (r : Int32) (u : Unit) => r = nI n) (fun (u : Unit) => yW g d S V n cnt O T sm al) := by
  refine fd_Iof (lv := [(0, .ref (g 0))]) rfl (by decide) (Nat.le_of_ble_eq_true rfl) rfl ?_
  intro p e s m below meth c A ls Q S0 hK hP hD hA hl hret
  obtain ⟨hx, hb, hml, hown, hts⟩ := id S0
  have hS : va_S A s.heap s.heap [] := va_S.rf
  refine lv_aload_n hx hb dX2_blocks_0 rfl (lv_at hl 0 rfl) ?_
  refine va_get (D := D) (ci := 1) (v := .int (nI n)) (C := RX2) (T := TX2) (N := 8) hx hb hts in_X2 hown hK hP 0 rfl rfl 4 (by decide) (hts _ q196) (fun _ h9 => h9) rfl dX2_blocks_1 ?_
  exact hret (nI n) () _ _ _ _ dX2_blocks_4 rfl rfl hP hD hS
abbrev rmX2_symbols : Room := { frames := 0, cells := 0, slots := 0, locals := 0 }
set_option maxHeartbeats 4000000 in
set_option maxRecDepth 100000 in
theorem metX2_symbols (l : Launch) (D : va_G) (g : Nat → Nat) (d : Nat → ClassId) (S V : Nat → Int32) (n cnt : Nat) (O T : Nat → Int32) (sm al : Int32)   : fd_I l yX2_symbols (ws_ yX2_symbols cX2_symbols 1 (some .int)) rmX2_symbols D (yT d) [.ref (g 0)] (yW g d S V n cnt O T sm al) (fun (r : Int32) (u : Unit) => r = nI cnt) (fun (u : Unit) => yW g d S V n cnt O T sm al) := by
  refine fd_Iof (lv := [(0, .ref (g 0))]) rfl (by decide) (Nat.le_of_ble_eq_true rfl) rfl ?_
  intro p e s m below meth c A ls Q S0 hK hP hD hA hl hret
  obtain ⟨hx, hb, hml, hown, hts⟩ := id S0
  have hS : va_S A s.heap s.heap [] := va_S.rf
  refine lv_aload_n hx hb dX2_symbols_0 rfl (lv_at hl 0 rfl) ?_
  refine va_get (D := D) (ci := 1) (v := .int (nI cnt)) (C := RX2) (T := TX2) (N := 8) hx hb hts in_X2 hown hK hP 0 rfl rfl 5 (by decide) (hts _ q197) (fun _ h9 => h9) rfl dX2_symbols_1 ?_
  exact hret (nI cnt) () _ _ _ _ dX2_symbols_4 rfl rfl hP hD hS
abbrev rmX2_receive : Room := { frames := 1, cells := 0, slots := 0, locals := 22 }
set_option maxHeartbeats 4000000 in
set_option maxRecDepth 100000 in
theorem metX2_receive (l : Launch) (D : va_G) (g : Nat → Nat) (d : Nat → ClassId) (S V : Nat → Int32) (n cnt : Nat) (O T : Nat → Int32) (sm al : Int32) (a b : Int32) (hn8 : n ≤ 8) (hc : cnt ≤ 16) : fd_I l yX2_receive (ws_ yX2_receive cX2_receive 3 (some .int)) rmX2_receive D (yT d) [.ref (g 0), .int a, .int b] (yW g d S V n cnt O T sm al) (fun (r : Int32) (u : syST) => (r, u) = rcF n S V cnt a b) (fun (u : syST) => yW g d u.1 u.2.1 n u.2.2 O T sm al) := by
  refine fd_Iof (lv := [(0, .ref (g 0)), (1, .int a), (2, .int b)]) rfl (by decide) (Nat.le_of_ble_eq_true rfl) rfl ?_
  intro p e s m below meth c A ls Q S0 hK hP hD hA hl hret
  obtain ⟨hx, hb, hml, hown, hts⟩ := id S0
  have hS : va_S A s.heap s.heap [] := va_S.rf
  refine lv_aload_n hx hb dX2_receive_0 rfl (lv_at hl 0 rfl) ?_
  refine lv_iload_n hx hb dX2_receive_1 rfl (lv_at hl 1 rfl) ?_
  refine fd_callVi (n := 1) (rest := []) (As := [.int a]) (wr := []) S0 hK hP hD hS hA [0, 1, 2, 3, 4] [] [0, 1, 2, 3] (metX2_badSet l D g d S V n cnt O T sm al a hn8) q226 q228 qs11 q22 q229 dX2_receive_2 rfl rfl rfl rfl ⟨⟨rfl, rfl⟩, Nat.le_of_ble_eq_true rfl, Nat.le_of_ble_eq_true rfl⟩ (by decide +kernel) rfl rfl (q0 := 0) rfl rfl hl.1 rfl (Nat.le_of_ble_eq_true rfl) ⟨Nat.le_of_ble_eq_true rfl, Nat.le_of_ble_eq_true rfl⟩ (fun r2 u2 H locs hq2 hP hD hS => ?_)
  subst hq2
  have hP : va_P D vwCl (yW g d S V n cnt O T sm al) H := hP
  have hD : va_D A (yW g d S V n cnt O T sm al) := hD
  refine lv_if_ne (tgt := 12) hx hb dX2_receive_5 (by decide) (fun c5 => ?_) (fun c5 => ?_)
  · refine lv_iconst (v := (-1 : Int32)) hx hb dX2_receive_12 (by decide) ?_
    exact hret (-1 : Int32) (S, V, cnt) _ _ _ _ dX2_receive_13 rfl (by first | rw [rcF, if_pos (rc_bad c5)] | rw [rcF, if_pos (rc_zero c9)] | rw [rcF, if_neg (rc_ok c5 c9), if_pos (Or.inl c15)] | rw [rcF, if_neg (rc_ok c5 c9), if_pos (Or.inr (Int32.not_le.mp c22))] | rw [rcF, if_neg (rc_ok c5 c9), if_neg (fun h => h.elim c15 (Int32.not_lt.mpr c22)), if_pos (show cnt = 16 by omega)] | rw [rcF, if_neg (rc_ok c5 c9), if_neg (fun h => h.elim c15 (Int32.not_lt.mpr c22)), if_neg (show ¬ cnt = 16 by omega)]) hP hD hS
  refine lv_iload_n hx hb dX2_receive_8 rfl (lv_at hl 1 rfl) ?_
  refine lv_if_ne (tgt := 14) hx hb dX2_receive_9 (by decide) (fun c9 => ?_) (fun c9 => ?_)
  · refine lv_iload_n hx hb dX2_receive_14 rfl (lv_at hl 2 rfl) ?_
    refine lv_if_lt (tgt := 25) hx hb dX2_receive_15 (by decide) (fun c15 => ?_) (fun c15 => ?_)
    · refine lv_bipush (v := (-2 : Int32)) hx hb dX2_receive_25 (by decide) ?_
      exact hret (-2 : Int32) (S, V, cnt) _ _ _ _ dX2_receive_27 rfl (by first | rw [rcF, if_pos (rc_bad c5)] | rw [rcF, if_pos (rc_zero c9)] | rw [rcF, if_neg (rc_ok c5 c9), if_pos (Or.inl c15)] | rw [rcF, if_neg (rc_ok c5 c9), if_pos (Or.inr (Int32.not_le.mp c22))] | rw [rcF, if_neg (rc_ok c5 c9), if_neg (fun h => h.elim c15 (Int32.not_lt.mpr c22)), if_pos (show cnt = 16 by omega)] | rw [rcF, if_neg (rc_ok c5 c9), if_neg (fun h => h.elim c15 (Int32.not_lt.mpr c22)), if_neg (show ¬ cnt = 16 by omega)]) hP hD hS
    refine lv_iload_n hx hb dX2_receive_18 rfl (lv_at hl 2 rfl) ?_
    refine lv_sipush (v := (255 : Int32)) hx hb dX2_receive_19 (by decide) ?_
    refine lv_icmp_le (tgt := 28) hx hb dX2_receive_22 (by decide) (fun c22 => ?_) (fun c22 => ?_)
    · refine lv_aload_n hx hb dX2_receive_28 rfl (lv_at hl 0 rfl) ?_
      refine va_get (D := D) (ci := 1) (v := .int (nI cnt)) (C := RX2) (T := TX2) (N := 8) hx hb hts in_X2 hown hK hP 0 rfl rfl 5 (by decide) (hts _ q197) (fun _ h9 => h9) rfl dX2_receive_29 ?_
      refine lv_bipush (v := nI 16) hx hb dX2_receive_32 (by decide) ?_
      refine lv_icmp_lt (tgt := 40) hx hb dX2_receive_34 (by decide) (fun c34 => ?_) (fun c34 => ?_)
      · have c34 : cnt < 16 := (nI_ltI (a := cnt) (b := 16) (by omega) (by omega)).mp c34
        refine lv_aload_n hx hb dX2_receive_40 rfl (lv_at hl 0 rfl) ?_
        refine lv_iload_n hx hb dX2_receive_41 rfl (lv_at hl 1 rfl) ?_
        refine lv_iload_n hx hb dX2_receive_42 rfl (lv_at hl 2 rfl) ?_
        refine fd_callVi (n := 2) (rest := []) (As := [.int a, .int b]) (wr := []) S0 hK hP hD hS hA [0, 1, 2, 3, 4] [] [0, 1, 2, 3] (metX2_place l D g d S V n cnt O T sm al a b (by omega)) q230 q232 qs12 q22 q233 dX2_receive_43 rfl rfl rfl rfl ⟨⟨rfl, rfl⟩, Nat.le_of_ble_eq_true rfl, Nat.le_of_ble_eq_true rfl⟩ (by decide +kernel) rfl rfl (q0 := 0) rfl rfl hl.1 rfl (Nat.le_of_ble_eq_true rfl) ⟨Nat.le_of_ble_eq_true rfl, Nat.le_of_ble_eq_true rfl⟩ (fun r43 u43 H locs hq43 hP hD hS => ?_)
        subst hq43
        have hP : va_P D vwCl (yW g d (upd S cnt a) (upd V cnt b) n (cnt + 1) O T sm al) H := hP
        have hD : va_D A (yW g d (upd S cnt a) (upd V cnt b) n (cnt + 1) O T sm al) := hD
        exact hret (nI cnt) ((upd S cnt a), (upd V cnt b), (cnt + 1)) _ _ _ _ dX2_receive_46 rfl (by first | rw [rcF, if_pos (rc_bad c5)] | rw [rcF, if_pos (rc_zero c9)] | rw [rcF, if_neg (rc_ok c5 c9), if_pos (Or.inl c15)] | rw [rcF, if_neg (rc_ok c5 c9), if_pos (Or.inr (Int32.not_le.mp c22))] | rw [rcF, if_neg (rc_ok c5 c9), if_neg (fun h => h.elim c15 (Int32.not_lt.mpr c22)), if_pos (show cnt = 16 by omega)] | rw [rcF, if_neg (rc_ok c5 c9), if_neg (fun h => h.elim c15 (Int32.not_lt.mpr c22)), if_neg (show ¬ cnt = 16 by omega)]) hP hD hS
      have c34 : ¬ (cnt < 16) := fun h => c34 ((nI_ltI (a := cnt) (b := 16) (by omega) (by omega)).mpr h)
      refine lv_bipush (v := (-3 : Int32)) hx hb dX2_receive_37 (by decide) ?_
      exact hret (-3 : Int32) (S, V, cnt) _ _ _ _ dX2_receive_39 rfl (by first | rw [rcF, if_pos (rc_bad c5)] | rw [rcF, if_pos (rc_zero c9)] | rw [rcF, if_neg (rc_ok c5 c9), if_pos (Or.inl c15)] | rw [rcF, if_neg (rc_ok c5 c9), if_pos (Or.inr (Int32.not_le.mp c22))] | rw [rcF, if_neg (rc_ok c5 c9), if_neg (fun h => h.elim c15 (Int32.not_lt.mpr c22)), if_pos (show cnt = 16 by omega)] | rw [rcF, if_neg (rc_ok c5 c9), if_neg (fun h => h.elim c15 (Int32.not_lt.mpr c22)), if_neg (show ¬ cnt = 16 by omega)]) hP hD hS
    refine lv_bipush (v := (-2 : Int32)) hx hb dX2_receive_25 (by decide) ?_
    exact hret (-2 : Int32) (S, V, cnt) _ _ _ _ dX2_receive_27 rfl (by first | rw [rcF, if_pos (rc_bad c5)] | rw [rcF, if_pos (rc_zero c9)] | rw [rcF, if_neg (rc_ok c5 c9), if_pos (Or.inl c15)] | rw [rcF, if_neg (rc_ok c5 c9), if_pos (Or.inr (Int32.not_le.mp c22))] | rw [rcF, if_neg (rc_ok c5 c9), if_neg (fun h => h.elim c15 (Int32.not_lt.mpr c22)), if_pos (show cnt = 16 by omega)] | rw [rcF, if_neg (rc_ok c5 c9), if_neg (fun h => h.elim c15 (Int32.not_lt.mpr c22)), if_neg (show ¬ cnt = 16 by omega)]) hP hD hS
  refine lv_iconst (v := (-1 : Int32)) hx hb dX2_receive_12 (by decide) ?_
  exact hret (-1 : Int32) (S, V, cnt) _ _ _ _ dX2_receive_13 rfl (by first | rw [rcF, if_pos (rc_bad c5)] | rw [rcF, if_pos (rc_zero c9)] | rw [rcF, if_neg (rc_ok c5 c9), if_pos (Or.inl c15)] | rw [rcF, if_neg (rc_ok c5 c9), if_pos (Or.inr (Int32.not_le.mp c22))] | rw [rcF, if_neg (rc_ok c5 c9), if_neg (fun h => h.elim c15 (Int32.not_lt.mpr c22)), if_pos (show cnt = 16 by omega)] | rw [rcF, if_neg (rc_ok c5 c9), if_neg (fun h => h.elim c15 (Int32.not_lt.mpr c22)), if_neg (show ¬ cnt = 16 by omega)]) hP hD hS
abbrev rmX2_setOf : Room := { frames := 0, cells := 0, slots := 0, locals := 0 }
set_option maxHeartbeats 4000000 in
set_option maxRecDepth 100000 in
theorem metX2_setOf (l : Launch) (D : va_G) (g : Nat → Nat) (d : Nat → ClassId) (S V : Nat → Int32) (n cnt : Nat) (O T : Nat → Int32) (sm al : Int32) (a : Int32) (hn1 : 1 ≤ n) (hn8 : n ≤ 8) : fd_I l yX2_setOf (ws_ yX2_setOf cX2_setOf 5 (some .int)) rmX2_setOf D (yT d) [.ref (g 0), .int a] (yW g d S V n cnt O T sm al) (fun (r : Int32) (u : Unit) => r = soM n a) (fun (u : Unit) => yW g d S V n cnt O T sm al) := by
  refine fd_Iof (lv := [(0, .ref (g 0)), (1, .int a)]) rfl (by decide) (Nat.le_of_ble_eq_true rfl) rfl ?_
  intro p e s m below meth c A ls Q S0 hK hP hD hA hl hret
  obtain ⟨hx, hb, hml, hown, hts⟩ := id S0
  have hS : va_S A s.heap s.heap [] := va_S.rf
  refine lv_iload_n hx hb dX2_setOf_0 rfl (lv_at hl 1 rfl) ?_
  refine lv_if_lt (tgt := 11) hx hb dX2_setOf_1 (by decide) (fun c1 => ?_) (fun c1 => ?_)
  · refine lv_iconst (v := (-1 : Int32)) hx hb dX2_setOf_11 (by decide) ?_
    exact hret (-1 : Int32) () _ _ _ _ dX2_setOf_12 rfl (by first | rw [soM, if_pos (Or.inl c1)] | rw [soM, if_pos (Or.inr (Int32.not_le.mp c8))]) hP hD hS
  refine lv_iload_n hx hb dX2_setOf_4 rfl (lv_at hl 1 rfl) ?_
  refine lv_sipush (v := (9999 : Int32)) hx hb dX2_setOf_5 (by decide) ?_
  refine lv_icmp_le (tgt := 13) hx hb dX2_setOf_8 (by decide) (fun c8 => ?_) (fun c8 => ?_)
  · obtain ⟨j, hj, rfl⟩ := fd_dr c1 (fd_9999.mpr (Int32.not_lt.mpr c8))
    have hX : drX j < 2 ^ 31 := by unfold drX; omega
    refine lv_iload_n hx hb dX2_setOf_13 rfl (lv_at hl 1 rfl) ?_
    refine lv_sipush (v := nI 7919) hx hb dX2_setOf_14 (by decide) ?_
    refine lv_imul hx hb dX2_setOf_17 ?_
    refine fd_as (show ((nI j) * (nI 7919)) = nI (j * 7919) from pk_mul _ _) ?_
    refine lv_ldc (v := 104729) hx hb hown (hts _ q242) dX2_setOf_18 ?_
    refine lv_iadd hx hb dX2_setOf_20 ?_
    refine fd_as (show ((nI (j * 7919)) + (104729 : Int32)) = nI (drX j) from nI_add (j * 7919) 104729) ?_
    refine lv_istore_n (lv' := [(2, .int (nI (drX j))), (0, .ref (g 0)), (1, .int (nI j))]) hx hb dX2_setOf_21 rfl hl (by decide) rfl (fun ls hl => ?_)
    refine lv_iconst (v := nI 1) hx hb dX2_setOf_22 (by decide) ?_
    refine lv_iload_n hx hb dX2_setOf_23 rfl (lv_at hl 0 rfl) ?_
    refine lv_bipush (v := nI 7) hx hb dX2_setOf_24 (by decide) ?_
    refine lv_idiv hx hb dX2_setOf_26 (by decide) ?_
    refine fd_as (show ((nI (drX j)) / (nI 7)) = nI (drX j / 7) from pk_div hX (by decide) (by decide)) ?_
    refine lv_iconst (v := nI 3) hx hb dX2_setOf_27 (by decide) ?_
    refine lv_irem hx hb dX2_setOf_28 (by decide) ?_
    refine fd_as (show ((nI (drX j / 7)) - (nI (drX j / 7)) / (nI 3) * (nI 3)) = nI (drX j / 7 % 3) from pk_rem (by omega) (by decide) (by decide)) ?_
    refine lv_iadd hx hb dX2_setOf_29 ?_
    refine fd_as (show ((nI 1) + (nI (drX j / 7 % 3))) = nI (1 + drX j / 7 % 3) from nI_add _ _) ?_
    refine lv_istore_n (lv' := [(3, .int (nI (1 + drX j / 7 % 3))), (2, .int (nI (drX j))), (0, .ref (g 0)), (1, .int (nI j))]) hx hb dX2_setOf_30 rfl hl (by decide) rfl (fun ls hl => ?_)
    refine lv_iconst (v := (1 : Int32)) hx hb dX2_setOf_31 (by decide) ?_
    refine lv_iload_n hx hb dX2_setOf_32 rfl (lv_at hl 1 rfl) ?_
    refine lv_aload_n hx hb dX2_setOf_33 rfl (lv_at hl 2 rfl) ?_
    refine va_get (D := D) (ci := 1) (v := .int (nI n)) (C := RX2) (T := TX2) (N := 8) hx hb hts in_X2 hown hK hP 0 rfl rfl 4 (by decide) (hts _ q196) (fun _ h9 => h9) rfl dX2_setOf_34 ?_
    refine lv_irem hx hb dX2_setOf_37 (nI_ne0 (by omega) (by omega)) ?_
    refine fd_as (show ((nI (drX j)) - (nI (drX j)) / (nI n) * (nI n)) = nI (drX j % n) from pk_rem hX (by omega) (by omega)) ?_
    refine lv_ishl hx hb dX2_setOf_38 ?_
    refine fd_as (show ((1 : Int32) <<< ((nI (drX j % n)) &&& 31)) = nI (drS n (drX j) 1) from by rw [fd_pw (Nat.le_of_lt (Nat.lt_of_lt_of_le (Nat.mod_lt _ (by omega)) hn8))]; show nI (2 ^ (drX j % n)) = nI (0 ^^^ 2 ^ (drX j / n ^ 0 % n)); rw [Nat.zero_xor, Nat.pow_zero, Nat.div_one]) ?_
    refine lv_istore (lv' := [(4, .int (nI (drS n (drX j) 1))), (3, .int (nI (1 + drX j / 7 % 3))), (2, .int (nI (drX j))), (0, .ref (g 0)), (1, .int (nI j))]) hx hb dX2_setOf_39 hl (by decide) rfl (fun ls hl => ?_)
    refine lv_iload_n hx hb dX2_setOf_41 rfl (lv_at hl 1 rfl) ?_
    refine lv_iconst (v := nI 2) hx hb dX2_setOf_42 (by decide) ?_
    refine lv_icmp_lt (tgt := 64) hx hb dX2_setOf_43 (by decide) (fun c43 => ?_) (fun c43 => ?_)
    · have c43 : (1 + drX j / 7 % 3) < 2 := (nI_ltI (a := (1 + drX j / 7 % 3)) (b := 2) (by omega) (by omega)).mp c43
      refine lv_iload_n hx hb dX2_setOf_64 rfl (lv_at hl 1 rfl) ?_
      refine lv_iconst (v := nI 3) hx hb dX2_setOf_65 (by decide) ?_
      refine lv_icmp_lt (tgt := 92) hx hb dX2_setOf_66 (by decide) (fun c66 => ?_) (fun c66 => ?_)
      · have c66 : (1 + drX j / 7 % 3) < 3 := (nI_ltI (a := (1 + drX j / 7 % 3)) (b := 3) (by omega) (by omega)).mp c66
        refine lv_iload hx hb dX2_setOf_92 (lv_at hl 0 rfl) ?_
        refine lv_if_ne (tgt := 101) hx hb dX2_setOf_94 (by decide) (fun c94 => ?_) (fun c94 => ?_)
        · refine lv_iload hx hb dX2_setOf_101 (lv_at hl 0 rfl) ?_
          exact hret (nI (drS n (drX j) 1)) () _ _ _ _ dX2_setOf_103 rfl (by first | rw [soM_nI hj, drN, show 1 + drX j / 7 % 3 = 1 by omega, if_neg (fun h => c94 (by rw [h]; rfl))] | rw [soM_nI hj, drN, show 1 + drX j / 7 % 3 = 1 by omega, if_pos ((nI_eq (Nat.lt_trans (drS_lt hn1 hn8 _) (by decide)) (by decide)).mp c94)]) hP hD hS
        refine lv_iconst (v := nI 1) hx hb dX2_setOf_97 (by decide) ?_
        refine lv_goto (tgt := 103) hx hb dX2_setOf_98 (by decide) ?_
        exact hret (nI 1) () _ _ _ _ dX2_setOf_103 rfl (by first | rw [soM_nI hj, drN, show 1 + drX j / 7 % 3 = 1 by omega, if_neg (fun h => c94 (by rw [h]; rfl))] | rw [soM_nI hj, drN, show 1 + drX j / 7 % 3 = 1 by omega, if_pos ((nI_eq (Nat.lt_trans (drS_lt hn1 hn8 _) (by decide)) (by decide)).mp c94)]) hP hD hS
      have c66 : ¬ ((1 + drX j / 7 % 3) < 3) := fun h => c66 ((nI_ltI (a := (1 + drX j / 7 % 3)) (b := 3) (by omega) (by omega)).mpr h)
      exact absurd c66 (by omega)
    have c43 : ¬ ((1 + drX j / 7 % 3) < 2) := fun h => c43 ((nI_ltI (a := (1 + drX j / 7 % 3)) (b := 2) (by omega) (by omega)).mpr h)
    refine lv_iload hx hb dX2_setOf_46 (lv_at hl 0 rfl) ?_
    refine lv_iconst (v := (1 : Int32)) hx hb dX2_setOf_48 (by decide) ?_
    refine lv_iload_n hx hb dX2_setOf_49 rfl (lv_at hl 2 rfl) ?_
    refine lv_aload_n hx hb dX2_setOf_50 rfl (lv_at hl 3 rfl) ?_
    refine va_get (D := D) (ci := 1) (v := .int (nI n)) (C := RX2) (T := TX2) (N := 8) hx hb hts in_X2 hown hK hP 0 rfl rfl 4 (by decide) (hts _ q196) (fun _ h9 => h9) rfl dX2_setOf_51 ?_
    refine lv_idiv hx hb dX2_setOf_54 (nI_ne0 (by omega) (by omega)) ?_
    refine fd_as (show ((nI (drX j)) / (nI n)) = nI (drX j / n) from pk_div hX (by omega) (by omega)) ?_
    refine lv_aload_n hx hb dX2_setOf_55 rfl (lv_at hl 3 rfl) ?_
    refine va_get (D := D) (ci := 1) (v := .int (nI n)) (C := RX2) (T := TX2) (N := 8) hx hb hts in_X2 hown hK hP 0 rfl rfl 4 (by decide) (hts _ q196) (fun _ h9 => h9) rfl dX2_setOf_56 ?_
    refine lv_irem hx hb dX2_setOf_59 (nI_ne0 (by omega) (by omega)) ?_
    refine fd_as (show ((nI (drX j / n)) - (nI (drX j / n)) / (nI n) * (nI n)) = nI (drX j / n % n) from pk_rem (Nat.lt_of_le_of_lt (Nat.div_le_self _ _) hX) (by omega) (by omega)) ?_
    refine lv_ishl hx hb dX2_setOf_60 ?_
    refine fd_as (show ((1 : Int32) <<< ((nI (drX j / n % n)) &&& 31)) = nI (2 ^ (drX j / n % n)) from fd_pw (Nat.le_of_lt (Nat.lt_of_lt_of_le (Nat.mod_lt _ (by omega)) hn8))) ?_
    refine lv_ixor hx hb dX2_setOf_61 ?_
    refine fd_as (show ((nI (drS n (drX j) 1)) ^^^ (nI (2 ^ (drX j / n % n)))) = nI (drS n (drX j) 2) from by rw [fd_xor]; show _ = nI (drS n (drX j) 1 ^^^ 2 ^ (drX j / n ^ 1 % n)); rw [Nat.pow_one]) ?_
    refine lv_istore (lv' := [(4, .int (nI (drS n (drX j) 2))), (3, .int (nI (1 + drX j / 7 % 3))), (2, .int (nI (drX j))), (0, .ref (g 0)), (1, .int (nI j))]) hx hb dX2_setOf_62 hl (by decide) rfl (fun ls hl => ?_)
    refine lv_iload_n hx hb dX2_setOf_64 rfl (lv_at hl 1 rfl) ?_
    refine lv_iconst (v := nI 3) hx hb dX2_setOf_65 (by decide) ?_
    refine lv_icmp_lt (tgt := 92) hx hb dX2_setOf_66 (by decide) (fun c66 => ?_) (fun c66 => ?_)
    · have c66 : (1 + drX j / 7 % 3) < 3 := (nI_ltI (a := (1 + drX j / 7 % 3)) (b := 3) (by omega) (by omega)).mp c66
      refine lv_iload hx hb dX2_setOf_92 (lv_at hl 0 rfl) ?_
      refine lv_if_ne (tgt := 101) hx hb dX2_setOf_94 (by decide) (fun c94 => ?_) (fun c94 => ?_)
      · refine lv_iload hx hb dX2_setOf_101 (lv_at hl 0 rfl) ?_
        exact hret (nI (drS n (drX j) 2)) () _ _ _ _ dX2_setOf_103 rfl (by first | rw [soM_nI hj, drN, show 1 + drX j / 7 % 3 = 2 by omega, if_neg (fun h => c94 (by rw [h]; rfl))] | rw [soM_nI hj, drN, show 1 + drX j / 7 % 3 = 2 by omega, if_pos ((nI_eq (Nat.lt_trans (drS_lt hn1 hn8 _) (by decide)) (by decide)).mp c94)]) hP hD hS
      refine lv_iconst (v := nI 1) hx hb dX2_setOf_97 (by decide) ?_
      refine lv_goto (tgt := 103) hx hb dX2_setOf_98 (by decide) ?_
      exact hret (nI 1) () _ _ _ _ dX2_setOf_103 rfl (by first | rw [soM_nI hj, drN, show 1 + drX j / 7 % 3 = 2 by omega, if_neg (fun h => c94 (by rw [h]; rfl))] | rw [soM_nI hj, drN, show 1 + drX j / 7 % 3 = 2 by omega, if_pos ((nI_eq (Nat.lt_trans (drS_lt hn1 hn8 _) (by decide)) (by decide)).mp c94)]) hP hD hS
    have c66 : ¬ ((1 + drX j / 7 % 3) < 3) := fun h => c66 ((nI_ltI (a := (1 + drX j / 7 % 3)) (b := 3) (by omega) (by omega)).mpr h)
    refine lv_iload hx hb dX2_setOf_69 (lv_at hl 0 rfl) ?_
    refine lv_iconst (v := (1 : Int32)) hx hb dX2_setOf_71 (by decide) ?_
    refine lv_iload_n hx hb dX2_setOf_72 rfl (lv_at hl 2 rfl) ?_
    refine lv_aload_n hx hb dX2_setOf_73 rfl (lv_at hl 3 rfl) ?_
    refine va_get (D := D) (ci := 1) (v := .int (nI n)) (C := RX2) (T := TX2) (N := 8) hx hb hts in_X2 hown hK hP 0 rfl rfl 4 (by decide) (hts _ q196) (fun _ h9 => h9) rfl dX2_setOf_74 ?_
    refine lv_aload_n hx hb dX2_setOf_77 rfl (lv_at hl 3 rfl) ?_
    refine va_get (D := D) (ci := 1) (v := .int (nI n)) (C := RX2) (T := TX2) (N := 8) hx hb hts in_X2 hown hK hP 0 rfl rfl 4 (by decide) (hts _ q196) (fun _ h9 => h9) rfl dX2_setOf_78 ?_
    refine lv_imul hx hb dX2_setOf_81 ?_
    refine fd_as (show ((nI n) * (nI n)) = nI (n * n) from pk_mul _ _) ?_
    refine lv_idiv hx hb dX2_setOf_82 (nI_ne0 (Nat.mul_pos (by omega) (by omega)) (Nat.lt_of_le_of_lt (Nat.mul_le_mul hn8 hn8) (by decide))) ?_
    refine fd_as (show ((nI (drX j)) / (nI (n * n))) = nI (drX j / (n * n)) from pk_div hX (Nat.mul_pos (by omega) (by omega)) (Nat.lt_of_le_of_lt (Nat.mul_le_mul hn8 hn8) (by decide))) ?_
    refine lv_aload_n hx hb dX2_setOf_83 rfl (lv_at hl 3 rfl) ?_
    refine va_get (D := D) (ci := 1) (v := .int (nI n)) (C := RX2) (T := TX2) (N := 8) hx hb hts in_X2 hown hK hP 0 rfl rfl 4 (by decide) (hts _ q196) (fun _ h9 => h9) rfl dX2_setOf_84 ?_
    refine lv_irem hx hb dX2_setOf_87 (nI_ne0 (by omega) (by omega)) ?_
    refine fd_as (show ((nI (drX j / (n * n))) - (nI (drX j / (n * n))) / (nI n) * (nI n)) = nI (drX j / (n * n) % n) from pk_rem (Nat.lt_of_le_of_lt (Nat.div_le_self _ _) hX) (by omega) (by omega)) ?_
    refine lv_ishl hx hb dX2_setOf_88 ?_
    refine fd_as (show ((1 : Int32) <<< ((nI (drX j / (n * n) % n)) &&& 31)) = nI (2 ^ (drX j / (n * n) % n)) from fd_pw (Nat.le_of_lt (Nat.lt_of_lt_of_le (Nat.mod_lt _ (by omega)) hn8))) ?_
    refine lv_ixor hx hb dX2_setOf_89 ?_
    refine fd_as (show ((nI (drS n (drX j) 2)) ^^^ (nI (2 ^ (drX j / (n * n) % n)))) = nI (drS n (drX j) 3) from by rw [fd_xor]; show _ = nI (drS n (drX j) 2 ^^^ 2 ^ (drX j / n ^ 2 % n)); rw [Nat.pow_two]) ?_
    refine lv_istore (lv' := [(4, .int (nI (drS n (drX j) 3))), (3, .int (nI (1 + drX j / 7 % 3))), (2, .int (nI (drX j))), (0, .ref (g 0)), (1, .int (nI j))]) hx hb dX2_setOf_90 hl (by decide) rfl (fun ls hl => ?_)
    refine lv_iload hx hb dX2_setOf_92 (lv_at hl 0 rfl) ?_
    refine lv_if_ne (tgt := 101) hx hb dX2_setOf_94 (by decide) (fun c94 => ?_) (fun c94 => ?_)
    · refine lv_iload hx hb dX2_setOf_101 (lv_at hl 0 rfl) ?_
      exact hret (nI (drS n (drX j) 3)) () _ _ _ _ dX2_setOf_103 rfl (by first | rw [soM_nI hj, drN, show 1 + drX j / 7 % 3 = 3 by omega, if_neg (fun h => c94 (by rw [h]; rfl))] | rw [soM_nI hj, drN, show 1 + drX j / 7 % 3 = 3 by omega, if_pos ((nI_eq (Nat.lt_trans (drS_lt hn1 hn8 _) (by decide)) (by decide)).mp c94)]) hP hD hS
    refine lv_iconst (v := nI 1) hx hb dX2_setOf_97 (by decide) ?_
    refine lv_goto (tgt := 103) hx hb dX2_setOf_98 (by decide) ?_
    exact hret (nI 1) () _ _ _ _ dX2_setOf_103 rfl (by first | rw [soM_nI hj, drN, show 1 + drX j / 7 % 3 = 3 by omega, if_neg (fun h => c94 (by rw [h]; rfl))] | rw [soM_nI hj, drN, show 1 + drX j / 7 % 3 = 3 by omega, if_pos ((nI_eq (Nat.lt_trans (drS_lt hn1 hn8 _) (by decide)) (by decide)).mp c94)]) hP hD hS
  refine lv_iconst (v := (-1 : Int32)) hx hb dX2_setOf_11 (by decide) ?_
  exact hret (-1 : Int32) () _ _ _ _ dX2_setOf_12 rfl (by first | rw [soM, if_pos (Or.inl c1)] | rw [soM, if_pos (Or.inr (Int32.not_le.mp c8))]) hP hD hS
abbrev rmX2_draw : Room := { frames := 1, cells := 0, slots := 0, locals := 24 }
set_option maxHeartbeats 4000000 in
set_option maxRecDepth 100000 in
theorem metX2_draw (l : Launch) (D : va_G) (g : Nat → Nat) (d : Nat → ClassId) (S V : Nat → Int32) (n cnt : Nat) (O T : Nat → Int32) (sm al : Int32) (a b : Int32) (hn1 : 1 ≤ n) (hn8 : n ≤ 8) (hc : cnt ≤ 16) : fd_I l yX2_draw (ws_ yX2_draw cX2_draw 4 (some .int)) rmX2_draw D (yT d) [.ref (g 0), .int a, .int b] (yW g d S V n cnt O T sm al) (fun (r : Int32) (u : syST) => (r, u) = dwF n S V cnt a b) (fun (u : syST) => yW g d u.1 u.2.1 n u.2.2 O T sm al) := by
  refine fd_Iof (lv := [(0, .ref (g 0)), (1, .int a), (2, .int b)]) rfl (by decide) (Nat.le_of_ble_eq_true rfl) rfl ?_
  intro p e s m below meth c A ls Q S0 hK hP hD hA hl hret
  obtain ⟨hx, hb, hml, hown, hts⟩ := id S0
  have hS : va_S A s.heap s.heap [] := va_S.rf
  refine lv_iload_n hx hb dX2_draw_0 rfl (lv_at hl 1 rfl) ?_
  refine lv_if_lt (tgt := 11) hx hb dX2_draw_1 (by decide) (fun c1 => ?_) (fun c1 => ?_)
  · refine lv_iconst (v := (-1 : Int32)) hx hb dX2_draw_11 (by decide) ?_
    exact hret (-1 : Int32) (S, V, cnt) _ _ _ _ dX2_draw_12 rfl (by first | rw [dwF, if_pos (Or.inl c1)] | rw [dwF, if_pos (Or.inr (Int32.not_le.mp c8))] | rw [dwF, if_neg (fun h => h.elim c1 (Int32.not_lt.mpr c8)), if_pos (Or.inl c14)] | rw [dwF, if_neg (fun h => h.elim c1 (Int32.not_lt.mpr c8)), if_pos (Or.inr (Int32.not_le.mp c21))] | rw [dwF, if_neg (fun h => h.elim c1 (Int32.not_lt.mpr c8)), if_neg (fun h => h.elim c14 (Int32.not_lt.mpr c21)), if_pos (show cnt = 16 by omega)] | rw [dwF, if_neg (fun h => h.elim c1 (Int32.not_lt.mpr c8)), if_neg (fun h => h.elim c14 (Int32.not_lt.mpr c21)), if_neg (show ¬ cnt = 16 by omega), nI_clamp (by omega)]) hP hD hS
  refine lv_iload_n hx hb dX2_draw_4 rfl (lv_at hl 1 rfl) ?_
  refine lv_sipush (v := (9999 : Int32)) hx hb dX2_draw_5 (by decide) ?_
  refine lv_icmp_le (tgt := 13) hx hb dX2_draw_8 (by decide) (fun c8 => ?_) (fun c8 => ?_)
  · obtain ⟨j, hj, rfl⟩ := fd_dr c1 (fd_9999.mpr (Int32.not_lt.mpr c8))
    refine lv_iload_n hx hb dX2_draw_13 rfl (lv_at hl 2 rfl) ?_
    refine lv_if_lt (tgt := 24) hx hb dX2_draw_14 (by decide) (fun c14 => ?_) (fun c14 => ?_)
    · refine lv_bipush (v := (-2 : Int32)) hx hb dX2_draw_24 (by decide) ?_
      exact hret (-2 : Int32) (S, V, cnt) _ _ _ _ dX2_draw_26 rfl (by first | rw [dwF, if_pos (Or.inl c1)] | rw [dwF, if_pos (Or.inr (Int32.not_le.mp c8))] | rw [dwF, if_neg (fun h => h.elim c1 (Int32.not_lt.mpr c8)), if_pos (Or.inl c14)] | rw [dwF, if_neg (fun h => h.elim c1 (Int32.not_lt.mpr c8)), if_pos (Or.inr (Int32.not_le.mp c21))] | rw [dwF, if_neg (fun h => h.elim c1 (Int32.not_lt.mpr c8)), if_neg (fun h => h.elim c14 (Int32.not_lt.mpr c21)), if_pos (show cnt = 16 by omega)] | rw [dwF, if_neg (fun h => h.elim c1 (Int32.not_lt.mpr c8)), if_neg (fun h => h.elim c14 (Int32.not_lt.mpr c21)), if_neg (show ¬ cnt = 16 by omega), nI_clamp (by omega)]) hP hD hS
    refine lv_iload_n hx hb dX2_draw_17 rfl (lv_at hl 2 rfl) ?_
    refine lv_sipush (v := (255 : Int32)) hx hb dX2_draw_18 (by decide) ?_
    refine lv_icmp_le (tgt := 27) hx hb dX2_draw_21 (by decide) (fun c21 => ?_) (fun c21 => ?_)
    · refine lv_aload_n hx hb dX2_draw_27 rfl (lv_at hl 0 rfl) ?_
      refine va_get (D := D) (ci := 1) (v := .int (nI cnt)) (C := RX2) (T := TX2) (N := 8) hx hb hts in_X2 hown hK hP 0 rfl rfl 5 (by decide) (hts _ q197) (fun _ h9 => h9) rfl dX2_draw_28 ?_
      refine lv_bipush (v := nI 16) hx hb dX2_draw_31 (by decide) ?_
      refine lv_icmp_lt (tgt := 39) hx hb dX2_draw_33 (by decide) (fun c33 => ?_) (fun c33 => ?_)
      · have c33 : cnt < 16 := (nI_ltI (a := cnt) (b := 16) (by omega) (by omega)).mp c33
        refine lv_aload_n hx hb dX2_draw_39 rfl (lv_at hl 0 rfl) ?_
        refine lv_iload_n hx hb dX2_draw_40 rfl (lv_at hl 1 rfl) ?_
        refine fd_callVi (n := 1) (rest := []) (As := [.int (nI j)]) (wr := []) S0 hK hP hD hS hA [0, 1, 2, 3, 4] [] [0, 1, 2, 3] (metX2_setOf l D g d S V n cnt O T sm al (nI j) hn1 hn8) q238 q239 q240 q22 q241 dX2_draw_41 rfl rfl rfl rfl ⟨⟨rfl, rfl⟩, Nat.le_of_ble_eq_true rfl, Nat.le_of_ble_eq_true rfl⟩ (by decide +kernel) rfl rfl (q0 := 0) rfl rfl hl.1 rfl (Nat.le_of_ble_eq_true rfl) ⟨Nat.le_of_ble_eq_true rfl, Nat.le_of_ble_eq_true rfl⟩ (fun r41 u41 H locs hq41 hP hD hS => ?_)
        subst hq41
        have hP : va_P D vwCl (yW g d S V n cnt O T sm al) H := hP
        have hD : va_D A (yW g d S V n cnt O T sm al) := hD
        refine fd_as (show (soM n (nI j)) = nI (drN n j) from soM_nI hj) ?_
        refine lv_istore_n (lv' := [(3, .int (nI (drN n j))), (0, .ref (g 0)), (1, .int (nI j)), (2, .int b)]) hx hb dX2_draw_44 rfl hl (by decide) rfl (fun ls hl => ?_)
        refine lv_aload_n hx hb dX2_draw_45 rfl (lv_at hl 1 rfl) ?_
        refine lv_iload_n hx hb dX2_draw_46 rfl (lv_at hl 0 rfl) ?_
        refine lv_iload_n hx hb dX2_draw_47 rfl (lv_at hl 3 rfl) ?_
        refine fd_callVi (n := 2) (rest := []) (As := [.int (nI (drN n j)), .int b]) (wr := []) S0 hK hP hD hS hA [0, 1, 2, 3, 4] [] [0, 1, 2, 3] (metX2_place l D g d S V n cnt O T sm al (nI (drN n j)) b (by omega)) q230 q232 qs12 q22 q233 dX2_draw_48 rfl rfl rfl rfl ⟨⟨rfl, rfl⟩, Nat.le_of_ble_eq_true rfl, Nat.le_of_ble_eq_true rfl⟩ (by decide +kernel) rfl rfl (q0 := 0) rfl rfl hl.1 rfl (Nat.le_of_ble_eq_true rfl) ⟨Nat.le_of_ble_eq_true rfl, Nat.le_of_ble_eq_true rfl⟩ (fun r48 u48 H locs hq48 hP hD hS => ?_)
        subst hq48
        have hP : va_P D vwCl (yW g d (upd S cnt (nI (drN n j))) (upd V cnt b) n (cnt + 1) O T sm al) H := hP
        have hD : va_D A (yW g d (upd S cnt (nI (drN n j))) (upd V cnt b) n (cnt + 1) O T sm al) := hD
        refine lv_pop hx hb dX2_draw_51 rfl ?_
        refine lv_iload_n hx hb dX2_draw_52 rfl (lv_at hl 0 rfl) ?_
        exact hret (nI (drN n j)) ((upd S cnt (nI (drN n j))), (upd V cnt b), (cnt + 1)) _ _ _ _ dX2_draw_53 rfl (by first | rw [dwF, if_pos (Or.inl c1)] | rw [dwF, if_pos (Or.inr (Int32.not_le.mp c8))] | rw [dwF, if_neg (fun h => h.elim c1 (Int32.not_lt.mpr c8)), if_pos (Or.inl c14)] | rw [dwF, if_neg (fun h => h.elim c1 (Int32.not_lt.mpr c8)), if_pos (Or.inr (Int32.not_le.mp c21))] | rw [dwF, if_neg (fun h => h.elim c1 (Int32.not_lt.mpr c8)), if_neg (fun h => h.elim c14 (Int32.not_lt.mpr c21)), if_pos (show cnt = 16 by omega)] | rw [dwF, if_neg (fun h => h.elim c1 (Int32.not_lt.mpr c8)), if_neg (fun h => h.elim c14 (Int32.not_lt.mpr c21)), if_neg (show ¬ cnt = 16 by omega), nI_clamp (by omega)]) hP hD hS
      have c33 : ¬ (cnt < 16) := fun h => c33 ((nI_ltI (a := cnt) (b := 16) (by omega) (by omega)).mpr h)
      refine lv_bipush (v := (-3 : Int32)) hx hb dX2_draw_36 (by decide) ?_
      exact hret (-3 : Int32) (S, V, cnt) _ _ _ _ dX2_draw_38 rfl (by first | rw [dwF, if_pos (Or.inl c1)] | rw [dwF, if_pos (Or.inr (Int32.not_le.mp c8))] | rw [dwF, if_neg (fun h => h.elim c1 (Int32.not_lt.mpr c8)), if_pos (Or.inl c14)] | rw [dwF, if_neg (fun h => h.elim c1 (Int32.not_lt.mpr c8)), if_pos (Or.inr (Int32.not_le.mp c21))] | rw [dwF, if_neg (fun h => h.elim c1 (Int32.not_lt.mpr c8)), if_neg (fun h => h.elim c14 (Int32.not_lt.mpr c21)), if_pos (show cnt = 16 by omega)] | rw [dwF, if_neg (fun h => h.elim c1 (Int32.not_lt.mpr c8)), if_neg (fun h => h.elim c14 (Int32.not_lt.mpr c21)), if_neg (show ¬ cnt = 16 by omega), nI_clamp (by omega)]) hP hD hS
    refine lv_bipush (v := (-2 : Int32)) hx hb dX2_draw_24 (by decide) ?_
    exact hret (-2 : Int32) (S, V, cnt) _ _ _ _ dX2_draw_26 rfl (by first | rw [dwF, if_pos (Or.inl c1)] | rw [dwF, if_pos (Or.inr (Int32.not_le.mp c8))] | rw [dwF, if_neg (fun h => h.elim c1 (Int32.not_lt.mpr c8)), if_pos (Or.inl c14)] | rw [dwF, if_neg (fun h => h.elim c1 (Int32.not_lt.mpr c8)), if_pos (Or.inr (Int32.not_le.mp c21))] | rw [dwF, if_neg (fun h => h.elim c1 (Int32.not_lt.mpr c8)), if_neg (fun h => h.elim c14 (Int32.not_lt.mpr c21)), if_pos (show cnt = 16 by omega)] | rw [dwF, if_neg (fun h => h.elim c1 (Int32.not_lt.mpr c8)), if_neg (fun h => h.elim c14 (Int32.not_lt.mpr c21)), if_neg (show ¬ cnt = 16 by omega), nI_clamp (by omega)]) hP hD hS
  refine lv_iconst (v := (-1 : Int32)) hx hb dX2_draw_11 (by decide) ?_
  exact hret (-1 : Int32) (S, V, cnt) _ _ _ _ dX2_draw_12 rfl (by first | rw [dwF, if_pos (Or.inl c1)] | rw [dwF, if_pos (Or.inr (Int32.not_le.mp c8))] | rw [dwF, if_neg (fun h => h.elim c1 (Int32.not_lt.mpr c8)), if_pos (Or.inl c14)] | rw [dwF, if_neg (fun h => h.elim c1 (Int32.not_lt.mpr c8)), if_pos (Or.inr (Int32.not_le.mp c21))] | rw [dwF, if_neg (fun h => h.elim c1 (Int32.not_lt.mpr c8)), if_neg (fun h => h.elim c14 (Int32.not_lt.mpr c21)), if_pos (show cnt = 16 by omega)] | rw [dwF, if_neg (fun h => h.elim c1 (Int32.not_lt.mpr c8)), if_neg (fun h => h.elim c14 (Int32.not_lt.mpr c21)), if_neg (show ¬ cnt = 16 by omega), nI_clamp (by omega)]) hP hD hS
abbrev rmX2_lose : Room := { frames := 0, cells := 0, slots := 0, locals := 0 }
set_option maxHeartbeats 4000000 in
set_option maxRecDepth 100000 in
theorem metX2_lose (l : Launch) (D : va_G) (g : Nat → Nat) (d : Nat → ClassId) (S V : Nat → Int32) (n cnt : Nat) (O T : Nat → Int32) (sm al : Int32) (a : Int32) (hc : cnt ≤ 16) : fd_I l yX2_lose (ws_ yX2_lose cX2_lose 3 (some .int)) rmX2_lose D (yT d) [.ref (g 0), .int a] (yW g d S V n cnt O T sm al) (fun (r : Int32) (u : syST) => (r, u) = loF S V cnt a) (fun (u : syST) => yW g d u.1 u.2.1 n u.2.2 O T sm al) := by
  refine fd_Iof (lv := [(0, .ref (g 0)), (1, .int a)]) rfl (by decide) (Nat.le_of_ble_eq_true rfl) rfl ?_
  intro p e s m below meth c A ls Q S0 hK hP hD hA hl hret
  obtain ⟨hx, hb, hml, hown, hts⟩ := id S0
  have hS : va_S A s.heap s.heap [] := va_S.rf
  refine lv_iload_n hx hb dX2_lose_0 rfl (lv_at hl 1 rfl) ?_
  refine lv_if_lt (tgt := 12) hx hb dX2_lose_1 (by decide) (fun c1 => ?_) (fun c1 => ?_)
  · refine lv_iconst (v := (-1 : Int32)) hx hb dX2_lose_12 (by decide) ?_
    exact hret (-1 : Int32) (S, V, cnt) _ _ _ _ dX2_lose_13 rfl (by first | rw [loF, if_pos (Or.inl c1)] | rw [loF, if_pos (Or.inr (Int32.not_lt.mp c9))] | rw [loF, if_neg (fun h => h.elim c1 (Int32.not_le.mpr c9)), nI_clamp (by omega)]) hP hD hS
  refine lv_iload_n hx hb dX2_lose_4 rfl (lv_at hl 1 rfl) ?_
  refine lv_aload_n hx hb dX2_lose_5 rfl (lv_at hl 0 rfl) ?_
  refine va_get (D := D) (ci := 1) (v := .int (nI cnt)) (C := RX2) (T := TX2) (N := 8) hx hb hts in_X2 hown hK hP 0 rfl rfl 5 (by decide) (hts _ q197) (fun _ h9 => h9) rfl dX2_lose_6 ?_
  refine lv_icmp_lt (tgt := 14) hx hb dX2_lose_9 (by decide) (fun c9 => ?_) (fun c9 => ?_)
  · obtain ⟨i, hi, rfl⟩ := fd_raw (n := cnt) (by omega) c1 (Int32.not_le.mpr c9)
    refine lv_iload_n hx hb dX2_lose_14 rfl (lv_at hl 1 rfl) ?_
    refine lv_istore_n (lv' := [(2, .int (nI i)), (0, .ref (g 0)), (1, .int (nI i))]) hx hb dX2_lose_15 rfl hl (by decide) rfl (fun ls hl => ?_)
    have LP16 : ∀ (Nf16 : Nat) (t : Nat) (xS : Nat → Int32) (xV : Nat → Int32) (H : Heap) (locs : List Loc) (ls : Array Slot), cnt - 1 - i - t < Nf16 → (t ≤ cnt - 1 - i) → xS = loS S i t → xV = loS V i t → va_P D vwCl (yW g d xS xV n cnt O T sm al) H → va_D A (yW g d xS xV n cnt O T sm al) → va_S A s.heap H locs → lv_has ls 3 [(0, .ref (g 0)), (2, .int (nI (i + t)))] → W p l e rmX2_lose s m ([.ref (g 0), .int (nI i)] : List Value).toArray below meth c H locs 0 0 Q (F0 m 16 ls []) := by
      intro Nf16
      induction Nf16 with
      | zero => intro t xS xV H locs ls hmu; exact absurd hmu (Nat.not_lt_zero _)
      | succ Nf16 ih16 =>
        intro t xS xV H locs ls hmu16 hc16_0 exS exV hP hD hS hl
        subst exS
        subst exV
        refine lv_iload_n hx hb dX2_lose_16 rfl (lv_at hl 1 rfl) ?_
        refine lv_iconst (v := (1 : Int32)) hx hb dX2_lose_17 (by decide) ?_
        refine lv_iadd hx hb dX2_lose_18 ?_
        refine fd_as (nI_1 (i + t)) ?_
        refine lv_aload_n hx hb dX2_lose_19 rfl (lv_at hl 0 rfl) ?_
        refine va_get (D := D) (ci := 1) (v := .int (nI cnt)) (C := RX2) (T := TX2) (N := 8) hx hb hts in_X2 hown hK hP 0 rfl rfl 5 (by decide) (hts _ q197) (fun _ h9 => h9) rfl dX2_lose_20 ?_
        refine lv_icmp_ge (tgt := 60) hx hb dX2_lose_23 (by decide) (fun c23 => ?_) (fun c23 => ?_)
        · have c23 : cnt ≤ ((i + t) + 1) := (nI_leI (a := cnt) (b := ((i + t) + 1)) (by omega) (by omega)).mp c23
          obtain rfl : cnt - 1 - i = t := by omega
          refine lv_aload_n hx hb dX2_lose_60 rfl (lv_at hl 0 rfl) ?_
          refine lv_dup hx hb dX2_lose_61 rfl ?_
          refine va_get (D := D) (ci := 1) (v := .int (nI cnt)) (C := RX2) (T := TX2) (N := 8) hx hb hts in_X2 hown hK hP 0 rfl rfl 5 (by decide) (hts _ q197) (fun _ h9 => h9) rfl dX2_lose_62 ?_
          refine lv_iconst (v := (1 : Int32)) hx hb dX2_lose_65 (by decide) ?_
          refine lv_isub hx hb dX2_lose_66 ?_
          refine fd_as (show ((nI cnt) - (1 : Int32)) = nI (cnt - 1) from fd_pred (by omega)) ?_
          refine va_put (D := D) (ci := 1) (v := .int (nI (cnt - 1))) (ty := .int) (C := RX2) (T := TX2) (N := 8) hx hb hts in_X2 tyX2 tyX2_ok nmX2 hown hK hP hD hS 0 rfl rfl 5 (by decide) (hts _ q197) (fun _ h9 => h9) rfl (by decide +kernel) rfl rfl (Nat.le_of_ble_eq_true rfl) dX2_lose_67 (fun H locs hP hD hS => ?_)
          have hP : va_P D vwCl (yW g d (loS S i (cnt - 1 - i)) (loS V i (cnt - 1 - i)) n (cnt - 1) O T sm al) H := hP
          have hD : va_D A (yW g d (loS S i (cnt - 1 - i)) (loS V i (cnt - 1 - i)) n (cnt - 1) O T sm al) := hD
          refine lv_aload_n hx hb dX2_lose_70 rfl (lv_at hl 0 rfl) ?_
          refine va_get (D := D) (ci := 1) (v := .int (nI (cnt - 1))) (C := RX2) (T := TX2) (N := 8) hx hb hts in_X2 hown hK hP 0 rfl rfl 5 (by decide) (hts _ q197) (fun _ h9 => h9) rfl dX2_lose_71 ?_
          exact hret (nI (cnt - 1)) ((loS S i (cnt - 1 - i)), (loS V i (cnt - 1 - i)), (cnt - 1)) _ _ _ _ dX2_lose_74 rfl (by first | rw [loF, if_pos (Or.inl c1)] | rw [loF, if_pos (Or.inr (Int32.not_lt.mp c9))] | rw [loF, if_neg (fun h => h.elim c1 (Int32.not_le.mpr c9)), nI_clamp (by omega)]) hP hD hS
        have c23 : ¬ (cnt ≤ ((i + t) + 1)) := fun h => c23 ((nI_leI (a := cnt) (b := ((i + t) + 1)) (by omega) (by omega)).mpr h)
        refine lv_aload_n hx hb dX2_lose_26 rfl (lv_at hl 0 rfl) ?_
        refine va_get (D := D) (ci := 1) (v := .ref (g 1)) (C := RX2) (T := TX2) (N := 8) hx hb hts in_X2 hown hK hP 0 rfl rfl 0 (by decide) (hts _ q192) (fun _ h9 => h9) rfl dX2_lose_27 ?_
        refine lv_iload_n hx hb dX2_lose_30 rfl (lv_at hl 1 rfl) ?_
        refine lv_aload_n hx hb dX2_lose_31 rfl (lv_at hl 0 rfl) ?_
        refine va_get (D := D) (ci := 1) (v := .ref (g 1)) (C := RX2) (T := TX2) (N := 8) hx hb hts in_X2 hown hK hP 0 rfl rfl 0 (by decide) (hts _ q192) (fun _ h9 => h9) rfl dX2_lose_32 ?_
        refine lv_iload_n hx hb dX2_lose_35 rfl (lv_at hl 1 rfl) ?_
        refine lv_iconst (v := (1 : Int32)) hx hb dX2_lose_36 (by decide) ?_
        refine lv_iadd hx hb dX2_lose_37 ?_
        refine fd_as (nI_1 (i + t)) ?_
        refine fd_iald hx hb hK hP 1 0 rfl rfl (k := ((i + t) + 1)) (by omega) (by decide) dX2_lose_38 ?_
        refine fd_iast hx hb hK hP hD hS 1 0 rfl rfl (k := (i + t)) (by omega) (by decide) dX2_lose_39 (fun H locs hP hD hS => ?_)
        have hP : va_P D vwCl (yW g d (upd (loS S i t) (i + t) ((loS S i t) ((i + t) + 1))) (loS V i t) n cnt O T sm al) H := hP
        have hD : va_D A (yW g d (upd (loS S i t) (i + t) ((loS S i t) ((i + t) + 1))) (loS V i t) n cnt O T sm al) := hD
        refine lv_aload_n hx hb dX2_lose_40 rfl (lv_at hl 0 rfl) ?_
        refine va_get (D := D) (ci := 1) (v := .ref (g 2)) (C := RX2) (T := TX2) (N := 8) hx hb hts in_X2 hown hK hP 0 rfl rfl 1 (by decide) (hts _ q193) (fun _ h9 => h9) rfl dX2_lose_41 ?_
        refine lv_iload_n hx hb dX2_lose_44 rfl (lv_at hl 1 rfl) ?_
        refine lv_aload_n hx hb dX2_lose_45 rfl (lv_at hl 0 rfl) ?_
        refine va_get (D := D) (ci := 1) (v := .ref (g 2)) (C := RX2) (T := TX2) (N := 8) hx hb hts in_X2 hown hK hP 0 rfl rfl 1 (by decide) (hts _ q193) (fun _ h9 => h9) rfl dX2_lose_46 ?_
        refine lv_iload_n hx hb dX2_lose_49 rfl (lv_at hl 1 rfl) ?_
        refine lv_iconst (v := (1 : Int32)) hx hb dX2_lose_50 (by decide) ?_
        refine lv_iadd hx hb dX2_lose_51 ?_
        refine fd_as (nI_1 (i + t)) ?_
        refine fd_iald hx hb hK hP 2 1 rfl rfl (k := ((i + t) + 1)) (by omega) (by decide) dX2_lose_52 ?_
        refine fd_iast hx hb hK hP hD hS 2 1 rfl rfl (k := (i + t)) (by omega) (by decide) dX2_lose_53 (fun H locs hP hD hS => ?_)
        have hP : va_P D vwCl (yW g d (upd (loS S i t) (i + t) ((loS S i t) ((i + t) + 1))) (upd (loS V i t) (i + t) ((loS V i t) ((i + t) + 1))) n cnt O T sm al) H := hP
        have hD : va_D A (yW g d (upd (loS S i t) (i + t) ((loS S i t) ((i + t) + 1))) (upd (loS V i t) (i + t) ((loS V i t) ((i + t) + 1))) n cnt O T sm al) := hD
        refine lv_iinc (v := nI ((i + t) + 1)) (lv' := [(2, .int (nI ((i + t) + 1))), (0, .ref (g 0))]) hx hb dX2_lose_54 hl (k := 1) rfl (fd_inc _) (by decide) rfl (fun ls hl => ?_)
        refine lv_goto (tgt := 16) hx hb dX2_lose_57 (by decide) ?_
        exact ih16 (t + 1) (upd (loS S i t) (i + t) ((loS S i t) ((i + t) + 1))) (upd (loS V i t) (i + t) ((loS V i t) ((i + t) + 1))) _ _ _ (by omega) (by omega) rfl rfl hP hD hS (lv_sub hl [1, 0] rfl)
    exact LP16 _ 0 S V _ _ _ (Nat.lt_succ_self _) (by omega) rfl rfl hP hD hS (lv_sub hl [1, 0] rfl)
  refine lv_iconst (v := (-1 : Int32)) hx hb dX2_lose_12 (by decide) ?_
  exact hret (-1 : Int32) (S, V, cnt) _ _ _ _ dX2_lose_13 rfl (by first | rw [loF, if_pos (Or.inl c1)] | rw [loF, if_pos (Or.inr (Int32.not_lt.mp c9))] | rw [loF, if_neg (fun h => h.elim c1 (Int32.not_le.mpr c9)), nI_clamp (by omega)]) hP hD hS
end
section
/-! FountainDecoderModel: solves, solve, consistent, knownWithout, known, sumOf, value -/
abbrev rmX2_solves : Room := { frames := 0, cells := 0, slots := 0, locals := 0 }
set_option maxHeartbeats 4000000 in
set_option maxRecDepth 100000 in
theorem metX2_solves (l : Launch) (D : va_G) (g : Nat → Nat) (d : Nat → ClassId) (S V : Nat → Int32) (n cnt : Nat) (O T : Nat → Int32) (sm al : Int32) (a bit lf : Int32) (hc : cnt ≤ 16) (hg : gdS S cnt) : fd_I l yX2_solves (ws_ yX2_solves cX2_solves 6 (some .boolean)) rmX2_solves D (yT d) [.ref (g 0), .int a, .int bit, .int lf] (yW g d S V n cnt O T sm al) (fun (r : Int32) (u : Unit) => r = bI (svB S V O cnt a bit lf)) (fun (u : Unit) => yW g d S V n cnt O T sm al) := by
  refine fd_Iof (lv := [(0, .ref (g 0)), (1, .int a), (2, .int bit), (3, .int lf)]) rfl (by decide) (Nat.le_of_ble_eq_true rfl) rfl ?_
  intro p e s m below meth c A ls Q S0 hK hP hD hA hl hret
  obtain ⟨hx, hb, hml, hown, hts⟩ := id S0
  have hS : va_S A s.heap s.heap [] := va_S.rf
  refine lv_iconst (v := nI 0) hx hb dX2_solves_0 (by decide) ?_
  refine lv_istore (lv' := [(4, .int (nI 0)), (0, .ref (g 0)), (1, .int a), (2, .int bit), (3, .int lf)]) hx hb dX2_solves_1 hl (by decide) rfl (fun ls hl => ?_)
  have LP3 : ∀ (Nf3 : Nat) (k : Nat) (H : Heap) (locs : List Loc) (ls : Array Slot), cnt - k < Nf3 → (k ≤ cnt) → (∀ i, i < k → svK S V O a bit lf i = true) → va_P D vwCl (yW g d S V n cnt O T sm al) H → va_D A (yW g d S V n cnt O T sm al) → va_S A s.heap H locs → lv_has ls 6 [(0, .ref (g 0)), (1, .int a), (2, .int bit), (3, .int lf), (4, .int (nI k))] → W p l e rmX2_solves s m ([.ref (g 0), .int a, .int bit, .int lf] : List Value).toArray below meth c H locs 0 0 Q (F0 m 3 ls []) := by
    intro Nf3
    induction Nf3 with
    | zero => intro k H locs ls hmu; exact absurd hmu (Nat.not_lt_zero _)
    | succ Nf3 ih3 =>
      intro k H locs ls hmu3 hk hall hP hD hS hl
      refine lv_iload hx hb dX2_solves_3 (lv_at hl 4 rfl) ?_
      refine lv_aload_n hx hb dX2_solves_5 rfl (lv_at hl 0 rfl) ?_
      refine va_get (D := D) (ci := 1) (v := .int (nI cnt)) (C := RX2) (T := TX2) (N := 8) hx hb hts in_X2 hown hK hP 0 rfl rfl 5 (by decide) (hts _ q197) (fun _ h9 => h9) rfl dX2_solves_6 ?_
      refine lv_icmp_ge (tgt := 67) hx hb dX2_solves_9 (by decide) (fun c9 => ?_) (fun c9 => ?_)
      · have c9 : cnt ≤ k := (nI_leI (a := cnt) (b := k) (by omega) (by omega)).mp c9
        obtain rfl : cnt = k := by omega
        refine lv_iconst (v := (1 : Int32)) hx hb dX2_solves_67 (by decide) ?_
        exact hret (1 : Int32) () _ _ _ _ dX2_solves_68 rfl (by rw [svB, alB_true.mpr hall]; rfl) hP hD hS
      have c9 : ¬ (cnt ≤ k) := fun h => c9 ((nI_leI (a := cnt) (b := k) (by omega) (by omega)).mpr h)
      refine lv_aload_n hx hb dX2_solves_12 rfl (lv_at hl 0 rfl) ?_
      refine va_get (D := D) (ci := 1) (v := .ref (g 2)) (C := RX2) (T := TX2) (N := 8) hx hb hts in_X2 hown hK hP 0 rfl rfl 1 (by decide) (hts _ q193) (fun _ h9 => h9) rfl dX2_solves_13 ?_
      refine lv_iload hx hb dX2_solves_16 (lv_at hl 4 rfl) ?_
      refine fd_iald hx hb hK hP 2 1 rfl rfl (k := k) (by omega) (by decide) dX2_solves_18 ?_
      refine lv_iload_n hx hb dX2_solves_19 rfl (lv_at hl 2 rfl) ?_
      refine lv_ishr hx hb dX2_solves_20 ?_
      refine lv_iconst (v := (1 : Int32)) hx hb dX2_solves_21 (by decide) ?_
      refine lv_iand hx hb dX2_solves_22 ?_
      refine lv_iconst (v := (1 : Int32)) hx hb dX2_solves_23 (by decide) ?_
      refine lv_icmp_ne (tgt := 31) hx hb dX2_solves_24 (by decide) (fun c24 => ?_) (fun c24 => ?_)
      · refine lv_iconst (v := (0 : Int32)) hx hb dX2_solves_31 (by decide) ?_
        refine lv_istore (lv' := [(5, .int (0 : Int32)), (0, .ref (g 0)), (1, .int a), (2, .int bit), (3, .int lf), (4, .int (nI k))]) hx hb dX2_solves_32 hl (by decide) rfl (fun ls hl => ?_)
        refine lv_iload hx hb dX2_solves_34 (lv_at hl 5 rfl) ?_
        refine lv_iload_n hx hb dX2_solves_36 rfl (lv_at hl 4 rfl) ?_
        refine lv_icmp_eq (tgt := 61) hx hb dX2_solves_37 (by decide) (fun c37 => ?_) (fun c37 => ?_)
        · refine lv_iinc (v := nI (k + 1)) (lv' := [(4, .int (nI (k + 1))), (5, .int (0 : Int32)), (0, .ref (g 0)), (1, .int a), (2, .int bit), (3, .int lf)]) hx hb dX2_solves_61 hl (k := 5) rfl (fd_inc _) (by decide) rfl (fun ls hl => ?_)
          refine lv_goto (tgt := 3) hx hb dX2_solves_64 (by decide) ?_
          exact ih3 (k + 1) _ _ _ (by omega) (by omega) (by first | exact lt_s hall (by rw [svK, decide_eq_true c37]; exact Bool.true_or _) | exact lt_s hall (by rw [svK, decide_eq_true (p := O (a &&& S k).toNatClampNeg = dueM V bit k) (by rw [dueM, if_pos c24]; exact c56)]; exact Bool.or_true _) | exact lt_s hall (by rw [svK, decide_eq_true (p := O (a &&& S k).toNatClampNeg = dueM V bit k) (by rw [dueM, if_neg c24]; exact c56)]; exact Bool.or_true _)) hP hD hS (lv_sub hl [2, 3, 4, 5, 0] rfl)
        refine lv_aload_n hx hb dX2_solves_40 rfl (lv_at hl 1 rfl) ?_
        refine va_get (D := D) (ci := 1) (v := .ref (g 3)) (C := RX2) (T := TX2) (N := 8) hx hb hts in_X2 hown hK hP 0 rfl rfl 2 (by decide) (hts _ q194) (fun _ h9 => h9) rfl dX2_solves_41 ?_
        refine lv_iload_n hx hb dX2_solves_44 rfl (lv_at hl 2 rfl) ?_
        refine lv_aload_n hx hb dX2_solves_45 rfl (lv_at hl 1 rfl) ?_
        refine va_get (D := D) (ci := 1) (v := .ref (g 1)) (C := RX2) (T := TX2) (N := 8) hx hb hts in_X2 hown hK hP 0 rfl rfl 0 (by decide) (hts _ q192) (fun _ h9 => h9) rfl dX2_solves_46 ?_
        refine lv_iload hx hb dX2_solves_49 (lv_at hl 5 rfl) ?_
        refine fd_iald hx hb hK hP 1 0 rfl rfl (k := k) (by omega) (by decide) dX2_solves_51 ?_
        refine lv_iand hx hb dX2_solves_52 ?_
        refine va_zald hx hb hK hP 3 2 rfl rfl (by obtain ⟨v, hv, ev⟩ := hg k (by omega); exact fd_in hv ev) dX2_solves_53 ?_
        refine lv_iload hx hb dX2_solves_54 (lv_at hl 0 rfl) ?_
        refine lv_icmp_eq (tgt := 61) hx hb dX2_solves_56 (by decide) (fun c56 => ?_) (fun c56 => ?_)
        · refine lv_iinc (v := nI (k + 1)) (lv' := [(4, .int (nI (k + 1))), (5, .int (0 : Int32)), (0, .ref (g 0)), (1, .int a), (2, .int bit), (3, .int lf)]) hx hb dX2_solves_61 hl (k := 5) rfl (fd_inc _) (by decide) rfl (fun ls hl => ?_)
          refine lv_goto (tgt := 3) hx hb dX2_solves_64 (by decide) ?_
          exact ih3 (k + 1) _ _ _ (by omega) (by omega) (by first | exact lt_s hall (by rw [svK, decide_eq_true c37]; exact Bool.true_or _) | exact lt_s hall (by rw [svK, decide_eq_true (p := O (a &&& S k).toNatClampNeg = dueM V bit k) (by rw [dueM, if_pos c24]; exact c56)]; exact Bool.or_true _) | exact lt_s hall (by rw [svK, decide_eq_true (p := O (a &&& S k).toNatClampNeg = dueM V bit k) (by rw [dueM, if_neg c24]; exact c56)]; exact Bool.or_true _)) hP hD hS (lv_sub hl [2, 3, 4, 5, 0] rfl)
        refine lv_iconst (v := (0 : Int32)) hx hb dX2_solves_59 (by decide) ?_
        exact hret (0 : Int32) () _ _ _ _ dX2_solves_60 rfl (by first | (rw [svB, alB_false (f := svK S V O a bit lf) (k := k) (by rw [svK, decide_eq_false c37, decide_eq_false (p := O (a &&& S k).toNatClampNeg = dueM V bit k) (by rw [dueM, if_pos c24]; exact c56)]; rfl) cnt (by omega)]; rfl) | (rw [svB, alB_false (f := svK S V O a bit lf) (k := k) (by rw [svK, decide_eq_false c37, decide_eq_false (p := O (a &&& S k).toNatClampNeg = dueM V bit k) (by rw [dueM, if_neg c24]; exact c56)]; rfl) cnt (by omega)]; rfl)) hP hD hS
      refine lv_iconst (v := (1 : Int32)) hx hb dX2_solves_27 (by decide) ?_
      refine lv_goto (tgt := 32) hx hb dX2_solves_28 (by decide) ?_
      refine lv_istore (lv' := [(5, .int (1 : Int32)), (0, .ref (g 0)), (1, .int a), (2, .int bit), (3, .int lf), (4, .int (nI k))]) hx hb dX2_solves_32 hl (by decide) rfl (fun ls hl => ?_)
      refine lv_iload hx hb dX2_solves_34 (lv_at hl 5 rfl) ?_
      refine lv_iload_n hx hb dX2_solves_36 rfl (lv_at hl 4 rfl) ?_
      refine lv_icmp_eq (tgt := 61) hx hb dX2_solves_37 (by decide) (fun c37 => ?_) (fun c37 => ?_)
      · refine lv_iinc (v := nI (k + 1)) (lv' := [(4, .int (nI (k + 1))), (5, .int (1 : Int32)), (0, .ref (g 0)), (1, .int a), (2, .int bit), (3, .int lf)]) hx hb dX2_solves_61 hl (k := 5) rfl (fd_inc _) (by decide) rfl (fun ls hl => ?_)
        refine lv_goto (tgt := 3) hx hb dX2_solves_64 (by decide) ?_
        exact ih3 (k + 1) _ _ _ (by omega) (by omega) (by first | exact lt_s hall (by rw [svK, decide_eq_true c37]; exact Bool.true_or _) | exact lt_s hall (by rw [svK, decide_eq_true (p := O (a &&& S k).toNatClampNeg = dueM V bit k) (by rw [dueM, if_pos c24]; exact c56)]; exact Bool.or_true _) | exact lt_s hall (by rw [svK, decide_eq_true (p := O (a &&& S k).toNatClampNeg = dueM V bit k) (by rw [dueM, if_neg c24]; exact c56)]; exact Bool.or_true _)) hP hD hS (lv_sub hl [2, 3, 4, 5, 0] rfl)
      refine lv_aload_n hx hb dX2_solves_40 rfl (lv_at hl 1 rfl) ?_
      refine va_get (D := D) (ci := 1) (v := .ref (g 3)) (C := RX2) (T := TX2) (N := 8) hx hb hts in_X2 hown hK hP 0 rfl rfl 2 (by decide) (hts _ q194) (fun _ h9 => h9) rfl dX2_solves_41 ?_
      refine lv_iload_n hx hb dX2_solves_44 rfl (lv_at hl 2 rfl) ?_
      refine lv_aload_n hx hb dX2_solves_45 rfl (lv_at hl 1 rfl) ?_
      refine va_get (D := D) (ci := 1) (v := .ref (g 1)) (C := RX2) (T := TX2) (N := 8) hx hb hts in_X2 hown hK hP 0 rfl rfl 0 (by decide) (hts _ q192) (fun _ h9 => h9) rfl dX2_solves_46 ?_
      refine lv_iload hx hb dX2_solves_49 (lv_at hl 5 rfl) ?_
      refine fd_iald hx hb hK hP 1 0 rfl rfl (k := k) (by omega) (by decide) dX2_solves_51 ?_
      refine lv_iand hx hb dX2_solves_52 ?_
      refine va_zald hx hb hK hP 3 2 rfl rfl (by obtain ⟨v, hv, ev⟩ := hg k (by omega); exact fd_in hv ev) dX2_solves_53 ?_
      refine lv_iload hx hb dX2_solves_54 (lv_at hl 0 rfl) ?_
      refine lv_icmp_eq (tgt := 61) hx hb dX2_solves_56 (by decide) (fun c56 => ?_) (fun c56 => ?_)
      · refine lv_iinc (v := nI (k + 1)) (lv' := [(4, .int (nI (k + 1))), (5, .int (1 : Int32)), (0, .ref (g 0)), (1, .int a), (2, .int bit), (3, .int lf)]) hx hb dX2_solves_61 hl (k := 5) rfl (fd_inc _) (by decide) rfl (fun ls hl => ?_)
        refine lv_goto (tgt := 3) hx hb dX2_solves_64 (by decide) ?_
        exact ih3 (k + 1) _ _ _ (by omega) (by omega) (by first | exact lt_s hall (by rw [svK, decide_eq_true c37]; exact Bool.true_or _) | exact lt_s hall (by rw [svK, decide_eq_true (p := O (a &&& S k).toNatClampNeg = dueM V bit k) (by rw [dueM, if_pos c24]; exact c56)]; exact Bool.or_true _) | exact lt_s hall (by rw [svK, decide_eq_true (p := O (a &&& S k).toNatClampNeg = dueM V bit k) (by rw [dueM, if_neg c24]; exact c56)]; exact Bool.or_true _)) hP hD hS (lv_sub hl [2, 3, 4, 5, 0] rfl)
      refine lv_iconst (v := (0 : Int32)) hx hb dX2_solves_59 (by decide) ?_
      exact hret (0 : Int32) () _ _ _ _ dX2_solves_60 rfl (by first | (rw [svB, alB_false (f := svK S V O a bit lf) (k := k) (by rw [svK, decide_eq_false c37, decide_eq_false (p := O (a &&& S k).toNatClampNeg = dueM V bit k) (by rw [dueM, if_pos c24]; exact c56)]; rfl) cnt (by omega)]; rfl) | (rw [svB, alB_false (f := svK S V O a bit lf) (k := k) (by rw [svK, decide_eq_false c37, decide_eq_false (p := O (a &&& S k).toNatClampNeg = dueM V bit k) (by rw [dueM, if_neg c24]; exact c56)]; rfl) cnt (by omega)]; rfl)) hP hD hS
  exact LP3 _ 0 _ _ _ (Nat.lt_succ_self _) (by omega) lt_0 hP hD hS (lv_sub hl [1, 2, 3, 4, 0] rfl)
abbrev rmX2_solve : Room := { frames := 1, cells := 0, slots := 0, locals := 25 }
set_option maxHeartbeats 4000000 in
set_option maxRecDepth 100000 in
theorem metX2_solve (l : Launch) (D : va_G) (g : Nat → Nat) (d : Nat → ClassId) (S V : Nat → Int32) (n cnt : Nat) (O T : Nat → Int32) (sm al : Int32) (bit lf : Int32) (hn8 : n ≤ 8) (hc : cnt ≤ 16) (hg : gdS S cnt) : fd_I l yX2_solve (ws_ yX2_solve cX2_solve 5 (some .boolean)) rmX2_solve D (yT d) [.ref (g 0), .int bit, .int lf] (yW g d S V n cnt O T sm al) (fun (r : Int32) (u : Unit) => r = bI (slM S V O n cnt bit lf (2 ^ n)).1) (fun (u : Unit) => yW g d S V n cnt O T ((slM S V O n cnt bit lf (2 ^ n)).2.1) ((slM S V O n cnt bit lf (2 ^ n)).2.2)) := by
  refine fd_Iof (lv := [(0, .ref (g 0)), (1, .int bit), (2, .int lf)]) rfl (by decide) (Nat.le_of_ble_eq_true rfl) rfl ?_
  intro p e s m below meth c A ls Q S0 hK hP hD hA hl hret
  obtain ⟨hx, hb, hml, hown, hts⟩ := id S0
  have hS : va_S A s.heap s.heap [] := va_S.rf
  obtain ⟨hp1, hp2⟩ := fd_p1 hn8
  refine lv_iconst (v := (0 : Int32)) hx hb dX2_solve_0 (by decide) ?_
  refine lv_istore_n (lv' := [(3, .int (0 : Int32)), (0, .ref (g 0)), (1, .int bit), (2, .int lf)]) hx hb dX2_solve_1 rfl hl (by decide) rfl (fun ls hl => ?_)
  refine lv_aload_n hx hb dX2_solve_2 rfl (lv_at hl 1 rfl) ?_
  refine lv_iconst (v := (0 : Int32)) hx hb dX2_solve_3 (by decide) ?_
  refine va_put (D := D) (ci := 1) (v := .int (0 : Int32)) (ty := .int) (C := RX2) (T := TX2) (N := 8) hx hb hts in_X2 tyX2 tyX2_ok nmX2 hown hK hP hD hS 0 rfl rfl 6 (by decide) (hts _ q198) (fun _ h9 => h9) rfl (by decide +kernel) rfl rfl (Nat.le_of_ble_eq_true rfl) dX2_solve_4 (fun H locs hP hD hS => ?_)
  have hP : va_P D vwCl (yW g d S V n cnt O T (0 : Int32) al) H := hP
  have hD : va_D A (yW g d S V n cnt O T (0 : Int32) al) := hD
  refine lv_aload_n hx hb dX2_solve_7 rfl (lv_at hl 1 rfl) ?_
  refine lv_iconst (v := (1 : Int32)) hx hb dX2_solve_8 (by decide) ?_
  refine lv_aload_n hx hb dX2_solve_9 rfl (lv_at hl 1 rfl) ?_
  refine va_get (D := D) (ci := 1) (v := .int (nI n)) (C := RX2) (T := TX2) (N := 8) hx hb hts in_X2 hown hK hP 0 rfl rfl 4 (by decide) (hts _ q196) (fun _ h9 => h9) rfl dX2_solve_10 ?_
  refine lv_ishl hx hb dX2_solve_13 ?_
  refine fd_as (show ((1 : Int32) <<< ((nI n) &&& 31)) = nI (2 ^ n) from fd_pw hn8) ?_
  refine lv_iconst (v := (1 : Int32)) hx hb dX2_solve_14 (by decide) ?_
  refine lv_isub hx hb dX2_solve_15 ?_
  refine fd_as (show ((nI (2 ^ n)) - (1 : Int32)) = nI (2 ^ n - 1) from fd_pred (fd_p1 hn8).1) ?_
  refine va_put (D := D) (ci := 1) (v := .int (nI (2 ^ n - 1))) (ty := .int) (C := RX2) (T := TX2) (N := 8) hx hb hts in_X2 tyX2 tyX2_ok nmX2 hown hK hP hD hS 0 rfl rfl 7 (by decide) (hts _ q199) (fun _ h9 => h9) rfl (by decide +kernel) rfl rfl (Nat.le_of_ble_eq_true rfl) dX2_solve_16 (fun H locs hP hD hS => ?_)
  have hP : va_P D vwCl (yW g d S V n cnt O T (0 : Int32) (nI (2 ^ n - 1))) H := hP
  have hD : va_D A (yW g d S V n cnt O T (0 : Int32) (nI (2 ^ n - 1))) := hD
  refine lv_iconst (v := nI 0) hx hb dX2_solve_19 (by decide) ?_
  refine lv_istore (lv' := [(4, .int (nI 0)), (3, .int (0 : Int32)), (0, .ref (g 0)), (1, .int bit), (2, .int lf)]) hx hb dX2_solve_20 hl (by decide) rfl (fun ls hl => ?_)
  have LP22 : ∀ (Nf22 : Nat) (k : Nat) (x3 : Int32) (xs : Int32) (xa : Int32) (H : Heap) (locs : List Loc) (ls : Array Slot), 2 ^ n - k < Nf22 → (k ≤ 2 ^ n) → x3 = bI (slM S V O n cnt bit lf k).1 → xs = (slM S V O n cnt bit lf k).2.1 → xa = (slM S V O n cnt bit lf k).2.2 → va_P D vwCl (yW g d S V n cnt O T xs xa) H → va_D A (yW g d S V n cnt O T xs xa) → va_S A s.heap H locs → lv_has ls 5 [(0, .ref (g 0)), (1, .int bit), (2, .int lf), (3, .int x3), (4, .int (nI k))] → W p l e rmX2_solve s m ([.ref (g 0), .int bit, .int lf] : List Value).toArray below meth c H locs 0 0 Q (F0 m 22 ls []) := by
    intro Nf22
    induction Nf22 with
    | zero => intro k x3 xs xa H locs ls hmu; exact absurd hmu (Nat.not_lt_zero _)
    | succ Nf22 ih22 =>
      intro k x3 xs xa H locs ls hmu22 hc22_0 ex3 exs exa hP hD hS hl
      subst ex3
      subst exs
      subst exa
      refine lv_iload hx hb dX2_solve_22 (lv_at hl 4 rfl) ?_
      refine lv_iconst (v := (1 : Int32)) hx hb dX2_solve_24 (by decide) ?_
      refine lv_aload_n hx hb dX2_solve_25 rfl (lv_at hl 0 rfl) ?_
      refine va_get (D := D) (ci := 1) (v := .int (nI n)) (C := RX2) (T := TX2) (N := 8) hx hb hts in_X2 hown hK hP 0 rfl rfl 4 (by decide) (hts _ q196) (fun _ h9 => h9) rfl dX2_solve_26 ?_
      refine lv_ishl hx hb dX2_solve_29 ?_
      refine fd_as (show ((1 : Int32) <<< ((nI n) &&& 31)) = nI (2 ^ n) from fd_pw hn8) ?_
      refine lv_icmp_ge (tgt := 74) hx hb dX2_solve_30 (by decide) (fun c30 => ?_) (fun c30 => ?_)
      · have c30 : (2 ^ n) ≤ k := (nI_leI (a := (2 ^ n)) (b := k) (by omega) (by omega)).mp c30
        obtain rfl : 2 ^ n = k := by omega
        refine lv_iload_n hx hb dX2_solve_74 rfl (lv_at hl 3 rfl) ?_
        exact hret (bI (slM S V O n cnt bit lf (2 ^ n)).1) () _ _ _ _ dX2_solve_75 (fd_nar _) rfl hP hD hS
      have c30 : ¬ ((2 ^ n) ≤ k) := fun h => c30 ((nI_leI (a := (2 ^ n)) (b := k) (by omega) (by omega)).mpr h)
      refine lv_aload_n hx hb dX2_solve_33 rfl (lv_at hl 0 rfl) ?_
      refine lv_iload hx hb dX2_solve_34 (lv_at hl 4 rfl) ?_
      refine lv_iload_n hx hb dX2_solve_36 rfl (lv_at hl 1 rfl) ?_
      refine lv_iload_n hx hb dX2_solve_37 rfl (lv_at hl 2 rfl) ?_
      refine fd_callVi (n := 3) (rest := []) (As := [.int (nI k), .int bit, .int lf]) (wr := []) S0 hK hP hD hS hA [0, 1, 2, 3, 4] [] [0, 1, 2, 3] (metX2_solves l D g d S V n cnt O T ((slM S V O n cnt bit lf k).2.1) ((slM S V O n cnt bit lf k).2.2) (nI k) bit lf hc hg) q260 q262 qs14 q22 q263 dX2_solve_38 rfl rfl rfl rfl ⟨⟨rfl, rfl⟩, Nat.le_of_ble_eq_true rfl, Nat.le_of_ble_eq_true rfl⟩ (by decide +kernel) rfl rfl (q0 := 0) rfl rfl hl.1 rfl (Nat.le_of_ble_eq_true rfl) ⟨Nat.le_of_ble_eq_true rfl, Nat.le_of_ble_eq_true rfl⟩ (fun r38 u38 H locs hq38 hP hD hS => ?_)
      subst hq38
      have hP : va_P D vwCl (yW g d S V n cnt O T ((slM S V O n cnt bit lf k).2.1) ((slM S V O n cnt bit lf k).2.2)) H := hP
      have hD : va_D A (yW g d S V n cnt O T ((slM S V O n cnt bit lf k).2.1) ((slM S V O n cnt bit lf k).2.2)) := hD
      refine lv_if_eq (tgt := 68) hx hb dX2_solve_41 (by decide) (fun c41 => ?_) (fun c41 => ?_)
      · have c41 := bI_0.mp c41
        refine lv_iinc (v := nI (k + 1)) (lv' := [(4, .int (nI (k + 1))), (0, .ref (g 0)), (1, .int bit), (2, .int lf), (3, .int (bI (slM S V O n cnt bit lf k).1))]) hx hb dX2_solve_68 hl (k := 4) rfl (fd_inc _) (by decide) rfl (fun ls hl => ?_)
        refine lv_goto (tgt := 22) hx hb dX2_solve_71 (by decide) ?_
        exact ih22 (k + 1) (bI (slM S V O n cnt bit lf k).1) ((slM S V O n cnt bit lf k).2.1) ((slM S V O n cnt bit lf k).2.2) _ _ _ (by omega) (by omega) (by first | (rw [slM, if_pos c41]; done) | (rw [slM, if_pos c41]; rfl) | (rw [slM, if_neg (by rw [c41]; decide)]; done) | (rw [slM, if_neg (by rw [c41]; decide)]; rfl)) (by first | (rw [slM, if_pos c41]; done) | (rw [slM, if_pos c41]; rfl) | (rw [slM, if_neg (by rw [c41]; decide)]; done) | (rw [slM, if_neg (by rw [c41]; decide)]; rfl)) (by first | (rw [slM, if_pos c41]; done) | (rw [slM, if_pos c41]; rfl) | (rw [slM, if_neg (by rw [c41]; decide)]; done) | (rw [slM, if_neg (by rw [c41]; decide)]; rfl)) hP hD hS (lv_sub hl [1, 2, 3, 4, 0] rfl)
      have c41 := bI_n0.mp c41
      refine lv_iconst (v := (1 : Int32)) hx hb dX2_solve_44 (by decide) ?_
      refine lv_istore_n (lv' := [(3, .int (1 : Int32)), (0, .ref (g 0)), (1, .int bit), (2, .int lf), (4, .int (nI k))]) hx hb dX2_solve_45 rfl hl (by decide) rfl (fun ls hl => ?_)
      refine lv_aload_n hx hb dX2_solve_46 rfl (lv_at hl 1 rfl) ?_
      refine lv_aload_n hx hb dX2_solve_47 rfl (lv_at hl 1 rfl) ?_
      refine va_get (D := D) (ci := 1) (v := .int ((slM S V O n cnt bit lf k).2.1)) (C := RX2) (T := TX2) (N := 8) hx hb hts in_X2 hown hK hP 0 rfl rfl 6 (by decide) (hts _ q198) (fun _ h9 => h9) rfl dX2_solve_48 ?_
      refine lv_iload hx hb dX2_solve_51 (lv_at hl 4 rfl) ?_
      refine lv_ior hx hb dX2_solve_53 ?_
      refine va_put (D := D) (ci := 1) (v := .int (((slM S V O n cnt bit lf k).2.1) ||| (nI k))) (ty := .int) (C := RX2) (T := TX2) (N := 8) hx hb hts in_X2 tyX2 tyX2_ok nmX2 hown hK hP hD hS 0 rfl rfl 6 (by decide) (hts _ q198) (fun _ h9 => h9) rfl (by decide +kernel) rfl rfl (Nat.le_of_ble_eq_true rfl) dX2_solve_54 (fun H locs hP hD hS => ?_)
      have hP : va_P D vwCl (yW g d S V n cnt O T (((slM S V O n cnt bit lf k).2.1) ||| (nI k)) ((slM S V O n cnt bit lf k).2.2)) H := hP
      have hD : va_D A (yW g d S V n cnt O T (((slM S V O n cnt bit lf k).2.1) ||| (nI k)) ((slM S V O n cnt bit lf k).2.2)) := hD
      refine lv_aload_n hx hb dX2_solve_57 rfl (lv_at hl 1 rfl) ?_
      refine lv_aload_n hx hb dX2_solve_58 rfl (lv_at hl 1 rfl) ?_
      refine va_get (D := D) (ci := 1) (v := .int ((slM S V O n cnt bit lf k).2.2)) (C := RX2) (T := TX2) (N := 8) hx hb hts in_X2 hown hK hP 0 rfl rfl 7 (by decide) (hts _ q199) (fun _ h9 => h9) rfl dX2_solve_59 ?_
      refine lv_iload hx hb dX2_solve_62 (lv_at hl 4 rfl) ?_
      refine lv_iand hx hb dX2_solve_64 ?_
      refine va_put (D := D) (ci := 1) (v := .int (((slM S V O n cnt bit lf k).2.2) &&& (nI k))) (ty := .int) (C := RX2) (T := TX2) (N := 8) hx hb hts in_X2 tyX2 tyX2_ok nmX2 hown hK hP hD hS 0 rfl rfl 7 (by decide) (hts _ q199) (fun _ h9 => h9) rfl (by decide +kernel) rfl rfl (Nat.le_of_ble_eq_true rfl) dX2_solve_65 (fun H locs hP hD hS => ?_)
      have hP : va_P D vwCl (yW g d S V n cnt O T (((slM S V O n cnt bit lf k).2.1) ||| (nI k)) (((slM S V O n cnt bit lf k).2.2) &&& (nI k))) H := hP
      have hD : va_D A (yW g d S V n cnt O T (((slM S V O n cnt bit lf k).2.1) ||| (nI k)) (((slM S V O n cnt bit lf k).2.2) &&& (nI k))) := hD
      refine lv_iinc (v := nI (k + 1)) (lv' := [(4, .int (nI (k + 1))), (3, .int (1 : Int32)), (0, .ref (g 0)), (1, .int bit), (2, .int lf)]) hx hb dX2_solve_68 hl (k := 4) rfl (fd_inc _) (by decide) rfl (fun ls hl => ?_)
      refine lv_goto (tgt := 22) hx hb dX2_solve_71 (by decide) ?_
      exact ih22 (k + 1) (1 : Int32) (((slM S V O n cnt bit lf k).2.1) ||| (nI k)) (((slM S V O n cnt bit lf k).2.2) &&& (nI k)) _ _ _ (by omega) (by omega) (by first | (rw [slM, if_pos c41]; done) | (rw [slM, if_pos c41]; rfl) | (rw [slM, if_neg (by rw [c41]; decide)]; done) | (rw [slM, if_neg (by rw [c41]; decide)]; rfl)) (by first | (rw [slM, if_pos c41]; done) | (rw [slM, if_pos c41]; rfl) | (rw [slM, if_neg (by rw [c41]; decide)]; done) | (rw [slM, if_neg (by rw [c41]; decide)]; rfl)) (by first | (rw [slM, if_pos c41]; done) | (rw [slM, if_pos c41]; rfl) | (rw [slM, if_neg (by rw [c41]; decide)]; done) | (rw [slM, if_neg (by rw [c41]; decide)]; rfl)) hP hD hS (lv_sub hl [2, 3, 4, 1, 0] rfl)
  exact LP22 _ 0 (0 : Int32) (0 : Int32) (nI (2 ^ n - 1)) _ _ _ (Nat.lt_succ_self _) (by omega) rfl rfl rfl hP hD hS (lv_sub hl [2, 3, 4, 1, 0] rfl)
abbrev rmX2_consistent : Room := { frames := 2, cells := 0, slots := 0, locals := 49 }
set_option maxHeartbeats 4000000 in
set_option maxRecDepth 100000 in
theorem metX2_consistent (l : Launch) (D : va_G) (g : Nat → Nat) (d : Nat → ClassId) (S V : Nat → Int32) (n cnt : Nat) (O T : Nat → Int32) (sm al : Int32)  (hn8 : n ≤ 8) (hc : cnt ≤ 16) (hg : gdS S cnt) : fd_I l yX2_consistent (ws_ yX2_consistent cX2_consistent 2 (some .int)) rmX2_consistent D (yT d) [.ref (g 0)] (yW g d S V n cnt O T sm al) (fun (r : Int32) (u : Int32 × Int32) => r = c2M S V O n cnt) (fun (u : Int32 × Int32) => yW g d S V n cnt O T u.1 u.2) := by
  refine fd_Iof (lv := [(0, .ref (g 0))]) rfl (by decide) (Nat.le_of_ble_eq_true rfl) rfl ?_
  intro p e s m below meth c A ls Q S0 hK hP hD hA hl hret
  obtain ⟨hx, hb, hml, hown, hts⟩ := id S0
  have hS : va_S A s.heap s.heap [] := va_S.rf
  refine lv_iconst (v := nI 0) hx hb dX2_consistent_0 (by decide) ?_
  refine lv_istore_n (lv' := [(1, .int (nI 0)), (0, .ref (g 0))]) hx hb dX2_consistent_1 rfl hl (by decide) rfl (fun ls hl => ?_)
  have LP2 : ∀ (Nf2 : Nat) (k : Nat) (xs : Int32) (xa : Int32) (H : Heap) (locs : List Loc) (ls : Array Slot), 8 - k < Nf2 → (k ≤ 8) → (∀ i, i < k → (slA S V O n cnt (-1) i).1 = true) → va_P D vwCl (yW g d S V n cnt O T xs xa) H → va_D A (yW g d S V n cnt O T xs xa) → va_S A s.heap H locs → lv_has ls 2 [(0, .ref (g 0)), (1, .int (nI k))] → W p l e rmX2_consistent s m ([.ref (g 0)] : List Value).toArray below meth c H locs 0 0 Q (F0 m 2 ls []) := by
    intro Nf2
    induction Nf2 with
    | zero => intro k xs xa H locs ls hmu; exact absurd hmu (Nat.not_lt_zero _)
    | succ Nf2 ih2 =>
      intro k xs xa H locs ls hmu2 hk hall hP hD hS hl
      refine lv_iload_n hx hb dX2_consistent_2 rfl (lv_at hl 1 rfl) ?_
      refine lv_bipush (v := nI 8) hx hb dX2_consistent_3 (by decide) ?_
      refine lv_icmp_ge (tgt := 25) hx hb dX2_consistent_5 (by decide) (fun c5 => ?_) (fun c5 => ?_)
      · have c5 : 8 ≤ k := (nI_leI (a := 8) (b := k) (by omega) (by omega)).mp c5
        obtain rfl : 8 = k := by omega
        refine lv_iconst (v := (1 : Int32)) hx hb dX2_consistent_25 (by decide) ?_
        exact hret (1 : Int32) (xs, xa) _ _ _ _ dX2_consistent_26 rfl (by rw [c2M, alB_true.mpr hall]; rfl) hP hD hS
      have c5 : ¬ (8 ≤ k) := fun h => c5 ((nI_leI (a := 8) (b := k) (by omega) (by omega)).mpr h)
      refine lv_aload_n hx hb dX2_consistent_8 rfl (lv_at hl 0 rfl) ?_
      refine lv_iload_n hx hb dX2_consistent_9 rfl (lv_at hl 1 rfl) ?_
      refine lv_iconst (v := (-1 : Int32)) hx hb dX2_consistent_10 (by decide) ?_
      refine fd_callVi (n := 2) (rest := []) (As := [.int (nI k), .int (-1 : Int32)]) (wr := []) S0 hK hP hD hS hA [0, 1, 2, 3, 4] [] [0, 1, 2, 3] (metX2_solve l D g d S V n cnt O T xs xa (nI k) (-1 : Int32) hn8 hc hg) q256 q258 qs13 q22 q259 dX2_consistent_11 rfl rfl rfl rfl ⟨⟨rfl, rfl⟩, Nat.le_of_ble_eq_true rfl, Nat.le_of_ble_eq_true rfl⟩ (by decide +kernel) rfl rfl (q0 := 0) rfl rfl hl.1 rfl (Nat.le_of_ble_eq_true rfl) ⟨Nat.le_of_ble_eq_true rfl, Nat.le_of_ble_eq_true rfl⟩ (fun r11 u11 H locs hq11 hP hD hS => ?_)
      subst hq11
      have hP : va_P D vwCl (yW g d S V n cnt O T ((slM S V O n cnt (nI k) (-1 : Int32) (2 ^ n)).2.1) ((slM S V O n cnt (nI k) (-1 : Int32) (2 ^ n)).2.2)) H := hP
      have hD : va_D A (yW g d S V n cnt O T ((slM S V O n cnt (nI k) (-1 : Int32) (2 ^ n)).2.1) ((slM S V O n cnt (nI k) (-1 : Int32) (2 ^ n)).2.2)) := hD
      refine lv_if_ne (tgt := 19) hx hb dX2_consistent_14 (by decide) (fun c14 => ?_) (fun c14 => ?_)
      · refine lv_iinc (v := nI (k + 1)) (lv' := [(1, .int (nI (k + 1))), (0, .ref (g 0))]) hx hb dX2_consistent_19 hl (k := 1) rfl (fd_inc _) (by decide) rfl (fun ls hl => ?_)
        refine lv_goto (tgt := 2) hx hb dX2_consistent_22 (by decide) ?_
        exact ih2 (k + 1) ((slM S V O n cnt (nI k) (-1 : Int32) (2 ^ n)).2.1) ((slM S V O n cnt (nI k) (-1 : Int32) (2 ^ n)).2.2) _ _ _ (by omega) (by omega) (lt_s hall (bI_n0.mp c14)) hP hD hS (lv_sub hl [1, 0] rfl)
      refine lv_iconst (v := (0 : Int32)) hx hb dX2_consistent_17 (by decide) ?_
      exact hret (0 : Int32) ((slM S V O n cnt (nI k) (-1 : Int32) (2 ^ n)).2.1, (slM S V O n cnt (nI k) (-1 : Int32) (2 ^ n)).2.2) _ _ _ _ dX2_consistent_18 rfl (by rw [c2M, alB_false (f := fun b => (slA S V O n cnt (-1) b).1) (k := k) (bI_0.mp c14) 8 (by omega)]; rfl) hP hD hS
  exact LP2 _ 0 sm al _ _ _ (Nat.lt_succ_self _) (by omega) lt_0 hP hD hS (lv_sub hl [1, 0] rfl)
abbrev rmX2_knownWithout : Room := { frames := 2, cells := 0, slots := 0, locals := 49 }
set_option maxHeartbeats 4000000 in
set_option maxRecDepth 100000 in
theorem metX2_knownWithout (l : Launch) (D : va_G) (g : Nat → Nat) (d : Nat → ClassId) (S V : Nat → Int32) (n cnt : Nat) (O T : Nat → Int32) (sm al : Int32) (lf : Int32) (hn8 : n ≤ 8) (hc : cnt ≤ 16) (hg : gdS S cnt) : fd_I l yX2_knownWithout (ws_ yX2_knownWithout cX2_knownWithout 4 (some .int)) rmX2_knownWithout D (yT d) [.ref (g 0), .int lf] (yW g d S V n cnt O T sm al) (fun (r : Int32) (u : Int32 × Int32) => r = kwM S V O n cnt lf) (fun (u : Int32 × Int32) => yW g d S V n cnt O T u.1 u.2) := by
  refine fd_Iof (lv := [(0, .ref (g 0)), (1, .int lf)]) rfl (by decide) (Nat.le_of_ble_eq_true rfl) rfl ?_
  intro p e s m below meth c A ls Q S0 hK hP hD hA hl hret
  obtain ⟨hx, hb, hml, hown, hts⟩ := id S0
  have hS : va_S A s.heap s.heap [] := va_S.rf
  refine lv_iconst (v := (0 : Int32)) hx hb dX2_knownWithout_0 (by decide) ?_
  refine lv_istore_n (lv' := [(2, .int (0 : Int32)), (0, .ref (g 0)), (1, .int lf)]) hx hb dX2_knownWithout_1 rfl hl (by decide) rfl (fun ls hl => ?_)
  refine lv_iconst (v := nI 0) hx hb dX2_knownWithout_2 (by decide) ?_
  refine lv_istore_n (lv' := [(3, .int (nI 0)), (2, .int (0 : Int32)), (0, .ref (g 0)), (1, .int lf)]) hx hb dX2_knownWithout_3 rfl hl (by decide) rfl (fun ls hl => ?_)
  have LP4 : ∀ (Nf4 : Nat) (k : Nat) (x2 : Int32) (xs : Int32) (xa : Int32) (H : Heap) (locs : List Loc) (ls : Array Slot), 8 - k < Nf4 → (k ≤ 8) → (∀ i, i < k → (slA S V O n cnt lf i).1 = true) → x2 = kwO S V O n cnt lf k → va_P D vwCl (yW g d S V n cnt O T xs xa) H → va_D A (yW g d S V n cnt O T xs xa) → va_S A s.heap H locs → lv_has ls 4 [(0, .ref (g 0)), (1, .int lf), (2, .int x2), (3, .int (nI k))] → W p l e rmX2_knownWithout s m ([.ref (g 0), .int lf] : List Value).toArray below meth c H locs 0 0 Q (F0 m 4 ls []) := by
    intro Nf4
    induction Nf4 with
    | zero => intro k x2 xs xa H locs ls hmu; exact absurd hmu (Nat.not_lt_zero _)
    | succ Nf4 ih4 =>
      intro k x2 xs xa H locs ls hmu4 hk hall ex2 hP hD hS hl
      subst ex2
      refine lv_iload_n hx hb dX2_knownWithout_4 rfl (lv_at hl 3 rfl) ?_
      refine lv_bipush (v := nI 8) hx hb dX2_knownWithout_5 (by decide) ?_
      refine lv_icmp_ge (tgt := 39) hx hb dX2_knownWithout_7 (by decide) (fun c7 => ?_) (fun c7 => ?_)
      · have c7 : 8 ≤ k := (nI_leI (a := 8) (b := k) (by omega) (by omega)).mp c7
        obtain rfl : 8 = k := by omega
        refine lv_iconst (v := (1 : Int32)) hx hb dX2_knownWithout_39 (by decide) ?_
        refine lv_aload_n hx hb dX2_knownWithout_40 rfl (lv_at hl 0 rfl) ?_
        refine va_get (D := D) (ci := 1) (v := .int (nI n)) (C := RX2) (T := TX2) (N := 8) hx hb hts in_X2 hown hK hP 0 rfl rfl 4 (by decide) (hts _ q196) (fun _ h9 => h9) rfl dX2_knownWithout_41 ?_
        refine lv_ishl hx hb dX2_knownWithout_44 ?_
        refine fd_as (show ((1 : Int32) <<< ((nI n) &&& 31)) = nI (2 ^ n) from fd_pw hn8) ?_
        refine lv_iconst (v := (1 : Int32)) hx hb dX2_knownWithout_45 (by decide) ?_
        refine lv_isub hx hb dX2_knownWithout_46 ?_
        refine fd_as (show ((nI (2 ^ n)) - (1 : Int32)) = nI (2 ^ n - 1) from fd_pred (fd_p1 hn8).1) ?_
        refine lv_iload_n hx hb dX2_knownWithout_47 rfl (lv_at hl 2 rfl) ?_
        refine lv_isub hx hb dX2_knownWithout_48 ?_
        exact hret ((nI (2 ^ n - 1)) - (kwO S V O n cnt lf 8)) (xs, xa) _ _ _ _ dX2_knownWithout_49 rfl (by rw [kwM, if_pos (alB_true.mpr hall)]) hP hD hS
      have c7 : ¬ (8 ≤ k) := fun h => c7 ((nI_leI (a := 8) (b := k) (by omega) (by omega)).mpr h)
      refine lv_aload_n hx hb dX2_knownWithout_10 rfl (lv_at hl 0 rfl) ?_
      refine lv_iload_n hx hb dX2_knownWithout_11 rfl (lv_at hl 3 rfl) ?_
      refine lv_iload_n hx hb dX2_knownWithout_12 rfl (lv_at hl 1 rfl) ?_
      refine fd_callVi (n := 2) (rest := []) (As := [.int (nI k), .int lf]) (wr := []) S0 hK hP hD hS hA [0, 1, 2, 3, 4] [] [0, 1, 2, 3] (metX2_solve l D g d S V n cnt O T xs xa (nI k) lf hn8 hc hg) q256 q258 qs13 q22 q259 dX2_knownWithout_13 rfl rfl rfl rfl ⟨⟨rfl, rfl⟩, Nat.le_of_ble_eq_true rfl, Nat.le_of_ble_eq_true rfl⟩ (by decide +kernel) rfl rfl (q0 := 0) rfl rfl hl.1 rfl (Nat.le_of_ble_eq_true rfl) ⟨Nat.le_of_ble_eq_true rfl, Nat.le_of_ble_eq_true rfl⟩ (fun r13 u13 H locs hq13 hP hD hS => ?_)
      subst hq13
      have hP : va_P D vwCl (yW g d S V n cnt O T ((slM S V O n cnt (nI k) lf (2 ^ n)).2.1) ((slM S V O n cnt (nI k) lf (2 ^ n)).2.2)) H := hP
      have hD : va_D A (yW g d S V n cnt O T ((slM S V O n cnt (nI k) lf (2 ^ n)).2.1) ((slM S V O n cnt (nI k) lf (2 ^ n)).2.2)) := hD
      refine lv_if_ne (tgt := 21) hx hb dX2_knownWithout_16 (by decide) (fun c16 => ?_) (fun c16 => ?_)
      · refine lv_iload_n hx hb dX2_knownWithout_21 rfl (lv_at hl 2 rfl) ?_
        refine lv_aload_n hx hb dX2_knownWithout_22 rfl (lv_at hl 0 rfl) ?_
        refine va_get (D := D) (ci := 1) (v := .int ((slM S V O n cnt (nI k) lf (2 ^ n)).2.1)) (C := RX2) (T := TX2) (N := 8) hx hb hts in_X2 hown hK hP 0 rfl rfl 6 (by decide) (hts _ q198) (fun _ h9 => h9) rfl dX2_knownWithout_23 ?_
        refine lv_aload_n hx hb dX2_knownWithout_26 rfl (lv_at hl 0 rfl) ?_
        refine va_get (D := D) (ci := 1) (v := .int ((slM S V O n cnt (nI k) lf (2 ^ n)).2.2)) (C := RX2) (T := TX2) (N := 8) hx hb hts in_X2 hown hK hP 0 rfl rfl 7 (by decide) (hts _ q199) (fun _ h9 => h9) rfl dX2_knownWithout_27 ?_
        refine lv_ixor hx hb dX2_knownWithout_30 ?_
        refine lv_ior hx hb dX2_knownWithout_31 ?_
        refine lv_istore_n (lv' := [(2, .int ((kwO S V O n cnt lf k) ||| (((slM S V O n cnt (nI k) lf (2 ^ n)).2.1) ^^^ ((slM S V O n cnt (nI k) lf (2 ^ n)).2.2)))), (0, .ref (g 0)), (1, .int lf), (3, .int (nI k))]) hx hb dX2_knownWithout_32 rfl hl (by decide) rfl (fun ls hl => ?_)
        refine lv_iinc (v := nI (k + 1)) (lv' := [(3, .int (nI (k + 1))), (2, .int ((kwO S V O n cnt lf k) ||| (((slM S V O n cnt (nI k) lf (2 ^ n)).2.1) ^^^ ((slM S V O n cnt (nI k) lf (2 ^ n)).2.2)))), (0, .ref (g 0)), (1, .int lf)]) hx hb dX2_knownWithout_33 hl (k := 3) rfl (fd_inc _) (by decide) rfl (fun ls hl => ?_)
        refine lv_goto (tgt := 4) hx hb dX2_knownWithout_36 (by decide) ?_
        exact ih4 (k + 1) ((kwO S V O n cnt lf k) ||| (((slM S V O n cnt (nI k) lf (2 ^ n)).2.1) ^^^ ((slM S V O n cnt (nI k) lf (2 ^ n)).2.2))) ((slM S V O n cnt (nI k) lf (2 ^ n)).2.1) ((slM S V O n cnt (nI k) lf (2 ^ n)).2.2) _ _ _ (by omega) (by omega) (lt_s hall (bI_n0.mp c16)) rfl hP hD hS (lv_sub hl [2, 3, 1, 0] rfl)
      refine lv_iconst (v := (0 : Int32)) hx hb dX2_knownWithout_19 (by decide) ?_
      exact hret (0 : Int32) ((slM S V O n cnt (nI k) lf (2 ^ n)).2.1, (slM S V O n cnt (nI k) lf (2 ^ n)).2.2) _ _ _ _ dX2_knownWithout_20 rfl (by rw [kwM, if_neg (by rw [alB_false (f := fun b => (slA S V O n cnt lf b).1) (k := k) (bI_0.mp c16) 8 (by omega)]; decide)]) hP hD hS
  exact LP4 _ 0 (0 : Int32) sm al _ _ _ (Nat.lt_succ_self _) (by omega) lt_0 rfl hP hD hS (lv_sub hl [2, 3, 1, 0] rfl)
abbrev rmX2_known : Room := { frames := 3, cells := 0, slots := 0, locals := 72 }
set_option maxHeartbeats 4000000 in
set_option maxRecDepth 100000 in
theorem metX2_known (l : Launch) (D : va_G) (g : Nat → Nat) (d : Nat → ClassId) (S V : Nat → Int32) (n cnt : Nat) (O T : Nat → Int32) (sm al : Int32)  (hn8 : n ≤ 8) (hc : cnt ≤ 16) (hg : gdS S cnt) : fd_I l yX2_known (ws_ yX2_known cX2_known 1 (some .int)) rmX2_known D (yT d) [.ref (g 0)] (yW g d S V n cnt O T sm al) (fun (r : Int32) (u : Int32 × Int32) => r = kwM S V O n cnt (-1)) (fun (u : Int32 × Int32) => yW g d S V n cnt O T u.1 u.2) := by
  refine fd_Iof (lv := [(0, .ref (g 0))]) rfl (by decide) (Nat.le_of_ble_eq_true rfl) rfl ?_
  intro p e s m below meth c A ls Q S0 hK hP hD hA hl hret
  obtain ⟨hx, hb, hml, hown, hts⟩ := id S0
  have hS : va_S A s.heap s.heap [] := va_S.rf
  refine lv_aload_n hx hb dX2_known_0 rfl (lv_at hl 0 rfl) ?_
  refine lv_iconst (v := (-1 : Int32)) hx hb dX2_known_1 (by decide) ?_
  refine fd_callVi (n := 1) (rest := []) (As := [.int (-1 : Int32)]) (wr := []) S0 hK hP hD hS hA [0, 1, 2, 3, 4] [] [0, 1, 2, 3] (metX2_knownWithout l D g d S V n cnt O T sm al (-1 : Int32) hn8 hc hg) q276 q278 qs16 q22 q279 dX2_known_2 rfl rfl rfl rfl ⟨⟨rfl, rfl⟩, Nat.le_of_ble_eq_true rfl, Nat.le_of_ble_eq_true rfl⟩ (by decide +kernel) rfl rfl (q0 := 0) rfl rfl hl.1 rfl (Nat.le_of_ble_eq_true rfl) ⟨Nat.le_of_ble_eq_true rfl, Nat.le_of_ble_eq_true rfl⟩ (fun r2 u2 H locs hq2 hP hD hS => ?_)
  have hP : va_P D vwCl (yW g d S V n cnt O T u2.1 u2.2) H := hP
  have hD : va_D A (yW g d S V n cnt O T u2.1 u2.2) := hD
  exact hret r2 u2 _ _ _ _ dX2_known_5 rfl hq2 hP hD hS
abbrev rmX2_sumOf : Room := { frames := 1, cells := 0, slots := 0, locals := 25 }
set_option maxHeartbeats 4000000 in
set_option maxRecDepth 100000 in
theorem metX2_sumOf (l : Launch) (D : va_G) (g : Nat → Nat) (d : Nat → ClassId) (S V : Nat → Int32) (n cnt : Nat) (O T : Nat → Int32) (sm al : Int32) (a : Int32) (hn8 : n ≤ 8) (hc : cnt ≤ 16) (hg : gdS S cnt) : fd_I l yX2_sumOf (ws_ yX2_sumOf cX2_sumOf 6 (some .int)) rmX2_sumOf D (yT d) [.ref (g 0), .int a] (yW g d S V n cnt O T sm al) (fun (r : Int32) (u : Unit) => r = s2M S V O n cnt a) (fun (u : Unit) => yW g d S V n cnt O T sm al) := by
  refine fd_Iof (lv := [(0, .ref (g 0)), (1, .int a)]) rfl (by decide) (Nat.le_of_ble_eq_true rfl) rfl ?_
  intro p e s m below meth c A ls Q S0 hK hP hD hA hl hret
  obtain ⟨hx, hb, hml, hown, hts⟩ := id S0
  have hS : va_S A s.heap s.heap [] := va_S.rf
  obtain ⟨hp1, hp2⟩ := fd_p1 hn8
  refine lv_aload_n hx hb dX2_sumOf_0 rfl (lv_at hl 0 rfl) ?_
  refine lv_iload_n hx hb dX2_sumOf_1 rfl (lv_at hl 1 rfl) ?_
  refine fd_callVi (n := 1) (rest := []) (As := [.int a]) (wr := []) S0 hK hP hD hS hA [0, 1, 2, 3, 4] [] [0, 1, 2, 3] (metX2_badSet l D g d S V n cnt O T sm al a hn8) q226 q228 qs11 q22 q229 dX2_sumOf_2 rfl rfl rfl rfl ⟨⟨rfl, rfl⟩, Nat.le_of_ble_eq_true rfl, Nat.le_of_ble_eq_true rfl⟩ (by decide +kernel) rfl rfl (q0 := 0) rfl rfl hl.1 rfl (Nat.le_of_ble_eq_true rfl) ⟨Nat.le_of_ble_eq_true rfl, Nat.le_of_ble_eq_true rfl⟩ (fun r2 u2 H locs hq2 hP hD hS => ?_)
  subst hq2
  have hP : va_P D vwCl (yW g d S V n cnt O T sm al) H := hP
  have hD : va_D A (yW g d S V n cnt O T sm al) := hD
  refine lv_if_eq (tgt := 10) hx hb dX2_sumOf_5 (by decide) (fun c5 => ?_) (fun c5 => ?_)
  · have ha := bsM_0.mp c5
    obtain ⟨v, hv, ev⟩ : ∃ v : Nat, v < 2 ^ n ∧ a = nI v := fd_raw (by omega) (fun h => ha (Or.inl h)) (fun h => ha (Or.inr h))
    refine lv_iconst (v := (0 : Int32)) hx hb dX2_sumOf_10 (by decide) ?_
    refine lv_istore_n (lv' := [(2, .int (0 : Int32)), (0, .ref (g 0)), (1, .int a)]) hx hb dX2_sumOf_11 rfl hl (by decide) rfl (fun ls hl => ?_)
    refine lv_iconst (v := nI 0) hx hb dX2_sumOf_12 (by decide) ?_
    refine lv_istore_n (lv' := [(3, .int (nI 0)), (2, .int (0 : Int32)), (0, .ref (g 0)), (1, .int a)]) hx hb dX2_sumOf_13 rfl hl (by decide) rfl (fun ls hl => ?_)
    have LP14 : ∀ (Nf14 : Nat) (b : Nat) (x2 : Int32) (H : Heap) (locs : List Loc) (ls : Array Slot), 8 - b < Nf14 → (b ≤ 8) → (∀ i, i < b → (¬ kdA S V O n cnt a i = 0 ∧ ¬ kdA S V O n cnt a i = 3)) → x2 = suM S V O n cnt a b → va_P D vwCl (yW g d S V n cnt O T sm al) H → va_D A (yW g d S V n cnt O T sm al) → va_S A s.heap H locs → lv_has ls 6 [(0, .ref (g 0)), (1, .int a), (2, .int x2), (3, .int (nI b))] → W p l e rmX2_sumOf s m ([.ref (g 0), .int a] : List Value).toArray below meth c H locs 0 0 Q (F0 m 14 ls []) := by
      intro Nf14
      induction Nf14 with
      | zero => intro b x2 H locs ls hmu; exact absurd hmu (Nat.not_lt_zero _)
      | succ Nf14 ih14 =>
        intro b x2 H locs ls hmu14 hb8 hall ex2 hP hD hS hl
        subst ex2
        refine lv_iload_n hx hb dX2_sumOf_14 rfl (lv_at hl 3 rfl) ?_
        refine lv_bipush (v := nI 8) hx hb dX2_sumOf_15 (by decide) ?_
        refine lv_icmp_ge (tgt := 108) hx hb dX2_sumOf_17 (by decide) (fun c17 => ?_) (fun c17 => ?_)
        · have c17 : 8 ≤ b := (nI_leI (a := 8) (b := b) (by omega) (by omega)).mp c17
          obtain rfl : 8 = b := by omega
          refine lv_iload_n hx hb dX2_sumOf_108 rfl (lv_at hl 2 rfl) ?_
          exact hret (suM S V O n cnt a 8) () _ _ _ _ dX2_sumOf_109 rfl (by rw [s2M, if_neg ha, if_pos (alB_true.mpr (fun i hi => decide_eq_true (hall i hi)))]) hP hD hS
        have c17 : ¬ (8 ≤ b) := fun h => c17 ((nI_leI (a := 8) (b := b) (by omega) (by omega)).mpr h)
        refine lv_iconst (v := (0 : Int32)) hx hb dX2_sumOf_20 (by decide) ?_
        refine lv_istore (lv' := [(4, .int (0 : Int32)), (0, .ref (g 0)), (1, .int a), (2, .int (suM S V O n cnt a b)), (3, .int (nI b))]) hx hb dX2_sumOf_21 hl (by decide) rfl (fun ls hl => ?_)
        refine lv_iconst (v := nI 0) hx hb dX2_sumOf_23 (by decide) ?_
        refine lv_istore (lv' := [(5, .int (nI 0)), (4, .int (0 : Int32)), (0, .ref (g 0)), (1, .int a), (2, .int (suM S V O n cnt a b)), (3, .int (nI b))]) hx hb dX2_sumOf_24 hl (by decide) rfl (fun ls hl => ?_)
        have LP26 : ∀ (Nf26 : Nat) (k : Nat) (x4 : Int32) (H : Heap) (locs : List Loc) (ls : Array Slot), 2 ^ n - k < Nf26 → (k ≤ 2 ^ n) → x4 = kdM S V O cnt a (nI b) k → va_P D vwCl (yW g d S V n cnt O T sm al) H → va_D A (yW g d S V n cnt O T sm al) → va_S A s.heap H locs → lv_has ls 6 [(0, .ref (g 0)), (1, .int a), (2, .int (suM S V O n cnt a b)), (3, .int (nI b)), (4, .int x4), (5, .int (nI k))] → W p l e rmX2_sumOf s m ([.ref (g 0), .int a] : List Value).toArray below meth c H locs 0 0 Q (F0 m 26 ls []) := by
          intro Nf26
          induction Nf26 with
          | zero => intro k x4 H locs ls hmu; exact absurd hmu (Nat.not_lt_zero _)
          | succ Nf26 ih26 =>
            intro k x4 H locs ls hmu26 hc26_0 ex4 hP hD hS hl
            subst ex4
            refine lv_iload hx hb dX2_sumOf_26 (lv_at hl 5 rfl) ?_
            refine lv_iconst (v := (1 : Int32)) hx hb dX2_sumOf_28 (by decide) ?_
            refine lv_aload_n hx hb dX2_sumOf_29 rfl (lv_at hl 0 rfl) ?_
            refine va_get (D := D) (ci := 1) (v := .int (nI n)) (C := RX2) (T := TX2) (N := 8) hx hb hts in_X2 hown hK hP 0 rfl rfl 4 (by decide) (hts _ q196) (fun _ h9 => h9) rfl dX2_sumOf_30 ?_
            refine lv_ishl hx hb dX2_sumOf_33 ?_
            refine fd_as (show ((1 : Int32) <<< ((nI n) &&& 31)) = nI (2 ^ n) from fd_pw hn8) ?_
            refine lv_icmp_ge (tgt := 76) hx hb dX2_sumOf_34 (by decide) (fun c34 => ?_) (fun c34 => ?_)
            · have c34 : (2 ^ n) ≤ k := (nI_leI (a := (2 ^ n)) (b := k) (by omega) (by omega)).mp c34
              obtain rfl : 2 ^ n = k := by omega
              have hl : lv_has ls 6 [(0, .ref (g 0)), (1, .int a), (2, .int (suM S V O n cnt a b)), (3, .int (nI b)), (4, .int (kdA S V O n cnt a b)), (5, .int (nI (2 ^ n)))] := hl
              refine lv_iload hx hb dX2_sumOf_76 (lv_at hl 4 rfl) ?_
              refine lv_if_eq (tgt := 87) hx hb dX2_sumOf_78 (by decide) (fun c78 => ?_) (fun c78 => ?_)
              · refine lv_bipush (v := (-2 : Int32)) hx hb dX2_sumOf_87 (by decide) ?_
                exact hret (-2 : Int32) () _ _ _ _ dX2_sumOf_89 rfl (by first | rw [s2M, if_neg ha, if_neg (by rw [alB_false (f := fun b => decide (¬ kdA S V O n cnt a b = 0 ∧ ¬ kdA S V O n cnt a b = 3)) (k := b) (decide_eq_false (fun h => h.1 c78)) 8 (by omega)]; decide)] | rw [s2M, if_neg ha, if_neg (by rw [alB_false (f := fun b => decide (¬ kdA S V O n cnt a b = 0 ∧ ¬ kdA S V O n cnt a b = 3)) (k := b) (decide_eq_false (fun h => h.2 c84)) 8 (by omega)]; decide)]) hP hD hS
              refine lv_iload hx hb dX2_sumOf_81 (lv_at hl 4 rfl) ?_
              refine lv_iconst (v := (3 : Int32)) hx hb dX2_sumOf_83 (by decide) ?_
              refine lv_icmp_ne (tgt := 90) hx hb dX2_sumOf_84 (by decide) (fun c84 => ?_) (fun c84 => ?_)
              · refine lv_iload hx hb dX2_sumOf_90 (lv_at hl 4 rfl) ?_
                refine lv_iconst (v := (2 : Int32)) hx hb dX2_sumOf_92 (by decide) ?_
                refine lv_icmp_ne (tgt := 102) hx hb dX2_sumOf_93 (by decide) (fun c93 => ?_) (fun c93 => ?_)
                · refine lv_iinc (v := nI (b + 1)) (lv' := [(3, .int (nI (b + 1))), (0, .ref (g 0)), (1, .int a), (2, .int (suM S V O n cnt a b)), (4, .int (kdA S V O n cnt a b)), (5, .int (nI (2 ^ n)))]) hx hb dX2_sumOf_102 hl (k := 3) rfl (fd_inc _) (by decide) rfl (fun ls hl => ?_)
                  refine lv_goto (tgt := 14) hx hb dX2_sumOf_105 (by decide) ?_
                  exact ih14 (b + 1) (suM S V O n cnt a b) _ _ _ (by omega) (by omega) (lt_s hall ⟨c78, c84⟩) (by first | rw [suM, if_neg c93] | rw [suM, if_pos c93]) hP hD hS (lv_sub hl [1, 2, 3, 0] rfl)
                refine lv_iload_n hx hb dX2_sumOf_96 rfl (lv_at hl 2 rfl) ?_
                refine lv_iconst (v := (1 : Int32)) hx hb dX2_sumOf_97 (by decide) ?_
                refine lv_iload_n hx hb dX2_sumOf_98 rfl (lv_at hl 3 rfl) ?_
                refine lv_ishl hx hb dX2_sumOf_99 ?_
                refine lv_ior hx hb dX2_sumOf_100 ?_
                refine lv_istore_n (lv' := [(2, .int ((suM S V O n cnt a b) ||| ((1 : Int32) <<< ((nI b) &&& 31)))), (0, .ref (g 0)), (1, .int a), (3, .int (nI b)), (4, .int (kdA S V O n cnt a b)), (5, .int (nI (2 ^ n)))]) hx hb dX2_sumOf_101 rfl hl (by decide) rfl (fun ls hl => ?_)
                refine lv_iinc (v := nI (b + 1)) (lv' := [(3, .int (nI (b + 1))), (2, .int ((suM S V O n cnt a b) ||| ((1 : Int32) <<< ((nI b) &&& 31)))), (0, .ref (g 0)), (1, .int a), (4, .int (kdA S V O n cnt a b)), (5, .int (nI (2 ^ n)))]) hx hb dX2_sumOf_102 hl (k := 3) rfl (fd_inc _) (by decide) rfl (fun ls hl => ?_)
                refine lv_goto (tgt := 14) hx hb dX2_sumOf_105 (by decide) ?_
                exact ih14 (b + 1) ((suM S V O n cnt a b) ||| ((1 : Int32) <<< ((nI b) &&& 31))) _ _ _ (by omega) (by omega) (lt_s hall ⟨c78, c84⟩) (by first | rw [suM, if_neg c93] | rw [suM, if_pos c93]) hP hD hS (lv_sub hl [2, 3, 1, 0] rfl)
              refine lv_bipush (v := (-2 : Int32)) hx hb dX2_sumOf_87 (by decide) ?_
              exact hret (-2 : Int32) () _ _ _ _ dX2_sumOf_89 rfl (by first | rw [s2M, if_neg ha, if_neg (by rw [alB_false (f := fun b => decide (¬ kdA S V O n cnt a b = 0 ∧ ¬ kdA S V O n cnt a b = 3)) (k := b) (decide_eq_false (fun h => h.1 c78)) 8 (by omega)]; decide)] | rw [s2M, if_neg ha, if_neg (by rw [alB_false (f := fun b => decide (¬ kdA S V O n cnt a b = 0 ∧ ¬ kdA S V O n cnt a b = 3)) (k := b) (decide_eq_false (fun h => h.2 c84)) 8 (by omega)]; decide)]) hP hD hS
            have c34 : ¬ ((2 ^ n) ≤ k) := fun h => c34 ((nI_leI (a := (2 ^ n)) (b := k) (by omega) (by omega)).mpr h)
            refine lv_aload_n hx hb dX2_sumOf_37 rfl (lv_at hl 0 rfl) ?_
            refine lv_iload hx hb dX2_sumOf_38 (lv_at hl 5 rfl) ?_
            refine lv_iload_n hx hb dX2_sumOf_40 rfl (lv_at hl 3 rfl) ?_
            refine lv_iconst (v := (-1 : Int32)) hx hb dX2_sumOf_41 (by decide) ?_
            refine fd_callVi (n := 3) (rest := []) (As := [.int (nI k), .int (nI b), .int (-1 : Int32)]) (wr := []) S0 hK hP hD hS hA [0, 1, 2, 3, 4] [] [0, 1, 2, 3] (metX2_solves l D g d S V n cnt O T sm al (nI k) (nI b) (-1 : Int32) hc hg) q260 q262 qs14 q22 q263 dX2_sumOf_42 rfl rfl rfl rfl ⟨⟨rfl, rfl⟩, Nat.le_of_ble_eq_true rfl, Nat.le_of_ble_eq_true rfl⟩ (by decide +kernel) rfl rfl (q0 := 0) rfl rfl hl.1 rfl (Nat.le_of_ble_eq_true rfl) ⟨Nat.le_of_ble_eq_true rfl, Nat.le_of_ble_eq_true rfl⟩ (fun r42 u42 H locs hq42 hP hD hS => ?_)
            subst hq42
            have hP : va_P D vwCl (yW g d S V n cnt O T sm al) H := hP
            have hD : va_D A (yW g d S V n cnt O T sm al) := hD
            refine lv_if_eq (tgt := 70) hx hb dX2_sumOf_45 (by decide) (fun c45 => ?_) (fun c45 => ?_)
            · have c45 := bI_0.mp c45
              refine lv_iinc (v := nI (k + 1)) (lv' := [(5, .int (nI (k + 1))), (0, .ref (g 0)), (1, .int a), (2, .int (suM S V O n cnt a b)), (3, .int (nI b)), (4, .int (kdM S V O cnt a (nI b) k))]) hx hb dX2_sumOf_70 hl (k := 5) rfl (fd_inc _) (by decide) rfl (fun ls hl => ?_)
              refine lv_goto (tgt := 26) hx hb dX2_sumOf_73 (by decide) ?_
              exact ih26 (k + 1) (kdM S V O cnt a (nI b) k) _ _ _ (by omega) (by omega) (by first | rw [kdM, if_pos c45, if_pos c59] | rw [kdM, if_pos c45, if_neg c59] | rw [kdM, if_neg (by rw [c45]; decide)]) hP hD hS (lv_sub hl [1, 2, 3, 4, 5, 0] rfl)
            have c45 := bI_n0.mp c45
            refine lv_iload hx hb dX2_sumOf_48 (lv_at hl 4 rfl) ?_
            refine lv_aload_n hx hb dX2_sumOf_50 rfl (lv_at hl 0 rfl) ?_
            refine va_get (D := D) (ci := 1) (v := .ref (g 3)) (C := RX2) (T := TX2) (N := 8) hx hb hts in_X2 hown hK hP 0 rfl rfl 2 (by decide) (hts _ q194) (fun _ h9 => h9) rfl dX2_sumOf_51 ?_
            refine lv_iload hx hb dX2_sumOf_54 (lv_at hl 5 rfl) ?_
            refine lv_iload_n hx hb dX2_sumOf_56 rfl (lv_at hl 1 rfl) ?_
            refine lv_iand hx hb dX2_sumOf_57 ?_
            refine va_zald hx hb hK hP 3 2 rfl rfl (fd_in (Nat.lt_of_lt_of_le hv hp2) ev) dX2_sumOf_58 ?_
            refine lv_if_eq (tgt := 66) hx hb dX2_sumOf_59 (by decide) (fun c59 => ?_) (fun c59 => ?_)
            · refine lv_iconst (v := (1 : Int32)) hx hb dX2_sumOf_66 (by decide) ?_
              refine lv_ior hx hb dX2_sumOf_67 ?_
              refine lv_istore (lv' := [(4, .int ((kdM S V O cnt a (nI b) k) ||| (1 : Int32))), (0, .ref (g 0)), (1, .int a), (2, .int (suM S V O n cnt a b)), (3, .int (nI b)), (5, .int (nI k))]) hx hb dX2_sumOf_68 hl (by decide) rfl (fun ls hl => ?_)
              refine lv_iinc (v := nI (k + 1)) (lv' := [(5, .int (nI (k + 1))), (4, .int ((kdM S V O cnt a (nI b) k) ||| (1 : Int32))), (0, .ref (g 0)), (1, .int a), (2, .int (suM S V O n cnt a b)), (3, .int (nI b))]) hx hb dX2_sumOf_70 hl (k := 5) rfl (fd_inc _) (by decide) rfl (fun ls hl => ?_)
              refine lv_goto (tgt := 26) hx hb dX2_sumOf_73 (by decide) ?_
              exact ih26 (k + 1) ((kdM S V O cnt a (nI b) k) ||| (1 : Int32)) _ _ _ (by omega) (by omega) (by first | rw [kdM, if_pos c45, if_pos c59] | rw [kdM, if_pos c45, if_neg c59] | rw [kdM, if_neg (by rw [c45]; decide)]) hP hD hS (lv_sub hl [2, 3, 4, 5, 1, 0] rfl)
            refine lv_iconst (v := (2 : Int32)) hx hb dX2_sumOf_62 (by decide) ?_
            refine lv_goto (tgt := 67) hx hb dX2_sumOf_63 (by decide) ?_
            refine lv_ior hx hb dX2_sumOf_67 ?_
            refine lv_istore (lv' := [(4, .int ((kdM S V O cnt a (nI b) k) ||| (2 : Int32))), (0, .ref (g 0)), (1, .int a), (2, .int (suM S V O n cnt a b)), (3, .int (nI b)), (5, .int (nI k))]) hx hb dX2_sumOf_68 hl (by decide) rfl (fun ls hl => ?_)
            refine lv_iinc (v := nI (k + 1)) (lv' := [(5, .int (nI (k + 1))), (4, .int ((kdM S V O cnt a (nI b) k) ||| (2 : Int32))), (0, .ref (g 0)), (1, .int a), (2, .int (suM S V O n cnt a b)), (3, .int (nI b))]) hx hb dX2_sumOf_70 hl (k := 5) rfl (fd_inc _) (by decide) rfl (fun ls hl => ?_)
            refine lv_goto (tgt := 26) hx hb dX2_sumOf_73 (by decide) ?_
            exact ih26 (k + 1) ((kdM S V O cnt a (nI b) k) ||| (2 : Int32)) _ _ _ (by omega) (by omega) (by first | rw [kdM, if_pos c45, if_pos c59] | rw [kdM, if_pos c45, if_neg c59] | rw [kdM, if_neg (by rw [c45]; decide)]) hP hD hS (lv_sub hl [2, 3, 4, 5, 1, 0] rfl)
        exact LP26 _ 0 (0 : Int32) _ _ _ (Nat.lt_succ_self _) (by omega) rfl hP hD hS (lv_sub hl [2, 3, 4, 5, 1, 0] rfl)
    exact LP14 _ 0 (0 : Int32) _ _ _ (Nat.lt_succ_self _) (by omega) lt_0 rfl hP hD hS (lv_sub hl [2, 3, 1, 0] rfl)
  refine lv_iconst (v := (-1 : Int32)) hx hb dX2_sumOf_8 (by decide) ?_
  exact hret (-1 : Int32) () _ _ _ _ dX2_sumOf_9 rfl (by rw [s2M, if_pos (bsM_n0.mp c5)]) hP hD hS
abbrev rmX2_value : Room := { frames := 2, cells := 0, slots := 0, locals := 50 }
set_option maxHeartbeats 4000000 in
set_option maxRecDepth 100000 in
theorem metX2_value (l : Launch) (D : va_G) (g : Nat → Nat) (d : Nat → ClassId) (S V : Nat → Int32) (n cnt : Nat) (O T : Nat → Int32) (sm al : Int32) (a : Int32) (hn8 : n ≤ 8) (hc : cnt ≤ 16) (hg : gdS S cnt) : fd_I l yX2_value (ws_ yX2_value cX2_value 2 (some .int)) rmX2_value D (yT d) [.ref (g 0), .int a] (yW g d S V n cnt O T sm al) (fun (r : Int32) (u : Unit) => r = v2M S V O n cnt a) (fun (u : Unit) => yW g d S V n cnt O T sm al) := by
  refine fd_Iof (lv := [(0, .ref (g 0)), (1, .int a)]) rfl (by decide) (Nat.le_of_ble_eq_true rfl) rfl ?_
  intro p e s m below meth c A ls Q S0 hK hP hD hA hl hret
  obtain ⟨hx, hb, hml, hown, hts⟩ := id S0
  have hS : va_S A s.heap s.heap [] := va_S.rf
  refine lv_iload_n hx hb dX2_value_0 rfl (lv_at hl 1 rfl) ?_
  refine lv_if_lt (tgt := 12) hx hb dX2_value_1 (by decide) (fun c1 => ?_) (fun c1 => ?_)
  · refine lv_iconst (v := (-1 : Int32)) hx hb dX2_value_12 (by decide) ?_
    exact hret (-1 : Int32) () _ _ _ _ dX2_value_13 rfl (by first | rw [v2M, if_pos (Or.inl c1)] | rw [v2M, if_pos (Or.inr (Int32.not_lt.mp c9))]) hP hD hS
  refine lv_iload_n hx hb dX2_value_4 rfl (lv_at hl 1 rfl) ?_
  refine lv_aload_n hx hb dX2_value_5 rfl (lv_at hl 0 rfl) ?_
  refine va_get (D := D) (ci := 1) (v := .int (nI n)) (C := RX2) (T := TX2) (N := 8) hx hb hts in_X2 hown hK hP 0 rfl rfl 4 (by decide) (hts _ q196) (fun _ h9 => h9) rfl dX2_value_6 ?_
  refine lv_icmp_lt (tgt := 14) hx hb dX2_value_9 (by decide) (fun c9 => ?_) (fun c9 => ?_)
  · refine lv_aload_n hx hb dX2_value_14 rfl (lv_at hl 0 rfl) ?_
    refine lv_iconst (v := (1 : Int32)) hx hb dX2_value_15 (by decide) ?_
    refine lv_iload_n hx hb dX2_value_16 rfl (lv_at hl 1 rfl) ?_
    refine lv_ishl hx hb dX2_value_17 ?_
    refine fd_callVi (n := 1) (rest := []) (As := [.int ((1 : Int32) <<< (a &&& 31))]) (wr := []) S0 hK hP hD hS hA [0, 1, 2, 3, 4] [] [0, 1, 2, 3] (metX2_sumOf l D g d S V n cnt O T sm al ((1 : Int32) <<< (a &&& 31)) hn8 hc hg) q284 q285 q286 q22 q287 dX2_value_18 rfl rfl rfl rfl ⟨⟨rfl, rfl⟩, Nat.le_of_ble_eq_true rfl, Nat.le_of_ble_eq_true rfl⟩ (by decide +kernel) rfl rfl (q0 := 0) rfl rfl hl.1 rfl (Nat.le_of_ble_eq_true rfl) ⟨Nat.le_of_ble_eq_true rfl, Nat.le_of_ble_eq_true rfl⟩ (fun r18 u18 H locs hq18 hP hD hS => ?_)
    subst hq18
    have hP : va_P D vwCl (yW g d S V n cnt O T sm al) H := hP
    have hD : va_D A (yW g d S V n cnt O T sm al) := hD
    exact hret (s2M S V O n cnt ((1 : Int32) <<< (a &&& 31))) () _ _ _ _ dX2_value_21 rfl (by rw [v2M, if_neg (fun h => h.elim c1 (Int32.not_le.mpr c9))]) hP hD hS
  refine lv_iconst (v := (-1 : Int32)) hx hb dX2_value_12 (by decide) ?_
  exact hret (-1 : Int32) () _ _ _ _ dX2_value_13 rfl (by first | rw [v2M, if_pos (Or.inl c1)] | rw [v2M, if_pos (Or.inr (Int32.not_lt.mp c9))]) hP hD hS
end
section
/-! FountainDecoderModel: peelFrom, peeled, isSeed, seed, seedSize, spare, helps, spread, rank, useful -/
abbrev rmX2_peelFrom : Room := { frames := 1, cells := 0, slots := 0, locals := 21 }
set_option maxHeartbeats 4000000 in
set_option maxRecDepth 100000 in
theorem metX2_peelFrom (l : Launch) (D : va_G) (g : Nat → Nat) (d : Nat → ClassId) (S V : Nat → Int32) (n cnt : Nat) (O T : Nat → Int32) (sm al : Int32) (a : Int32) (hn8 : n ≤ 8) (hc : cnt ≤ 16) : fd_I l yX2_peelFrom (ws_ yX2_peelFrom cX2_peelFrom 6 (some .int)) rmX2_peelFrom D (yT d) [.ref (g 0), .int a] (yW g d S V n cnt O T sm al) (fun (r : Int32) (u : Unit) => r = pq2 S n cnt a) (fun (u : Unit) => yW g d S V n cnt O T sm al) := by
  refine fd_Iof (lv := [(0, .ref (g 0)), (1, .int a)]) rfl (by decide) (Nat.le_of_ble_eq_true rfl) rfl ?_
  intro p e s m below meth c A ls Q S0 hK hP hD hA hl hret
  obtain ⟨hx, hb, hml, hown, hts⟩ := id S0
  have hS : va_S A s.heap s.heap [] := va_S.rf
  refine lv_iload_n hx hb dX2_peelFrom_0 rfl (lv_at hl 1 rfl) ?_
  refine lv_istore_n (lv' := [(2, .int a), (0, .ref (g 0)), (1, .int a)]) hx hb dX2_peelFrom_1 rfl hl (by decide) rfl (fun ls hl => ?_)
  refine lv_iconst (v := nI 0) hx hb dX2_peelFrom_2 (by decide) ?_
  refine lv_istore_n (lv' := [(3, .int (nI 0)), (2, .int a), (0, .ref (g 0)), (1, .int a)]) hx hb dX2_peelFrom_3 rfl hl (by decide) rfl (fun ls hl => ?_)
  have LP4 : ∀ (Nf4 : Nat) (j : Nat) (x2 : Int32) (H : Heap) (locs : List Loc) (ls : Array Slot), n - j < Nf4 → (j ≤ n) → x2 = pr2 S cnt a j → va_P D vwCl (yW g d S V n cnt O T sm al) H → va_D A (yW g d S V n cnt O T sm al) → va_S A s.heap H locs → lv_has ls 6 [(0, .ref (g 0)), (2, .int x2), (3, .int (nI j))] → W p l e rmX2_peelFrom s m ([.ref (g 0), .int a] : List Value).toArray below meth c H locs 0 0 Q (F0 m 4 ls []) := by
    intro Nf4
    induction Nf4 with
    | zero => intro j x2 H locs ls hmu; exact absurd hmu (Nat.not_lt_zero _)
    | succ Nf4 ih4 =>
      intro j x2 H locs ls hmu4 hc4_0 ex2 hP hD hS hl
      subst ex2
      refine lv_iload_n hx hb dX2_peelFrom_4 rfl (lv_at hl 2 rfl) ?_
      refine lv_aload_n hx hb dX2_peelFrom_5 rfl (lv_at hl 0 rfl) ?_
      refine va_get (D := D) (ci := 1) (v := .int (nI n)) (C := RX2) (T := TX2) (N := 8) hx hb hts in_X2 hown hK hP 0 rfl rfl 4 (by decide) (hts _ q196) (fun _ h9 => h9) rfl dX2_peelFrom_6 ?_
      refine lv_icmp_ge (tgt := 63) hx hb dX2_peelFrom_9 (by decide) (fun c9 => ?_) (fun c9 => ?_)
      · have c9 : n ≤ j := (nI_leI (a := n) (b := j) (by omega) (by omega)).mp c9
        obtain rfl : n = j := by omega
        refine lv_iload_n hx hb dX2_peelFrom_63 rfl (lv_at hl 1 rfl) ?_
        exact hret (pr2 S cnt a n) () _ _ _ _ dX2_peelFrom_64 rfl rfl hP hD hS
      have c9 : ¬ (n ≤ j) := fun h => c9 ((nI_leI (a := n) (b := j) (by omega) (by omega)).mpr h)
      refine lv_iconst (v := nI 0) hx hb dX2_peelFrom_12 (by decide) ?_
      refine lv_istore (lv' := [(4, .int (nI 0)), (0, .ref (g 0)), (2, .int (pr2 S cnt a j)), (3, .int (nI j))]) hx hb dX2_peelFrom_13 hl (by decide) rfl (fun ls hl => ?_)
      have LP15 : ∀ (Nf15 : Nat) (k : Nat) (y2 : Int32) (H : Heap) (locs : List Loc) (ls : Array Slot), cnt - k < Nf15 → (k ≤ cnt) → y2 = pl2 S (pr2 S cnt a j) k → va_P D vwCl (yW g d S V n cnt O T sm al) H → va_D A (yW g d S V n cnt O T sm al) → va_S A s.heap H locs → lv_has ls 6 [(0, .ref (g 0)), (2, .int y2), (3, .int (nI j)), (4, .int (nI k))] → W p l e rmX2_peelFrom s m ([.ref (g 0), .int a] : List Value).toArray below meth c H locs 0 0 Q (F0 m 15 ls []) := by
        intro Nf15
        induction Nf15 with
        | zero => intro k y2 H locs ls hmu; exact absurd hmu (Nat.not_lt_zero _)
        | succ Nf15 ih15 =>
          intro k y2 H locs ls hmu15 hc15_0 ey2 hP hD hS hl
          subst ey2
          refine lv_iload hx hb dX2_peelFrom_15 (lv_at hl 3 rfl) ?_
          refine lv_aload_n hx hb dX2_peelFrom_17 rfl (lv_at hl 0 rfl) ?_
          refine va_get (D := D) (ci := 1) (v := .int (nI cnt)) (C := RX2) (T := TX2) (N := 8) hx hb hts in_X2 hown hK hP 0 rfl rfl 5 (by decide) (hts _ q197) (fun _ h9 => h9) rfl dX2_peelFrom_18 ?_
          refine lv_icmp_ge (tgt := 57) hx hb dX2_peelFrom_21 (by decide) (fun c21 => ?_) (fun c21 => ?_)
          · have c21 : cnt ≤ k := (nI_leI (a := cnt) (b := k) (by omega) (by omega)).mp c21
            obtain rfl : cnt = k := by omega
            refine lv_iinc (v := nI (j + 1)) (lv' := [(3, .int (nI (j + 1))), (0, .ref (g 0)), (2, .int (pl2 S (pr2 S cnt a j) cnt)), (4, .int (nI cnt))]) hx hb dX2_peelFrom_57 hl (k := 2) rfl (fd_inc _) (by decide) rfl (fun ls hl => ?_)
            refine lv_goto (tgt := 4) hx hb dX2_peelFrom_60 (by decide) ?_
            exact ih4 (j + 1) (pl2 S (pr2 S cnt a j) cnt) _ _ _ (by omega) (by omega) rfl hP hD hS (lv_sub hl [1, 2, 0] rfl)
          have c21 : ¬ (cnt ≤ k) := fun h => c21 ((nI_leI (a := cnt) (b := k) (by omega) (by omega)).mpr h)
          refine lv_aload_n hx hb dX2_peelFrom_24 rfl (lv_at hl 0 rfl) ?_
          refine va_get (D := D) (ci := 1) (v := .ref (g 1)) (C := RX2) (T := TX2) (N := 8) hx hb hts in_X2 hown hK hP 0 rfl rfl 0 (by decide) (hts _ q192) (fun _ h9 => h9) rfl dX2_peelFrom_25 ?_
          refine lv_iload hx hb dX2_peelFrom_28 (lv_at hl 3 rfl) ?_
          refine fd_iald hx hb hK hP 1 0 rfl rfl (k := k) (by omega) (by decide) dX2_peelFrom_30 ?_
          refine lv_iload_n hx hb dX2_peelFrom_31 rfl (lv_at hl 1 rfl) ?_
          refine lv_iconst (v := (-1 : Int32)) hx hb dX2_peelFrom_32 (by decide) ?_
          refine lv_ixor hx hb dX2_peelFrom_33 ?_
          refine lv_iand hx hb dX2_peelFrom_34 ?_
          refine fd_as (show ((S k) &&& ((pl2 S (pr2 S cnt a j) k) ^^^ (-1 : Int32))) = plO S (pl2 S (pr2 S cnt a j) k) k from rfl) ?_
          refine lv_istore (lv' := [(5, .int (plO S (pl2 S (pr2 S cnt a j) k) k)), (0, .ref (g 0)), (2, .int (pl2 S (pr2 S cnt a j) k)), (3, .int (nI j)), (4, .int (nI k))]) hx hb dX2_peelFrom_35 hl (by decide) rfl (fun ls hl => ?_)
          refine lv_aload_n hx hb dX2_peelFrom_37 rfl (lv_at hl 1 rfl) ?_
          refine lv_iload hx hb dX2_peelFrom_38 (lv_at hl 0 rfl) ?_
          refine fd_callVi (n := 1) (rest := []) (As := [.int (plO S (pl2 S (pr2 S cnt a j) k) k)]) (wr := []) S0 hK hP hD hS hA [0, 1, 2, 3, 4] [] [0, 1, 2, 3] (metX2_single l D g d S V n cnt O T sm al (plO S (pl2 S (pr2 S cnt a j) k) k)) q297 q299 qs18 q22 q300 dX2_peelFrom_40 rfl rfl rfl rfl ⟨⟨rfl, rfl⟩, Nat.le_of_ble_eq_true rfl, Nat.le_of_ble_eq_true rfl⟩ (by decide +kernel) rfl rfl (q0 := 0) rfl rfl hl.1 rfl (Nat.le_of_ble_eq_true rfl) ⟨Nat.le_of_ble_eq_true rfl, Nat.le_of_ble_eq_true rfl⟩ (fun r40 u40 H locs hq40 hP hD hS => ?_)
          subst hq40
          have hP : va_P D vwCl (yW g d S V n cnt O T sm al) H := hP
          have hD : va_D A (yW g d S V n cnt O T sm al) := hD
          refine lv_if_eq (tgt := 51) hx hb dX2_peelFrom_43 (by decide) (fun c43 => ?_) (fun c43 => ?_)
          · refine lv_iinc (v := nI (k + 1)) (lv' := [(4, .int (nI (k + 1))), (5, .int (plO S (pl2 S (pr2 S cnt a j) k) k)), (0, .ref (g 0)), (2, .int (pl2 S (pr2 S cnt a j) k)), (3, .int (nI j))]) hx hb dX2_peelFrom_51 hl (k := 4) rfl (fd_inc _) (by decide) rfl (fun ls hl => ?_)
            refine lv_goto (tgt := 15) hx hb dX2_peelFrom_54 (by decide) ?_
            exact ih15 (k + 1) (pl2 S (pr2 S cnt a j) k) _ _ _ (by omega) (by omega) (by first | rw [pl2, if_pos c43] | rw [pl2, if_neg c43]) hP hD hS (lv_sub hl [2, 3, 4, 0] rfl)
          refine lv_iload_n hx hb dX2_peelFrom_46 rfl (lv_at hl 2 rfl) ?_
          refine lv_iload hx hb dX2_peelFrom_47 (lv_at hl 0 rfl) ?_
          refine lv_ior hx hb dX2_peelFrom_49 ?_
          refine lv_istore_n (lv' := [(2, .int ((pl2 S (pr2 S cnt a j) k) ||| (plO S (pl2 S (pr2 S cnt a j) k) k))), (5, .int (plO S (pl2 S (pr2 S cnt a j) k) k)), (0, .ref (g 0)), (3, .int (nI j)), (4, .int (nI k))]) hx hb dX2_peelFrom_50 rfl hl (by decide) rfl (fun ls hl => ?_)
          refine lv_iinc (v := nI (k + 1)) (lv' := [(4, .int (nI (k + 1))), (2, .int ((pl2 S (pr2 S cnt a j) k) ||| (plO S (pl2 S (pr2 S cnt a j) k) k))), (5, .int (plO S (pl2 S (pr2 S cnt a j) k) k)), (0, .ref (g 0)), (3, .int (nI j))]) hx hb dX2_peelFrom_51 hl (k := 4) rfl (fd_inc _) (by decide) rfl (fun ls hl => ?_)
          refine lv_goto (tgt := 15) hx hb dX2_peelFrom_54 (by decide) ?_
          exact ih15 (k + 1) ((pl2 S (pr2 S cnt a j) k) ||| (plO S (pl2 S (pr2 S cnt a j) k) k)) _ _ _ (by omega) (by omega) (by first | rw [pl2, if_pos c43] | rw [pl2, if_neg c43]) hP hD hS (lv_sub hl [3, 1, 4, 0] rfl)
      exact LP15 _ 0 (pr2 S cnt a j) _ _ _ (Nat.lt_succ_self _) (by omega) rfl hP hD hS (lv_sub hl [1, 2, 3, 0] rfl)
  exact LP4 _ 0 a _ _ _ (Nat.lt_succ_self _) (by omega) rfl hP hD hS (lv_sub hl [2, 1, 0] rfl)
abbrev rmX2_peeled : Room := { frames := 2, cells := 0, slots := 0, locals := 46 }
set_option maxHeartbeats 4000000 in
set_option maxRecDepth 100000 in
theorem metX2_peeled (l : Launch) (D : va_G) (g : Nat → Nat) (d : Nat → ClassId) (S V : Nat → Int32) (n cnt : Nat) (O T : Nat → Int32) (sm al : Int32)  (hn8 : n ≤ 8) (hc : cnt ≤ 16) : fd_I l yX2_peeled (ws_ yX2_peeled cX2_peeled 1 (some .int)) rmX2_peeled D (yT d) [.ref (g 0)] (yW g d S V n cnt O T sm al) (fun (r : Int32) (u : Unit) => r = pq2 S n cnt 0) (fun (u : Unit) => yW g d S V n cnt O T sm al) := by
  refine fd_Iof (lv := [(0, .ref (g 0))]) rfl (by decide) (Nat.le_of_ble_eq_true rfl) rfl ?_
  intro p e s m below meth c A ls Q S0 hK hP hD hA hl hret
  obtain ⟨hx, hb, hml, hown, hts⟩ := id S0
  have hS : va_S A s.heap s.heap [] := va_S.rf
  refine lv_aload_n hx hb dX2_peeled_0 rfl (lv_at hl 0 rfl) ?_
  refine lv_iconst (v := (0 : Int32)) hx hb dX2_peeled_1 (by decide) ?_
  refine fd_callVi (n := 1) (rest := []) (As := [.int (0 : Int32)]) (wr := []) S0 hK hP hD hS hA [0, 1, 2, 3, 4] [] [0, 1, 2, 3] (metX2_peelFrom l D g d S V n cnt O T sm al (0 : Int32) hn8 hc) q293 q295 qs17 q22 q296 dX2_peeled_2 rfl rfl rfl rfl ⟨⟨rfl, rfl⟩, Nat.le_of_ble_eq_true rfl, Nat.le_of_ble_eq_true rfl⟩ (by decide +kernel) rfl rfl (q0 := 0) rfl rfl hl.1 rfl (Nat.le_of_ble_eq_true rfl) ⟨Nat.le_of_ble_eq_true rfl, Nat.le_of_ble_eq_true rfl⟩ (fun r2 u2 H locs hq2 hP hD hS => ?_)
  subst hq2
  have hP : va_P D vwCl (yW g d S V n cnt O T sm al) H := hP
  have hD : va_D A (yW g d S V n cnt O T sm al) := hD
  exact hret (pq2 S n cnt (0 : Int32)) () _ _ _ _ dX2_peeled_5 rfl rfl hP hD hS
abbrev rmX2_isSeed : Room := { frames := 2, cells := 0, slots := 0, locals := 46 }
set_option maxHeartbeats 4000000 in
set_option maxRecDepth 100000 in
theorem metX2_isSeed (l : Launch) (D : va_G) (g : Nat → Nat) (d : Nat → ClassId) (S V : Nat → Int32) (n cnt : Nat) (O T : Nat → Int32) (sm al : Int32) (a : Int32) (hn8 : n ≤ 8) (hc : cnt ≤ 16) : fd_I l yX2_isSeed (ws_ yX2_isSeed cX2_isSeed 3 (some .int)) rmX2_isSeed D (yT d) [.ref (g 0), .int a] (yW g d S V n cnt O T sm al) (fun (r : Int32) (u : Unit) => r = idM n (pq2 S n cnt) a) (fun (u : Unit) => yW g d S V n cnt O T sm al) := by
  refine fd_Iof (lv := [(0, .ref (g 0)), (1, .int a)]) rfl (by decide) (Nat.le_of_ble_eq_true rfl) rfl ?_
  intro p e s m below meth c A ls Q S0 hK hP hD hA hl hret
  obtain ⟨hx, hb, hml, hown, hts⟩ := id S0
  have hS : va_S A s.heap s.heap [] := va_S.rf
  refine lv_aload_n hx hb dX2_isSeed_0 rfl (lv_at hl 0 rfl) ?_
  refine lv_iload_n hx hb dX2_isSeed_1 rfl (lv_at hl 1 rfl) ?_
  refine fd_callVi (n := 1) (rest := []) (As := [.int a]) (wr := []) S0 hK hP hD hS hA [0, 1, 2, 3, 4] [] [0, 1, 2, 3] (metX2_badSet l D g d S V n cnt O T sm al a hn8) q226 q228 qs11 q22 q229 dX2_isSeed_2 rfl rfl rfl rfl ⟨⟨rfl, rfl⟩, Nat.le_of_ble_eq_true rfl, Nat.le_of_ble_eq_true rfl⟩ (by decide +kernel) rfl rfl (q0 := 0) rfl rfl hl.1 rfl (Nat.le_of_ble_eq_true rfl) ⟨Nat.le_of_ble_eq_true rfl, Nat.le_of_ble_eq_true rfl⟩ (fun r2 u2 H locs hq2 hP hD hS => ?_)
  subst hq2
  have hP : va_P D vwCl (yW g d S V n cnt O T sm al) H := hP
  have hD : va_D A (yW g d S V n cnt O T sm al) := hD
  refine lv_if_eq (tgt := 10) hx hb dX2_isSeed_5 (by decide) (fun c5 => ?_) (fun c5 => ?_)
  · refine lv_aload_n hx hb dX2_isSeed_10 rfl (lv_at hl 0 rfl) ?_
    refine lv_iload_n hx hb dX2_isSeed_11 rfl (lv_at hl 1 rfl) ?_
    refine fd_callVi (n := 1) (rest := []) (As := [.int a]) (wr := []) S0 hK hP hD hS hA [0, 1, 2, 3, 4] [] [0, 1, 2, 3] (metX2_peelFrom l D g d S V n cnt O T sm al a hn8 hc) q293 q295 qs17 q22 q296 dX2_isSeed_12 rfl rfl rfl rfl ⟨⟨rfl, rfl⟩, Nat.le_of_ble_eq_true rfl, Nat.le_of_ble_eq_true rfl⟩ (by decide +kernel) rfl rfl (q0 := 0) rfl rfl hl.1 rfl (Nat.le_of_ble_eq_true rfl) ⟨Nat.le_of_ble_eq_true rfl, Nat.le_of_ble_eq_true rfl⟩ (fun r12 u12 H locs hq12 hP hD hS => ?_)
    subst hq12
    have hP : va_P D vwCl (yW g d S V n cnt O T sm al) H := hP
    have hD : va_D A (yW g d S V n cnt O T sm al) := hD
    refine lv_istore_n (lv' := [(2, .int (pq2 S n cnt a)), (0, .ref (g 0)), (1, .int a)]) hx hb dX2_isSeed_15 rfl hl (by decide) rfl (fun ls hl => ?_)
    refine lv_iload_n hx hb dX2_isSeed_16 rfl (lv_at hl 0 rfl) ?_
    refine lv_iconst (v := (1 : Int32)) hx hb dX2_isSeed_17 (by decide) ?_
    refine lv_aload_n hx hb dX2_isSeed_18 rfl (lv_at hl 1 rfl) ?_
    refine va_get (D := D) (ci := 1) (v := .int (nI n)) (C := RX2) (T := TX2) (N := 8) hx hb hts in_X2 hown hK hP 0 rfl rfl 4 (by decide) (hts _ q196) (fun _ h9 => h9) rfl dX2_isSeed_19 ?_
    refine lv_ishl hx hb dX2_isSeed_22 ?_
    refine fd_as (show ((1 : Int32) <<< ((nI n) &&& 31)) = nI (2 ^ n) from fd_pw hn8) ?_
    refine lv_iconst (v := (1 : Int32)) hx hb dX2_isSeed_23 (by decide) ?_
    refine lv_isub hx hb dX2_isSeed_24 ?_
    refine fd_as (show ((nI (2 ^ n)) - (1 : Int32)) = nI (2 ^ n - 1) from fd_pred (fd_p1 hn8).1) ?_
    refine lv_icmp_ne (tgt := 32) hx hb dX2_isSeed_25 (by decide) (fun c25 => ?_) (fun c25 => ?_)
    · refine lv_iconst (v := (0 : Int32)) hx hb dX2_isSeed_32 (by decide) ?_
      exact hret (0 : Int32) () _ _ _ _ dX2_isSeed_33 rfl (by first | rw [idM, if_neg (bsM_0.mp c5), if_neg c25] | rw [idM, if_neg (bsM_0.mp c5), if_pos c25]) hP hD hS
    refine lv_iconst (v := (1 : Int32)) hx hb dX2_isSeed_28 (by decide) ?_
    refine lv_goto (tgt := 33) hx hb dX2_isSeed_29 (by decide) ?_
    exact hret (1 : Int32) () _ _ _ _ dX2_isSeed_33 rfl (by first | rw [idM, if_neg (bsM_0.mp c5), if_neg c25] | rw [idM, if_neg (bsM_0.mp c5), if_pos c25]) hP hD hS
  refine lv_iconst (v := (-1 : Int32)) hx hb dX2_isSeed_8 (by decide) ?_
  exact hret (-1 : Int32) () _ _ _ _ dX2_isSeed_9 rfl (by rw [idM, if_pos (bsM_n0.mp c5)]) hP hD hS
abbrev rmX2_seed : Room := { frames := 3, cells := 0, slots := 0, locals := 68 }
set_option maxHeartbeats 4000000 in
set_option maxRecDepth 100000 in
theorem metX2_seed (l : Launch) (D : va_G) (g : Nat → Nat) (d : Nat → ClassId) (S V : Nat → Int32) (n cnt : Nat) (O T : Nat → Int32) (sm al : Int32)  (hn8 : n ≤ 8) (hc : cnt ≤ 16) : fd_I l yX2_seed (ws_ yX2_seed cX2_seed 5 (some .int)) rmX2_seed D (yT d) [.ref (g 0)] (yW g d S V n cnt O T sm al) (fun (r : Int32) (u : Unit) => r = (sd2 S n cnt (2 ^ n)).1) (fun (u : Unit) => yW g d S V n cnt O T sm al) := by
  refine fd_Iof (lv := [(0, .ref (g 0))]) rfl (by decide) (Nat.le_of_ble_eq_true rfl) rfl ?_
  intro p e s m below meth c A ls Q S0 hK hP hD hA hl hret
  obtain ⟨hx, hb, hml, hown, hts⟩ := id S0
  have hS : va_S A s.heap s.heap [] := va_S.rf
  obtain ⟨hp1, hp2⟩ := fd_p1 hn8
  refine lv_iconst (v := (1 : Int32)) hx hb dX2_seed_0 (by decide) ?_
  refine lv_aload_n hx hb dX2_seed_1 rfl (lv_at hl 0 rfl) ?_
  refine va_get (D := D) (ci := 1) (v := .int (nI n)) (C := RX2) (T := TX2) (N := 8) hx hb hts in_X2 hown hK hP 0 rfl rfl 4 (by decide) (hts _ q196) (fun _ h9 => h9) rfl dX2_seed_2 ?_
  refine lv_ishl hx hb dX2_seed_5 ?_
  refine fd_as (show ((1 : Int32) <<< ((nI n) &&& 31)) = nI (2 ^ n) from fd_pw hn8) ?_
  refine lv_iconst (v := (1 : Int32)) hx hb dX2_seed_6 (by decide) ?_
  refine lv_isub hx hb dX2_seed_7 ?_
  refine fd_as (show ((nI (2 ^ n)) - (1 : Int32)) = nI (2 ^ n - 1) from fd_pred (fd_p1 hn8).1) ?_
  refine lv_istore_n (lv' := [(1, .int (nI (2 ^ n - 1))), (0, .ref (g 0))]) hx hb dX2_seed_8 rfl hl (by decide) rfl (fun ls hl => ?_)
  refine lv_aload_n hx hb dX2_seed_9 rfl (lv_at hl 1 rfl) ?_
  refine va_get (D := D) (ci := 1) (v := .int (nI n)) (C := RX2) (T := TX2) (N := 8) hx hb hts in_X2 hown hK hP 0 rfl rfl 4 (by decide) (hts _ q196) (fun _ h9 => h9) rfl dX2_seed_10 ?_
  refine lv_istore_n (lv' := [(2, .int (nI n)), (1, .int (nI (2 ^ n - 1))), (0, .ref (g 0))]) hx hb dX2_seed_13 rfl hl (by decide) rfl (fun ls hl => ?_)
  refine lv_iconst (v := nI 0) hx hb dX2_seed_14 (by decide) ?_
  refine lv_istore_n (lv' := [(3, .int (nI 0)), (2, .int (nI n)), (1, .int (nI (2 ^ n - 1))), (0, .ref (g 0))]) hx hb dX2_seed_15 rfl hl (by decide) rfl (fun ls hl => ?_)
  have LP16 : ∀ (Nf16 : Nat) (k : Nat) (x1 : Int32) (x2 : Int32) (H : Heap) (locs : List Loc) (ls : Array Slot), 2 ^ n - k < Nf16 → (k ≤ 2 ^ n) → x1 = (sd2 S n cnt k).1 → x2 = (sd2 S n cnt k).2 → va_P D vwCl (yW g d S V n cnt O T sm al) H → va_D A (yW g d S V n cnt O T sm al) → va_S A s.heap H locs → lv_has ls 5 [(0, .ref (g 0)), (1, .int x1), (2, .int x2), (3, .int (nI k))] → W p l e rmX2_seed s m ([.ref (g 0)] : List Value).toArray below meth c H locs 0 0 Q (F0 m 16 ls []) := by
    intro Nf16
    induction Nf16 with
    | zero => intro k x1 x2 H locs ls hmu; exact absurd hmu (Nat.not_lt_zero _)
    | succ Nf16 ih16 =>
      intro k x1 x2 H locs ls hmu16 hc16_0 ex1 ex2 hP hD hS hl
      subst ex1
      subst ex2
      refine lv_iload_n hx hb dX2_seed_16 rfl (lv_at hl 3 rfl) ?_
      refine lv_iconst (v := (1 : Int32)) hx hb dX2_seed_17 (by decide) ?_
      refine lv_aload_n hx hb dX2_seed_18 rfl (lv_at hl 0 rfl) ?_
      refine va_get (D := D) (ci := 1) (v := .int (nI n)) (C := RX2) (T := TX2) (N := 8) hx hb hts in_X2 hown hK hP 0 rfl rfl 4 (by decide) (hts _ q196) (fun _ h9 => h9) rfl dX2_seed_19 ?_
      refine lv_ishl hx hb dX2_seed_22 ?_
      refine fd_as (show ((1 : Int32) <<< ((nI n) &&& 31)) = nI (2 ^ n) from fd_pw hn8) ?_
      refine lv_icmp_ge (tgt := 59) hx hb dX2_seed_23 (by decide) (fun c23 => ?_) (fun c23 => ?_)
      · have c23 : (2 ^ n) ≤ k := (nI_leI (a := (2 ^ n)) (b := k) (by omega) (by omega)).mp c23
        obtain rfl : 2 ^ n = k := by omega
        refine lv_iload_n hx hb dX2_seed_59 rfl (lv_at hl 1 rfl) ?_
        exact hret ((sd2 S n cnt (2 ^ n)).1) () _ _ _ _ dX2_seed_60 rfl rfl hP hD hS
      have c23 : ¬ ((2 ^ n) ≤ k) := fun h => c23 ((nI_leI (a := (2 ^ n)) (b := k) (by omega) (by omega)).mpr h)
      refine lv_aload_n hx hb dX2_seed_26 rfl (lv_at hl 0 rfl) ?_
      refine lv_iload_n hx hb dX2_seed_27 rfl (lv_at hl 3 rfl) ?_
      refine fd_callVi (n := 1) (rest := []) (As := [.int (nI k)]) (wr := []) S0 hK hP hD hS hA [0, 1, 2, 3, 4] [] [0, 1, 2, 3] (metX2_members l D g d S V n cnt O T sm al (nI k)) q188 q190 qs10 q22 q191 dX2_seed_28 rfl rfl rfl rfl ⟨⟨rfl, rfl⟩, Nat.le_of_ble_eq_true rfl, Nat.le_of_ble_eq_true rfl⟩ (by decide +kernel) rfl rfl (q0 := 0) rfl rfl hl.1 rfl (Nat.le_of_ble_eq_true rfl) ⟨Nat.le_of_ble_eq_true rfl, Nat.le_of_ble_eq_true rfl⟩ (fun r28 u28 H locs hq28 hP hD hS => ?_)
      subst hq28
      have hP : va_P D vwCl (yW g d S V n cnt O T sm al) H := hP
      have hD : va_D A (yW g d S V n cnt O T sm al) := hD
      refine lv_istore (lv' := [(4, .int (onesM (nI k) 8)), (0, .ref (g 0)), (1, .int ((sd2 S n cnt k).1)), (2, .int ((sd2 S n cnt k).2)), (3, .int (nI k))]) hx hb dX2_seed_31 hl (by decide) rfl (fun ls hl => ?_)
      refine lv_iload hx hb dX2_seed_33 (lv_at hl 0 rfl) ?_
      refine lv_iload_n hx hb dX2_seed_35 rfl (lv_at hl 3 rfl) ?_
      refine lv_icmp_ge (tgt := 53) hx hb dX2_seed_36 (by decide) (fun c36 => ?_) (fun c36 => ?_)
      · refine lv_iinc (v := nI (k + 1)) (lv' := [(3, .int (nI (k + 1))), (4, .int (onesM (nI k) 8)), (0, .ref (g 0)), (1, .int ((sd2 S n cnt k).1)), (2, .int ((sd2 S n cnt k).2))]) hx hb dX2_seed_53 hl (k := 4) rfl (fd_inc _) (by decide) rfl (fun ls hl => ?_)
        refine lv_goto (tgt := 16) hx hb dX2_seed_56 (by decide) ?_
        exact ih16 (k + 1) ((sd2 S n cnt k).1) ((sd2 S n cnt k).2) _ _ _ (by omega) (by omega) (by first | rw [sd2, if_pos c36] | rw [sd2, if_neg c36, if_neg c45] | rw [sd2, if_neg c36, if_pos c45]) (by first | rw [sd2, if_pos c36] | rw [sd2, if_neg c36, if_neg c45] | rw [sd2, if_neg c36, if_pos c45]) hP hD hS (lv_sub hl [2, 3, 4, 0] rfl)
      refine lv_aload_n hx hb dX2_seed_39 rfl (lv_at hl 1 rfl) ?_
      refine lv_iload_n hx hb dX2_seed_40 rfl (lv_at hl 4 rfl) ?_
      refine fd_callVi (n := 1) (rest := []) (As := [.int (nI k)]) (wr := []) S0 hK hP hD hS hA [0, 1, 2, 3, 4] [] [0, 1, 2, 3] (metX2_isSeed l D g d S V n cnt O T sm al (nI k) hn8 hc) q313 q302 q303 q22 q304 dX2_seed_41 rfl rfl rfl rfl ⟨⟨rfl, rfl⟩, Nat.le_of_ble_eq_true rfl, Nat.le_of_ble_eq_true rfl⟩ (by decide +kernel) rfl rfl (q0 := 0) rfl rfl hl.1 rfl (Nat.le_of_ble_eq_true rfl) ⟨Nat.le_of_ble_eq_true rfl, Nat.le_of_ble_eq_true rfl⟩ (fun r41 u41 H locs hq41 hP hD hS => ?_)
      subst hq41
      have hP : va_P D vwCl (yW g d S V n cnt O T sm al) H := hP
      have hD : va_D A (yW g d S V n cnt O T sm al) := hD
      refine lv_iconst (v := (1 : Int32)) hx hb dX2_seed_44 (by decide) ?_
      refine lv_icmp_ne (tgt := 53) hx hb dX2_seed_45 (by decide) (fun c45 => ?_) (fun c45 => ?_)
      · refine lv_iinc (v := nI (k + 1)) (lv' := [(3, .int (nI (k + 1))), (4, .int (onesM (nI k) 8)), (0, .ref (g 0)), (1, .int ((sd2 S n cnt k).1)), (2, .int ((sd2 S n cnt k).2))]) hx hb dX2_seed_53 hl (k := 4) rfl (fd_inc _) (by decide) rfl (fun ls hl => ?_)
        refine lv_goto (tgt := 16) hx hb dX2_seed_56 (by decide) ?_
        exact ih16 (k + 1) ((sd2 S n cnt k).1) ((sd2 S n cnt k).2) _ _ _ (by omega) (by omega) (by first | rw [sd2, if_pos c36] | rw [sd2, if_neg c36, if_neg c45] | rw [sd2, if_neg c36, if_pos c45]) (by first | rw [sd2, if_pos c36] | rw [sd2, if_neg c36, if_neg c45] | rw [sd2, if_neg c36, if_pos c45]) hP hD hS (lv_sub hl [2, 3, 4, 0] rfl)
      refine lv_iload hx hb dX2_seed_48 (lv_at hl 0 rfl) ?_
      refine lv_istore_n (lv' := [(2, .int (onesM (nI k) 8)), (4, .int (onesM (nI k) 8)), (0, .ref (g 0)), (1, .int ((sd2 S n cnt k).1)), (3, .int (nI k))]) hx hb dX2_seed_50 rfl hl (by decide) rfl (fun ls hl => ?_)
      refine lv_iload_n hx hb dX2_seed_51 rfl (lv_at hl 4 rfl) ?_
      refine lv_istore_n (lv' := [(1, .int (nI k)), (2, .int (onesM (nI k) 8)), (4, .int (onesM (nI k) 8)), (0, .ref (g 0)), (3, .int (nI k))]) hx hb dX2_seed_52 rfl hl (by decide) rfl (fun ls hl => ?_)
      refine lv_iinc (v := nI (k + 1)) (lv' := [(3, .int (nI (k + 1))), (1, .int (nI k)), (2, .int (onesM (nI k) 8)), (4, .int (onesM (nI k) 8)), (0, .ref (g 0))]) hx hb dX2_seed_53 hl (k := 4) rfl (fd_inc _) (by decide) rfl (fun ls hl => ?_)
      refine lv_goto (tgt := 16) hx hb dX2_seed_56 (by decide) ?_
      exact ih16 (k + 1) (nI k) (onesM (nI k) 8) _ _ _ (by omega) (by omega) (by first | rw [sd2, if_pos c36] | rw [sd2, if_neg c36, if_neg c45] | rw [sd2, if_neg c36, if_pos c45]) (by first | rw [sd2, if_pos c36] | rw [sd2, if_neg c36, if_neg c45] | rw [sd2, if_neg c36, if_pos c45]) hP hD hS (lv_sub hl [4, 1, 2, 0] rfl)
  exact LP16 _ 0 (nI (2 ^ n - 1)) (nI n) _ _ _ (Nat.lt_succ_self _) (by omega) rfl rfl hP hD hS (lv_sub hl [3, 2, 1, 0] rfl)
abbrev rmX2_seedSize : Room := { frames := 4, cells := 0, slots := 0, locals := 92 }
set_option maxHeartbeats 4000000 in
set_option maxRecDepth 100000 in
theorem metX2_seedSize (l : Launch) (D : va_G) (g : Nat → Nat) (d : Nat → ClassId) (S V : Nat → Int32) (n cnt : Nat) (O T : Nat → Int32) (sm al : Int32)  (hn8 : n ≤ 8) (hc : cnt ≤ 16) : fd_I l yX2_seedSize (ws_ yX2_seedSize cX2_seedSize 2 (some .int)) rmX2_seedSize D (yT d) [.ref (g 0)] (yW g d S V n cnt O T sm al) (fun (r : Int32) (u : Unit) => r = onesM (sd2 S n cnt (2 ^ n)).1 8) (fun (u : Unit) => yW g d S V n cnt O T sm al) := by
  refine fd_Iof (lv := [(0, .ref (g 0))]) rfl (by decide) (Nat.le_of_ble_eq_true rfl) rfl ?_
  intro p e s m below meth c A ls Q S0 hK hP hD hA hl hret
  obtain ⟨hx, hb, hml, hown, hts⟩ := id S0
  have hS : va_S A s.heap s.heap [] := va_S.rf
  refine lv_aload_n hx hb dX2_seedSize_0 rfl (lv_at hl 0 rfl) ?_
  refine fd_callVi (n := 0) (rest := []) (As := []) (wr := []) S0 hK hP hD hS hA [0, 1, 2, 3, 4] [] [0, 1, 2, 3] (metX2_seed l D g d S V n cnt O T sm al hn8 hc) q309 q310 q311 q22 q312 dX2_seedSize_1 rfl rfl rfl rfl ⟨⟨rfl, rfl⟩, Nat.le_of_ble_eq_true rfl, Nat.le_of_ble_eq_true rfl⟩ (by decide +kernel) rfl rfl (q0 := 0) rfl rfl hl.1 rfl (Nat.le_of_ble_eq_true rfl) ⟨Nat.le_of_ble_eq_true rfl, Nat.le_of_ble_eq_true rfl⟩ (fun r1 u1 H locs hq1 hP hD hS => ?_)
  subst hq1
  have hP : va_P D vwCl (yW g d S V n cnt O T sm al) H := hP
  have hD : va_D A (yW g d S V n cnt O T sm al) := hD
  refine lv_istore_n (lv' := [(1, .int ((sd2 S n cnt (2 ^ n)).1)), (0, .ref (g 0))]) hx hb dX2_seedSize_4 rfl hl (by decide) rfl (fun ls hl => ?_)
  refine lv_aload_n hx hb dX2_seedSize_5 rfl (lv_at hl 1 rfl) ?_
  refine lv_iload_n hx hb dX2_seedSize_6 rfl (lv_at hl 0 rfl) ?_
  refine fd_callVi (n := 1) (rest := []) (As := [.int ((sd2 S n cnt (2 ^ n)).1)]) (wr := []) S0 hK hP hD hS hA [0, 1, 2, 3, 4] [] [0, 1, 2, 3] (metX2_members l D g d S V n cnt O T sm al ((sd2 S n cnt (2 ^ n)).1)) q188 q190 qs10 q22 q191 dX2_seedSize_7 rfl rfl rfl rfl ⟨⟨rfl, rfl⟩, Nat.le_of_ble_eq_true rfl, Nat.le_of_ble_eq_true rfl⟩ (by decide +kernel) rfl rfl (q0 := 0) rfl rfl hl.1 rfl (Nat.le_of_ble_eq_true rfl) ⟨Nat.le_of_ble_eq_true rfl, Nat.le_of_ble_eq_true rfl⟩ (fun r7 u7 H locs hq7 hP hD hS => ?_)
  subst hq7
  have hP : va_P D vwCl (yW g d S V n cnt O T sm al) H := hP
  have hD : va_D A (yW g d S V n cnt O T sm al) := hD
  exact hret (onesM ((sd2 S n cnt (2 ^ n)).1) 8) () _ _ _ _ dX2_seedSize_10 rfl rfl hP hD hS
abbrev rmX2_spare : Room := { frames := 4, cells := 0, slots := 0, locals := 92 }
set_option maxHeartbeats 4000000 in
set_option maxRecDepth 100000 in
theorem metX2_spare (l : Launch) (D : va_G) (g : Nat → Nat) (d : Nat → ClassId) (S V : Nat → Int32) (n cnt : Nat) (O T : Nat → Int32) (sm al : Int32)  (hn8 : n ≤ 8) (hc : cnt ≤ 16) (hg : gdS S cnt) : fd_I l yX2_spare (ws_ yX2_spare cX2_spare 5 (some .int)) rmX2_spare D (yT d) [.ref (g 0)] (yW g d S V n cnt O T sm al) (fun (r : Int32) (u : Int32 × Int32) => r = sp2 (kwM S V O n cnt) cnt) (fun (u : Int32 × Int32) => yW g d S V n cnt O T u.1 u.2) := by
  refine fd_Iof (lv := [(0, .ref (g 0))]) rfl (by decide) (Nat.le_of_ble_eq_true rfl) rfl ?_
  intro p e s m below meth c A ls Q S0 hK hP hD hA hl hret
  obtain ⟨hx, hb, hml, hown, hts⟩ := id S0
  have hS : va_S A s.heap s.heap [] := va_S.rf
  refine lv_aload_n hx hb dX2_spare_0 rfl (lv_at hl 0 rfl) ?_
  refine fd_callVi (n := 0) (rest := []) (As := []) (wr := []) S0 hK hP hD hS hA [0, 1, 2, 3, 4] [] [0, 1, 2, 3] (metX2_known l D g d S V n cnt O T sm al hn8 hc hg) q319 q273 q274 q22 q275 dX2_spare_1 rfl rfl rfl rfl ⟨⟨rfl, rfl⟩, Nat.le_of_ble_eq_true rfl, Nat.le_of_ble_eq_true rfl⟩ (by decide +kernel) rfl rfl (q0 := 0) rfl rfl hl.1 rfl (Nat.le_of_ble_eq_true rfl) ⟨Nat.le_of_ble_eq_true rfl, Nat.le_of_ble_eq_true rfl⟩ (fun r1 u1 H locs hq1 hP hD hS => ?_)
  have hP : va_P D vwCl (yW g d S V n cnt O T u1.1 u1.2) H := hP
  have hD : va_D A (yW g d S V n cnt O T u1.1 u1.2) := hD
  subst hq1
  refine lv_istore_n (lv' := [(1, .int (kwM S V O n cnt (-1))), (0, .ref (g 0))]) hx hb dX2_spare_4 rfl hl (by decide) rfl (fun ls hl => ?_)
  refine lv_iconst (v := (0 : Int32)) hx hb dX2_spare_5 (by decide) ?_
  refine lv_istore_n (lv' := [(2, .int (0 : Int32)), (1, .int (kwM S V O n cnt (-1))), (0, .ref (g 0))]) hx hb dX2_spare_6 rfl hl (by decide) rfl (fun ls hl => ?_)
  refine lv_iconst (v := nI 0) hx hb dX2_spare_7 (by decide) ?_
  refine lv_istore_n (lv' := [(3, .int (nI 0)), (2, .int (0 : Int32)), (1, .int (kwM S V O n cnt (-1))), (0, .ref (g 0))]) hx hb dX2_spare_8 rfl hl (by decide) rfl (fun ls hl => ?_)
  have LP9 : ∀ (Nf9 : Nat) (k : Nat) (x2 : Int32) (xs : Int32) (xa : Int32) (H : Heap) (locs : List Loc) (ls : Array Slot), cnt - k < Nf9 → (k ≤ cnt) → x2 = sp2 (kwM S V O n cnt) k → va_P D vwCl (yW g d S V n cnt O T xs xa) H → va_D A (yW g d S V n cnt O T xs xa) → va_S A s.heap H locs → lv_has ls 5 [(0, .ref (g 0)), (1, .int (kwM S V O n cnt (-1))), (2, .int x2), (3, .int (nI k))] → W p l e rmX2_spare s m ([.ref (g 0)] : List Value).toArray below meth c H locs 0 0 Q (F0 m 9 ls []) := by
    intro Nf9
    induction Nf9 with
    | zero => intro k x2 xs xa H locs ls hmu; exact absurd hmu (Nat.not_lt_zero _)
    | succ Nf9 ih9 =>
      intro k x2 xs xa H locs ls hmu9 hc9_0 ex2 hP hD hS hl
      subst ex2
      refine lv_iload_n hx hb dX2_spare_9 rfl (lv_at hl 3 rfl) ?_
      refine lv_aload_n hx hb dX2_spare_10 rfl (lv_at hl 0 rfl) ?_
      refine va_get (D := D) (ci := 1) (v := .int (nI cnt)) (C := RX2) (T := TX2) (N := 8) hx hb hts in_X2 hown hK hP 0 rfl rfl 5 (by decide) (hts _ q197) (fun _ h9 => h9) rfl dX2_spare_11 ?_
      refine lv_icmp_ge (tgt := 41) hx hb dX2_spare_14 (by decide) (fun c14 => ?_) (fun c14 => ?_)
      · have c14 : cnt ≤ k := (nI_leI (a := cnt) (b := k) (by omega) (by omega)).mp c14
        obtain rfl : cnt = k := by omega
        refine lv_iload_n hx hb dX2_spare_41 rfl (lv_at hl 2 rfl) ?_
        exact hret (sp2 (kwM S V O n cnt) cnt) (xs, xa) _ _ _ _ dX2_spare_42 rfl rfl hP hD hS
      have c14 : ¬ (cnt ≤ k) := fun h => c14 ((nI_leI (a := cnt) (b := k) (by omega) (by omega)).mpr h)
      refine lv_aload_n hx hb dX2_spare_17 rfl (lv_at hl 0 rfl) ?_
      refine lv_iload_n hx hb dX2_spare_18 rfl (lv_at hl 3 rfl) ?_
      refine fd_callVi (n := 1) (rest := []) (As := [.int (nI k)]) (wr := []) S0 hK hP hD hS hA [0, 1, 2, 3, 4] [] [0, 1, 2, 3] (metX2_knownWithout l D g d S V n cnt O T xs xa (nI k) hn8 hc hg) q276 q278 qs16 q22 q279 dX2_spare_19 rfl rfl rfl rfl ⟨⟨rfl, rfl⟩, Nat.le_of_ble_eq_true rfl, Nat.le_of_ble_eq_true rfl⟩ (by decide +kernel) rfl rfl (q0 := 0) rfl rfl hl.1 rfl (Nat.le_of_ble_eq_true rfl) ⟨Nat.le_of_ble_eq_true rfl, Nat.le_of_ble_eq_true rfl⟩ (fun r19 u19 H locs hq19 hP hD hS => ?_)
      have hP : va_P D vwCl (yW g d S V n cnt O T u19.1 u19.2) H := hP
      have hD : va_D A (yW g d S V n cnt O T u19.1 u19.2) := hD
      subst hq19
      refine lv_istore (lv' := [(4, .int (kwM S V O n cnt (nI k))), (0, .ref (g 0)), (1, .int (kwM S V O n cnt (-1))), (2, .int (sp2 (kwM S V O n cnt) k)), (3, .int (nI k))]) hx hb dX2_spare_22 hl (by decide) rfl (fun ls hl => ?_)
      refine lv_iload hx hb dX2_spare_24 (lv_at hl 0 rfl) ?_
      refine lv_iload_n hx hb dX2_spare_26 rfl (lv_at hl 2 rfl) ?_
      refine lv_iand hx hb dX2_spare_27 ?_
      refine lv_iload_n hx hb dX2_spare_28 rfl (lv_at hl 2 rfl) ?_
      refine lv_icmp_ne (tgt := 35) hx hb dX2_spare_29 (by decide) (fun c29 => ?_) (fun c29 => ?_)
      · refine lv_iinc (v := nI (k + 1)) (lv' := [(3, .int (nI (k + 1))), (4, .int (kwM S V O n cnt (nI k))), (0, .ref (g 0)), (1, .int (kwM S V O n cnt (-1))), (2, .int (sp2 (kwM S V O n cnt) k))]) hx hb dX2_spare_35 hl (k := 4) rfl (fd_inc _) (by decide) rfl (fun ls hl => ?_)
        refine lv_goto (tgt := 9) hx hb dX2_spare_38 (by decide) ?_
        exact ih9 (k + 1) (sp2 (kwM S V O n cnt) k) u19.1 u19.2 _ _ _ (by omega) (by omega) (by first | rw [sp2, if_pos c29] | rw [sp2, if_neg c29]) hP hD hS (lv_sub hl [2, 3, 4, 0] rfl)
      refine lv_iinc (v := ((sp2 (kwM S V O n cnt) k) + (1 : Int32))) (lv' := [(2, .int ((sp2 (kwM S V O n cnt) k) + (1 : Int32))), (4, .int (kwM S V O n cnt (nI k))), (0, .ref (g 0)), (1, .int (kwM S V O n cnt (-1))), (3, .int (nI k))]) hx hb dX2_spare_32 hl (k := 3) rfl rfl (by decide) rfl (fun ls hl => ?_)
      refine lv_iinc (v := nI (k + 1)) (lv' := [(3, .int (nI (k + 1))), (2, .int ((sp2 (kwM S V O n cnt) k) + (1 : Int32))), (4, .int (kwM S V O n cnt (nI k))), (0, .ref (g 0)), (1, .int (kwM S V O n cnt (-1)))]) hx hb dX2_spare_35 hl (k := 4) rfl (fd_inc _) (by decide) rfl (fun ls hl => ?_)
      refine lv_goto (tgt := 9) hx hb dX2_spare_38 (by decide) ?_
      exact ih9 (k + 1) ((sp2 (kwM S V O n cnt) k) + (1 : Int32)) u19.1 u19.2 _ _ _ (by omega) (by omega) (by first | rw [sp2, if_pos c29] | rw [sp2, if_neg c29]) hP hD hS (lv_sub hl [3, 4, 1, 0] rfl)
  exact LP9 _ 0 (0 : Int32) u1.1 u1.2 _ _ _ (Nat.lt_succ_self _) (by omega) rfl hP hD hS (lv_sub hl [3, 2, 1, 0] rfl)
abbrev rmX2_helps : Room := { frames := 1, cells := 0, slots := 0, locals := 25 }
set_option maxHeartbeats 4000000 in
set_option maxRecDepth 100000 in
theorem metX2_helps (l : Launch) (D : va_G) (g : Nat → Nat) (d : Nat → ClassId) (S V : Nat → Int32) (n cnt : Nat) (O T : Nat → Int32) (sm al : Int32) (a bef : Int32) (hn8 : n ≤ 8) (hc : cnt ≤ 16) (hg : gdS S cnt) (hav : ∃ v : Nat, v < 256 ∧ a = nI v) : fd_I l yX2_helps (ws_ yX2_helps cX2_helps 7 (some .boolean)) rmX2_helps D (yT d) [.ref (g 0), .int a, .int bef] (yW g d S V n cnt O T sm al) (fun (r : Int32) (u : Unit) => r = hpM S V O n cnt a bef) (fun (u : Unit) => yW g d S V n cnt O T sm al) := by
  refine fd_Iof (lv := [(0, .ref (g 0)), (1, .int a), (2, .int bef)]) rfl (by decide) (Nat.le_of_ble_eq_true rfl) rfl ?_
  intro p e s m below meth c A ls Q S0 hK hP hD hA hl hret
  obtain ⟨hx, hb, hml, hown, hts⟩ := id S0
  have hS : va_S A s.heap s.heap [] := va_S.rf
  obtain ⟨hp1, hp2⟩ := fd_p1 hn8
  refine lv_iconst (v := (0 : Int32)) hx hb dX2_helps_0 (by decide) ?_
  refine lv_istore_n (lv' := [(3, .int (0 : Int32)), (0, .ref (g 0)), (1, .int a), (2, .int bef)]) hx hb dX2_helps_1 rfl hl (by decide) rfl (fun ls hl => ?_)
  refine lv_iconst (v := (1 : Int32)) hx hb dX2_helps_2 (by decide) ?_
  refine lv_aload_n hx hb dX2_helps_3 rfl (lv_at hl 1 rfl) ?_
  refine va_get (D := D) (ci := 1) (v := .int (nI n)) (C := RX2) (T := TX2) (N := 8) hx hb hts in_X2 hown hK hP 0 rfl rfl 4 (by decide) (hts _ q196) (fun _ h9 => h9) rfl dX2_helps_4 ?_
  refine lv_ishl hx hb dX2_helps_7 ?_
  refine fd_as (show ((1 : Int32) <<< ((nI n) &&& 31)) = nI (2 ^ n) from fd_pw hn8) ?_
  refine lv_iconst (v := (1 : Int32)) hx hb dX2_helps_8 (by decide) ?_
  refine lv_isub hx hb dX2_helps_9 ?_
  refine fd_as (show ((nI (2 ^ n)) - (1 : Int32)) = nI (2 ^ n - 1) from fd_pred (fd_p1 hn8).1) ?_
  refine lv_istore (lv' := [(4, .int (nI (2 ^ n - 1))), (3, .int (0 : Int32)), (0, .ref (g 0)), (1, .int a), (2, .int bef)]) hx hb dX2_helps_10 hl (by decide) rfl (fun ls hl => ?_)
  refine lv_iconst (v := (0 : Int32)) hx hb dX2_helps_12 (by decide) ?_
  refine lv_istore (lv' := [(5, .int (0 : Int32)), (4, .int (nI (2 ^ n - 1))), (3, .int (0 : Int32)), (0, .ref (g 0)), (1, .int a), (2, .int bef)]) hx hb dX2_helps_13 hl (by decide) rfl (fun ls hl => ?_)
  refine lv_iconst (v := nI 0) hx hb dX2_helps_15 (by decide) ?_
  refine lv_istore (lv' := [(6, .int (nI 0)), (5, .int (0 : Int32)), (4, .int (nI (2 ^ n - 1))), (3, .int (0 : Int32)), (0, .ref (g 0)), (1, .int a), (2, .int bef)]) hx hb dX2_helps_16 hl (by decide) rfl (fun ls hl => ?_)
  have LP18 : ∀ (Nf18 : Nat) (k : Nat) (x3 : Int32) (x4 : Int32) (x5 : Int32) (H : Heap) (locs : List Loc) (ls : Array Slot), 2 ^ n - k < Nf18 → (k ≤ 2 ^ n) → x3 = (hpL S V O n cnt a k).2.1 → x4 = (hpL S V O n cnt a k).2.2 → x5 = bI (hpL S V O n cnt a k).1 → va_P D vwCl (yW g d S V n cnt O T sm al) H → va_D A (yW g d S V n cnt O T sm al) → va_S A s.heap H locs → lv_has ls 7 [(0, .ref (g 0)), (1, .int a), (2, .int bef), (3, .int x3), (4, .int x4), (5, .int x5), (6, .int (nI k))] → W p l e rmX2_helps s m ([.ref (g 0), .int a, .int bef] : List Value).toArray below meth c H locs 0 0 Q (F0 m 18 ls []) := by
    intro Nf18
    induction Nf18 with
    | zero => intro k x3 x4 x5 H locs ls hmu; exact absurd hmu (Nat.not_lt_zero _)
    | succ Nf18 ih18 =>
      intro k x3 x4 x5 H locs ls hmu18 hc18_0 ex3 ex4 ex5 hP hD hS hl
      subst ex3
      subst ex4
      subst ex5
      refine lv_iload hx hb dX2_helps_18 (lv_at hl 6 rfl) ?_
      refine lv_iconst (v := (1 : Int32)) hx hb dX2_helps_20 (by decide) ?_
      refine lv_aload_n hx hb dX2_helps_21 rfl (lv_at hl 0 rfl) ?_
      refine va_get (D := D) (ci := 1) (v := .int (nI n)) (C := RX2) (T := TX2) (N := 8) hx hb hts in_X2 hown hK hP 0 rfl rfl 4 (by decide) (hts _ q196) (fun _ h9 => h9) rfl dX2_helps_22 ?_
      refine lv_ishl hx hb dX2_helps_25 ?_
      refine fd_as (show ((1 : Int32) <<< ((nI n) &&& 31)) = nI (2 ^ n) from fd_pw hn8) ?_
      refine lv_icmp_ge (tgt := 73) hx hb dX2_helps_26 (by decide) (fun c26 => ?_) (fun c26 => ?_)
      · have c26 : (2 ^ n) ≤ k := (nI_leI (a := (2 ^ n)) (b := k) (by omega) (by omega)).mp c26
        obtain rfl : 2 ^ n = k := by omega
        refine lv_iconst (v := (1 : Int32)) hx hb dX2_helps_73 (by decide) ?_
        refine lv_aload_n hx hb dX2_helps_74 rfl (lv_at hl 0 rfl) ?_
        refine va_get (D := D) (ci := 1) (v := .int (nI n)) (C := RX2) (T := TX2) (N := 8) hx hb hts in_X2 hown hK hP 0 rfl rfl 4 (by decide) (hts _ q196) (fun _ h9 => h9) rfl dX2_helps_75 ?_
        refine lv_ishl hx hb dX2_helps_78 ?_
        refine fd_as (show ((1 : Int32) <<< ((nI n) &&& 31)) = nI (2 ^ n) from fd_pw hn8) ?_
        refine lv_iconst (v := (1 : Int32)) hx hb dX2_helps_79 (by decide) ?_
        refine lv_isub hx hb dX2_helps_80 ?_
        refine fd_as (show ((nI (2 ^ n)) - (1 : Int32)) = nI (2 ^ n - 1) from fd_pred (fd_p1 hn8).1) ?_
        refine lv_iload_n hx hb dX2_helps_81 rfl (lv_at hl 3 rfl) ?_
        refine lv_iload hx hb dX2_helps_82 (lv_at hl 4 rfl) ?_
        refine lv_ixor hx hb dX2_helps_84 ?_
        refine lv_isub hx hb dX2_helps_85 ?_
        refine lv_istore (lv' := [(6, .int ((nI (2 ^ n - 1)) - (((hpL S V O n cnt a (2 ^ n)).2.1) ^^^ ((hpL S V O n cnt a (2 ^ n)).2.2)))), (0, .ref (g 0)), (1, .int a), (2, .int bef), (3, .int ((hpL S V O n cnt a (2 ^ n)).2.1)), (4, .int ((hpL S V O n cnt a (2 ^ n)).2.2)), (5, .int (bI (hpL S V O n cnt a (2 ^ n)).1))]) hx hb dX2_helps_86 hl (by decide) rfl (fun ls hl => ?_)
        refine lv_iload hx hb dX2_helps_88 (lv_at hl 6 rfl) ?_
        refine lv_if_eq (tgt := 103) hx hb dX2_helps_90 (by decide) (fun c90 => ?_) (fun c90 => ?_)
        · refine lv_iconst (v := (0 : Int32)) hx hb dX2_helps_103 (by decide) ?_
          exact hret (0 : Int32) () _ _ _ _ dX2_helps_104 rfl (by first | rw [hpM, if_neg (by rw [bI_0.mp c90]; decide)] | rw [hpM, if_pos (bI_n0.mp c90), if_pos c96] | rw [hpM, if_pos (bI_n0.mp c90), if_neg c96]) hP hD hS
        refine lv_iload hx hb dX2_helps_93 (lv_at hl 0 rfl) ?_
        refine lv_iload_n hx hb dX2_helps_95 rfl (lv_at hl 3 rfl) ?_
        refine lv_icmp_eq (tgt := 103) hx hb dX2_helps_96 (by decide) (fun c96 => ?_) (fun c96 => ?_)
        · refine lv_iconst (v := (0 : Int32)) hx hb dX2_helps_103 (by decide) ?_
          exact hret (0 : Int32) () _ _ _ _ dX2_helps_104 rfl (by first | rw [hpM, if_neg (by rw [bI_0.mp c90]; decide)] | rw [hpM, if_pos (bI_n0.mp c90), if_pos c96] | rw [hpM, if_pos (bI_n0.mp c90), if_neg c96]) hP hD hS
        refine lv_iconst (v := (1 : Int32)) hx hb dX2_helps_99 (by decide) ?_
        refine lv_goto (tgt := 104) hx hb dX2_helps_100 (by decide) ?_
        exact hret (1 : Int32) () _ _ _ _ dX2_helps_104 rfl (by first | rw [hpM, if_neg (by rw [bI_0.mp c90]; decide)] | rw [hpM, if_pos (bI_n0.mp c90), if_pos c96] | rw [hpM, if_pos (bI_n0.mp c90), if_neg c96]) hP hD hS
      have c26 : ¬ ((2 ^ n) ≤ k) := fun h => c26 ((nI_leI (a := (2 ^ n)) (b := k) (by omega) (by omega)).mpr h)
      refine lv_aload_n hx hb dX2_helps_29 rfl (lv_at hl 0 rfl) ?_
      refine va_get (D := D) (ci := 1) (v := .ref (g 3)) (C := RX2) (T := TX2) (N := 8) hx hb hts in_X2 hown hK hP 0 rfl rfl 2 (by decide) (hts _ q194) (fun _ h9 => h9) rfl dX2_helps_30 ?_
      refine lv_iload hx hb dX2_helps_33 (lv_at hl 6 rfl) ?_
      refine lv_iload_n hx hb dX2_helps_35 rfl (lv_at hl 1 rfl) ?_
      refine lv_iand hx hb dX2_helps_36 ?_
      refine va_zald hx hb hK hP 3 2 rfl rfl (by obtain ⟨v, hv, ev⟩ := hav; exact fd_in hv ev) dX2_helps_37 ?_
      refine lv_if_ne (tgt := 67) hx hb dX2_helps_38 (by decide) (fun c38 => ?_) (fun c38 => ?_)
      · refine lv_iinc (v := nI (k + 1)) (lv' := [(6, .int (nI (k + 1))), (0, .ref (g 0)), (1, .int a), (2, .int bef), (3, .int ((hpL S V O n cnt a k).2.1)), (4, .int ((hpL S V O n cnt a k).2.2)), (5, .int (bI (hpL S V O n cnt a k).1))]) hx hb dX2_helps_67 hl (k := 6) rfl (fd_inc _) (by decide) rfl (fun ls hl => ?_)
        refine lv_goto (tgt := 18) hx hb dX2_helps_70 (by decide) ?_
        exact ih18 (k + 1) ((hpL S V O n cnt a k).2.1) ((hpL S V O n cnt a k).2.2) (bI (hpL S V O n cnt a k).1) _ _ _ (by omega) (by omega) (by first | (rw [hpL, if_neg c38]; done) | (rw [hpL, if_neg c38]; rfl) | (rw [hpL, if_pos c38, if_neg (by rw [c49]; decide)]; done) | (rw [hpL, if_pos c38, if_neg (by rw [c49]; decide)]; rfl) | (rw [hpL, if_pos c38, if_pos c49]; done) | (rw [hpL, if_pos c38, if_pos c49]; rfl)) (by first | (rw [hpL, if_neg c38]; done) | (rw [hpL, if_neg c38]; rfl) | (rw [hpL, if_pos c38, if_neg (by rw [c49]; decide)]; done) | (rw [hpL, if_pos c38, if_neg (by rw [c49]; decide)]; rfl) | (rw [hpL, if_pos c38, if_pos c49]; done) | (rw [hpL, if_pos c38, if_pos c49]; rfl)) (by first | (rw [hpL, if_neg c38]; done) | (rw [hpL, if_neg c38]; rfl) | (rw [hpL, if_pos c38, if_neg (by rw [c49]; decide)]; done) | (rw [hpL, if_pos c38, if_neg (by rw [c49]; decide)]; rfl) | (rw [hpL, if_pos c38, if_pos c49]; done) | (rw [hpL, if_pos c38, if_pos c49]; rfl)) hP hD hS (lv_sub hl [1, 2, 3, 4, 5, 6, 0] rfl)
      refine lv_aload_n hx hb dX2_helps_41 rfl (lv_at hl 0 rfl) ?_
      refine lv_iload hx hb dX2_helps_42 (lv_at hl 6 rfl) ?_
      refine lv_iconst (v := (0 : Int32)) hx hb dX2_helps_44 (by decide) ?_
      refine lv_iconst (v := (-1 : Int32)) hx hb dX2_helps_45 (by decide) ?_
      refine fd_callVi (n := 3) (rest := []) (As := [.int (nI k), .int (0 : Int32), .int (-1 : Int32)]) (wr := []) S0 hK hP hD hS hA [0, 1, 2, 3, 4] [] [0, 1, 2, 3] (metX2_solves l D g d S V n cnt O T sm al (nI k) (0 : Int32) (-1 : Int32) hc hg) q260 q262 qs14 q22 q263 dX2_helps_46 rfl rfl rfl rfl ⟨⟨rfl, rfl⟩, Nat.le_of_ble_eq_true rfl, Nat.le_of_ble_eq_true rfl⟩ (by decide +kernel) rfl rfl (q0 := 0) rfl rfl hl.1 rfl (Nat.le_of_ble_eq_true rfl) ⟨Nat.le_of_ble_eq_true rfl, Nat.le_of_ble_eq_true rfl⟩ (fun r46 u46 H locs hq46 hP hD hS => ?_)
      subst hq46
      have hP : va_P D vwCl (yW g d S V n cnt O T sm al) H := hP
      have hD : va_D A (yW g d S V n cnt O T sm al) := hD
      refine lv_if_eq (tgt := 67) hx hb dX2_helps_49 (by decide) (fun c49 => ?_) (fun c49 => ?_)
      · have c49 := bI_0.mp c49
        refine lv_iinc (v := nI (k + 1)) (lv' := [(6, .int (nI (k + 1))), (0, .ref (g 0)), (1, .int a), (2, .int bef), (3, .int ((hpL S V O n cnt a k).2.1)), (4, .int ((hpL S V O n cnt a k).2.2)), (5, .int (bI (hpL S V O n cnt a k).1))]) hx hb dX2_helps_67 hl (k := 6) rfl (fd_inc _) (by decide) rfl (fun ls hl => ?_)
        refine lv_goto (tgt := 18) hx hb dX2_helps_70 (by decide) ?_
        exact ih18 (k + 1) ((hpL S V O n cnt a k).2.1) ((hpL S V O n cnt a k).2.2) (bI (hpL S V O n cnt a k).1) _ _ _ (by omega) (by omega) (by first | (rw [hpL, if_neg c38]; done) | (rw [hpL, if_neg c38]; rfl) | (rw [hpL, if_pos c38, if_neg (by rw [c49]; decide)]; done) | (rw [hpL, if_pos c38, if_neg (by rw [c49]; decide)]; rfl) | (rw [hpL, if_pos c38, if_pos c49]; done) | (rw [hpL, if_pos c38, if_pos c49]; rfl)) (by first | (rw [hpL, if_neg c38]; done) | (rw [hpL, if_neg c38]; rfl) | (rw [hpL, if_pos c38, if_neg (by rw [c49]; decide)]; done) | (rw [hpL, if_pos c38, if_neg (by rw [c49]; decide)]; rfl) | (rw [hpL, if_pos c38, if_pos c49]; done) | (rw [hpL, if_pos c38, if_pos c49]; rfl)) (by first | (rw [hpL, if_neg c38]; done) | (rw [hpL, if_neg c38]; rfl) | (rw [hpL, if_pos c38, if_neg (by rw [c49]; decide)]; done) | (rw [hpL, if_pos c38, if_neg (by rw [c49]; decide)]; rfl) | (rw [hpL, if_pos c38, if_pos c49]; done) | (rw [hpL, if_pos c38, if_pos c49]; rfl)) hP hD hS (lv_sub hl [1, 2, 3, 4, 5, 6, 0] rfl)
      have c49 := bI_n0.mp c49
      refine lv_iconst (v := (1 : Int32)) hx hb dX2_helps_52 (by decide) ?_
      refine lv_istore (lv' := [(5, .int (1 : Int32)), (0, .ref (g 0)), (1, .int a), (2, .int bef), (3, .int ((hpL S V O n cnt a k).2.1)), (4, .int ((hpL S V O n cnt a k).2.2)), (6, .int (nI k))]) hx hb dX2_helps_53 hl (by decide) rfl (fun ls hl => ?_)
      refine lv_iload_n hx hb dX2_helps_55 rfl (lv_at hl 4 rfl) ?_
      refine lv_iload hx hb dX2_helps_56 (lv_at hl 6 rfl) ?_
      refine lv_ior hx hb dX2_helps_58 ?_
      refine lv_istore_n (lv' := [(3, .int (((hpL S V O n cnt a k).2.1) ||| (nI k))), (5, .int (1 : Int32)), (0, .ref (g 0)), (1, .int a), (2, .int bef), (4, .int ((hpL S V O n cnt a k).2.2)), (6, .int (nI k))]) hx hb dX2_helps_59 rfl hl (by decide) rfl (fun ls hl => ?_)
      refine lv_iload hx hb dX2_helps_60 (lv_at hl 5 rfl) ?_
      refine lv_iload hx hb dX2_helps_62 (lv_at hl 6 rfl) ?_
      refine lv_iand hx hb dX2_helps_64 ?_
      refine lv_istore (lv' := [(4, .int (((hpL S V O n cnt a k).2.2) &&& (nI k))), (3, .int (((hpL S V O n cnt a k).2.1) ||| (nI k))), (5, .int (1 : Int32)), (0, .ref (g 0)), (1, .int a), (2, .int bef), (6, .int (nI k))]) hx hb dX2_helps_65 hl (by decide) rfl (fun ls hl => ?_)
      refine lv_iinc (v := nI (k + 1)) (lv' := [(6, .int (nI (k + 1))), (4, .int (((hpL S V O n cnt a k).2.2) &&& (nI k))), (3, .int (((hpL S V O n cnt a k).2.1) ||| (nI k))), (5, .int (1 : Int32)), (0, .ref (g 0)), (1, .int a), (2, .int bef)]) hx hb dX2_helps_67 hl (k := 6) rfl (fd_inc _) (by decide) rfl (fun ls hl => ?_)
      refine lv_goto (tgt := 18) hx hb dX2_helps_70 (by decide) ?_
      exact ih18 (k + 1) (((hpL S V O n cnt a k).2.1) ||| (nI k)) (((hpL S V O n cnt a k).2.2) &&& (nI k)) (1 : Int32) _ _ _ (by omega) (by omega) (by first | (rw [hpL, if_neg c38]; done) | (rw [hpL, if_neg c38]; rfl) | (rw [hpL, if_pos c38, if_neg (by rw [c49]; decide)]; done) | (rw [hpL, if_pos c38, if_neg (by rw [c49]; decide)]; rfl) | (rw [hpL, if_pos c38, if_pos c49]; done) | (rw [hpL, if_pos c38, if_pos c49]; rfl)) (by first | (rw [hpL, if_neg c38]; done) | (rw [hpL, if_neg c38]; rfl) | (rw [hpL, if_pos c38, if_neg (by rw [c49]; decide)]; done) | (rw [hpL, if_pos c38, if_neg (by rw [c49]; decide)]; rfl) | (rw [hpL, if_pos c38, if_pos c49]; done) | (rw [hpL, if_pos c38, if_pos c49]; rfl)) (by first | (rw [hpL, if_neg c38]; done) | (rw [hpL, if_neg c38]; rfl) | (rw [hpL, if_pos c38, if_neg (by rw [c49]; decide)]; done) | (rw [hpL, if_pos c38, if_neg (by rw [c49]; decide)]; rfl) | (rw [hpL, if_pos c38, if_pos c49]; done) | (rw [hpL, if_pos c38, if_pos c49]; rfl)) hP hD hS (lv_sub hl [4, 5, 6, 2, 1, 3, 0] rfl)
  exact LP18 _ 0 (0 : Int32) (nI (2 ^ n - 1)) (0 : Int32) _ _ _ (Nat.lt_succ_self _) (by omega) rfl rfl rfl hP hD hS (lv_sub hl [4, 5, 6, 3, 2, 1, 0] rfl)
abbrev rmX2_spread : Room := { frames := 0, cells := 0, slots := 0, locals := 0 }
set_option maxHeartbeats 4000000 in
set_option maxRecDepth 100000 in
theorem metX2_spread (l : Launch) (D : va_G) (g : Nat → Nat) (d : Nat → ClassId) (S V : Nat → Int32) (n cnt : Nat) (O T : Nat → Int32) (sm al : Int32) (a : Int32) (hav : ∃ v : Nat, v < 256 ∧ a = nI v) : fd_V l yX2_spread (ws_ yX2_spread cX2_spread 3 none) rmX2_spread D (yT d) [.ref (g 0), .int a] (yW g d S V n cnt O T sm al) (fun (u : Unit) => True) (fun (u : Unit) => yW g d S V n cnt O (tkS T a 256) sm al) := by
  refine fd_Vof (lv := [(0, .ref (g 0)), (1, .int a)]) rfl (by decide) (Nat.le_of_ble_eq_true rfl) rfl ?_
  intro p e s m below meth c A ls Q S0 hK hP hD hA hl hret
  obtain ⟨hx, hb, hml, hown, hts⟩ := id S0
  have hS : va_S A s.heap s.heap [] := va_S.rf
  refine lv_iconst (v := nI 0) hx hb dX2_spread_0 (by decide) ?_
  refine lv_istore_n (lv' := [(2, .int (nI 0)), (0, .ref (g 0)), (1, .int a)]) hx hb dX2_spread_1 rfl hl (by decide) rfl (fun ls hl => ?_)
  have LP2 : ∀ (Nf2 : Nat) (k : Nat) (xT : Nat → Int32) (H : Heap) (locs : List Loc) (ls : Array Slot), 256 - k < Nf2 → (k ≤ 256) → xT = tkS T a k → va_P D vwCl (yW g d S V n cnt O xT sm al) H → va_D A (yW g d S V n cnt O xT sm al) → va_S A s.heap H locs → lv_has ls 3 [(0, .ref (g 0)), (1, .int a), (2, .int (nI k))] → W p l e rmX2_spread s m ([.ref (g 0), .int a] : List Value).toArray below meth c H locs 0 0 Q (F0 m 2 ls []) := by
    intro Nf2
    induction Nf2 with
    | zero => intro k xT H locs ls hmu; exact absurd hmu (Nat.not_lt_zero _)
    | succ Nf2 ih2 =>
      intro k xT H locs ls hmu2 hc2_0 exT hP hD hS hl
      subst exT
      refine lv_iload_n hx hb dX2_spread_2 rfl (lv_at hl 2 rfl) ?_
      refine lv_sipush (v := nI 256) hx hb dX2_spread_3 (by decide) ?_
      refine lv_icmp_ge (tgt := 33) hx hb dX2_spread_6 (by decide) (fun c6 => ?_) (fun c6 => ?_)
      · have c6 : 256 ≤ k := (nI_leI (a := 256) (b := k) (by omega) (by omega)).mp c6
        obtain rfl : 256 = k := by omega
        exact hret () _ _ _ _ dX2_spread_33 trivial hP hD hS
      have c6 : ¬ (256 ≤ k) := fun h => c6 ((nI_leI (a := 256) (b := k) (by omega) (by omega)).mpr h)
      refine lv_aload_n hx hb dX2_spread_9 rfl (lv_at hl 0 rfl) ?_
      refine va_get (D := D) (ci := 1) (v := .ref (g 4)) (C := RX2) (T := TX2) (N := 8) hx hb hts in_X2 hown hK hP 0 rfl rfl 3 (by decide) (hts _ q195) (fun _ h9 => h9) rfl dX2_spread_10 ?_
      refine lv_iload_n hx hb dX2_spread_13 rfl (lv_at hl 2 rfl) ?_
      refine fd_zald hx hb hK hP 4 3 rfl rfl (k := k) (by omega) (by decide) dX2_spread_14 ?_
      refine lv_if_eq (tgt := 27) hx hb dX2_spread_15 (by decide) (fun c15 => ?_) (fun c15 => ?_)
      · refine lv_iinc (v := nI (k + 1)) (lv' := [(2, .int (nI (k + 1))), (0, .ref (g 0)), (1, .int a)]) hx hb dX2_spread_27 hl (k := 2) rfl (fd_inc _) (by decide) rfl (fun ls hl => ?_)
        refine lv_goto (tgt := 2) hx hb dX2_spread_30 (by decide) ?_
        exact ih2 (k + 1) (tkS T a k) _ _ _ (by omega) (by omega) (by first | rw [tkS, if_pos c15] | rw [tkS, if_neg c15]) hP hD hS (lv_sub hl [1, 2, 0] rfl)
      refine lv_aload_n hx hb dX2_spread_18 rfl (lv_at hl 0 rfl) ?_
      refine va_get (D := D) (ci := 1) (v := .ref (g 4)) (C := RX2) (T := TX2) (N := 8) hx hb hts in_X2 hown hK hP 0 rfl rfl 3 (by decide) (hts _ q195) (fun _ h9 => h9) rfl dX2_spread_19 ?_
      refine lv_iload_n hx hb dX2_spread_22 rfl (lv_at hl 2 rfl) ?_
      refine lv_iload_n hx hb dX2_spread_23 rfl (lv_at hl 1 rfl) ?_
      refine lv_ixor hx hb dX2_spread_24 ?_
      refine lv_iconst (v := (1 : Int32)) hx hb dX2_spread_25 (by decide) ?_
      refine va_zast hx hb hK hP hD hS 4 3 rfl rfl (fd_inx (by omega) hav) dX2_spread_26 (fun H locs hP hD hS => ?_)
      rw [show vp_nar .boolean (1 : Int32) = (1 : Int32) from rfl] at hP hD
      have hP : va_P D vwCl (yW g d S V n cnt O (upd (tkS T a k) ((nI k) ^^^ a).toNatClampNeg (1 : Int32)) sm al) H := hP
      have hD : va_D A (yW g d S V n cnt O (upd (tkS T a k) ((nI k) ^^^ a).toNatClampNeg (1 : Int32)) sm al) := hD
      refine lv_iinc (v := nI (k + 1)) (lv' := [(2, .int (nI (k + 1))), (0, .ref (g 0)), (1, .int a)]) hx hb dX2_spread_27 hl (k := 2) rfl (fd_inc _) (by decide) rfl (fun ls hl => ?_)
      refine lv_goto (tgt := 2) hx hb dX2_spread_30 (by decide) ?_
      exact ih2 (k + 1) (upd (tkS T a k) ((nI k) ^^^ a).toNatClampNeg (1 : Int32)) _ _ _ (by omega) (by omega) (by first | rw [tkS, if_pos c15] | rw [tkS, if_neg c15]) hP hD hS (lv_sub hl [1, 2, 0] rfl)
  exact LP2 _ 0 T _ _ _ (Nat.lt_succ_self _) (by omega) rfl hP hD hS (lv_sub hl [1, 2, 0] rfl)
abbrev rmX2_rank : Room := { frames := 1, cells := 0, slots := 0, locals := 22 }
set_option maxHeartbeats 4000000 in
set_option maxRecDepth 100000 in
theorem metX2_rank (l : Launch) (D : va_G) (g : Nat → Nat) (d : Nat → ClassId) (S V : Nat → Int32) (n cnt : Nat) (O T : Nat → Int32) (sm al : Int32)  (hc : cnt ≤ 16) (hg : gdS S cnt) : fd_I l yX2_rank (ws_ yX2_rank cX2_rank 3 (some .int)) rmX2_rank D (yT d) [.ref (g 0)] (yW g d S V n cnt O T sm al) (fun (r : Int32) (u : Nat → Int32) => r = rkM T S cnt) (fun (u : Nat → Int32) => yW g d S V n cnt O u sm al) := by
  refine fd_Iof (lv := [(0, .ref (g 0))]) rfl (by decide) (Nat.le_of_ble_eq_true rfl) rfl ?_
  intro p e s m below meth c A ls Q S0 hK hP hD hA hl hret
  obtain ⟨hx, hb, hml, hown, hts⟩ := id S0
  have hS : va_S A s.heap s.heap [] := va_S.rf
  refine lv_iconst (v := nI 0) hx hb dX2_rank_0 (by decide) ?_
  refine lv_istore_n (lv' := [(1, .int (nI 0)), (0, .ref (g 0))]) hx hb dX2_rank_1 rfl hl (by decide) rfl (fun ls hl => ?_)
  refine lv_iconst (v := nI 0) hx hb dX2_rank_2 (by decide) ?_
  refine lv_istore_n (lv' := [(2, .int (nI 0)), (1, .int (nI 0)), (0, .ref (g 0))]) hx hb dX2_rank_3 rfl hl (by decide) rfl (fun ls hl => ?_)
  have LP4 : ∀ (Nf4 : Nat) (k : Nat) (xT : Nat → Int32) (H : Heap) (locs : List Loc) (ls : Array Slot), 256 - k < Nf4 → (k ≤ 256) → xT = tkI T k → va_P D vwCl (yW g d S V n cnt O xT sm al) H → va_D A (yW g d S V n cnt O xT sm al) → va_S A s.heap H locs → lv_has ls 3 [(0, .ref (g 0)), (1, .int (nI 0)), (2, .int (nI k))] → W p l e rmX2_rank s m ([.ref (g 0)] : List Value).toArray below meth c H locs 0 0 Q (F0 m 4 ls []) := by
    intro Nf4
    induction Nf4 with
    | zero => intro k xT H locs ls hmu; exact absurd hmu (Nat.not_lt_zero _)
    | succ Nf4 ih4 =>
      intro k xT H locs ls hmu4 hc4_0 exT hP hD hS hl
      subst exT
      refine lv_iload_n hx hb dX2_rank_4 rfl (lv_at hl 2 rfl) ?_
      refine lv_sipush (v := nI 256) hx hb dX2_rank_5 (by decide) ?_
      refine lv_icmp_ge (tgt := 32) hx hb dX2_rank_8 (by decide) (fun c8 => ?_) (fun c8 => ?_)
      · have c8 : 256 ≤ k := (nI_leI (a := 256) (b := k) (by omega) (by omega)).mp c8
        obtain rfl : 256 = k := by omega
        refine lv_iconst (v := nI 0) hx hb dX2_rank_32 (by decide) ?_
        refine lv_istore_n (lv' := [(2, .int (nI 0)), (0, .ref (g 0)), (1, .int (nI 0))]) hx hb dX2_rank_33 rfl hl (by decide) rfl (fun ls hl => ?_)
        have LP34 : ∀ (Nf34 : Nat) (i : Nat) (yT : Nat → Int32) (H : Heap) (locs : List Loc) (ls : Array Slot), cnt - i < Nf34 → (i ≤ cnt) → yT = tkR T S i → va_P D vwCl (yW g d S V n cnt O yT sm al) H → va_D A (yW g d S V n cnt O yT sm al) → va_S A s.heap H locs → lv_has ls 3 [(0, .ref (g 0)), (1, .int (nI 0)), (2, .int (nI i))] → W p l e rmX2_rank s m ([.ref (g 0)] : List Value).toArray below meth c H locs 0 0 Q (F0 m 34 ls []) := by
          intro Nf34
          induction Nf34 with
          | zero => intro i yT H locs ls hmu; exact absurd hmu (Nat.not_lt_zero _)
          | succ Nf34 ih34 =>
            intro i yT H locs ls hmu34 hc34_0 eyT hP hD hS hl
            subst eyT
            refine lv_iload_n hx hb dX2_rank_34 rfl (lv_at hl 2 rfl) ?_
            refine lv_aload_n hx hb dX2_rank_35 rfl (lv_at hl 0 rfl) ?_
            refine va_get (D := D) (ci := 1) (v := .int (nI cnt)) (C := RX2) (T := TX2) (N := 8) hx hb hts in_X2 hown hK hP 0 rfl rfl 5 (by decide) (hts _ q197) (fun _ h9 => h9) rfl dX2_rank_36 ?_
            refine lv_icmp_ge (tgt := 58) hx hb dX2_rank_39 (by decide) (fun c39 => ?_) (fun c39 => ?_)
            · have c39 : cnt ≤ i := (nI_leI (a := cnt) (b := i) (by omega) (by omega)).mp c39
              obtain rfl : cnt = i := by omega
              refine lv_iconst (v := nI 0) hx hb dX2_rank_58 (by decide) ?_
              refine lv_istore_n (lv' := [(2, .int (nI 0)), (0, .ref (g 0)), (1, .int (nI 0))]) hx hb dX2_rank_59 rfl hl (by decide) rfl (fun ls hl => ?_)
              have LP60 : ∀ (Nf60 : Nat) (q : Nat) (x1 : Int32) (H : Heap) (locs : List Loc) (ls : Array Slot), 256 - q < Nf60 → (q ≤ 256) → x1 = nI (tkC (tkR T S cnt) q) → va_P D vwCl (yW g d S V n cnt O (tkR T S cnt) sm al) H → va_D A (yW g d S V n cnt O (tkR T S cnt) sm al) → va_S A s.heap H locs → lv_has ls 3 [(0, .ref (g 0)), (1, .int x1), (2, .int (nI q))] → W p l e rmX2_rank s m ([.ref (g 0)] : List Value).toArray below meth c H locs 0 0 Q (F0 m 60 ls []) := by
                intro Nf60
                induction Nf60 with
                | zero => intro q x1 H locs ls hmu; exact absurd hmu (Nat.not_lt_zero _)
                | succ Nf60 ih60 =>
                  intro q x1 H locs ls hmu60 hc60_0 ex1 hP hD hS hl
                  subst ex1
                  refine lv_iload_n hx hb dX2_rank_60 rfl (lv_at hl 2 rfl) ?_
                  refine lv_sipush (v := nI 256) hx hb dX2_rank_61 (by decide) ?_
                  refine lv_icmp_ge (tgt := 85) hx hb dX2_rank_64 (by decide) (fun c64 => ?_) (fun c64 => ?_)
                  · have c64 : 256 ≤ q := (nI_leI (a := 256) (b := q) (by omega) (by omega)).mp c64
                    obtain rfl : 256 = q := by omega
                    refine lv_iconst (v := nI 0) hx hb dX2_rank_85 (by decide) ?_
                    refine lv_istore_n (lv' := [(2, .int (nI 0)), (0, .ref (g 0)), (1, .int (nI (tkC (tkR T S cnt) 256)))]) hx hb dX2_rank_86 rfl hl (by decide) rfl (fun ls hl => ?_)
                    have LP87 : ∀ (Nf87 : Nat) (z : Nat) (H : Heap) (locs : List Loc) (ls : Array Slot), 8 - z < Nf87 → (z ≤ 8) → (lgM (tkC (tkR T S cnt) 256) (8 - z) z = lgM (tkC (tkR T S cnt) 256) 8 0) → va_P D vwCl (yW g d S V n cnt O (tkR T S cnt) sm al) H → va_D A (yW g d S V n cnt O (tkR T S cnt) sm al) → va_S A s.heap H locs → lv_has ls 3 [(1, .int (nI (tkC (tkR T S cnt) 256))), (2, .int (nI z))] → W p l e rmX2_rank s m ([.ref (g 0)] : List Value).toArray below meth c H locs 0 0 Q (F0 m 87 ls []) := by
                      intro Nf87
                      induction Nf87 with
                      | zero => intro z H locs ls hmu; exact absurd hmu (Nat.not_lt_zero _)
                      | succ Nf87 ih87 =>
                        intro z H locs ls hmu87 hz8 hz hP hD hS hl
                        have hC : (tkC (tkR T S cnt) 256) ≤ 256 := tkC_le _ _
                        have hz2 : 2 ^ z ≤ 256 := (fd_p1 hz8).2
                        refine lv_iload_n hx hb dX2_rank_87 rfl (lv_at hl 1 rfl) ?_
                        refine lv_bipush (v := nI 8) hx hb dX2_rank_88 (by decide) ?_
                        refine lv_icmp_ge (tgt := 106) hx hb dX2_rank_90 (by decide) (fun c90 => ?_) (fun c90 => ?_)
                        · have c90 : 8 ≤ z := (nI_leI (a := 8) (b := z) (by omega) (by omega)).mp c90
                          refine lv_iload_n hx hb dX2_rank_106 rfl (lv_at hl 1 rfl) ?_
                          exact hret (nI z) (tkR T S cnt) _ _ _ _ dX2_rank_107 rfl (by first | (rw [rkM, ← hz, show 8 - z = 0 by omega]; rfl) | rw [rkM, ← hz, show 8 - z = (7 - z) + 1 by omega, lgM, if_pos c97]) hP hD hS
                        have c90 : ¬ (8 ≤ z) := fun h => c90 ((nI_leI (a := 8) (b := z) (by omega) (by omega)).mpr h)
                        refine lv_iconst (v := (1 : Int32)) hx hb dX2_rank_93 (by decide) ?_
                        refine lv_iload_n hx hb dX2_rank_94 rfl (lv_at hl 1 rfl) ?_
                        refine lv_ishl hx hb dX2_rank_95 ?_
                        refine fd_as (show ((1 : Int32) <<< ((nI z) &&& 31)) = nI (2 ^ z) from fd_pw (by omega)) ?_
                        refine lv_iload_n hx hb dX2_rank_96 rfl (lv_at hl 0 rfl) ?_
                        refine lv_icmp_ge (tgt := 106) hx hb dX2_rank_97 (by decide) (fun c97 => ?_) (fun c97 => ?_)
                        · have c97 : (tkC (tkR T S cnt) 256) ≤ (2 ^ z) := (nI_leI (a := (tkC (tkR T S cnt) 256)) (b := (2 ^ z)) (by omega) (by omega)).mp c97
                          refine lv_iload_n hx hb dX2_rank_106 rfl (lv_at hl 1 rfl) ?_
                          exact hret (nI z) (tkR T S cnt) _ _ _ _ dX2_rank_107 rfl (by first | (rw [rkM, ← hz, show 8 - z = 0 by omega]; rfl) | rw [rkM, ← hz, show 8 - z = (7 - z) + 1 by omega, lgM, if_pos c97]) hP hD hS
                        have c97 : ¬ ((tkC (tkR T S cnt) 256) ≤ (2 ^ z)) := fun h => c97 ((nI_leI (a := (tkC (tkR T S cnt) 256)) (b := (2 ^ z)) (by omega) (by omega)).mpr h)
                        refine lv_iinc (v := nI (z + 1)) (lv' := [(2, .int (nI (z + 1))), (1, .int (nI (tkC (tkR T S cnt) 256)))]) hx hb dX2_rank_100 hl (k := 1) rfl (fd_inc _) (by decide) rfl (fun ls hl => ?_)
                        refine lv_goto (tgt := 87) hx hb dX2_rank_103 (by decide) ?_
                        exact ih87 (z + 1) _ _ _ (by omega) (by omega) (by rw [← hz, show 8 - z = (8 - (z + 1)) + 1 by omega, lgM, if_neg c97]) hP hD hS (lv_sub hl [1, 0] rfl)
                    exact LP87 _ 0 _ _ _ (Nat.lt_succ_self _) (by omega) rfl hP hD hS (lv_sub hl [2, 0] rfl)
                  have c64 : ¬ (256 ≤ q) := fun h => c64 ((nI_leI (a := 256) (b := q) (by omega) (by omega)).mpr h)
                  refine lv_aload_n hx hb dX2_rank_67 rfl (lv_at hl 0 rfl) ?_
                  refine va_get (D := D) (ci := 1) (v := .ref (g 4)) (C := RX2) (T := TX2) (N := 8) hx hb hts in_X2 hown hK hP 0 rfl rfl 3 (by decide) (hts _ q195) (fun _ h9 => h9) rfl dX2_rank_68 ?_
                  refine lv_iload_n hx hb dX2_rank_71 rfl (lv_at hl 2 rfl) ?_
                  refine fd_zald hx hb hK hP 4 3 rfl rfl (k := q) (by omega) (by decide) dX2_rank_72 ?_
                  refine lv_if_eq (tgt := 79) hx hb dX2_rank_73 (by decide) (fun c73 => ?_) (fun c73 => ?_)
                  · refine lv_iinc (v := nI (q + 1)) (lv' := [(2, .int (nI (q + 1))), (0, .ref (g 0)), (1, .int (nI (tkC (tkR T S cnt) q)))]) hx hb dX2_rank_79 hl (k := 2) rfl (fd_inc _) (by decide) rfl (fun ls hl => ?_)
                    refine lv_goto (tgt := 60) hx hb dX2_rank_82 (by decide) ?_
                    exact ih60 (q + 1) (nI (tkC (tkR T S cnt) q)) _ _ _ (by omega) (by omega) (by first | rw [tkC, if_pos c73] | rw [tkC, if_neg c73]) hP hD hS (lv_sub hl [1, 2, 0] rfl)
                  refine lv_iinc (v := nI ((tkC (tkR T S cnt) q) + 1)) (lv' := [(1, .int (nI ((tkC (tkR T S cnt) q) + 1))), (0, .ref (g 0)), (2, .int (nI q))]) hx hb dX2_rank_76 hl (k := 1) rfl (fd_inc _) (by decide) rfl (fun ls hl => ?_)
                  refine lv_iinc (v := nI (q + 1)) (lv' := [(2, .int (nI (q + 1))), (1, .int (nI ((tkC (tkR T S cnt) q) + 1))), (0, .ref (g 0))]) hx hb dX2_rank_79 hl (k := 2) rfl (fd_inc _) (by decide) rfl (fun ls hl => ?_)
                  refine lv_goto (tgt := 60) hx hb dX2_rank_82 (by decide) ?_
                  exact ih60 (q + 1) (nI ((tkC (tkR T S cnt) q) + 1)) _ _ _ (by omega) (by omega) (by first | rw [tkC, if_pos c73] | rw [tkC, if_neg c73]) hP hD hS (lv_sub hl [2, 1, 0] rfl)
              exact LP60 _ 0 (nI 0) _ _ _ (Nat.lt_succ_self _) (by omega) rfl hP hD hS (lv_sub hl [1, 2, 0] rfl)
            have c39 : ¬ (cnt ≤ i) := fun h => c39 ((nI_leI (a := cnt) (b := i) (by omega) (by omega)).mpr h)
            refine lv_aload_n hx hb dX2_rank_42 rfl (lv_at hl 0 rfl) ?_
            refine lv_aload_n hx hb dX2_rank_43 rfl (lv_at hl 0 rfl) ?_
            refine va_get (D := D) (ci := 1) (v := .ref (g 1)) (C := RX2) (T := TX2) (N := 8) hx hb hts in_X2 hown hK hP 0 rfl rfl 0 (by decide) (hts _ q192) (fun _ h9 => h9) rfl dX2_rank_44 ?_
            refine lv_iload_n hx hb dX2_rank_47 rfl (lv_at hl 2 rfl) ?_
            refine fd_iald hx hb hK hP 1 0 rfl rfl (k := i) (by omega) (by decide) dX2_rank_48 ?_
            refine fd_callVv (n := 1) (rest := []) (As := [.int (S i)]) (wr := []) S0 hK hP hD hS hA [0, 1, 2, 3, 4] [] [0, 1, 2, 3] (metX2_spread l D g d S V n cnt O (tkR T S i) sm al (S i) (hg i (by omega))) q268 q270 qs15 q22 q271 dX2_rank_49 rfl rfl rfl rfl ⟨⟨rfl, rfl⟩, Nat.le_of_ble_eq_true rfl, Nat.le_of_ble_eq_true rfl⟩ (by decide +kernel) rfl rfl (q0 := 0) rfl rfl hl.1 rfl (Nat.le_of_ble_eq_true rfl) ⟨Nat.le_of_ble_eq_true rfl, Nat.le_of_ble_eq_true rfl⟩ (fun u49 H locs hq49 hP hD hS => ?_)
            have hP : va_P D vwCl (yW g d S V n cnt O (tkS (tkR T S i) (S i) 256) sm al) H := hP
            have hD : va_D A (yW g d S V n cnt O (tkS (tkR T S i) (S i) 256) sm al) := hD
            refine lv_iinc (v := nI (i + 1)) (lv' := [(2, .int (nI (i + 1))), (0, .ref (g 0)), (1, .int (nI 0))]) hx hb dX2_rank_52 hl (k := 2) rfl (fd_inc _) (by decide) rfl (fun ls hl => ?_)
            refine lv_goto (tgt := 34) hx hb dX2_rank_55 (by decide) ?_
            exact ih34 (i + 1) (tkS (tkR T S i) (S i) 256) _ _ _ (by omega) (by omega) rfl hP hD hS (lv_sub hl [1, 2, 0] rfl)
        exact LP34 _ 0 (tkI T 256) _ _ _ (Nat.lt_succ_self _) (by omega) rfl hP hD hS (lv_sub hl [1, 2, 0] rfl)
      have c8 : ¬ (256 ≤ k) := fun h => c8 ((nI_leI (a := 256) (b := k) (by omega) (by omega)).mpr h)
      refine lv_aload_n hx hb dX2_rank_11 rfl (lv_at hl 0 rfl) ?_
      refine va_get (D := D) (ci := 1) (v := .ref (g 4)) (C := RX2) (T := TX2) (N := 8) hx hb hts in_X2 hown hK hP 0 rfl rfl 3 (by decide) (hts _ q195) (fun _ h9 => h9) rfl dX2_rank_12 ?_
      refine lv_iload_n hx hb dX2_rank_15 rfl (lv_at hl 2 rfl) ?_
      refine lv_iload_n hx hb dX2_rank_16 rfl (lv_at hl 2 rfl) ?_
      refine lv_if_ne (tgt := 24) hx hb dX2_rank_17 (by decide) (fun c17 => ?_) (fun c17 => ?_)
      · refine lv_iconst (v := (0 : Int32)) hx hb dX2_rank_24 (by decide) ?_
        refine fd_zast hx hb hK hP hD hS 4 3 rfl rfl rfl (k := k) (by omega) (by decide) dX2_rank_25 (fun H locs hP hD hS => ?_)
        have hP : va_P D vwCl (yW g d S V n cnt O (upd (tkI T k) k (0 : Int32)) sm al) H := hP
        have hD : va_D A (yW g d S V n cnt O (upd (tkI T k) k (0 : Int32)) sm al) := hD
        refine lv_iinc (v := nI (k + 1)) (lv' := [(2, .int (nI (k + 1))), (0, .ref (g 0)), (1, .int (nI 0))]) hx hb dX2_rank_26 hl (k := 2) rfl (fd_inc _) (by decide) rfl (fun ls hl => ?_)
        refine lv_goto (tgt := 4) hx hb dX2_rank_29 (by decide) ?_
        exact ih4 (k + 1) (upd (tkI T k) k (0 : Int32)) _ _ _ (by omega) (by omega) (by first | rw [tkI, if_pos c17] | rw [tkI, if_neg c17]) hP hD hS (lv_sub hl [1, 2, 0] rfl)
      refine lv_iconst (v := (1 : Int32)) hx hb dX2_rank_20 (by decide) ?_
      refine lv_goto (tgt := 25) hx hb dX2_rank_21 (by decide) ?_
      refine fd_zast hx hb hK hP hD hS 4 3 rfl rfl rfl (k := k) (by omega) (by decide) dX2_rank_25 (fun H locs hP hD hS => ?_)
      have hP : va_P D vwCl (yW g d S V n cnt O (upd (tkI T k) k (1 : Int32)) sm al) H := hP
      have hD : va_D A (yW g d S V n cnt O (upd (tkI T k) k (1 : Int32)) sm al) := hD
      refine lv_iinc (v := nI (k + 1)) (lv' := [(2, .int (nI (k + 1))), (0, .ref (g 0)), (1, .int (nI 0))]) hx hb dX2_rank_26 hl (k := 2) rfl (fd_inc _) (by decide) rfl (fun ls hl => ?_)
      refine lv_goto (tgt := 4) hx hb dX2_rank_29 (by decide) ?_
      exact ih4 (k + 1) (upd (tkI T k) k (1 : Int32)) _ _ _ (by omega) (by omega) (by first | rw [tkI, if_pos c17] | rw [tkI, if_neg c17]) hP hD hS (lv_sub hl [1, 2, 0] rfl)
  exact LP4 _ 0 T _ _ _ (Nat.lt_succ_self _) (by omega) rfl hP hD hS (lv_sub hl [2, 1, 0] rfl)
abbrev rmX2_useful : Room := { frames := 4, cells := 0, slots := 0, locals := 92 }
set_option maxHeartbeats 4000000 in
set_option maxRecDepth 100000 in
theorem metX2_useful (l : Launch) (D : va_G) (g : Nat → Nat) (d : Nat → ClassId) (S V : Nat → Int32) (n cnt : Nat) (O T : Nat → Int32) (sm al : Int32)  (hn1 : 1 ≤ n) (hn8 : n ≤ 8) (hc : cnt ≤ 16) (hg : gdS S cnt) : fd_I l yX2_useful (ws_ yX2_useful cX2_useful 4 (some .int)) rmX2_useful D (yT d) [.ref (g 0)] (yW g d S V n cnt O T sm al) (fun (r : Int32) (u : (Nat → Int32) × Int32 × Int32) => u2P S V O n cnt r) (fun (u : (Nat → Int32) × Int32 × Int32) => yW g d S V n cnt O u.1 u.2.1 u.2.2) := by
  refine fd_Iof (lv := [(0, .ref (g 0))]) rfl (by decide) (Nat.le_of_ble_eq_true rfl) rfl ?_
  intro p e s m below meth c A ls Q S0 hK hP hD hA hl hret
  obtain ⟨hx, hb, hml, hown, hts⟩ := id S0
  have hS : va_S A s.heap s.heap [] := va_S.rf
  refine lv_aload_n hx hb dX2_useful_0 rfl (lv_at hl 0 rfl) ?_
  refine fd_callVi (n := 0) (rest := []) (As := []) (wr := []) S0 hK hP hD hS hA [0, 1, 2, 3, 4] [] [0, 1, 2, 3] (metX2_consistent l D g d S V n cnt O T sm al hn8 hc hg) q324 q253 q254 q22 q255 dX2_useful_1 rfl rfl rfl rfl ⟨⟨rfl, rfl⟩, Nat.le_of_ble_eq_true rfl, Nat.le_of_ble_eq_true rfl⟩ (by decide +kernel) rfl rfl (q0 := 0) rfl rfl hl.1 rfl (Nat.le_of_ble_eq_true rfl) ⟨Nat.le_of_ble_eq_true rfl, Nat.le_of_ble_eq_true rfl⟩ (fun r1 u1 H locs hq1 hP hD hS => ?_)
  have hP : va_P D vwCl (yW g d S V n cnt O T u1.1 u1.2) H := hP
  have hD : va_D A (yW g d S V n cnt O T u1.1 u1.2) := hD
  subst hq1
  refine lv_if_ne (tgt := 9) hx hb dX2_useful_4 (by decide) (fun c4 => ?_) (fun c4 => ?_)
  · refine lv_aload_n hx hb dX2_useful_9 rfl (lv_at hl 0 rfl) ?_
    refine fd_callVi (n := 0) (rest := []) (As := []) (wr := []) S0 hK hP hD hS hA [0, 1, 2, 3, 4] [] [0, 1, 2, 3] (metX2_known l D g d S V n cnt O T u1.1 u1.2 hn8 hc hg) q319 q273 q274 q22 q275 dX2_useful_10 rfl rfl rfl rfl ⟨⟨rfl, rfl⟩, Nat.le_of_ble_eq_true rfl, Nat.le_of_ble_eq_true rfl⟩ (by decide +kernel) rfl rfl (q0 := 0) rfl rfl hl.1 rfl (Nat.le_of_ble_eq_true rfl) ⟨Nat.le_of_ble_eq_true rfl, Nat.le_of_ble_eq_true rfl⟩ (fun r10 u10 H locs hq10 hP hD hS => ?_)
    have hP : va_P D vwCl (yW g d S V n cnt O T u10.1 u10.2) H := hP
    have hD : va_D A (yW g d S V n cnt O T u10.1 u10.2) := hD
    subst hq10
    refine lv_istore_n (lv' := [(1, .int (kwM S V O n cnt (-1))), (0, .ref (g 0))]) hx hb dX2_useful_13 rfl hl (by decide) rfl (fun ls hl => ?_)
    refine lv_iconst (v := nI 0) hx hb dX2_useful_14 (by decide) ?_
    refine lv_istore_n (lv' := [(2, .int (nI 0)), (1, .int (kwM S V O n cnt (-1))), (0, .ref (g 0))]) hx hb dX2_useful_15 rfl hl (by decide) rfl (fun ls hl => ?_)
    have LP16 : ∀ (Nf16 : Nat) (k : Nat) (xT : Nat → Int32) (H : Heap) (locs : List Loc) (ls : Array Slot), 256 - k < Nf16 → (k ≤ 256) → (∀ i, i < k → xT i = 0) → va_P D vwCl (yW g d S V n cnt O xT u10.1 u10.2) H → va_D A (yW g d S V n cnt O xT u10.1 u10.2) → va_S A s.heap H locs → lv_has ls 4 [(0, .ref (g 0)), (1, .int (kwM S V O n cnt (-1))), (2, .int (nI k))] → W p l e rmX2_useful s m ([.ref (g 0)] : List Value).toArray below meth c H locs 0 0 Q (F0 m 16 ls []) := by
      intro Nf16
      induction Nf16 with
      | zero => intro k xT H locs ls hmu; exact absurd hmu (Nat.not_lt_zero _)
      | succ Nf16 ih16 =>
        intro k xT H locs ls hmu16 hk hz hP hD hS hl
        refine lv_iload_n hx hb dX2_useful_16 rfl (lv_at hl 2 rfl) ?_
        refine lv_sipush (v := nI 256) hx hb dX2_useful_17 (by decide) ?_
        refine lv_icmp_ge (tgt := 36) hx hb dX2_useful_20 (by decide) (fun c20 => ?_) (fun c20 => ?_)
        · have c20 : 256 ≤ k := (nI_leI (a := 256) (b := k) (by omega) (by omega)).mp c20
          obtain rfl : 256 = k := by omega
          refine lv_iconst (v := nI 0) hx hb dX2_useful_36 (by decide) ?_
          refine lv_istore_n (lv' := [(2, .int (nI 0)), (0, .ref (g 0)), (1, .int (kwM S V O n cnt (-1)))]) hx hb dX2_useful_37 rfl hl (by decide) rfl (fun ls hl => ?_)
          have LP38 : ∀ (Nf38 : Nat) (q : Nat) (yT : Nat → Int32) (H : Heap) (locs : List Loc) (ls : Array Slot), 10000 - q < Nf38 → (q ≤ 10000) → (∀ i, i < q → ¬ (¬ hpM S V O n cnt (nI (drN n i)) (kwM S V O n cnt (-1)) = 0)) → (∀ z, z < 256 → ¬ yT z = 0 → hpM S V O n cnt (nI z) (kwM S V O n cnt (-1)) = 0) → va_P D vwCl (yW g d S V n cnt O yT u10.1 u10.2) H → va_D A (yW g d S V n cnt O yT u10.1 u10.2) → va_S A s.heap H locs → lv_has ls 4 [(0, .ref (g 0)), (1, .int (kwM S V O n cnt (-1))), (2, .int (nI q))] → W p l e rmX2_useful s m ([.ref (g 0)] : List Value).toArray below meth c H locs 0 0 Q (F0 m 38 ls []) := by
            intro Nf38
            induction Nf38 with
            | zero => intro q yT H locs ls hmu; exact absurd hmu (Nat.not_lt_zero _)
            | succ Nf38 ih38 =>
              intro q yT H locs ls hmu38 hq hall hT hP hD hS hl
              refine lv_iload_n hx hb dX2_useful_38 rfl (lv_at hl 2 rfl) ?_
              refine lv_sipush (v := nI 10000) hx hb dX2_useful_39 (by decide) ?_
              refine lv_icmp_ge (tgt := 87) hx hb dX2_useful_42 (by decide) (fun c42 => ?_) (fun c42 => ?_)
              · have c42 : 10000 ≤ q := (nI_leI (a := 10000) (b := q) (by omega) (by omega)).mp c42
                obtain rfl : 10000 = q := by omega
                refine lv_iconst (v := (-1 : Int32)) hx hb dX2_useful_87 (by decide) ?_
                exact hret (-1 : Int32) (yT, u10.1, u10.2) _ _ _ _ dX2_useful_88 rfl (Or.inr ⟨c4, Or.inr ⟨hall, rfl⟩⟩) hP hD hS
              have c42 : ¬ (10000 ≤ q) := fun h => c42 ((nI_leI (a := 10000) (b := q) (by omega) (by omega)).mpr h)
              refine lv_aload_n hx hb dX2_useful_45 rfl (lv_at hl 0 rfl) ?_
              refine lv_iload_n hx hb dX2_useful_46 rfl (lv_at hl 2 rfl) ?_
              refine fd_callVi (n := 1) (rest := []) (As := [.int (nI q)]) (wr := []) S0 hK hP hD hS hA [0, 1, 2, 3, 4] [] [0, 1, 2, 3] (metX2_setOf l D g d S V n cnt O yT u10.1 u10.2 (nI q) hn1 hn8) q238 q239 q240 q22 q241 dX2_useful_47 rfl rfl rfl rfl ⟨⟨rfl, rfl⟩, Nat.le_of_ble_eq_true rfl, Nat.le_of_ble_eq_true rfl⟩ (by decide +kernel) rfl rfl (q0 := 0) rfl rfl hl.1 rfl (Nat.le_of_ble_eq_true rfl) ⟨Nat.le_of_ble_eq_true rfl, Nat.le_of_ble_eq_true rfl⟩ (fun r47 u47 H locs hq47 hP hD hS => ?_)
              subst hq47
              have hP : va_P D vwCl (yW g d S V n cnt O yT u10.1 u10.2) H := hP
              have hD : va_D A (yW g d S V n cnt O yT u10.1 u10.2) := hD
              refine fd_as (show (soM n (nI q)) = nI (drN n q) from soM_nI (by omega)) ?_
              refine lv_istore_n (lv' := [(3, .int (nI (drN n q))), (0, .ref (g 0)), (1, .int (kwM S V O n cnt (-1))), (2, .int (nI q))]) hx hb dX2_useful_50 rfl hl (by decide) rfl (fun ls hl => ?_)
              refine lv_aload_n hx hb dX2_useful_51 rfl (lv_at hl 1 rfl) ?_
              refine va_get (D := D) (ci := 1) (v := .ref (g 4)) (C := RX2) (T := TX2) (N := 8) hx hb hts in_X2 hown hK hP 0 rfl rfl 3 (by decide) (hts _ q195) (fun _ h9 => h9) rfl dX2_useful_52 ?_
              refine lv_iload_n hx hb dX2_useful_55 rfl (lv_at hl 0 rfl) ?_
              refine fd_zald hx hb hK hP 4 3 rfl rfl (k := (drN n q)) (drN_lt hn1 hn8) (by decide) dX2_useful_56 ?_
              refine lv_if_eq (tgt := 63) hx hb dX2_useful_57 (by decide) (fun c57 => ?_) (fun c57 => ?_)
              · refine lv_aload_n hx hb dX2_useful_63 rfl (lv_at hl 1 rfl) ?_
                refine va_get (D := D) (ci := 1) (v := .ref (g 4)) (C := RX2) (T := TX2) (N := 8) hx hb hts in_X2 hown hK hP 0 rfl rfl 3 (by decide) (hts _ q195) (fun _ h9 => h9) rfl dX2_useful_64 ?_
                refine lv_iload_n hx hb dX2_useful_67 rfl (lv_at hl 0 rfl) ?_
                refine lv_iconst (v := (1 : Int32)) hx hb dX2_useful_68 (by decide) ?_
                refine fd_zast hx hb hK hP hD hS 4 3 rfl rfl rfl (k := (drN n q)) (drN_lt hn1 hn8) (by decide) dX2_useful_69 (fun H locs hP hD hS => ?_)
                have hP : va_P D vwCl (yW g d S V n cnt O (upd yT (drN n q) (1 : Int32)) u10.1 u10.2) H := hP
                have hD : va_D A (yW g d S V n cnt O (upd yT (drN n q) (1 : Int32)) u10.1 u10.2) := hD
                refine lv_aload_n hx hb dX2_useful_70 rfl (lv_at hl 1 rfl) ?_
                refine lv_iload_n hx hb dX2_useful_71 rfl (lv_at hl 0 rfl) ?_
                refine lv_iload_n hx hb dX2_useful_72 rfl (lv_at hl 2 rfl) ?_
                refine fd_callVi (n := 2) (rest := []) (As := [.int (nI (drN n q)), .int (kwM S V O n cnt (-1))]) (wr := []) S0 hK hP hD hS hA [0, 1, 2, 3, 4] [] [0, 1, 2, 3] (metX2_helps l D g d S V n cnt O (upd yT (drN n q) (1 : Int32)) u10.1 u10.2 (nI (drN n q)) (kwM S V O n cnt (-1)) hn8 hc hg ⟨drN n q, drN_lt hn1 hn8, rfl⟩) q325 q327 qs19 q22 q328 dX2_useful_73 rfl rfl rfl rfl ⟨⟨rfl, rfl⟩, Nat.le_of_ble_eq_true rfl, Nat.le_of_ble_eq_true rfl⟩ (by decide +kernel) rfl rfl (q0 := 0) rfl rfl hl.1 rfl (Nat.le_of_ble_eq_true rfl) ⟨Nat.le_of_ble_eq_true rfl, Nat.le_of_ble_eq_true rfl⟩ (fun r73 u73 H locs hq73 hP hD hS => ?_)
                subst hq73
                have hP : va_P D vwCl (yW g d S V n cnt O (upd yT (drN n q) (1 : Int32)) u10.1 u10.2) H := hP
                have hD : va_D A (yW g d S V n cnt O (upd yT (drN n q) (1 : Int32)) u10.1 u10.2) := hD
                refine lv_if_eq (tgt := 81) hx hb dX2_useful_76 (by decide) (fun c76 => ?_) (fun c76 => ?_)
                · refine lv_iinc (v := nI (q + 1)) (lv' := [(2, .int (nI (q + 1))), (3, .int (nI (drN n q))), (0, .ref (g 0)), (1, .int (kwM S V O n cnt (-1)))]) hx hb dX2_useful_81 hl (k := 3) rfl (fd_inc _) (by decide) rfl (fun ls hl => ?_)
                  refine lv_goto (tgt := 38) hx hb dX2_useful_84 (by decide) ?_
                  exact ih38 (q + 1) (upd yT (drN n q) (1 : Int32)) _ _ _ (by omega) (by omega) (by first | exact lt_s hall (fun h => h c76) | exact lt_s hall (fun h => h (hT _ (drN_lt hn1 hn8) c57))) (by first | exact hT | exact (fun z hs hne => by by_cases e : z = drN n q; (· rw [e]; exact c76); (· exact hT z hs (by rw [pk_un e] at hne; exact hne)))) hP hD hS (lv_sub hl [2, 3, 0] rfl)
                refine lv_iload_n hx hb dX2_useful_79 rfl (lv_at hl 3 rfl) ?_
                exact hret (nI q) ((upd yT (drN n q) (1 : Int32)), u10.1, u10.2) _ _ _ _ dX2_useful_80 rfl (Or.inr ⟨c4, Or.inl ⟨q, by omega, hall, c76, rfl⟩⟩) hP hD hS
              refine lv_goto (tgt := 81) hx hb dX2_useful_60 (by decide) ?_
              refine lv_iinc (v := nI (q + 1)) (lv' := [(2, .int (nI (q + 1))), (3, .int (nI (drN n q))), (0, .ref (g 0)), (1, .int (kwM S V O n cnt (-1)))]) hx hb dX2_useful_81 hl (k := 3) rfl (fd_inc _) (by decide) rfl (fun ls hl => ?_)
              refine lv_goto (tgt := 38) hx hb dX2_useful_84 (by decide) ?_
              exact ih38 (q + 1) yT _ _ _ (by omega) (by omega) (by first | exact lt_s hall (fun h => h c76) | exact lt_s hall (fun h => h (hT _ (drN_lt hn1 hn8) c57))) (by first | exact hT | exact (fun z hs hne => by by_cases e : z = drN n q; (· rw [e]; exact c76); (· exact hT z hs (by rw [pk_un e] at hne; exact hne)))) hP hD hS (lv_sub hl [2, 3, 0] rfl)
          exact LP38 _ 0 xT _ _ _ (Nat.lt_succ_self _) (by omega) lt_0 (fun z hs hne => absurd (hz z hs) hne) hP hD hS (lv_sub hl [1, 2, 0] rfl)
        have c20 : ¬ (256 ≤ k) := fun h => c20 ((nI_leI (a := 256) (b := k) (by omega) (by omega)).mpr h)
        refine lv_aload_n hx hb dX2_useful_23 rfl (lv_at hl 0 rfl) ?_
        refine va_get (D := D) (ci := 1) (v := .ref (g 4)) (C := RX2) (T := TX2) (N := 8) hx hb hts in_X2 hown hK hP 0 rfl rfl 3 (by decide) (hts _ q195) (fun _ h9 => h9) rfl dX2_useful_24 ?_
        refine lv_iload_n hx hb dX2_useful_27 rfl (lv_at hl 2 rfl) ?_
        refine lv_iconst (v := (0 : Int32)) hx hb dX2_useful_28 (by decide) ?_
        refine fd_zast hx hb hK hP hD hS 4 3 rfl rfl rfl (k := k) (by omega) (by decide) dX2_useful_29 (fun H locs hP hD hS => ?_)
        have hP : va_P D vwCl (yW g d S V n cnt O (upd xT k (0 : Int32)) u10.1 u10.2) H := hP
        have hD : va_D A (yW g d S V n cnt O (upd xT k (0 : Int32)) u10.1 u10.2) := hD
        refine lv_iinc (v := nI (k + 1)) (lv' := [(2, .int (nI (k + 1))), (0, .ref (g 0)), (1, .int (kwM S V O n cnt (-1)))]) hx hb dX2_useful_30 hl (k := 2) rfl (fd_inc _) (by decide) rfl (fun ls hl => ?_)
        refine lv_goto (tgt := 16) hx hb dX2_useful_33 (by decide) ?_
        exact ih16 (k + 1) (upd xT k (0 : Int32)) _ _ _ (by omega) (by omega) (lt_s (fun i hi => by rw [pk_un (by omega)]; exact hz i hi) pk_us) hP hD hS (lv_sub hl [1, 2, 0] rfl)
    exact LP16 _ 0 T _ _ _ (Nat.lt_succ_self _) (by omega) lt_0 hP hD hS (lv_sub hl [2, 1, 0] rfl)
  refine lv_iconst (v := (-1 : Int32)) hx hb dX2_useful_7 (by decide) ?_
  exact hret (-1 : Int32) (T, u1.1, u1.2) _ _ _ _ dX2_useful_8 rfl (Or.inl ⟨c4, rfl⟩) hP hD hS
end
section
/-! the two constructors -/
abbrev rmX1_init : Room := { frames := 1, cells := 4, slots := 48, locals := 12 }
set_option maxHeartbeats 4000000 in
set_option maxRecDepth 100000 in
theorem metX1_init (l : Launch) (D : va_G) (h : Nat) (a : Int32) : fd_N l yX1_init (ws_ yX1_init cX1_init 2 none) rmX1_init D [.ref h, .int a] [(h, .inr (0, [.null, .null, .null, .null, .int 0, .int 0, .int 0, .int 0, .int 0, .int 0]))] (fun (u : (Nat → Nat) × (Nat → ClassId) × Nat) => u.1 0 = h ∧ u.2.2 = nCl a) (fun u => xW u.1 u.2.1 (fun _ => 0) (fun _ => 0) u.2.2 0 (fun _ => 0) (fun _ => 0) 0 0 0 0) (fun u => xT u.2.1) 4 48 := by
  refine fd_Nof (lv := [(0, .ref h), (1, .int a)]) rfl rfl (by decide) (Nat.le_of_ble_eq_true rfl) rfl ?_
  intro p e s m below meth c A ls Q S0 hin hK hP hD hA hl hret
  obtain ⟨hx, hb, hml, hown, hts⟩ := id S0
  have hS : va_S A s.heap s.heap [] := va_S.rf
  have key : ∀ (g : Nat → Nat) (d : Nat → ClassId) (H : Heap) (locs : List Loc) (ls : Array Slot), g 0 = h → va_K D vwCl (xT d) s → va_P D vwCl (xW g d (fun _ => 0) (fun _ => 0) 0 0 (fun _ => 0) (fun _ => 0) 0 0 0 0) H → va_D A (xW g d (fun _ => 0) (fun _ => 0) 0 0 (fun _ => 0) (fun _ => 0) 0 0 0 0) → va_S A s.heap H locs → lv_has ls 2 [(0, .ref (g 0)), (1, .int a)] → W p l e rmX1_init s m ([.ref h, .int a] : List Value).toArray below meth c H locs 4 48 Q (F0 m 36 ls []) := by
    intro g d H locs ls hg0 hK hP hD hS hl
    refine lv_aload_n hx hb dX1_init_36 rfl (lv_at hl 0 rfl) ?_
    refine lv_iload_n hx hb dX1_init_37 rfl (lv_at hl 1 rfl) ?_
    refine lv_iconst (v := (1 : Int32)) hx hb dX1_init_38 (by decide) ?_
    refine lv_icmp_ge (tgt := 46) hx hb dX1_init_39 (by decide) (fun c39 => ?_) (fun c39 => ?_)
    · obtain ⟨ka, hka, rfl⟩ := nI_of (fd_ge1 c39)
      refine lv_iload_n hx hb dX1_init_46 rfl (lv_at hl 1 rfl) ?_
      refine va_put (D := D) (ci := 0) (v := .int (nI ka)) (ty := .int) (C := RX1) (T := TX1) (N := 10) hx hb hts in_X1 tyX1 tyX1_ok nmX1 hown hK hP hD hS 0 rfl rfl 4 (by decide) (hts _ q35) (fun _ h9 => h9) rfl (by decide +kernel) rfl rfl (Nat.le_of_ble_eq_true rfl) dX1_init_47 (fun H locs hP hD hS => ?_)
      have hP : va_P D vwCl (xW g d (fun _ => 0) (fun _ => 0) ka 0 (fun _ => 0) (fun _ => 0) 0 0 0 0) H := hP
      have hD : va_D A (xW g d (fun _ => 0) (fun _ => 0) ka 0 (fun _ => 0) (fun _ => 0) 0 0 0 0) := hD
      refine lv_aload_n hx hb dX1_init_50 rfl (lv_at hl 0 rfl) ?_
      refine va_get (D := D) (ci := 0) (v := .int (nI ka)) (C := RX1) (T := TX1) (N := 10) hx hb hts in_X1 hown hK hP 0 rfl rfl 4 (by decide) (hts _ q35) (fun _ h9 => h9) rfl dX1_init_51 ?_
      refine lv_bipush (v := nI 8) hx hb dX1_init_54 (by decide) ?_
      refine lv_icmp_le (tgt := 65) hx hb dX1_init_56 (by decide) (fun c56 => ?_) (fun c56 => ?_)
      · have c56 : ka ≤ 8 := (nI_leI (a := ka) (b := 8) (by omega) (by omega)).mp c56
        exact hret (g, d, ka) _ _ _ _ dX1_init_65 ⟨⟨hg0, (by first | exact (nCl_lo c39).symm | exact (nCl_mid hka c39 c56).symm | exact (nCl_hi hka c39 c56).symm)⟩, hK⟩ hP hD hS
      have c56 : ¬ (ka ≤ 8) := fun h => c56 ((nI_leI (a := ka) (b := 8) (by omega) (by omega)).mpr h)
      refine lv_aload_n hx hb dX1_init_59 rfl (lv_at hl 0 rfl) ?_
      refine lv_bipush (v := nI 8) hx hb dX1_init_60 (by decide) ?_
      refine va_put (D := D) (ci := 0) (v := .int (nI 8)) (ty := .int) (C := RX1) (T := TX1) (N := 10) hx hb hts in_X1 tyX1 tyX1_ok nmX1 hown hK hP hD hS 0 rfl rfl 4 (by decide) (hts _ q35) (fun _ h9 => h9) rfl (by decide +kernel) rfl rfl (Nat.le_of_ble_eq_true rfl) dX1_init_62 (fun H locs hP hD hS => ?_)
      have hP : va_P D vwCl (xW g d (fun _ => 0) (fun _ => 0) 8 0 (fun _ => 0) (fun _ => 0) 0 0 0 0) H := hP
      have hD : va_D A (xW g d (fun _ => 0) (fun _ => 0) 8 0 (fun _ => 0) (fun _ => 0) 0 0 0 0) := hD
      exact hret (g, d, 8) _ _ _ _ dX1_init_65 ⟨⟨hg0, (by first | exact (nCl_lo c39).symm | exact (nCl_mid hka c39 c56).symm | exact (nCl_hi hka c39 c56).symm)⟩, hK⟩ hP hD hS
    refine lv_iconst (v := nI 1) hx hb dX1_init_42 (by decide) ?_
    refine lv_goto (tgt := 47) hx hb dX1_init_43 (by decide) ?_
    refine va_put (D := D) (ci := 0) (v := .int (nI 1)) (ty := .int) (C := RX1) (T := TX1) (N := 10) hx hb hts in_X1 tyX1 tyX1_ok nmX1 hown hK hP hD hS 0 rfl rfl 4 (by decide) (hts _ q35) (fun _ h9 => h9) rfl (by decide +kernel) rfl rfl (Nat.le_of_ble_eq_true rfl) dX1_init_47 (fun H locs hP hD hS => ?_)
    have hP : va_P D vwCl (xW g d (fun _ => 0) (fun _ => 0) 1 0 (fun _ => 0) (fun _ => 0) 0 0 0 0) H := hP
    have hD : va_D A (xW g d (fun _ => 0) (fun _ => 0) 1 0 (fun _ => 0) (fun _ => 0) 0 0 0 0) := hD
    refine lv_aload_n hx hb dX1_init_50 rfl (lv_at hl 0 rfl) ?_
    refine va_get (D := D) (ci := 0) (v := .int (nI 1)) (C := RX1) (T := TX1) (N := 10) hx hb hts in_X1 hown hK hP 0 rfl rfl 4 (by decide) (hts _ q35) (fun _ h9 => h9) rfl dX1_init_51 ?_
    refine lv_bipush (v := nI 8) hx hb dX1_init_54 (by decide) ?_
    refine lv_icmp_le (tgt := 65) hx hb dX1_init_56 (by decide) (fun c56 => ?_) (fun c56 => ?_)
    · have c56 : 1 ≤ 8 := (nI_leI (a := 1) (b := 8) (by omega) (by omega)).mp c56
      exact hret (g, d, 1) _ _ _ _ dX1_init_65 ⟨⟨hg0, (by first | exact (nCl_lo c39).symm | exact (nCl_mid hka c39 c56).symm | exact (nCl_hi hka c39 c56).symm)⟩, hK⟩ hP hD hS
    have c56 : ¬ (1 ≤ 8) := fun h => c56 ((nI_leI (a := 1) (b := 8) (by omega) (by omega)).mpr h)
    exact absurd c56 (by decide)
  refine lv_aload_n hx hb dX1_init_0 rfl (lv_at hl 0 rfl) ?_
  refine W.objInit hx hb hown (hts _ q28) (hts _ q29) (hts _ q30) rfl (by rw [hml]; exact hl.1) rfl dX1_init_1 (Nat.le_of_ble_eq_true rfl) (Nat.le_of_ble_eq_true rfl) ?_
  refine W.eq (g2 := F0 m 4 ls []) rfl ?_
  refine lv_aload_n hx hb dX1_init_4 rfl (lv_at hl 0 rfl) ?_
  refine lv_bipush (v := 16) hx hb dX1_init_5 (by decide) ?_
  refine va_newa (atype := .int) (N' := 16) (a0 := (16, .inl (fun _ => 0))) (ty := .int) hx hb (hts _ q62) rfl hK hP hD hS hA (fun _ => rfl) (by decide) (by decide) (by decide) (Nat.le_of_ble_eq_true rfl) (Nat.le_of_ble_eq_true rfl) dX1_init_7 (fun q1 t1 H hK hP hD hS => ?_)
  refine W.widen (k := 1) (n := 16) (Nat.le_of_ble_eq_true rfl) (Nat.le_of_ble_eq_true rfl) ?_
  have hP : va_P D vwCl [(h, .inr (0, [.null, .null, .null, .null, .int 0, .int 0, .int 0, .int 0, .int 0, .int 0])), (q1, .inl (t1, 16, .inl (fun _ => 0)))] H := hP
  have hD : va_D A [(h, .inr (0, [.null, .null, .null, .null, .int 0, .int 0, .int 0, .int 0, .int 0, .int 0])), (q1, .inl (t1, 16, .inl (fun _ => 0)))] := hD
  have hK : va_K D vwCl [(t1, .int)] s := hK
  refine va_putF (D := D) (ci := 0) (v := .ref q1) (ty := .array .int) (C := RX1) (T := TX1) (N := 10) hx hb hts in_X1 tyX1 tyX1_ok nmX1 hown hK hP hD hS 0 rfl rfl 0 (by decide) (hts _ q31) (fun _ h9 => h9) rfl hin rfl (by decide +kernel) rfl rfl (Nat.le_of_ble_eq_true rfl) dX1_init_9 (fun H locs hP hD hS => ?_)
  have hP : va_P D vwCl [(h, .inr (0, [.ref q1, .null, .null, .null, .int 0, .int 0, .int 0, .int 0, .int 0, .int 0])), (q1, .inl (t1, 16, .inl (fun _ => 0)))] H := hP
  have hD : va_D A [(h, .inr (0, [.ref q1, .null, .null, .null, .int 0, .int 0, .int 0, .int 0, .int 0, .int 0])), (q1, .inl (t1, 16, .inl (fun _ => 0)))] := hD
  refine lv_aload_n hx hb dX1_init_12 rfl (lv_at hl 0 rfl) ?_
  refine lv_bipush (v := 16) hx hb dX1_init_13 (by decide) ?_
  refine va_newa (atype := .int) (N' := 16) (a0 := (16, .inl (fun _ => 0))) (ty := .int) hx hb (hts _ q62) rfl hK hP hD hS hA (fun _ => rfl) (by decide) (by decide) (by decide) (Nat.le_of_ble_eq_true rfl) (Nat.le_of_ble_eq_true rfl) dX1_init_15 (fun q2 t2 H hK hP hD hS => ?_)
  refine W.widen (k := 2) (n := 32) (Nat.le_of_ble_eq_true rfl) (Nat.le_of_ble_eq_true rfl) ?_
  have hP : va_P D vwCl [(h, .inr (0, [.ref q1, .null, .null, .null, .int 0, .int 0, .int 0, .int 0, .int 0, .int 0])), (q1, .inl (t1, 16, .inl (fun _ => 0))), (q2, .inl (t2, 16, .inl (fun _ => 0)))] H := hP
  have hD : va_D A [(h, .inr (0, [.ref q1, .null, .null, .null, .int 0, .int 0, .int 0, .int 0, .int 0, .int 0])), (q1, .inl (t1, 16, .inl (fun _ => 0))), (q2, .inl (t2, 16, .inl (fun _ => 0)))] := hD
  have hK : va_K D vwCl [(t1, .int), (t2, .int)] s := hK
  refine va_putF (D := D) (ci := 0) (v := .ref q2) (ty := .array .int) (C := RX1) (T := TX1) (N := 10) hx hb hts in_X1 tyX1 tyX1_ok nmX1 hown hK hP hD hS 0 rfl rfl 1 (by decide) (hts _ q32) (fun _ h9 => h9) rfl hin rfl (by decide +kernel) rfl rfl (Nat.le_of_ble_eq_true rfl) dX1_init_17 (fun H locs hP hD hS => ?_)
  have hP : va_P D vwCl [(h, .inr (0, [.ref q1, .ref q2, .null, .null, .int 0, .int 0, .int 0, .int 0, .int 0, .int 0])), (q1, .inl (t1, 16, .inl (fun _ => 0))), (q2, .inl (t2, 16, .inl (fun _ => 0)))] H := hP
  have hD : va_D A [(h, .inr (0, [.ref q1, .ref q2, .null, .null, .int 0, .int 0, .int 0, .int 0, .int 0, .int 0])), (q1, .inl (t1, 16, .inl (fun _ => 0))), (q2, .inl (t2, 16, .inl (fun _ => 0)))] := hD
  refine lv_aload_n hx hb dX1_init_20 rfl (lv_at hl 0 rfl) ?_
  refine lv_bipush (v := 8) hx hb dX1_init_21 (by decide) ?_
  refine va_newa (atype := .int) (N' := 8) (a0 := (8, .inl (fun _ => 0))) (ty := .int) hx hb (hts _ q62) rfl hK hP hD hS hA (fun _ => rfl) (by decide) (by decide) (by decide) (Nat.le_of_ble_eq_true rfl) (Nat.le_of_ble_eq_true rfl) dX1_init_23 (fun q3 t3 H hK hP hD hS => ?_)
  refine W.widen (k := 3) (n := 40) (Nat.le_of_ble_eq_true rfl) (Nat.le_of_ble_eq_true rfl) ?_
  have hP : va_P D vwCl [(h, .inr (0, [.ref q1, .ref q2, .null, .null, .int 0, .int 0, .int 0, .int 0, .int 0, .int 0])), (q1, .inl (t1, 16, .inl (fun _ => 0))), (q2, .inl (t2, 16, .inl (fun _ => 0))), (q3, .inl (t3, 8, .inl (fun _ => 0)))] H := hP
  have hD : va_D A [(h, .inr (0, [.ref q1, .ref q2, .null, .null, .int 0, .int 0, .int 0, .int 0, .int 0, .int 0])), (q1, .inl (t1, 16, .inl (fun _ => 0))), (q2, .inl (t2, 16, .inl (fun _ => 0))), (q3, .inl (t3, 8, .inl (fun _ => 0)))] := hD
  have hK : va_K D vwCl [(t1, .int), (t2, .int), (t3, .int)] s := hK
  refine va_putF (D := D) (ci := 0) (v := .ref q3) (ty := .array .int) (C := RX1) (T := TX1) (N := 10) hx hb hts in_X1 tyX1 tyX1_ok nmX1 hown hK hP hD hS 0 rfl rfl 2 (by decide) (hts _ q33) (fun _ h9 => h9) rfl hin rfl (by decide +kernel) rfl rfl (Nat.le_of_ble_eq_true rfl) dX1_init_25 (fun H locs hP hD hS => ?_)
  have hP : va_P D vwCl [(h, .inr (0, [.ref q1, .ref q2, .ref q3, .null, .int 0, .int 0, .int 0, .int 0, .int 0, .int 0])), (q1, .inl (t1, 16, .inl (fun _ => 0))), (q2, .inl (t2, 16, .inl (fun _ => 0))), (q3, .inl (t3, 8, .inl (fun _ => 0)))] H := hP
  have hD : va_D A [(h, .inr (0, [.ref q1, .ref q2, .ref q3, .null, .int 0, .int 0, .int 0, .int 0, .int 0, .int 0])), (q1, .inl (t1, 16, .inl (fun _ => 0))), (q2, .inl (t2, 16, .inl (fun _ => 0))), (q3, .inl (t3, 8, .inl (fun _ => 0)))] := hD
  refine lv_aload_n hx hb dX1_init_28 rfl (lv_at hl 0 rfl) ?_
  refine lv_bipush (v := 8) hx hb dX1_init_29 (by decide) ?_
  refine va_newa (atype := .int) (N' := 8) (a0 := (8, .inl (fun _ => 0))) (ty := .int) hx hb (hts _ q62) rfl hK hP hD hS hA (fun _ => rfl) (by decide) (by decide) (by decide) (Nat.le_of_ble_eq_true rfl) (Nat.le_of_ble_eq_true rfl) dX1_init_31 (fun q4 t4 H hK hP hD hS => ?_)
  refine W.widen (k := 4) (n := 48) (Nat.le_of_ble_eq_true rfl) (Nat.le_of_ble_eq_true rfl) ?_
  have hP : va_P D vwCl [(h, .inr (0, [.ref q1, .ref q2, .ref q3, .null, .int 0, .int 0, .int 0, .int 0, .int 0, .int 0])), (q1, .inl (t1, 16, .inl (fun _ => 0))), (q2, .inl (t2, 16, .inl (fun _ => 0))), (q3, .inl (t3, 8, .inl (fun _ => 0))), (q4, .inl (t4, 8, .inl (fun _ => 0)))] H := hP
  have hD : va_D A [(h, .inr (0, [.ref q1, .ref q2, .ref q3, .null, .int 0, .int 0, .int 0, .int 0, .int 0, .int 0])), (q1, .inl (t1, 16, .inl (fun _ => 0))), (q2, .inl (t2, 16, .inl (fun _ => 0))), (q3, .inl (t3, 8, .inl (fun _ => 0))), (q4, .inl (t4, 8, .inl (fun _ => 0)))] := hD
  have hK : va_K D vwCl [(t1, .int), (t2, .int), (t3, .int), (t4, .int)] s := hK
  refine va_putF (D := D) (ci := 0) (v := .ref q4) (ty := .array .int) (C := RX1) (T := TX1) (N := 10) hx hb hts in_X1 tyX1 tyX1_ok nmX1 hown hK hP hD hS 0 rfl rfl 3 (by decide) (hts _ q34) (fun _ h9 => h9) rfl hin rfl (by decide +kernel) rfl rfl (Nat.le_of_ble_eq_true rfl) dX1_init_33 (fun H locs hP hD hS => ?_)
  have hP : va_P D vwCl [(h, .inr (0, [.ref q1, .ref q2, .ref q3, .ref q4, .int 0, .int 0, .int 0, .int 0, .int 0, .int 0])), (q1, .inl (t1, 16, .inl (fun _ => 0))), (q2, .inl (t2, 16, .inl (fun _ => 0))), (q3, .inl (t3, 8, .inl (fun _ => 0))), (q4, .inl (t4, 8, .inl (fun _ => 0)))] H := hP
  have hD : va_D A [(h, .inr (0, [.ref q1, .ref q2, .ref q3, .ref q4, .int 0, .int 0, .int 0, .int 0, .int 0, .int 0])), (q1, .inl (t1, 16, .inl (fun _ => 0))), (q2, .inl (t2, 16, .inl (fun _ => 0))), (q3, .inl (t3, 8, .inl (fun _ => 0))), (q4, .inl (t4, 8, .inl (fun _ => 0)))] := hD
  exact key (fun k => match k with | 0 => h | 1 => q1 | 2 => q2 | 3 => q3 | _ => q4) (fun k => match k with | 1 => t1 | 2 => t2 | 3 => t3 | _ => t4) _ _ _ rfl hK hP hD hS hl
abbrev rmX2_init : Room := { frames := 1, cells := 4, slots := 544, locals := 23 }
set_option maxHeartbeats 4000000 in
set_option maxRecDepth 100000 in
theorem metX2_init (l : Launch) (D : va_G) (h : Nat) (a : Int32) : fd_N l yX2_init (ws_ yX2_init cX2_init 3 none) rmX2_init D [.ref h, .int a] [(h, .inr (1, [.null, .null, .null, .null, .int 0, .int 0, .int 0, .int 0]))] (fun (u : (Nat → Nat) × (Nat → ClassId) × Nat) => u.1 0 = h ∧ u.2.2 = nCl a) (fun u => yW u.1 u.2.1 (fun _ => 0) (fun _ => 0) u.2.2 0 (odI 256) (fun _ => 0) 0 0) (fun u => yT u.2.1) 4 544 := by
  refine fd_Nof (lv := [(0, .ref h), (1, .int a)]) rfl rfl (by decide) (Nat.le_of_ble_eq_true rfl) rfl ?_
  intro p e s m below meth c A ls Q S0 hin hK hP hD hA hl hret
  obtain ⟨hx, hb, hml, hown, hts⟩ := id S0
  have hS : va_S A s.heap s.heap [] := va_S.rf
  have key : ∀ (g : Nat → Nat) (d : Nat → ClassId) (H : Heap) (locs : List Loc) (ls : Array Slot), g 0 = h → va_K D vwCl (yT d) s → va_P D vwCl (yW g d (fun _ => 0) (fun _ => 0) 0 0 (fun _ => 0) (fun _ => 0) 0 0) H → va_D A (yW g d (fun _ => 0) (fun _ => 0) 0 0 (fun _ => 0) (fun _ => 0) 0 0) → va_S A s.heap H locs → lv_has ls 3 [(0, .ref (g 0)), (1, .int a)] → W p l e rmX2_init s m ([.ref h, .int a] : List Value).toArray below meth c H locs 4 544 Q (F0 m 38 ls []) := by
    intro g d H locs ls hg0 hK hP hD hS hl
    refine lv_aload_n hx hb dX2_init_38 rfl (lv_at hl 0 rfl) ?_
    refine lv_iload_n hx hb dX2_init_39 rfl (lv_at hl 1 rfl) ?_
    refine lv_iconst (v := (1 : Int32)) hx hb dX2_init_40 (by decide) ?_
    have LP65 : ∀ (Nf65 : Nat) (k : Nat) (nn : Nat) (xO : Nat → Int32) (H : Heap) (locs : List Loc) (ls : Array Slot), 256 - k < Nf65 → (k ≤ 256) → (nn = nCl a) → xO = odI k → va_P D vwCl (yW g d (fun _ => 0) (fun _ => 0) nn 0 xO (fun _ => 0) 0 0) H → va_D A (yW g d (fun _ => 0) (fun _ => 0) nn 0 xO (fun _ => 0) 0 0) → va_S A s.heap H locs → lv_has ls 3 [(0, .ref (g 0)), (2, .int (nI k))] → W p l e rmX2_init s m ([.ref h, .int a] : List Value).toArray below meth c H locs 4 544 Q (F0 m 65 ls []) := by
      intro Nf65
      induction Nf65 with
      | zero => intro k nn xO H locs ls hmu; exact absurd hmu (Nat.not_lt_zero _)
      | succ Nf65 ih65 =>
        intro k nn xO H locs ls hmu65 hk hnn exO hP hD hS hl
        subst exO
        refine lv_iload_n hx hb dX2_init_65 rfl (lv_at hl 1 rfl) ?_
        refine lv_sipush (v := nI 256) hx hb dX2_init_66 (by decide) ?_
        refine lv_icmp_ge (tgt := 100) hx hb dX2_init_69 (by decide) (fun c69 => ?_) (fun c69 => ?_)
        · have c69 : 256 ≤ k := (nI_leI (a := 256) (b := k) (by omega) (by omega)).mp c69
          obtain rfl : 256 = k := by omega
          exact hret (g, d, nn) _ _ _ _ dX2_init_100 ⟨⟨hg0, hnn⟩, hK⟩ hP hD hS
        have c69 : ¬ (256 ≤ k) := fun h => c69 ((nI_leI (a := 256) (b := k) (by omega) (by omega)).mpr h)
        refine lv_aload_n hx hb dX2_init_72 rfl (lv_at hl 0 rfl) ?_
        refine va_get (D := D) (ci := 1) (v := .ref (g 3)) (C := RX2) (T := TX2) (N := 8) hx hb hts in_X2 hown hK hP 0 rfl rfl 2 (by decide) (hts _ q194) (fun _ h9 => h9) rfl dX2_init_73 ?_
        refine lv_iload_n hx hb dX2_init_76 rfl (lv_at hl 1 rfl) ?_
        refine lv_aload_n hx hb dX2_init_77 rfl (lv_at hl 0 rfl) ?_
        refine lv_iload_n hx hb dX2_init_78 rfl (lv_at hl 1 rfl) ?_
        refine fd_callVi (n := 1) (rest := [.int (nI k), .ref (g 3)]) (As := [.int (nI k)]) (wr := []) S0 hK hP hD hS hA [0, 1, 2, 3, 4] [] [0, 1, 2, 3] (metX2_members l D g d (fun _ => 0) (fun _ => 0) nn 0 (odI k) (fun _ => 0) 0 0 (nI k)) q188 q190 qs10 q22 q191 dX2_init_79 rfl rfl rfl rfl ⟨⟨rfl, rfl⟩, Nat.le_of_ble_eq_true rfl, Nat.le_of_ble_eq_true rfl⟩ (by decide +kernel) rfl rfl (q0 := 0) rfl rfl hl.1 rfl (Nat.le_of_ble_eq_true rfl) ⟨Nat.le_of_ble_eq_true rfl, Nat.le_of_ble_eq_true rfl⟩ (fun r79 u79 H locs hq79 hP hD hS => ?_)
        subst hq79
        have hP : va_P D vwCl (yW g d (fun _ => 0) (fun _ => 0) nn 0 (odI k) (fun _ => 0) 0 0) H := hP
        have hD : va_D A (yW g d (fun _ => 0) (fun _ => 0) nn 0 (odI k) (fun _ => 0) 0 0) := hD
        refine lv_iconst (v := (2 : Int32)) hx hb dX2_init_82 (by decide) ?_
        refine lv_irem hx hb dX2_init_83 (by decide) ?_
        refine lv_iconst (v := (1 : Int32)) hx hb dX2_init_84 (by decide) ?_
        refine lv_icmp_ne (tgt := 92) hx hb dX2_init_85 (by decide) (fun c85 => ?_) (fun c85 => ?_)
        · refine lv_iconst (v := (0 : Int32)) hx hb dX2_init_92 (by decide) ?_
          refine fd_zast hx hb hK hP hD hS 3 2 rfl rfl rfl (k := k) (by omega) (by decide) dX2_init_93 (fun H locs hP hD hS => ?_)
          have hP : va_P D vwCl (yW g d (fun _ => 0) (fun _ => 0) nn 0 (upd (odI k) k (0 : Int32)) (fun _ => 0) 0 0) H := hP
          have hD : va_D A (yW g d (fun _ => 0) (fun _ => 0) nn 0 (upd (odI k) k (0 : Int32)) (fun _ => 0) 0 0) := hD
          refine lv_iinc (v := nI (k + 1)) (lv' := [(2, .int (nI (k + 1))), (0, .ref (g 0))]) hx hb dX2_init_94 hl (k := 1) rfl (fd_inc _) (by decide) rfl (fun ls hl => ?_)
          refine lv_goto (tgt := 65) hx hb dX2_init_97 (by decide) ?_
          exact ih65 (k + 1) nn (upd (odI k) k (0 : Int32)) _ _ _ (by omega) (by omega) hnn (by first | rw [odI, if_neg c85] | rw [odI, if_pos c85]) hP hD hS (lv_sub hl [1, 0] rfl)
        refine lv_iconst (v := (1 : Int32)) hx hb dX2_init_88 (by decide) ?_
        refine lv_goto (tgt := 93) hx hb dX2_init_89 (by decide) ?_
        refine fd_zast hx hb hK hP hD hS 3 2 rfl rfl rfl (k := k) (by omega) (by decide) dX2_init_93 (fun H locs hP hD hS => ?_)
        have hP : va_P D vwCl (yW g d (fun _ => 0) (fun _ => 0) nn 0 (upd (odI k) k (1 : Int32)) (fun _ => 0) 0 0) H := hP
        have hD : va_D A (yW g d (fun _ => 0) (fun _ => 0) nn 0 (upd (odI k) k (1 : Int32)) (fun _ => 0) 0 0) := hD
        refine lv_iinc (v := nI (k + 1)) (lv' := [(2, .int (nI (k + 1))), (0, .ref (g 0))]) hx hb dX2_init_94 hl (k := 1) rfl (fd_inc _) (by decide) rfl (fun ls hl => ?_)
        refine lv_goto (tgt := 65) hx hb dX2_init_97 (by decide) ?_
        exact ih65 (k + 1) nn (upd (odI k) k (1 : Int32)) _ _ _ (by omega) (by omega) hnn (by first | rw [odI, if_neg c85] | rw [odI, if_pos c85]) hP hD hS (lv_sub hl [1, 0] rfl)
    refine lv_icmp_ge (tgt := 48) hx hb dX2_init_41 (by decide) (fun c41 => ?_) (fun c41 => ?_)
    · obtain ⟨ka, hka, rfl⟩ := nI_of (fd_ge1 c41)
      refine lv_iload_n hx hb dX2_init_48 rfl (lv_at hl 1 rfl) ?_
      refine lv_bipush (v := nI 8) hx hb dX2_init_49 (by decide) ?_
      refine lv_icmp_le (tgt := 59) hx hb dX2_init_51 (by decide) (fun c51 => ?_) (fun c51 => ?_)
      · have c51 : ka ≤ 8 := (nI_leI (a := ka) (b := 8) (by omega) (by omega)).mp c51
        refine lv_iload_n hx hb dX2_init_59 rfl (lv_at hl 1 rfl) ?_
        refine va_put (D := D) (ci := 1) (v := .int (nI ka)) (ty := .int) (C := RX2) (T := TX2) (N := 8) hx hb hts in_X2 tyX2 tyX2_ok nmX2 hown hK hP hD hS 0 rfl rfl 4 (by decide) (hts _ q196) (fun _ h9 => h9) rfl (by decide +kernel) rfl rfl (Nat.le_of_ble_eq_true rfl) dX2_init_60 (fun H locs hP hD hS => ?_)
        have hP : va_P D vwCl (yW g d (fun _ => 0) (fun _ => 0) ka 0 (fun _ => 0) (fun _ => 0) 0 0) H := hP
        have hD : va_D A (yW g d (fun _ => 0) (fun _ => 0) ka 0 (fun _ => 0) (fun _ => 0) 0 0) := hD
        refine lv_iconst (v := nI 0) hx hb dX2_init_63 (by decide) ?_
        refine lv_istore_n (lv' := [(2, .int (nI 0)), (0, .ref (g 0)), (1, .int (nI ka))]) hx hb dX2_init_64 rfl hl (by decide) rfl (fun ls hl => ?_)
        exact LP65 _ 0 ka (fun _ => 0) _ _ _ (Nat.lt_succ_self _) (by omega) (by first | exact (nCl_lo c41).symm | exact (nCl_mid hka c41 c51).symm | exact (nCl_hi hka c41 c51).symm) rfl hP hD hS (lv_sub hl [1, 0] rfl)
      have c51 : ¬ (ka ≤ 8) := fun h => c51 ((nI_leI (a := ka) (b := 8) (by omega) (by omega)).mpr h)
      refine lv_bipush (v := nI 8) hx hb dX2_init_54 (by decide) ?_
      refine lv_goto (tgt := 60) hx hb dX2_init_56 (by decide) ?_
      refine va_put (D := D) (ci := 1) (v := .int (nI 8)) (ty := .int) (C := RX2) (T := TX2) (N := 8) hx hb hts in_X2 tyX2 tyX2_ok nmX2 hown hK hP hD hS 0 rfl rfl 4 (by decide) (hts _ q196) (fun _ h9 => h9) rfl (by decide +kernel) rfl rfl (Nat.le_of_ble_eq_true rfl) dX2_init_60 (fun H locs hP hD hS => ?_)
      have hP : va_P D vwCl (yW g d (fun _ => 0) (fun _ => 0) 8 0 (fun _ => 0) (fun _ => 0) 0 0) H := hP
      have hD : va_D A (yW g d (fun _ => 0) (fun _ => 0) 8 0 (fun _ => 0) (fun _ => 0) 0 0) := hD
      refine lv_iconst (v := nI 0) hx hb dX2_init_63 (by decide) ?_
      refine lv_istore_n (lv' := [(2, .int (nI 0)), (0, .ref (g 0)), (1, .int (nI ka))]) hx hb dX2_init_64 rfl hl (by decide) rfl (fun ls hl => ?_)
      exact LP65 _ 0 8 (fun _ => 0) _ _ _ (Nat.lt_succ_self _) (by omega) (by first | exact (nCl_lo c41).symm | exact (nCl_mid hka c41 c51).symm | exact (nCl_hi hka c41 c51).symm) rfl hP hD hS (lv_sub hl [1, 0] rfl)
    refine lv_iconst (v := nI 1) hx hb dX2_init_44 (by decide) ?_
    refine lv_goto (tgt := 60) hx hb dX2_init_45 (by decide) ?_
    refine va_put (D := D) (ci := 1) (v := .int (nI 1)) (ty := .int) (C := RX2) (T := TX2) (N := 8) hx hb hts in_X2 tyX2 tyX2_ok nmX2 hown hK hP hD hS 0 rfl rfl 4 (by decide) (hts _ q196) (fun _ h9 => h9) rfl (by decide +kernel) rfl rfl (Nat.le_of_ble_eq_true rfl) dX2_init_60 (fun H locs hP hD hS => ?_)
    have hP : va_P D vwCl (yW g d (fun _ => 0) (fun _ => 0) 1 0 (fun _ => 0) (fun _ => 0) 0 0) H := hP
    have hD : va_D A (yW g d (fun _ => 0) (fun _ => 0) 1 0 (fun _ => 0) (fun _ => 0) 0 0) := hD
    refine lv_iconst (v := nI 0) hx hb dX2_init_63 (by decide) ?_
    refine lv_istore_n (lv' := [(2, .int (nI 0)), (0, .ref (g 0)), (1, .int a)]) hx hb dX2_init_64 rfl hl (by decide) rfl (fun ls hl => ?_)
    exact LP65 _ 0 1 (fun _ => 0) _ _ _ (Nat.lt_succ_self _) (by omega) (by first | exact (nCl_lo c41).symm | exact (nCl_mid hka c41 c51).symm | exact (nCl_hi hka c41 c51).symm) rfl hP hD hS (lv_sub hl [1, 0] rfl)
  refine lv_aload_n hx hb dX2_init_0 rfl (lv_at hl 0 rfl) ?_
  refine W.objInit hx hb hown (hts _ q187) (hts _ q29) (hts _ q30) rfl (by rw [hml]; exact hl.1) rfl dX2_init_1 (Nat.le_of_ble_eq_true rfl) (Nat.le_of_ble_eq_true rfl) ?_
  refine W.eq (g2 := F0 m 4 ls []) rfl ?_
  refine lv_aload_n hx hb dX2_init_4 rfl (lv_at hl 0 rfl) ?_
  refine lv_bipush (v := 16) hx hb dX2_init_5 (by decide) ?_
  refine va_newa (atype := .int) (N' := 16) (a0 := (16, .inl (fun _ => 0))) (ty := .int) hx hb (hts _ q62) rfl hK hP hD hS hA (fun _ => rfl) (by decide) (by decide) (by decide) (Nat.le_of_ble_eq_true rfl) (Nat.le_of_ble_eq_true rfl) dX2_init_7 (fun q1 t1 H hK hP hD hS => ?_)
  refine W.widen (k := 1) (n := 16) (Nat.le_of_ble_eq_true rfl) (Nat.le_of_ble_eq_true rfl) ?_
  have hP : va_P D vwCl [(h, .inr (1, [.null, .null, .null, .null, .int 0, .int 0, .int 0, .int 0])), (q1, .inl (t1, 16, .inl (fun _ => 0)))] H := hP
  have hD : va_D A [(h, .inr (1, [.null, .null, .null, .null, .int 0, .int 0, .int 0, .int 0])), (q1, .inl (t1, 16, .inl (fun _ => 0)))] := hD
  have hK : va_K D vwCl [(t1, .int)] s := hK
  refine va_putF (D := D) (ci := 1) (v := .ref q1) (ty := .array .int) (C := RX2) (T := TX2) (N := 8) hx hb hts in_X2 tyX2 tyX2_ok nmX2 hown hK hP hD hS 0 rfl rfl 0 (by decide) (hts _ q192) (fun _ h9 => h9) rfl hin rfl (by decide +kernel) rfl rfl (Nat.le_of_ble_eq_true rfl) dX2_init_9 (fun H locs hP hD hS => ?_)
  have hP : va_P D vwCl [(h, .inr (1, [.ref q1, .null, .null, .null, .int 0, .int 0, .int 0, .int 0])), (q1, .inl (t1, 16, .inl (fun _ => 0)))] H := hP
  have hD : va_D A [(h, .inr (1, [.ref q1, .null, .null, .null, .int 0, .int 0, .int 0, .int 0])), (q1, .inl (t1, 16, .inl (fun _ => 0)))] := hD
  refine lv_aload_n hx hb dX2_init_12 rfl (lv_at hl 0 rfl) ?_
  refine lv_bipush (v := 16) hx hb dX2_init_13 (by decide) ?_
  refine va_newa (atype := .int) (N' := 16) (a0 := (16, .inl (fun _ => 0))) (ty := .int) hx hb (hts _ q62) rfl hK hP hD hS hA (fun _ => rfl) (by decide) (by decide) (by decide) (Nat.le_of_ble_eq_true rfl) (Nat.le_of_ble_eq_true rfl) dX2_init_15 (fun q2 t2 H hK hP hD hS => ?_)
  refine W.widen (k := 2) (n := 32) (Nat.le_of_ble_eq_true rfl) (Nat.le_of_ble_eq_true rfl) ?_
  have hP : va_P D vwCl [(h, .inr (1, [.ref q1, .null, .null, .null, .int 0, .int 0, .int 0, .int 0])), (q1, .inl (t1, 16, .inl (fun _ => 0))), (q2, .inl (t2, 16, .inl (fun _ => 0)))] H := hP
  have hD : va_D A [(h, .inr (1, [.ref q1, .null, .null, .null, .int 0, .int 0, .int 0, .int 0])), (q1, .inl (t1, 16, .inl (fun _ => 0))), (q2, .inl (t2, 16, .inl (fun _ => 0)))] := hD
  have hK : va_K D vwCl [(t1, .int), (t2, .int)] s := hK
  refine va_putF (D := D) (ci := 1) (v := .ref q2) (ty := .array .int) (C := RX2) (T := TX2) (N := 8) hx hb hts in_X2 tyX2 tyX2_ok nmX2 hown hK hP hD hS 0 rfl rfl 1 (by decide) (hts _ q193) (fun _ h9 => h9) rfl hin rfl (by decide +kernel) rfl rfl (Nat.le_of_ble_eq_true rfl) dX2_init_17 (fun H locs hP hD hS => ?_)
  have hP : va_P D vwCl [(h, .inr (1, [.ref q1, .ref q2, .null, .null, .int 0, .int 0, .int 0, .int 0])), (q1, .inl (t1, 16, .inl (fun _ => 0))), (q2, .inl (t2, 16, .inl (fun _ => 0)))] H := hP
  have hD : va_D A [(h, .inr (1, [.ref q1, .ref q2, .null, .null, .int 0, .int 0, .int 0, .int 0])), (q1, .inl (t1, 16, .inl (fun _ => 0))), (q2, .inl (t2, 16, .inl (fun _ => 0)))] := hD
  refine lv_aload_n hx hb dX2_init_20 rfl (lv_at hl 0 rfl) ?_
  refine lv_sipush (v := 256) hx hb dX2_init_21 (by decide) ?_
  refine va_newa (atype := .boolean) (N' := 256) (a0 := (256, .inl (fun _ => 0))) (ty := .boolean) hx hb (hts _ q217) rfl hK hP hD hS hA (fun _ => rfl) (by decide) (by decide) (by decide) (Nat.le_of_ble_eq_true rfl) (Nat.le_of_ble_eq_true rfl) dX2_init_24 (fun q3 t3 H hK hP hD hS => ?_)
  refine W.widen (k := 3) (n := 288) (Nat.le_of_ble_eq_true rfl) (Nat.le_of_ble_eq_true rfl) ?_
  have hP : va_P D vwCl [(h, .inr (1, [.ref q1, .ref q2, .null, .null, .int 0, .int 0, .int 0, .int 0])), (q1, .inl (t1, 16, .inl (fun _ => 0))), (q2, .inl (t2, 16, .inl (fun _ => 0))), (q3, .inl (t3, 256, .inl (fun _ => 0)))] H := hP
  have hD : va_D A [(h, .inr (1, [.ref q1, .ref q2, .null, .null, .int 0, .int 0, .int 0, .int 0])), (q1, .inl (t1, 16, .inl (fun _ => 0))), (q2, .inl (t2, 16, .inl (fun _ => 0))), (q3, .inl (t3, 256, .inl (fun _ => 0)))] := hD
  have hK : va_K D vwCl [(t1, .int), (t2, .int), (t3, .boolean)] s := hK
  refine va_putF (D := D) (ci := 1) (v := .ref q3) (ty := .array .boolean) (C := RX2) (T := TX2) (N := 8) hx hb hts in_X2 tyX2 tyX2_ok nmX2 hown hK hP hD hS 0 rfl rfl 2 (by decide) (hts _ q194) (fun _ h9 => h9) rfl hin rfl (by decide +kernel) rfl rfl (Nat.le_of_ble_eq_true rfl) dX2_init_26 (fun H locs hP hD hS => ?_)
  have hP : va_P D vwCl [(h, .inr (1, [.ref q1, .ref q2, .ref q3, .null, .int 0, .int 0, .int 0, .int 0])), (q1, .inl (t1, 16, .inl (fun _ => 0))), (q2, .inl (t2, 16, .inl (fun _ => 0))), (q3, .inl (t3, 256, .inl (fun _ => 0)))] H := hP
  have hD : va_D A [(h, .inr (1, [.ref q1, .ref q2, .ref q3, .null, .int 0, .int 0, .int 0, .int 0])), (q1, .inl (t1, 16, .inl (fun _ => 0))), (q2, .inl (t2, 16, .inl (fun _ => 0))), (q3, .inl (t3, 256, .inl (fun _ => 0)))] := hD
  refine lv_aload_n hx hb dX2_init_29 rfl (lv_at hl 0 rfl) ?_
  refine lv_sipush (v := 256) hx hb dX2_init_30 (by decide) ?_
  refine va_newa (atype := .boolean) (N' := 256) (a0 := (256, .inl (fun _ => 0))) (ty := .boolean) hx hb (hts _ q217) rfl hK hP hD hS hA (fun _ => rfl) (by decide) (by decide) (by decide) (Nat.le_of_ble_eq_true rfl) (Nat.le_of_ble_eq_true rfl) dX2_init_33 (fun q4 t4 H hK hP hD hS => ?_)
  refine W.widen (k := 4) (n := 544) (Nat.le_of_ble_eq_true rfl) (Nat.le_of_ble_eq_true rfl) ?_
  have hP : va_P D vwCl [(h, .inr (1, [.ref q1, .ref q2, .ref q3, .null, .int 0, .int 0, .int 0, .int 0])), (q1, .inl (t1, 16, .inl (fun _ => 0))), (q2, .inl (t2, 16, .inl (fun _ => 0))), (q3, .inl (t3, 256, .inl (fun _ => 0))), (q4, .inl (t4, 256, .inl (fun _ => 0)))] H := hP
  have hD : va_D A [(h, .inr (1, [.ref q1, .ref q2, .ref q3, .null, .int 0, .int 0, .int 0, .int 0])), (q1, .inl (t1, 16, .inl (fun _ => 0))), (q2, .inl (t2, 16, .inl (fun _ => 0))), (q3, .inl (t3, 256, .inl (fun _ => 0))), (q4, .inl (t4, 256, .inl (fun _ => 0)))] := hD
  have hK : va_K D vwCl [(t1, .int), (t2, .int), (t3, .boolean), (t4, .boolean)] s := hK
  refine va_putF (D := D) (ci := 1) (v := .ref q4) (ty := .array .boolean) (C := RX2) (T := TX2) (N := 8) hx hb hts in_X2 tyX2 tyX2_ok nmX2 hown hK hP hD hS 0 rfl rfl 3 (by decide) (hts _ q195) (fun _ h9 => h9) rfl hin rfl (by decide +kernel) rfl rfl (Nat.le_of_ble_eq_true rfl) dX2_init_35 (fun H locs hP hD hS => ?_)
  have hP : va_P D vwCl [(h, .inr (1, [.ref q1, .ref q2, .ref q3, .ref q4, .int 0, .int 0, .int 0, .int 0])), (q1, .inl (t1, 16, .inl (fun _ => 0))), (q2, .inl (t2, 16, .inl (fun _ => 0))), (q3, .inl (t3, 256, .inl (fun _ => 0))), (q4, .inl (t4, 256, .inl (fun _ => 0)))] H := hP
  have hD : va_D A [(h, .inr (1, [.ref q1, .ref q2, .ref q3, .ref q4, .int 0, .int 0, .int 0, .int 0])), (q1, .inl (t1, 16, .inl (fun _ => 0))), (q2, .inl (t2, 16, .inl (fun _ => 0))), (q3, .inl (t3, 256, .inl (fun _ => 0))), (q4, .inl (t4, 256, .inl (fun _ => 0)))] := hD
  exact key (fun k => match k with | 0 => h | 1 => q1 | 2 => q2 | 3 => q3 | _ => q4) (fun k => match k with | 1 => t1 | 2 => t2 | 3 => t3 | _ => t4) _ _ _ rfl hK hP hD hS hl
end
section
/-! PLAIN: bits of Nats, parity, the product of two sets, tops -/
def pr8 : Nat → Nat → Bool
  | 0, _ => false
  | k + 1, y => (pr8 k y ^^ y.testBit k)
/-- the parity of the common blocks -/
def ldot (a y : Nat) : Bool := pr8 8 (a &&& y)
theorem pr8_xor (k y z : Nat) : pr8 k (y ^^^ z) = (pr8 k y ^^ pr8 k z) := by
  induction k with
  | zero => rfl
  | succ k ih =>
    show (pr8 k (y ^^^ z) ^^ (y ^^^ z).testBit k) = ((pr8 k y ^^ y.testBit k) ^^ (pr8 k z ^^ z.testBit k))
    rw [ih, Nat.testBit_xor]
    cases pr8 k y <;> cases pr8 k z <;> cases y.testBit k <;> cases z.testBit k <;> rfl
theorem pr8_0 (k : Nat) : pr8 k 0 = false := by
  induction k with
  | zero => rfl
  | succ k ih =>
    show (pr8 k 0 ^^ (0 : Nat).testBit k) = false
    rw [ih, Nat.zero_testBit]; rfl
theorem fd_bx {y z : Nat} (h : ∀ i, y.testBit i = z.testBit i) : y = z := Nat.eq_of_testBit_eq h
theorem and_xor_d (a y z : Nat) : a &&& (y ^^^ z) = (a &&& y) ^^^ (a &&& z) := by
  apply fd_bx
  intro i
  rw [Nat.testBit_and, Nat.testBit_xor, Nat.testBit_xor, Nat.testBit_and, Nat.testBit_and]
  cases a.testBit i <;> cases y.testBit i <;> cases z.testBit i <;> rfl
theorem ldot_comm (a y : Nat) : ldot a y = ldot y a := by unfold ldot; rw [Nat.and_comm]
theorem ldot_xr (a y z : Nat) : ldot a (y ^^^ z) = (ldot a y ^^ ldot a z) := by
  unfold ldot; rw [and_xor_d, pr8_xor]
theorem ldot_xl (a b y : Nat) : ldot (a ^^^ b) y = (ldot a y ^^ ldot b y) := by
  rw [ldot_comm, ldot_xr, ldot_comm y a, ldot_comm y b]
theorem ldot_0r (a : Nat) : ldot a 0 = false := by
  unfold ldot; rw [Nat.and_zero, pr8_0]
theorem ldot_0l (a : Nat) : ldot 0 a = false := by rw [ldot_comm, ldot_0r]
theorem pr8_pow (k a b : Nat) : pr8 k (a &&& 2 ^ b) = (decide (b < k) && a.testBit b) := by
  induction k with
  | zero => simp [pr8]
  | succ k ih =>
    show (pr8 k (a &&& 2 ^ b) ^^ (a &&& 2 ^ b).testBit k) = _
    rw [ih, Nat.testBit_and, Nat.testBit_two_pow]
    by_cases h : b = k
    · subst h
      have h1 : ¬ b < b := Nat.lt_irrefl _
      have h2 : b < b + 1 := Nat.lt_succ_self _
      simp [h1, h2]
    · by_cases h3 : b < k
      · have h4 : b < k + 1 := by omega
        simp [h, h3, h4]
      · have h4 : ¬ b < k + 1 := by omega
        simp [h, h3, h4]
theorem ldot_pr {a b : Nat} (h : b < 8) : ldot a (2 ^ b) = a.testBit b := by
  unfold ldot; rw [pr8_pow]; simp [h]
theorem ldot_pl {a b : Nat} (h : b < 8) : ldot (2 ^ b) a = a.testBit b := by rw [ldot_comm, ldot_pr h]
theorem and_pow0 {y t : Nat} : y &&& 2 ^ t = 0 ↔ y.testBit t = false := by
  constructor
  · intro h
    have h1 : (y &&& 2 ^ t).testBit t = false := by rw [h, Nat.zero_testBit]
    rw [Nat.testBit_and, Nat.testBit_two_pow_self] at h1
    simpa using h1
  · intro h
    apply fd_bx
    intro i
    rw [Nat.testBit_and, Nat.testBit_two_pow, Nat.zero_testBit]
    by_cases e : t = i
    · subst e; rw [h]; rfl
    · simp [e]
theorem tb_hi {y n i : Nat} (h : y < 2 ^ n) (hi : n ≤ i) : y.testBit i = false :=
  Nat.testBit_lt_two_pow (Nat.lt_of_lt_of_le h (Nat.pow_le_pow_right (by decide) hi))
theorem tb_lt {y n i : Nat} (h : y < 2 ^ n) (hi : y.testBit i = true) : i < n := by
  rcases Nat.lt_or_ge i n with q | q
  · exact q
  · rw [tb_hi h q] at hi; cases hi
theorem xor_self2 (y z : Nat) : y ^^^ z ^^^ z = y := by rw [Nat.xor_assoc, Nat.xor_self, Nat.xor_zero]
theorem p8 {n : Nat} (h : n ≤ 8) : 2 ^ n ≤ 2 ^ 8 := Nat.pow_le_pow_right (by decide) h
def isTop (y t : Nat) : Prop := y.testBit t = true ∧ ∀ b, t < b → y.testBit b = false
theorem top_ex0 : ∀ y, y < 256 → y ≠ 0 → ∃ t, t < 8 ∧ y.testBit t = true ∧ ∀ b, b < 8 → t < b → y.testBit b = false := by decide +kernel
theorem top_ex {n y : Nat} (hn : n ≤ 8) (h : y < 2 ^ n) (h0 : y ≠ 0) : ∃ t, t < n ∧ isTop y t := by
  obtain ⟨t, -, h1, h2⟩ := top_ex0 y (Nat.lt_of_lt_of_le h (p8 hn)) h0
  refine ⟨t, tb_lt h h1, h1, fun b hb => ?_⟩
  rcases Nat.lt_or_ge b 8 with q | q
  · exact h2 b q hb
  · exact tb_hi h (by omega)
theorem topM_0 : ∀ y, y < 256 → ∀ t, t < 8 → y.testBit t = true → (∀ b, b < 8 → t < b → y.testBit b = false) → topM 7 (nI y) = nI (2 ^ t) := by decide +kernel
theorem topM_of {n y t : Nat} (hn : n ≤ 8) (h : y < 2 ^ n) (ht : isTop y t) : topM 7 (nI y) = nI (2 ^ t) :=
  topM_0 y (Nat.lt_of_lt_of_le h (p8 hn)) t (Nat.lt_of_lt_of_le (tb_lt h ht.1) hn) ht.1 (fun b _ hb => ht.2 b hb)
/-- a bit of a set, as the machine asks for it -/
theorem bit_ask {y t : Nat} (hy : y < 256) : (nI y &&& nI (2 ^ t) = 0) ↔ y.testBit t = false := by
  rw [fd_and]
  have h1 : y &&& 2 ^ t ≤ y := Nat.and_le_left
  rw [show (0 : Int32) = nI 0 from rfl, nI_eq (by omega) (by decide), and_pow0]
theorem nI_z {y : Nat} (hy : y < 256) : nI y = 0 ↔ y = 0 := by
  rw [show (0 : Int32) = nI 0 from rfl, nI_eq (by omega) (by decide)]
theorem pow_ask0 : ∀ y, y < 256 → y ≠ 0 → ((nI y &&& (nI y - 1) = 0) ↔ ∃ t, t < 8 ∧ y = 2 ^ t) := by decide +kernel
/-! how many bits -/
def pcN : Nat → Nat → Nat
  | 0, _ => 0
  | k + 1, y => pcN k y + (y.testBit k).toNat
theorem pcN_le (k y : Nat) : pcN k y ≤ k := by
  induction k with
  | zero => exact Nat.le_refl _
  | succ k ih =>
    show pcN k y + (y.testBit k).toNat ≤ k + 1
    have := Bool.toNat_le (y.testBit k)
    omega
theorem pcN_mono {y z : Nat} : ∀ {k : Nat}, (∀ i, i < k → y.testBit i = true → z.testBit i = true) → pcN k y ≤ pcN k z := by
  intro k
  induction k with
  | zero => intro _; exact Nat.le_refl _
  | succ k ih =>
    intro h
    have h1 := ih (fun i hi => h i (by omega))
    have h2 := h k (by omega)
    show pcN k y + (y.testBit k).toNat ≤ pcN k z + (z.testBit k).toNat
    cases q : y.testBit k
    · simp only [Bool.toNat_false]; omega
    · rw [h2 q]; omega
theorem pcN_strict {y z b : Nat} : ∀ {k : Nat}, (∀ i, i < k → y.testBit i = true → z.testBit i = true) → b < k → y.testBit b = false → z.testBit b = true → pcN k y < pcN k z := by
  intro k
  induction k with
  | zero => intro _ hb; exact absurd hb (Nat.not_lt_zero _)
  | succ k ih =>
    intro h hb h0 h1
    show pcN k y + (y.testBit k).toNat < pcN k z + (z.testBit k).toNat
    rcases Nat.lt_or_ge b k with q | q
    · have h2 := ih (fun i hi => h i (by omega)) q h0 h1
      have h3 := h k (by omega)
      cases e : y.testBit k
      · simp only [Bool.toNat_false]; omega
      · rw [h3 e]; omega
    · obtain rfl : b = k := by omega
      have h2 := pcN_mono (k := b) (fun i hi => h i (by omega))
      rw [h0, h1]
      simp only [Bool.toNat_false, Bool.toNat_true]; omega
end
section
/-! PLAIN: rows with leading bits that stand in no other row; their solutions; reduction; a new row -/
def RR (n : Nat) (ρ t : Nat → Nat) (N : Nat) : Prop := ∀ k, k < N → (ρ k < 2 ^ n ∧ t k < n ∧ isTop (ρ k) (t k) ∧ ∀ j, j < N → j ≠ k → (ρ j).testBit (t k) = false)
/-- c makes the rows true, for one bit of the values -/
def solR (ρ υ : Nat → Nat) (N bit c : Nat) : Prop := ∀ i, i < N → ldot c (ρ i) = (υ i).testBit bit
def lsum (t : Nat → Nat) (e : Nat → Bool) : Nat → Nat
  | 0 => 0
  | k + 1 => lsum t e k ^^^ (if e k = true then 2 ^ t k else 0)
section rref
variable {n N : Nat} {ρ υ t : Nat → Nat}
theorem RR.inj (h : RR n ρ t N) {j k : Nat} (hj : j < N) (hk : k < N) (e : t j = t k) : j = k := by
  rcases Nat.decEq j k with q | q
  · have h1 := (h k hk).2.2.2 j hj q
    rw [← e, (h j hj).2.2.1.1] at h1
    cases h1
  · exact q
theorem RR.bit (h : RR n ρ t N) {j k : Nat} (hj : j < N) (hk : k < N) : (ρ j).testBit (t k) = decide (j = k) := by
  by_cases q : j = k
  · subst q; rw [(h j hj).2.2.1.1]; simp
  · rw [(h k hk).2.2.2 j hj q]; simp [q]
theorem lsum_dot (h : RR n ρ t N) (hn : n ≤ 8) (e : Nat → Bool) {j : Nat} (hj : j < N) : ∀ m, m ≤ N → ldot (lsum t e m) (ρ j) = (decide (j < m) && e j) := by
  intro m
  induction m with
  | zero => intro _; show ldot 0 _ = _; rw [ldot_0l]; simp
  | succ m ih =>
    intro hm
    show ldot (lsum t e m ^^^ _) (ρ j) = _
    rw [ldot_xl, ih (by omega)]
    have h1 : ldot (if e m = true then 2 ^ t m else 0) (ρ j) = (e m && decide (j = m)) := by
      cases q : e m
      · simp [ldot_0l]
      · simp only [if_true, Bool.true_and]
        rw [ldot_pl (Nat.lt_of_lt_of_le (h m (by omega)).2.1 hn), h.bit hj (by omega)]
    rw [h1]
    by_cases q : j = m
    · subst q; simp
    · by_cases q2 : j < m
      · have q3 : j < m + 1 := by omega
        simp [q, q2, q3]
      · have q3 : ¬ j < m + 1 := by omega
        simp [q, q2, q3]
theorem lsum_bitN {e : Nat → Bool} {p : Nat} : ∀ {m : Nat}, (∀ k, k < m → t k ≠ p) → (lsum t e m).testBit p = false := by
  intro m
  induction m with
  | zero => intro _; exact Nat.zero_testBit _
  | succ m ih =>
    intro hp
    show (lsum t e m ^^^ _).testBit p = false
    rw [Nat.testBit_xor, ih (fun k hk => hp k (by omega))]
    cases q : e m
    · simp
    · simp only [if_true, Bool.false_xor]
      rw [Nat.testBit_two_pow]; simp [hp m (by omega)]
theorem lsum_bitL (h : RR n ρ t N) (e : Nat → Bool) {j : Nat} (hj : j < N) : ∀ m, m ≤ N → (lsum t e m).testBit (t j) = (decide (j < m) && e j) := by
  intro m
  induction m with
  | zero => intro _; show (0 : Nat).testBit _ = _; rw [Nat.zero_testBit]; simp
  | succ m ih =>
    intro hm
    show (lsum t e m ^^^ _).testBit (t j) = _
    rw [Nat.testBit_xor, ih (by omega)]
    have h1 : (if e m = true then 2 ^ t m else 0).testBit (t j) = (e m && decide (j = m)) := by
      cases q : e m
      · simp
      · simp only [if_true, Bool.true_and]
        rw [Nat.testBit_two_pow]
        by_cases q : j = m
        · subst q; simp
        · have q2 : ¬ t m = t j := fun r => q (h.inj hj (by omega) r.symm)
          simp [q, q2]
    rw [h1]
    by_cases q : j = m
    · subst q; simp
    · by_cases q2 : j < m
      · have q3 : j < m + 1 := by omega
        simp [q, q2, q3]
      · have q3 : ¬ j < m + 1 := by omega
        simp [q, q2, q3]
theorem lsum_lt {e : Nat → Bool} : ∀ {m : Nat}, (∀ k, k < m → t k < n) → lsum t e m < 2 ^ n := by
  intro m
  induction m with
  | zero => intro _; exact Nat.two_pow_pos n
  | succ m ih =>
    intro h
    refine Nat.xor_lt_two_pow (ih (fun k hk => h k (by omega))) ?_
    split
    · exact Nat.pow_lt_pow_right (by decide) (h m (by omega))
    · exact Nat.two_pow_pos n
theorem lsum_dotN {e : Nat → Bool} {y : Nat} (hn : n ≤ 8) : ∀ {m : Nat}, (∀ k, k < m → t k < n ∧ y.testBit (t k) = false) → ldot (lsum t e m) y = false := by
  intro m
  induction m with
  | zero => intro _; exact ldot_0l _
  | succ m ih =>
    intro h
    show ldot (lsum t e m ^^^ _) y = false
    rw [ldot_xl, ih (fun k hk => h k (by omega))]
    cases q : e m
    · simp [ldot_0l]
    · simp only [if_true, Bool.false_xor]
      rw [ldot_pl (Nat.lt_of_lt_of_le (h m (by omega)).1 hn)]
      exact (h m (by omega)).2
/-- never more rows than blocks -/
theorem RR.le (h : RR n ρ t N) : N ≤ n := by
  have key : ∀ m, m ≤ N → pcN n (lsum t (fun _ => true) m) ≥ m := by
    intro m
    induction m with
    | zero => intro _; exact Nat.zero_le _
    | succ m ih =>
      intro hm
      have h1 := ih (by omega)
      have h2 : pcN n (lsum t (fun _ => true) m) < pcN n (lsum t (fun _ => true) (m + 1)) := by
        have h3 : (lsum t (fun _ => true) m).testBit (t m) = false := by
          rw [lsum_bitL h _ (by omega) m (by omega)]; simp
        refine pcN_strict (b := t m) (fun i hi hb => ?_) (h m (by omega)).2.1 h3 ?_
        · show (lsum t (fun _ => true) m ^^^ _).testBit i = true
          rw [Nat.testBit_xor, hb]
          simp only [if_true]
          rw [Nat.testBit_two_pow]
          by_cases q : t m = i
          · subst q; rw [h3] at hb; cases hb
          · simp [q]
        · show (lsum t (fun _ => true) m ^^^ _).testBit (t m) = true
          rw [Nat.testBit_xor, h3]
          simp
      omega
  exact Nat.le_trans (key N (Nat.le_refl _)) (pcN_le _ _)
/-- a solution of the rows -/
def ptS (t υ : Nat → Nat) (N bit : Nat) : Nat := lsum t (fun j => (υ j).testBit bit) N
theorem ptS_sol (h : RR n ρ t N) (hn : n ≤ 8) (bit : Nat) : solR ρ υ N bit (ptS t υ N bit) := by
  intro i hi
  unfold ptS
  rw [lsum_dot h hn _ hi N (Nat.le_refl _)]; simp [hi]
theorem ptS_lt (h : RR n ρ t N) (bit : Nat) : ptS t υ N bit < 2 ^ n := lsum_lt (fun k hk => (h k hk).2.1)
/-- what may be added to a solution, for a block that leads no row -/
def hmS (ρ t : Nat → Nat) (N q : Nat) : Nat := 2 ^ q ^^^ lsum t (fun j => (ρ j).testBit q) N
theorem hmS_dot (h : RR n ρ t N) (hn : n ≤ 8) {q : Nat} (hq : q < n) {i : Nat} (hi : i < N) : ldot (hmS ρ t N q) (ρ i) = false := by
  unfold hmS
  rw [ldot_xl, ldot_pl (by omega), lsum_dot h hn _ hi N (Nat.le_refl _)]
  simp [hi]
theorem hmS_lt (h : RR n ρ t N) {q : Nat} (hq : q < n) : hmS ρ t N q < 2 ^ n :=
  Nat.xor_lt_two_pow (Nat.pow_lt_pow_right (by decide) hq) (lsum_lt (fun k hk => (h k hk).2.1))
theorem hmS_add (h : RR n ρ t N) (hn : n ≤ 8) {q bit c : Nat} (hq : q < n) (hc : solR ρ υ N bit c) : solR ρ υ N bit (c ^^^ hmS ρ t N q) := by
  intro i hi
  rw [ldot_xl, hmS_dot h hn hq hi, hc i hi]; simp
theorem hmS_free (h : RR n ρ t N) (hn : n ≤ 8) {q y : Nat} (hq : q < n) (hy : y.testBit q = true) (hl : ∀ k, k < N → y.testBit (t k) = false) : ldot (hmS ρ t N q) y = true := by
  unfold hmS
  rw [ldot_xl, ldot_pl (by omega), hy, lsum_dotN hn (fun k hk => ⟨(h k hk).2.1, hl k hk⟩)]; rfl
/-- a block is the same in all solutions just if it is alone in a row -/
theorem known_iff (h : RR n ρ t N) (hn : n ≤ 8) (bit : Nat) {p : Nat} (hp : p < n) :
    (∃ k, k < N ∧ ρ k = 2 ^ p) ↔ ¬ ((∃ c, c < 2 ^ n ∧ solR ρ υ N bit c ∧ c.testBit p = true) ∧ (∃ c, c < 2 ^ n ∧ solR ρ υ N bit c ∧ c.testBit p = false)) := by
  constructor
  · rintro ⟨k, hk, e⟩ ⟨⟨c, -, hc, h1⟩, ⟨c2, -, hc2, h2⟩⟩
    have a1 := hc k hk
    have a2 := hc2 k hk
    rw [e, ldot_pr (by omega)] at a1 a2
    rw [a1] at h1; rw [a2, h1] at h2; cases h2
  · intro hno
    by_cases hrow : ∃ k, k < N ∧ ρ k = 2 ^ p
    · exact hrow
    · exfalso
      apply hno
      have hq : ∃ q, q < n ∧ (hmS ρ t N q).testBit p = true := by
        by_cases hl : ∃ k, k < N ∧ t k = p
        · obtain ⟨k, hk, ek⟩ := hl
          by_cases hb : ∃ q, q ≠ p ∧ (ρ k).testBit q = true
          · obtain ⟨q, hqp, hqb⟩ := hb
            refine ⟨q, tb_lt (h k hk).1 hqb, ?_⟩
            unfold hmS
            rw [Nat.testBit_xor, Nat.testBit_two_pow, ← ek, lsum_bitL h _ hk N (Nat.le_refl _)]
            have : ¬ q = t k := by rw [ek]; exact hqp
            simp [this, hk, hqb]
          · exfalso
            apply hrow
            refine ⟨k, hk, fd_bx (fun i => ?_)⟩
            rw [Nat.testBit_two_pow]
            by_cases e : p = i
            · subst e; rw [← ek, (h k hk).2.2.1.1]; simp
            · cases q : (ρ k).testBit i
              · simp [e]
              · exact absurd ⟨i, Ne.symm e, q⟩ hb
        · refine ⟨p, hp, ?_⟩
          unfold hmS
          rw [Nat.testBit_xor, Nat.testBit_two_pow_self, lsum_bitN (fun k hk e => hl ⟨k, hk, e⟩)]; rfl
      obtain ⟨q, hqn, hqb⟩ := hq
      have s0 := ptS_sol (υ := υ) h hn bit
      have s1 := hmS_add h hn hqn s0
      have l0 := ptS_lt (υ := υ) h bit
      have l1 : ptS t υ N bit ^^^ hmS ρ t N q < 2 ^ n := Nat.xor_lt_two_pow l0 (hmS_lt h hqn)
      have b1 : (ptS t υ N bit ^^^ hmS ρ t N q).testBit p = !(ptS t υ N bit).testBit p := by
        rw [Nat.testBit_xor, hqb]; cases (ptS t υ N bit).testBit p <;> rfl
      cases e : (ptS t υ N bit).testBit p
      · rw [e] at b1; exact ⟨⟨_, l1, s1, b1⟩, ⟨_, l0, s0, e⟩⟩
      · rw [e] at b1; exact ⟨⟨_, l0, s0, e⟩, ⟨_, l1, s1, b1⟩⟩
/-! reduction -/
def rdN (ρ υ t : Nat → Nat) (a b : Nat) : Nat → Nat × Nat
  | 0 => (a, b)
  | k + 1 => if (rdN ρ υ t a b k).1.testBit (t k) = true then ((rdN ρ υ t a b k).1 ^^^ ρ k, (rdN ρ υ t a b k).2 ^^^ υ k) else rdN ρ υ t a b k
theorem rd_bit (h : RR n ρ t N) (a b : Nat) {j : Nat} (hj : j < N) : ∀ k, k ≤ N → (rdN ρ υ t a b k).1.testBit (t j) = (decide (k ≤ j) && a.testBit (t j)) := by
  intro k
  induction k with
  | zero => intro _; simp [rdN]
  | succ k ih =>
    intro hk
    have ih := ih (by omega)
    unfold rdN
    by_cases e : j = k
    · subst e
      have q2 : ¬ (j + 1 ≤ j) := by omega
      split
      · rename_i hc
        show (_ ^^^ ρ j).testBit (t j) = _
        rw [Nat.testBit_xor, hc, (h j hj).2.2.1.1]; simp [q2]
      · rename_i hc
        have hc : (rdN ρ υ t a b j).1.testBit (t j) = false := by simpa using hc
        rw [hc]; simp [q2]
    · have q3 : decide (k + 1 ≤ j) = decide (k ≤ j) := by
        by_cases q : k ≤ j
        · have : k + 1 ≤ j := by omega
          simp [q, this]
        · have : ¬ k + 1 ≤ j := by omega
          simp [q, this]
      split
      · show (_ ^^^ ρ k).testBit (t j) = _
        rw [Nat.testBit_xor, ih, (h j hj).2.2.2 k (by omega) (Ne.symm e), q3]; simp
      · rw [ih, q3]
theorem rd_lt {a b : Nat} (h : ∀ k, k < N → ρ k < 2 ^ n ∧ υ k < 256) (ha : a < 2 ^ n) (hb : b < 256) : ∀ k, k ≤ N → (rdN ρ υ t a b k).1 < 2 ^ n ∧ (rdN ρ υ t a b k).2 < 256 := by
  intro k
  induction k with
  | zero => intro _; exact ⟨ha, hb⟩
  | succ k ih =>
    intro hk
    have ih := ih (by omega)
    unfold rdN
    split
    · exact ⟨Nat.xor_lt_two_pow ih.1 (h k (by omega)).1, Nat.xor_lt_two_pow (n := 8) ih.2 (h k (by omega)).2⟩
    · exact ih
theorem rd_sol {a b bit c : Nat} : ∀ k, (∀ i, i < k → ldot c (ρ i) = (υ i).testBit bit) → (ldot c (rdN ρ υ t a b k).1 ^^ (rdN ρ υ t a b k).2.testBit bit) = (ldot c a ^^ b.testBit bit) := by
  intro k
  induction k with
  | zero => intro _; rfl
  | succ k ih =>
    intro h
    have ih := ih (fun i hi => h i (by omega))
    have hk := h k (by omega)
    unfold rdN
    split
    · show (ldot c (_ ^^^ ρ k) ^^ (_ ^^^ υ k).testBit bit) = _
      rw [ldot_xr, Nat.testBit_xor, hk, ← ih]
      cases ldot c (rdN ρ υ t a b k).1 <;> cases (rdN ρ υ t a b k).2.testBit bit <;> cases (υ k).testBit bit <;> rfl
    · exact ih
/-! a new row -/
def nwR (ρ : Nat → Nat) (N y ty : Nat) : Nat → Nat := fun k => if k = N then y else if (ρ k).testBit ty = true then ρ k ^^^ y else ρ k
def nwV (ρ υ : Nat → Nat) (N z ty : Nat) : Nat → Nat := fun k => if k = N then z else if (ρ k).testBit ty = true then υ k ^^^ z else υ k
def nwT (t : Nat → Nat) (N ty : Nat) : Nat → Nat := fun k => if k = N then ty else t k
theorem nw_RR (h : RR n ρ t N) {y ty : Nat} (hy : y < 2 ^ n) (ht : isTop y ty) (hl : ∀ k, k < N → y.testBit (t k) = false) : RR n (nwR ρ N y ty) (nwT t N ty) (N + 1) := by
  have hty : ty < n := tb_lt hy ht.1
  intro k hk
  by_cases e : k = N
  · subst e
    unfold nwR nwT
    simp only [if_true]
    refine ⟨hy, hty, ht, fun j hj hjk => ?_⟩
    rw [if_neg hjk]
    split
    · rename_i hb
      rw [Nat.testBit_xor, hb, ht.1]; rfl
    · rename_i hb
      simpa using hb
  · have hk : k < N := by omega
    obtain ⟨h1, h2, h3, h4⟩ := h k hk
    unfold nwR nwT
    simp only [if_neg e]
    refine ⟨?_, h2, ?_, fun j hj hjk => ?_⟩
    · split
      · exact Nat.xor_lt_two_pow h1 hy
      · exact h1
    · split
      · rename_i hb
        have hlt : ty < t k := by
          rcases Nat.lt_or_ge ty (t k) with q | q
          · exact q
          · rcases Nat.lt_or_ge (t k) ty with r | r
            · rw [h3.2 ty r] at hb; cases hb
            · have : ty = t k := by omega
              have h5 := hl k hk
              rw [← this, ht.1] at h5; cases h5
        refine ⟨?_, fun b hb2 => ?_⟩
        · rw [Nat.testBit_xor, h3.1, hl k hk]; rfl
        · rw [Nat.testBit_xor, h3.2 b hb2, ht.2 b (by omega)]; rfl
      · exact h3
    · by_cases ej : j = N
      · rw [if_pos ej]; exact hl k hk
      · rw [if_neg ej]
        split
        · rw [Nat.testBit_xor, h4 j (by omega) hjk, hl k hk]; rfl
        · exact h4 j (by omega) hjk
theorem nw_sol {y z ty bit c : Nat} : solR (nwR ρ N y ty) (nwV ρ υ N z ty) (N + 1) bit c ↔ (solR ρ υ N bit c ∧ ldot c y = z.testBit bit) := by
  constructor
  · intro h
    have hN := h N (by omega)
    unfold nwR nwV at hN
    simp only [if_true] at hN
    refine ⟨fun i hi => ?_, hN⟩
    have hi2 := h i (by omega)
    unfold nwR nwV at hi2
    have e : ¬ i = N := by omega
    simp only [if_neg e] at hi2
    by_cases q : (ρ i).testBit ty = true
    · simp only [if_pos q] at hi2
      rw [ldot_xr, Nat.testBit_xor, hN] at hi2
      cases a1 : ldot c (ρ i) <;> cases a2 : (υ i).testBit bit <;> cases a3 : z.testBit bit <;> rw [a1, a2, a3] at hi2 <;> first | rfl | cases hi2
    · simp only [if_neg q] at hi2
      exact hi2
  · rintro ⟨h, hN⟩ i hi
    unfold nwR nwV
    by_cases e : i = N
    · simp only [if_pos e]; exact hN
    · simp only [if_neg e]
      have h1 := h i (by omega)
      by_cases q : (ρ i).testBit ty = true
      · simp only [if_pos q]
        rw [ldot_xr, Nat.testBit_xor, hN, h1]
      · simp only [if_neg q]
        exact h1
end rref
end
section
/-! PLAIN: what FountainDecoder's rows are, behind each symbol -/
def lkR (R U : Nat → Int32) (ρ υ : Nat → Nat) (N : Nat) : Prop := ∀ k, k < N → R k = nI (ρ k) ∧ U k = nI (υ k) ∧ υ k < 256
def annR (ρ : Nat → Nat) (N c : Nat) : Prop := ∀ i, i < N → ldot c (ρ i) = false
def solP (s v : Nat → Nat) (wo : Int32) (k bit c : Nat) : Prop := ∀ i, i < k → ¬ nI i = wo → ldot c (s i) = (v i).testBit bit
def annP (s : Nat → Nat) (wo : Int32) (k c : Nat) : Prop := ∀ i, i < k → ¬ nI i = wo → ldot c (s i) = false
section gauss
variable {n N : Nat} {ρ υ t : Nat → Nat} {R U : Nat → Int32}
theorem rd_ann {a b c : Nat} : ∀ k, (∀ i, i < k → ldot c (ρ i) = false) → ldot c (rdN ρ υ t a b k).1 = ldot c a := by
  intro k
  induction k with
  | zero => intro _; rfl
  | succ k ih =>
    intro h
    have ih := ih (fun i hi => h i (by omega))
    unfold rdN
    split
    · show ldot c (_ ^^^ ρ k) = _
      rw [ldot_xr, h k (by omega), ih]; simp
    · exact ih
theorem nw_ann {y ty c : Nat} : annR (nwR ρ N y ty) (N + 1) c ↔ (annR ρ N c ∧ ldot c y = false) := by
  constructor
  · intro h
    have hN := h N (by omega)
    unfold nwR at hN
    simp only [if_true] at hN
    refine ⟨fun i hi => ?_, hN⟩
    have hi2 := h i (by omega)
    unfold nwR at hi2
    have e : ¬ i = N := by omega
    simp only [if_neg e] at hi2
    by_cases q : (ρ i).testBit ty = true
    · simp only [if_pos q] at hi2
      rw [ldot_xr, hN] at hi2
      simpa using hi2
    · simp only [if_neg q] at hi2
      exact hi2
  · rintro ⟨h, hN⟩ i hi
    unfold nwR
    by_cases e : i = N
    · simp only [if_pos e]; exact hN
    · simp only [if_neg e]
      have h1 := h i (by omega)
      by_cases q : (ρ i).testBit ty = true
      · simp only [if_pos q]
        rw [ldot_xr, hN, h1]; rfl
      · simp only [if_neg q]
        exact h1
theorem lkR.lt (h : RR n ρ t N) (hk : lkR R U ρ υ N) : ∀ k, k < N → ρ k < 2 ^ n ∧ υ k < 256 := fun k q => ⟨(h k q).1, (hk k q).2.2⟩
theorem rd_link (h : RR n ρ t N) (hn : n ≤ 8) (hk : lkR R U ρ υ N) {a b : Nat} (ha : a < 2 ^ n) (hb : b < 256) : ∀ k, k ≤ N → rdM R U (nI a) (nI b) k = (nI (rdN ρ υ t a b k).1, nI (rdN ρ υ t a b k).2) := by
  intro k
  induction k with
  | zero => intro _; rfl
  | succ k ih =>
    intro hkN
    have ih := ih (by omega)
    have hlt := rd_lt (t := t) (hk.lt h) ha hb k (by omega)
    obtain ⟨e1, e2, -⟩ := hk k (by omega)
    have et : topM 7 (R k) = nI (2 ^ t k) := by rw [e1]; exact topM_of hn (h k (by omega)).1 (h k (by omega)).2.2.1
    have h256 : (rdN ρ υ t a b k).1 < 256 := Nat.lt_of_lt_of_le hlt.1 (p8 hn)
    rw [rdM, ih, et, rdN]
    by_cases q : (rdN ρ υ t a b k).1.testBit (t k) = true
    · have q2 : ¬ (nI (rdN ρ υ t a b k).1 &&& nI (2 ^ t k) = 0) := fun hh => by rw [(bit_ask h256).mp hh] at q; cases q
      rw [if_neg q2, if_pos q, e1, e2, fd_xor, fd_xor]
    · have q2 : nI (rdN ρ υ t a b k).1 &&& nI (2 ^ t k) = 0 := (bit_ask h256).mpr (by simpa using q)
      rw [if_pos q2, if_neg q]
theorem en_link (h : RR n ρ t N) (hn : n ≤ 8) (hk : lkR R U ρ υ N) {y z ty : Nat} : ∀ m, m ≤ N → ∀ j, j < N →
    (enL R U (nI (2 ^ ty)) (nI y) (nI z) m).1 j = nI (if j < m then (if (ρ j).testBit ty = true then ρ j ^^^ y else ρ j) else ρ j) ∧ (enL R U (nI (2 ^ ty)) (nI y) (nI z) m).2 j = nI (if j < m then (if (ρ j).testBit ty = true then υ j ^^^ z else υ j) else υ j) := by
  intro m
  induction m with
  | zero =>
    intro _ j hj
    have e : ¬ j < 0 := Nat.not_lt_zero _
    simp only [if_neg e]
    exact ⟨(hk j hj).1, (hk j hj).2.1⟩
  | succ m ih =>
    intro hm j hj
    have ih := ih (by omega)
    have im := ih m (by omega)
    have em : ¬ m < m := Nat.lt_irrefl _
    simp only [if_neg em] at im
    have h256 : ρ m < 256 := Nat.lt_of_lt_of_le (h m (by omega)).1 (p8 hn)
    rw [enL]
    by_cases q : (ρ m).testBit ty = true
    · have q2 : ¬ ((enL R U (nI (2 ^ ty)) (nI y) (nI z) m).1 m &&& nI (2 ^ ty) = 0) := fun hh => by
        rw [im.1] at hh
        rw [(bit_ask h256).mp hh] at q; cases q
      rw [if_neg q2]
      by_cases e : j = m
      · subst e
        have e3 : j < j + 1 := Nat.lt_succ_self _
        simp only [if_pos e3, if_pos q]
        rw [pk_us, pk_us, im.1, im.2, fd_xor, fd_xor]
        exact ⟨rfl, rfl⟩
      · have e3 : (j < m + 1) = (j < m) := by apply propext; omega
        simp only [e3]
        rw [pk_un e, pk_un e]
        exact ih j hj
    · have q2 : (enL R U (nI (2 ^ ty)) (nI y) (nI z) m).1 m &&& nI (2 ^ ty) = 0 := by
        rw [im.1]; exact (bit_ask h256).mpr (by simpa using q)
      rw [if_pos q2]
      by_cases e : j = m
      · subst e
        have e3 : j < j + 1 := Nat.lt_succ_self _
        simp only [if_pos e3, if_neg q]
        exact im
      · have e3 : (j < m + 1) = (j < m) := by apply propext; omega
        simp only [e3]
        exact ih j hj
/-- the rows behind the first k symbols (but the one left out) -/
def STI (s v : Nat → Nat) (n : Nat) (wo : Int32) (k : Nat) (R U : Nat → Int32) (N : Nat) (B : Int32) : Prop :=
  ∃ ρ υ t : Nat → Nat, RR n ρ t N ∧ lkR R U ρ υ N ∧ ((B = 1 ∧ ∀ bit, bit < 8 → ∀ c, solP s v wo k bit c ↔ solR ρ υ N bit c) ∨ (B = 0 ∧ ∃ bit, bit < 8 ∧ ∀ c, ¬ solP s v wo k bit c)) ∧ (∀ c, annP s wo k c ↔ annR ρ N c)
theorem solP_s {s v : Nat → Nat} {wo : Int32} {k bit c : Nat} (hw : ¬ nI k = wo) : solP s v wo (k + 1) bit c ↔ (solP s v wo k bit c ∧ ldot c (s k) = (v k).testBit bit) := by
  constructor
  · intro h; exact ⟨fun i hi => h i (by omega), h k (by omega) hw⟩
  · rintro ⟨h, hk⟩ i hi hiw
    rcases Nat.lt_or_ge i k with q | q
    · exact h i q hiw
    · obtain rfl : k = i := by omega
      exact hk
theorem annP_s {s : Nat → Nat} {wo : Int32} {k c : Nat} (hw : ¬ nI k = wo) : annP s wo (k + 1) c ↔ (annP s wo k c ∧ ldot c (s k) = false) := by
  constructor
  · intro h; exact ⟨fun i hi => h i (by omega), h k (by omega) hw⟩
  · rintro ⟨h, hk⟩ i hi hiw
    rcases Nat.lt_or_ge i k with q | q
    · exact h i q hiw
    · obtain rfl : k = i := by omega
      exact hk
theorem solP_w {s v : Nat → Nat} {wo : Int32} {k bit c : Nat} (hw : nI k = wo) : solP s v wo (k + 1) bit c ↔ solP s v wo k bit c := by
  constructor
  · intro h i hi; exact h i (by omega)
  · intro h i hi hiw
    rcases Nat.lt_or_ge i k with q | q
    · exact h i q hiw
    · obtain rfl : k = i := by omega
      exact absurd hw hiw
theorem annP_w {s : Nat → Nat} {wo : Int32} {k c : Nat} (hw : nI k = wo) : annP s wo (k + 1) c ↔ annP s wo k c := by
  constructor
  · intro h i hi; exact h i (by omega)
  · intro h i hi hiw
    rcases Nat.lt_or_ge i k with q | q
    · exact h i q hiw
    · obtain rfl : k = i := by omega
      exact absurd hw hiw
theorem st_enter {s v : Nat → Nat} {wo : Int32} {k : Nat} {B : Int32} (hn : n ≤ 8) (h : STI s v n wo k R U N B) (hw : ¬ nI k = wo) (hs : s k < 2 ^ n) (hv : v k < 256) :
    STI s v n wo (k + 1) (enM R U N B (nI (s k)) (nI (v k))).1 (enM R U N B (nI (s k)) (nI (v k))).2.1 (enM R U N B (nI (s k)) (nI (v k))).2.2.1 (enM R U N B (nI (s k)) (nI (v k))).2.2.2.1 := by
  obtain ⟨ρ, υ, t, hR, hl, hB, hA⟩ := h
  have hq := rd_link hR hn hl hs hv N (Nat.le_refl _)
  have hlt := rd_lt (t := t) (hl.lt hR) hs hv N (Nat.le_refl _)
  have hsol : ∀ bit c, solR ρ υ N bit c → (ldot c (rdN ρ υ t (s k) (v k) N).1 ^^ (rdN ρ υ t (s k) (v k) N).2.testBit bit) = (ldot c (s k) ^^ (v k).testBit bit) := fun bit c hc => rd_sol N hc
  have hann : ∀ c, annR ρ N c → ldot c (rdN ρ υ t (s k) (v k) N).1 = ldot c (s k) := fun c hc => rd_ann N hc
  have hbit : ∀ j, j < N → (rdN ρ υ t (s k) (v k) N).1.testBit (t j) = false := fun j hj => by
    rw [rd_bit hR _ _ hj N (Nat.le_refl _)]
    have : ¬ N ≤ j := by omega
    simp [this]
  generalize rdN ρ υ t (s k) (v k) N = qq at hq hlt hsol hann hbit
  obtain ⟨y, z⟩ := qq
  dsimp only at hq hlt hsol hann hbit
  have hy256 : y < 256 := Nat.lt_of_lt_of_le hlt.1 (p8 hn)
  unfold enM
  rw [hq]
  dsimp only
  by_cases hy : y = 0
  · subst hy
    have e0 : nI 0 = 0 := rfl
    rw [if_pos e0]
    dsimp only
    refine ⟨ρ, υ, t, hR, hl, ?_, fun c => ?_⟩
    · rcases hB with ⟨rfl, hB⟩ | ⟨rfl, bit, hbl, hB⟩
      · rw [if_neg (by decide)]
        have key : ∀ bit, bit < 8 → ∀ c, solP s v wo (k + 1) bit c ↔ (solR ρ υ N bit c ∧ z.testBit bit = false) := by
          intro bit hbl c
          rw [solP_s hw, hB bit hbl c]
          constructor
          · rintro ⟨h1, h2⟩
            have h3 := hsol bit c h1
            rw [ldot_0r, h2] at h3
            exact ⟨h1, by simpa using h3⟩
          · rintro ⟨h1, h2⟩
            have h3 := hsol bit c h1
            rw [ldot_0r, h2] at h3
            refine ⟨h1, ?_⟩
            cases a1 : ldot c (s k) <;> cases a2 : (v k).testBit bit <;> rw [a1, a2] at h3 <;> first | rfl | cases h3
        by_cases hz : z = 0
        · subst hz
          rw [if_pos e0]
          refine Or.inl ⟨rfl, fun bit hbl c => ?_⟩
          rw [key bit hbl c, Nat.zero_testBit]; simp
        · rw [if_neg (fun e => hz ((nI_z hlt.2).mp e))]
          obtain ⟨b, hb, hzb, -⟩ := top_ex0 z hlt.2 hz
          refine Or.inr ⟨rfl, b, hb, fun c hc => ?_⟩
          have := ((key b hb c).mp hc).2
          rw [hzb] at this; cases this
      · rw [if_pos rfl]
        exact Or.inr ⟨rfl, bit, hbl, fun c hc => hB c ((solP_s hw).mp hc).1⟩
    · rw [annP_s hw, hA c]
      constructor
      · exact fun q => q.1
      · intro q
        refine ⟨q, ?_⟩
        rw [← hann c q, ldot_0r]
  · rw [if_neg (fun e => hy ((nI_z hy256).mp e))]
    dsimp only
    obtain ⟨ty, htn, hty⟩ := top_ex hn hlt.1 hy
    rw [topM_of hn hlt.1 hty]
    refine ⟨nwR ρ N y ty, nwV ρ υ N z ty, nwT t N ty, nw_RR hR hlt.1 hty hbit, ?_, ?_, fun c => ?_⟩
    · intro j hj
      by_cases e : j = N
      · subst e
        rw [pk_us, pk_us]
        unfold nwR nwV
        simp only [if_true]
        exact ⟨trivial, trivial, hlt.2⟩
      · rw [pk_un e, pk_un e]
        have hj : j < N := by omega
        have h1 := en_link hR hn hl (y := y) (z := z) (ty := ty) N (Nat.le_refl _) j hj
        simp only [if_pos hj] at h1
        unfold nwR nwV
        simp only [if_neg e]
        refine ⟨h1.1, h1.2, ?_⟩
        split
        · exact Nat.xor_lt_two_pow (n := 8) (hl j hj).2.2 hlt.2
        · exact (hl j hj).2.2
    · rcases hB with ⟨rfl, hB⟩ | ⟨rfl, bit, hbl, hB⟩
      · refine Or.inl ⟨rfl, fun bit hbl c => ?_⟩
        rw [solP_s hw, hB bit hbl c, nw_sol]
        constructor
        · rintro ⟨h1, h2⟩
          have h3 := hsol bit c h1
          rw [h2] at h3
          refine ⟨h1, ?_⟩
          cases a1 : ldot c y <;> cases a2 : z.testBit bit <;> rw [a1, a2] at h3 <;> first | rfl | (cases q : (v k).testBit bit <;> rw [q] at h3 <;> cases h3)
        · rintro ⟨h1, h2⟩
          have h3 := hsol bit c h1
          rw [h2] at h3
          refine ⟨h1, ?_⟩
          cases a1 : ldot c (s k) <;> cases a2 : (v k).testBit bit <;> rw [a1, a2] at h3 <;> first | rfl | (cases q : z.testBit bit <;> rw [q] at h3 <;> cases h3)
      · exact Or.inr ⟨rfl, bit, hbl, fun c hc => hB c ((solP_s hw).mp hc).1⟩
    · rw [annP_s hw, hA c, nw_ann]
      constructor
      · rintro ⟨h1, h2⟩; exact ⟨h1, by rw [hann c h1]; exact h2⟩
      · rintro ⟨h1, h2⟩; exact ⟨h1, by rw [← hann c h1]; exact h2⟩
end gauss
/-- the symbols by Nats -/
def syN (S V : Nat → Int32) (s v : Nat → Nat) (n cnt : Nat) : Prop := ∀ j, j < cnt → S j = nI (s j) ∧ V j = nI (v j) ∧ 1 ≤ s j ∧ s j < 2 ^ n ∧ v j < 256
theorem ra_st {S V R U : Nat → Int32} {s v : Nat → Nat} {n cnt : Nat} {L X : Int32} (hn : n ≤ 8) (hsy : syN S V s v n cnt) (wo : Int32) : ∀ k, k ≤ cnt →
    STI s v n wo k (raM S V wo (R, U, 0, 1, L, X) k).1 (raM S V wo (R, U, 0, 1, L, X) k).2.1 (raM S V wo (R, U, 0, 1, L, X) k).2.2.1 (raM S V wo (R, U, 0, 1, L, X) k).2.2.2.1 := by
  intro k
  induction k with
  | zero =>
    intro _
    show STI s v n wo 0 R U 0 1
    refine ⟨fun _ => 0, fun _ => 0, fun _ => 0, fun k hk => absurd hk (Nat.not_lt_zero _), fun k hk => absurd hk (Nat.not_lt_zero _), Or.inl ⟨rfl, fun bit _ c => ?_⟩, fun c => ?_⟩
    · exact ⟨fun _ i hi => absurd hi (Nat.not_lt_zero _), fun _ i hi => absurd hi (Nat.not_lt_zero _)⟩
    · exact ⟨fun _ i hi => absurd hi (Nat.not_lt_zero _), fun _ i hi => absurd hi (Nat.not_lt_zero _)⟩
  | succ k ih =>
    intro hk
    have ih := ih (by omega)
    rw [raM]
    by_cases hw : nI k = wo
    · rw [if_pos hw]
      obtain ⟨ρ, υ, t, hR, hl, hB, hA⟩ := ih
      refine ⟨ρ, υ, t, hR, hl, ?_, fun c => ?_⟩
      · rcases hB with ⟨e, hB⟩ | ⟨e, bit, hbl, hB⟩
        · exact Or.inl ⟨e, fun bit hbl c => by rw [solP_w hw]; exact hB bit hbl c⟩
        · exact Or.inr ⟨e, bit, hbl, fun c hc => hB c ((solP_w hw).mp hc)⟩
      · rw [annP_w hw]; exact hA c
    · rw [if_neg hw]
      obtain ⟨e1, e2, -, e3, e4⟩ := hsy k (by omega)
      rw [e1, e2]
      exact st_enter hn ih hw e3 e4
theorem ra_ok {S V : Nat → Int32} {s v : Nat → Nat} {n cnt : Nat} (hn : n ≤ 8) (hsy : syN S V s v n cnt) : raOK S V cnt := by
  intro wo R U L X k hk
  have h1 := ra_st (R := R) (U := U) (L := L) (X := X) hn hsy wo k hk
  constructor
  · obtain ⟨ρ, υ, t, hR, -⟩ := h1
    exact Nat.le_trans hR.le hn
  · intro hlt hw hne
    have h2 := ra_st (R := R) (U := U) (L := L) (X := X) hn hsy wo (k + 1) hlt
    obtain ⟨ρ, υ, t, hR, -⟩ := h2
    have h3 := hR.le
    rw [raM, if_neg hw, enM, if_neg hne] at h3
    have h3 : (raM S V wo (R, U, 0, 1, L, X) k).2.2.1 + 1 ≤ n := h3
    omega
end
section
/-! PLAIN: what FountainDecoderModel's trials are -/
theorem odI_at : ∀ k j, j < k → odI k j = (if onesM (nI j) 8 - onesM (nI j) 8 / 2 * 2 = 1 then 1 else 0) := by
  intro k
  induction k with
  | zero => intro j hj; exact absurd hj (Nat.not_lt_zero _)
  | succ k ih =>
    intro j hj
    rw [odI]
    by_cases e : j = k
    · subst e; rw [pk_us]
    · rw [pk_un e]; exact ih j (by omega)
theorem od_dec : ∀ j, j < 256 → (if onesM (nI j) 8 - onesM (nI j) 8 / 2 * 2 = 1 then (1 : Int32) else 0) = bI (pr8 8 j) := by decide +kernel
theorem od_dot {a y : Nat} (hy : y < 256) : odI 256 (nI a &&& nI y).toNatClampNeg = bI (ldot a y) := by
  have h1 : a &&& y ≤ y := Nat.and_le_right
  rw [fd_and, nI_clamp (by omega), odI_at 256 _ (by omega)]
  exact od_dec _ (by omega)
theorem due_dec : ∀ y, y < 256 → ∀ b, b < 8 → (if (nI y >>> (nI b &&& 31)) &&& 1 = 1 then (1 : Int32) else 0) = bI (y.testBit b) := by decide +kernel
theorem bI_inj {a b : Bool} : bI a = bI b ↔ a = b := by cases a <;> cases b <;> decide
section twin
variable {S V : Nat → Int32} {s v : Nat → Nat} {n cnt : Nat} {wo : Int32}
theorem sv_iff (hn : n ≤ 8) (hsy : syN S V s v n cnt) {a bit : Nat} (hb : bit < 8) : svB S V (odI 256) cnt (nI a) (nI bit) wo = true ↔ solP s v wo cnt bit a := by
  unfold svB
  rw [alB_true]
  have key : ∀ k, k < cnt → (svK S V (odI 256) (nI a) (nI bit) wo k = true ↔ (nI k = wo ∨ ldot a (s k) = (v k).testBit bit)) := by
    intro k hk
    obtain ⟨e1, e2, -, e3, e4⟩ := hsy k hk
    have e5 : dueM V (nI bit) k = bI ((v k).testBit bit) := by
      unfold dueM; rw [e2]; exact due_dec _ e4 _ hb
    unfold svK
    rw [e5, e1, od_dot (Nat.lt_of_lt_of_le e3 (p8 hn)), Bool.or_eq_true, decide_eq_true_iff, decide_eq_true_iff, bI_inj]
  constructor
  · intro h i hi hiw
    rcases (key i hi).mp (h i hi) with q | q
    · exact absurd q hiw
    · exact q
  · intro h i hi
    refine (key i hi).mpr ?_
    by_cases q : nI i = wo
    · exact Or.inl q
    · exact Or.inr (h i hi q)
end twin
/-- the blocks that are 1 in some, in all of the sets that pass -/
def foB (A : Nat → Bool) (n : Nat) : Nat → Bool × Nat × Nat
  | 0 => (false, 0, 2 ^ n - 1)
  | a + 1 => if A a = true then (true, (foB A n a).2.1 ||| a, (foB A n a).2.2 &&& a) else foB A n a
section fold
variable {A : Nat → Bool} {n : Nat}
theorem fo_any : ∀ k, (foB A n k).1 = true ↔ ∃ a, a < k ∧ A a = true := by
  intro k
  induction k with
  | zero => exact ⟨fun h => (by cases h), fun ⟨a, ha, _⟩ => absurd ha (Nat.not_lt_zero _)⟩
  | succ k ih =>
    rw [foB]
    split
    · rename_i h; exact ⟨fun _ => ⟨k, by omega, h⟩, fun _ => rfl⟩
    · rename_i h
      rw [ih]
      constructor
      · rintro ⟨a, ha, h2⟩; exact ⟨a, by omega, h2⟩
      · rintro ⟨a, ha, h2⟩
        rcases Nat.lt_or_ge a k with q | q
        · exact ⟨a, q, h2⟩
        · obtain rfl : k = a := by omega
          exact absurd h2 h
theorem fo_some (p : Nat) : ∀ k, (foB A n k).2.1.testBit p = true ↔ ∃ a, a < k ∧ A a = true ∧ a.testBit p = true := by
  intro k
  induction k with
  | zero =>
    show (0 : Nat).testBit p = true ↔ _
    rw [Nat.zero_testBit]
    exact ⟨fun h => (by cases h), fun ⟨a, ha, _⟩ => absurd ha (Nat.not_lt_zero _)⟩
  | succ k ih =>
    rw [foB]
    split
    · rename_i h
      show (_ ||| k).testBit p = true ↔ _
      rw [Nat.testBit_or, Bool.or_eq_true, ih]
      constructor
      · rintro (⟨a, ha, h2⟩ | h2)
        · exact ⟨a, by omega, h2⟩
        · exact ⟨k, by omega, h, h2⟩
      · rintro ⟨a, ha, h2, h3⟩
        rcases Nat.lt_or_ge a k with q | q
        · exact Or.inl ⟨a, q, h2, h3⟩
        · obtain rfl : k = a := by omega
          exact Or.inr h3
    · rename_i h
      rw [ih]
      constructor
      · rintro ⟨a, ha, h2⟩; exact ⟨a, by omega, h2⟩
      · rintro ⟨a, ha, h2, h3⟩
        rcases Nat.lt_or_ge a k with q | q
        · exact ⟨a, q, h2, h3⟩
        · obtain rfl : k = a := by omega
          exact absurd h2 h
theorem fo_all (p : Nat) : ∀ k, (foB A n k).2.2.testBit p = true ↔ (p < n ∧ ∀ a, a < k → A a = true → a.testBit p = true) := by
  intro k
  induction k with
  | zero =>
    show (2 ^ n - 1).testBit p = true ↔ _
    rw [Nat.testBit_two_pow_sub_one, decide_eq_true_iff]
    exact ⟨fun h => ⟨h, fun a ha => absurd ha (Nat.not_lt_zero _)⟩, fun h => h.1⟩
  | succ k ih =>
    rw [foB]
    split
    · rename_i h
      show (_ &&& k).testBit p = true ↔ _
      rw [Nat.testBit_and, Bool.and_eq_true, ih]
      constructor
      · rintro ⟨⟨h1, h2⟩, h3⟩
        refine ⟨h1, fun a ha h4 => ?_⟩
        rcases Nat.lt_or_ge a k with q | q
        · exact h2 a q h4
        · obtain rfl : k = a := by omega
          exact h3
      · rintro ⟨h1, h2⟩
        exact ⟨⟨h1, fun a ha => h2 a (by omega)⟩, h2 k (by omega) h⟩
    · rename_i h
      rw [ih]
      constructor
      · rintro ⟨h1, h2⟩
        refine ⟨h1, fun a ha h4 => ?_⟩
        rcases Nat.lt_or_ge a k with q | q
        · exact h2 a q h4
        · obtain rfl : k = a := by omega
          exact absurd h4 h
      · rintro ⟨h1, h2⟩
        exact ⟨h1, fun a ha => h2 a (by omega)⟩
end fold
theorem sl_fo {S V O : Nat → Int32} {n cnt : Nat} {bit lf : Int32} : ∀ k, slM S V O n cnt bit lf k = ((foB (fun a => svB S V O cnt (nI a) bit lf) n k).1, nI (foB (fun a => svB S V O cnt (nI a) bit lf) n k).2.1, nI (foB (fun a => svB S V O cnt (nI a) bit lf) n k).2.2) := by
  intro k
  induction k with
  | zero => rfl
  | succ k ih =>
    rw [slM, foB, ih]
    split
    · dsimp only; rw [fd_or, fd_and]
    · rfl
theorem hp_fo {S V O : Nat → Int32} {n cnt : Nat} {set : Int32} : ∀ k, hpL S V O n cnt set k = ((foB (fun a => decide (O (nI a &&& set).toNatClampNeg = 0) && svB S V O cnt (nI a) 0 (-1)) n k).1, nI (foB (fun a => decide (O (nI a &&& set).toNatClampNeg = 0) && svB S V O cnt (nI a) 0 (-1)) n k).2.1, nI (foB (fun a => decide (O (nI a &&& set).toNatClampNeg = 0) && svB S V O cnt (nI a) 0 (-1)) n k).2.2) := by
  intro k
  induction k with
  | zero => rfl
  | succ k ih =>
    rw [hpL, foB, ih]
    by_cases q1 : O (nI k &&& set).toNatClampNeg = 0
    · rw [if_pos q1]
      cases q2 : svB S V O cnt (nI k) 0 (-1)
      · rw [if_neg (by decide), if_neg (by rw [Bool.and_false]; decide)]
      · rw [if_pos rfl, if_pos (by rw [decide_eq_true q1]; rfl)]
        dsimp only; rw [fd_or, fd_and]
    · rw [if_neg q1, if_neg (by rw [decide_eq_false q1]; simp)]
/-! the blocks that are alone in a row -/
theorem pow_inj {q p : Nat} (e : 2 ^ q = 2 ^ p) : q = p := by
  have h : (2 ^ q).testBit p = true := by rw [e, Nat.testBit_two_pow_self]
  rw [Nat.testBit_two_pow, decide_eq_true_iff] at h
  exact h
def knN (ρ : Nat → Nat) : Nat → Nat
  | 0 => 0
  | k + 1 => if (∃ t, t < 8 ∧ ρ k = 2 ^ t) then knN ρ k ||| ρ k else knN ρ k
section kn
variable {n N : Nat} {ρ υ t : Nat → Nat} {R U : Nat → Int32}
theorem knN_bit (p : Nat) : ∀ N, (∀ k, k < N → ρ k < 256) → ((knN ρ N).testBit p = true ↔ ∃ k, k < N ∧ ρ k = 2 ^ p) := by
  intro N
  induction N with
  | zero =>
    intro _
    show (0 : Nat).testBit p = true ↔ _
    rw [Nat.zero_testBit]
    exact ⟨fun h => (by cases h), fun ⟨a, ha, _⟩ => absurd ha (Nat.not_lt_zero _)⟩
  | succ k ih =>
    intro h
    have ih := ih (fun i hi => h i (by omega))
    have hk := h k (by omega)
    rw [knN]
    split
    · rename_i hp
      obtain ⟨q, hq, eq⟩ := hp
      rw [Nat.testBit_or, Bool.or_eq_true, ih, eq, Nat.testBit_two_pow, decide_eq_true_iff]
      constructor
      · rintro (⟨i, hi, e⟩ | e)
        · exact ⟨i, by omega, e⟩
        · exact ⟨k, by omega, by rw [eq, e]⟩
      · rintro ⟨i, hi, e⟩
        rcases Nat.lt_or_ge i k with r | r
        · exact Or.inl ⟨i, r, e⟩
        · obtain rfl : k = i := by omega
          refine Or.inr ?_
          rw [eq] at e
          exact pow_inj e
    · rename_i hp
      rw [ih]
      constructor
      · rintro ⟨i, hi, e⟩; exact ⟨i, by omega, e⟩
      · rintro ⟨i, hi, e⟩
        rcases Nat.lt_or_ge i k with r | r
        · exact ⟨i, r, e⟩
        · obtain rfl : k = i := by omega
          exfalso
          apply hp
          refine ⟨p, ?_, e⟩
          rw [e] at hk
          exact (Nat.pow_lt_pow_iff_right (by decide)).mp (show 2 ^ p < 2 ^ 8 from hk)
theorem knN_lt : ∀ N, (∀ k, k < N → ρ k < 2 ^ n) → knN ρ N < 2 ^ n := by
  intro N
  induction N with
  | zero => intro _; exact Nat.two_pow_pos n
  | succ k ih =>
    intro h
    rw [knN]
    split
    · exact Nat.or_lt_two_pow (ih (fun i hi => h i (by omega))) (h k (by omega))
    · exact ih (fun i hi => h i (by omega))
theorem RR.l256 (h : RR n ρ t N) (hn : n ≤ 8) : ∀ k, k < N → ρ k < 256 := fun k hk => Nat.lt_of_lt_of_le (h k hk).1 (p8 hn)
theorem RR.ne0 (h : RR n ρ t N) : ∀ k, k < N → ρ k ≠ 0 := fun k hk e => by
  have := (h k hk).2.2.1.1
  rw [e, Nat.zero_testBit] at this; cases this
theorem kn_link (h : RR n ρ t N) (hn : n ≤ 8) (hl : lkR R U ρ υ N) : ∀ k, k ≤ N → knM R 1 k = nI (knN ρ k) := by
  intro k
  induction k with
  | zero => intro _; rfl
  | succ k ih =>
    intro hk
    have e1 := (hl k (by omega)).1
    have h1 := pow_ask0 (ρ k) (h.l256 hn k (by omega)) (h.ne0 k (by omega))
    rw [knM, if_neg (by decide), ih (by omega), knN, e1]
    by_cases q : ∃ t, t < 8 ∧ ρ k = 2 ^ t
    · rw [if_pos (h1.mpr q), if_pos q, fd_or]
    · rw [if_neg (fun e => q (h1.mp e)), if_neg q]
theorem kn_0 : ∀ k, knM R 0 k = 0 := by
  intro k
  induction k with
  | zero => rfl
  | succ k ih => rw [knM, if_pos rfl, ih]
theorem known_eq (h : RR n ρ t N) (hn : n ≤ 8) {bit : Nat} {A : Nat → Bool} (hA : ∀ a, a < 2 ^ n → (A a = true ↔ solR ρ υ N bit a)) :
    (foB A n (2 ^ n)).1 = true ∧ (foB A n (2 ^ n)).2.1 ^^^ (foB A n (2 ^ n)).2.2 = (2 ^ n - 1) ^^^ knN ρ N := by
  have hpt := ptS_lt (υ := υ) h bit
  have hps := (hA _ hpt).mpr (ptS_sol h hn bit)
  refine ⟨(fo_any _).mpr ⟨_, hpt, hps⟩, fd_bx (fun p => ?_)⟩
  rw [Nat.testBit_xor, Nat.testBit_xor, Nat.testBit_two_pow_sub_one]
  have hso := fo_some (A := A) (n := n) p (2 ^ n)
  have hal := fo_all (A := A) (n := n) p (2 ^ n)
  have hkn := knN_bit (ρ := ρ) p N (h.l256 hn)
  by_cases hp : p < n
  · have K := known_iff (υ := υ) h hn bit hp
    rw [← hkn] at K
    have E1 : (foB A n (2 ^ n)).2.1.testBit p = true ↔ (∃ c, c < 2 ^ n ∧ solR ρ υ N bit c ∧ c.testBit p = true) := by
      rw [hso]
      constructor
      · rintro ⟨a, ha, h1, h2⟩; exact ⟨a, ha, (hA a ha).mp h1, h2⟩
      · rintro ⟨a, ha, h1, h2⟩; exact ⟨a, ha, (hA a ha).mpr h1, h2⟩
    have E0 : (foB A n (2 ^ n)).2.2.testBit p = true ↔ ¬ (∃ c, c < 2 ^ n ∧ solR ρ υ N bit c ∧ c.testBit p = false) := by
      rw [hal]
      constructor
      · rintro ⟨-, h1⟩ ⟨c, hc, h2, h3⟩
        rw [h1 c hc ((hA c hc).mpr h2)] at h3; cases h3
      · intro h1
        refine ⟨hp, fun a ha h2 => ?_⟩
        cases q : a.testBit p
        · exact absurd ⟨a, ha, (hA a ha).mp h2, q⟩ h1
        · rfl
    rw [← E1] at K
    cases a1 : (foB A n (2 ^ n)).2.1.testBit p
    · -- no solution has it: the solution that there is hasn't
      have a2 : (foB A n (2 ^ n)).2.2.testBit p = false := by
        cases q : (foB A n (2 ^ n)).2.2.testBit p
        · rfl
        · exfalso
          have h1 := (hal.mp q).2 _ hpt hps
          rw [hso.mpr ⟨_, hpt, hps, h1⟩] at a1; cases a1
      have a3 : (knN ρ N).testBit p = true := K.mpr (fun hh => by rw [a1] at hh; cases hh.1)
      rw [a2, a3]; simp [hp]
    · cases a2 : (foB A n (2 ^ n)).2.2.testBit p
      · have a3 : (knN ρ N).testBit p = false := by
          cases q : (knN ρ N).testBit p
          · rfl
          · exfalso
            refine K.mp q ⟨a1, ?_⟩
            have h9 : ¬ ¬ (∃ c, c < 2 ^ n ∧ solR ρ υ N bit c ∧ c.testBit p = false) := fun hh => by rw [E0.mpr hh] at a2; cases a2
            exact Classical.not_not.mp h9
        rw [a3]; simp [hp]
      · have a3 : (knN ρ N).testBit p = true := K.mpr (fun hh => E0.mp a2 hh.2)
        rw [a3]; simp [hp]
  · have a1 : (foB A n (2 ^ n)).2.1.testBit p = false := by
      cases q : (foB A n (2 ^ n)).2.1.testBit p
      · rfl
      · obtain ⟨a, ha, -, h2⟩ := hso.mp q
        exact absurd (tb_lt ha h2) hp
    have a2 : (foB A n (2 ^ n)).2.2.testBit p = false := by
      cases q : (foB A n (2 ^ n)).2.2.testBit p
      · rfl
      · exact absurd (hal.mp q).1 hp
    have a3 : (knN ρ N).testBit p = false := by
      cases q : (knN ρ N).testBit p
      · rfl
      · exact absurd (tb_lt (knN_lt N (fun k hk => (h k hk).1)) q) hp
    rw [a1, a2, a3]; simp [hp]
end kn
theorem sub_xor0 : ∀ n, n < 9 → ∀ K, K < 2 ^ n → ((2 ^ n - 1) ^^^ K ≤ 2 ^ n - 1 ∧ 2 ^ n - 1 - ((2 ^ n - 1) ^^^ K) = K) := by decide +kernel
theorem sub_xor {n K : Nat} (hn : n ≤ 8) (hK : K < 2 ^ n) : nI (2 ^ n - 1) - nI ((2 ^ n - 1) ^^^ K) = nI K := by
  have h := sub_xor0 n (by omega) K hK
  rw [pk_sub h.1, h.2]
end
section
/-! PLAIN: known, consistent, sums: the two classes answer alike -/
section known
variable {S V R U : Nat → Int32} {s v : Nat → Nat} {n cnt N : Nat} {wo B : Int32} {ρ υ t : Nat → Nat}
theorem sl_known (hn : n ≤ 8) (hsy : syN S V s v n cnt) (hR : RR n ρ t N) {bit : Nat} (hb : bit < 8) (hS : ∀ c, solP s v wo cnt bit c ↔ solR ρ υ N bit c) :
    (slA S V (odI 256) n cnt wo bit).1 = true ∧ (slA S V (odI 256) n cnt wo bit).2.1 ^^^ (slA S V (odI 256) n cnt wo bit).2.2 = nI ((2 ^ n - 1) ^^^ knN ρ N) := by
  unfold slA
  rw [sl_fo]
  have h := known_eq hR hn (bit := bit) (A := fun a => svB S V (odI 256) cnt (nI a) (nI bit) wo) (fun a _ => (sv_iff hn hsy hb).trans (hS a))
  refine ⟨h.1, ?_⟩
  dsimp only
  rw [fd_xor, h.2]
theorem sl_none (hn : n ≤ 8) (hsy : syN S V s v n cnt) {bit : Nat} (hb : bit < 8) (h : ∀ c, ¬ solP s v wo cnt bit c) : (slA S V (odI 256) n cnt wo bit).1 = false := by
  unfold slA
  rw [sl_fo]
  dsimp only
  cases q : (foB (fun a => svB S V (odI 256) cnt (nI a) (nI bit) wo) n (2 ^ n)).1
  · rfl
  · obtain ⟨a, -, h2⟩ := (fo_any _).mp q
    exact absurd ((sv_iff hn hsy hb).mp h2) (h a)
theorem kwO_c {O : Nat → Int32} {lf : Int32} {K : Nat} (h : ∀ b, b < 8 → (slA S V O n cnt lf b).2.1 ^^^ (slA S V O n cnt lf b).2.2 = nI K) : ∀ k, k < 8 → kwO S V O n cnt lf (k + 1) = nI K := by
  intro k
  induction k with
  | zero =>
    intro _
    rw [kwO, h 0 (by decide)]
    show nI 0 ||| nI K = nI K
    rw [fd_or, Nat.zero_or]
  | succ k ih =>
    intro hk
    rw [kwO, h (k + 1) hk, ih (by omega), fd_or, Nat.or_self]
theorem kw_eq (hn : n ≤ 8) (hsy : syN S V s v n cnt) (h : STI s v n wo cnt R U N B) : knM R B N = kwM S V (odI 256) n cnt wo := by
  obtain ⟨ρ, υ, t, hR, hl, hB, -⟩ := h
  rcases hB with ⟨rfl, hB⟩ | ⟨rfl, bit, hb, hB⟩
  · have h1 := fun bit hb => sl_known hn hsy hR (bit := bit) hb (hB bit hb)
    rw [kn_link hR hn hl N (Nat.le_refl _), kwM, if_pos (alB_true.mpr (fun b hb => (h1 b hb).1)), kwO_c (fun b hb => (h1 b hb).2) 7 (by decide), sub_xor hn (knN_lt N (fun k hk => (hR k hk).1))]
  · rw [kn_0, kwM, if_neg (by rw [alB_false (f := fun b => (slA S V (odI 256) n cnt wo b).1) (k := bit) (sl_none hn hsy hb hB) 8 hb]; decide)]
theorem co_eq (hn : n ≤ 8) (hsy : syN S V s v n cnt) (h : STI s v n (-1) cnt R U N B) : (if B = 0 then 0 else 1) = c2M S V (odI 256) n cnt := by
  obtain ⟨ρ, υ, t, hR, hl, hB, -⟩ := h
  rcases hB with ⟨rfl, hB⟩ | ⟨rfl, bit, hb, hB⟩
  · rw [c2M, alB_true.mpr (fun b hb => (sl_known hn hsy hR (bit := b) hb (hB b hb)).1)]; rfl
  · rw [c2M, alB_false (f := fun b => (slA S V (odI 256) n cnt (-1) b).1) (k := bit) (sl_none hn hsy hb hB) 8 hb]; rfl
end known
/-! the kinds of a sum -/
def kdN (A P : Nat → Bool) : Nat → Nat
  | 0 => 0
  | c + 1 => if A c = true then kdN A P c ||| (if P c = true then 2 else 1) else kdN A P c
theorem kd_link {S V : Nat → Int32} {cnt w : Nat} {bit : Int32} (hw : w < 256) : ∀ k, kdM S V (odI 256) cnt (nI w) bit k = nI (kdN (fun c => svB S V (odI 256) cnt (nI c) bit (-1)) (fun c => ldot c w) k) := by
  intro k
  induction k with
  | zero => rfl
  | succ k ih =>
    rw [kdM, kdN, ih, od_dot hw]
    split
    · cases q : ldot k w
      · rw [if_pos (by decide), if_neg (by decide)]; exact fd_or _ 1
      · rw [if_neg (by decide), if_pos rfl]; exact fd_or _ 2
    · rfl
section kinds
variable {A P : Nat → Bool}
theorem kd_lt : ∀ k, kdN A P k < 4 := by
  intro k
  induction k with
  | zero => exact (by decide : 0 < 4)
  | succ k ih =>
    rw [kdN]
    split
    · refine Nat.or_lt_two_pow (n := 2) ih ?_
      split <;> decide
    · exact ih
theorem kd_b (b : Bool) : ∀ k, (kdN A P k).testBit b.toNat = true ↔ ∃ c, c < k ∧ A c = true ∧ P c = b := by
  intro k
  induction k with
  | zero =>
    show (0 : Nat).testBit _ = true ↔ _
    rw [Nat.zero_testBit]
    exact ⟨fun h => (by cases h), fun ⟨a, ha, _⟩ => absurd ha (Nat.not_lt_zero _)⟩
  | succ k ih =>
    rw [kdN]
    split
    · rename_i h
      have h1 : (if P k = true then 2 else 1).testBit b.toNat = true ↔ P k = b := by
        cases P k <;> cases b <;> decide
      rw [Nat.testBit_or, Bool.or_eq_true, ih, h1]
      constructor
      · rintro (⟨a, ha, h2⟩ | h2)
        · exact ⟨a, by omega, h2⟩
        · exact ⟨k, by omega, h, h2⟩
      · rintro ⟨a, ha, h2, h3⟩
        rcases Nat.lt_or_ge a k with q | q
        · exact Or.inl ⟨a, q, h2, h3⟩
        · obtain rfl : k = a := by omega
          exact Or.inr h3
    · rename_i h
      rw [ih]
      constructor
      · rintro ⟨a, ha, h2⟩; exact ⟨a, by omega, h2⟩
      · rintro ⟨a, ha, h2, h3⟩
        rcases Nat.lt_or_ge a k with q | q
        · exact ⟨a, q, h2, h3⟩
        · obtain rfl : k = a := by omega
          exact absurd h2 h
theorem kd_val : ∀ z, z < 4 → (z.testBit 0 = false → z.testBit 1 = false → z = 0) ∧ (z.testBit 0 = true → z.testBit 1 = false → z = 1) ∧ (z.testBit 0 = false → z.testBit 1 = true → z = 2) ∧ (z.testBit 0 = true → z.testBit 1 = true → z = 3) := by decide
theorem kd_not (b : Bool) {k : Nat} (h : ∀ c, c < k → A c = true → P c = !b) : (kdN A P k).testBit b.toNat = false := by
  cases q : (kdN A P k).testBit b.toNat
  · rfl
  · obtain ⟨c, hc, h1, h2⟩ := (kd_b b k).mp q
    rw [h c hc h1] at h2
    cases b <;> cases h2
end kinds
def suN (y : Nat) : Nat → Nat
  | 0 => 0
  | b + 1 => if y.testBit b = true then suN y b ||| 2 ^ b else suN y b
theorem suN_8 : ∀ y, y < 256 → suN y 8 = y := by decide +kernel
theorem su_link {S V O : Nat → Int32} {n cnt y : Nat} {a : Int32} (h : ∀ b, b < 8 → (kdA S V O n cnt a b = 2 ↔ y.testBit b = true)) : ∀ k, k ≤ 8 → suM S V O n cnt a k = nI (suN y k) := by
  intro k
  induction k with
  | zero => intro _; rfl
  | succ k ih =>
    intro hk
    rw [suM, suN, ih (by omega)]
    by_cases q : y.testBit k = true
    · rw [if_pos ((h k (by omega)).mpr q), if_pos q, fd_pw (by omega), fd_or]
    · rw [if_neg (fun e => q ((h k (by omega)).mp e)), if_neg q]
theorem nI_n0 {y : Nat} (h : y < 256) : ¬ nI y < 0 := nI_pos (by omega)
section sums
variable {S V R U : Nat → Int32} {s v : Nat → Nat} {n cnt N : Nat} {B : Int32}
theorem su_eq (hn : n ≤ 8) (hsy : syN S V s v n cnt) (h : STI s v n (-1) cnt R U N B) {w : Nat} (hw : w < 2 ^ n) :
    neM (seM B (rdM R U (nI w) 0 N)) = (if alB (fun b => decide (¬ kdA S V (odI 256) n cnt (nI w) b = 0 ∧ ¬ kdA S V (odI 256) n cnt (nI w) b = 3)) 8 = true then suM S V (odI 256) n cnt (nI w) 8 else -2) := by
  have hw256 : w < 256 := Nat.lt_of_lt_of_le hw (p8 hn)
  obtain ⟨ρ, υ, t, hR, hl, hB, -⟩ := h
  have hq := rd_link hR hn hl hw (b := 0) (by decide) N (Nat.le_refl _)
  have hlt := rd_lt (t := t) (hl.lt hR) hw (b := 0) (by decide) N (Nat.le_refl _)
  have hsol : ∀ bit c, solR ρ υ N bit c → (ldot c (rdN ρ υ t w 0 N).1 ^^ (rdN ρ υ t w 0 N).2.testBit bit) = (ldot c w ^^ (0 : Nat).testBit bit) := fun bit c hc => rd_sol N hc
  have hbit : ∀ j, j < N → (rdN ρ υ t w 0 N).1.testBit (t j) = false := fun j hj => by
    rw [rd_bit hR _ _ hj N (Nat.le_refl _)]
    have : ¬ N ≤ j := by omega
    simp [this]
  have hq : rdM R U (nI w) 0 N = (nI (rdN ρ υ t w 0 N).1, nI (rdN ρ υ t w 0 N).2) := hq
  generalize rdN ρ υ t w 0 N = qq at hq hlt hsol hbit
  obtain ⟨y, z⟩ := qq
  dsimp only at hq hlt hsol hbit
  have hy256 : y < 256 := Nat.lt_of_lt_of_le hlt.1 (p8 hn)
  rw [hq]
  rcases hB with ⟨rfl, hB⟩ | ⟨rfl, bit, hb, hB⟩
  · -- the symbols agree
    have hA : ∀ bit, bit < 8 → ∀ c, (svB S V (odI 256) cnt (nI c) (nI bit) (-1) = true ↔ solR ρ υ N bit c) := fun bit hb c => (sv_iff hn hsy hb).trans (hB bit hb c)
    rw [seM, if_neg (by decide)]
    by_cases hy : y = 0
    · subst hy
      have hP : ∀ bit, bit < 8 → ∀ c, solR ρ υ N bit c → ldot c w = z.testBit bit := by
        intro bit hb c hc
        have h1 := hsol bit c hc
        rw [ldot_0r, Nat.zero_testBit] at h1
        cases a1 : ldot c w <;> cases a2 : z.testBit bit <;> rw [a1, a2] at h1 <;> first | rfl | cases h1
      have hk : ∀ b, b < 8 → kdA S V (odI 256) n cnt (nI w) b = nI (if z.testBit b = true then 2 else 1) := by
        intro b hb
        unfold kdA
        rw [kd_link hw256]
        have hpt := ptS_lt (υ := υ) hR b
        have hps := ptS_sol (υ := υ) hR hn b
        have hv := kd_val _ (kd_lt (A := fun c => svB S V (odI 256) cnt (nI c) (nI b) (-1)) (P := fun c => ldot c w) (2 ^ n))
        have h1 := (kd_b (A := fun c => svB S V (odI 256) cnt (nI c) (nI b) (-1)) (P := fun c => ldot c w) (z.testBit b) (2 ^ n)).mpr ⟨_, hpt, (hA b hb _).mpr hps, hP b hb _ hps⟩
        have h2 := kd_not (A := fun c => svB S V (odI 256) cnt (nI c) (nI b) (-1)) (P := fun c => ldot c w) (!z.testBit b) (k := 2 ^ n) (fun c _ hc => by rw [hP b hb c ((hA b hb c).mp hc), Bool.not_not])
        cases q : z.testBit b
        · rw [q] at h1 h2
          rw [hv.2.1 h1 h2]; rfl
        · rw [q] at h1 h2
          rw [hv.2.2.1 h2 h1]; rfl
      have e0 : nI 0 = (0 : Int32) := rfl
      rw [if_pos e0, neM, if_neg (nI_n0 hlt.2), if_pos (alB_true.mpr (fun b hb => decide_eq_true (by rw [hk b hb]; cases z.testBit b <;> decide)))]
      have h3 : ∀ b, b < 8 → (kdA S V (odI 256) n cnt (nI w) b = 2 ↔ z.testBit b = true) := by
        intro b hb
        rw [hk b hb]; cases z.testBit b <;> decide
      rw [su_link h3 8 (Nat.le_refl _), suN_8 z hlt.2]
    · obtain ⟨ty, htn, hty⟩ := top_ex hn hlt.1 hy
      rw [if_neg (fun e => hy ((nI_z hy256).mp e)), neM, if_pos (by decide)]
      have hk : kdA S V (odI 256) n cnt (nI w) 0 = 3 := by
        unfold kdA
        rw [kd_link hw256]
        have hpt := ptS_lt (υ := υ) hR 0
        have hps := ptS_sol (υ := υ) hR hn 0
        have hp2 := hmS_add hR hn htn hps
        have hl2 : ptS t υ N 0 ^^^ hmS ρ t N ty < 2 ^ n := Nat.xor_lt_two_pow hpt (hmS_lt hR htn)
        have hv := kd_val _ (kd_lt (A := fun c => svB S V (odI 256) cnt (nI c) (nI 0) (-1)) (P := fun c => ldot c w) (2 ^ n))
        have hd : ldot (ptS t υ N 0 ^^^ hmS ρ t N ty) w = !ldot (ptS t υ N 0) w := by
          have g1 := hsol 0 _ hps
          have g2 := hsol 0 _ hp2
          rw [ldot_xl, hmS_free hR hn htn hty.1 hbit] at g2
          rw [Nat.zero_testBit] at g1 g2
          cases a1 : ldot (ptS t υ N 0) y <;> cases a2 : z.testBit 0 <;> cases a3 : ldot (ptS t υ N 0) w <;> cases a4 : ldot (ptS t υ N 0 ^^^ hmS ρ t N ty) w <;> rw [a1, a2, a3] at g1 <;> rw [a1, a2, a4] at g2 <;> first | rfl | exact absurd g1 (by decide) | exact absurd g2 (by decide)
        have b1 := (kd_b (A := fun c => svB S V (odI 256) cnt (nI c) (nI 0) (-1)) (P := fun c => ldot c w) (ldot (ptS t υ N 0) w) (2 ^ n)).mpr ⟨_, hpt, (hA 0 (by decide) _).mpr hps, rfl⟩
        have b2 := (kd_b (A := fun c => svB S V (odI 256) cnt (nI c) (nI 0) (-1)) (P := fun c => ldot c w) (!ldot (ptS t υ N 0) w) (2 ^ n)).mpr ⟨_, hl2, (hA 0 (by decide) _).mpr hp2, hd⟩
        cases q : ldot (ptS t υ N 0) w
        · rw [q] at b1 b2
          rw [hv.2.2.2 b1 b2]; rfl
        · rw [q] at b1 b2
          rw [hv.2.2.2 b2 b1]; rfl
      rw [if_neg (by rw [alB_false (f := fun b => decide (¬ kdA S V (odI 256) n cnt (nI w) b = 0 ∧ ¬ kdA S V (odI 256) n cnt (nI w) b = 3)) (k := 0) (decide_eq_false (fun h => h.2 hk)) 8 (by decide)]; decide)]
  · -- they don't
    rw [seM, if_pos rfl, neM, if_pos (by decide)]
    have hk : kdA S V (odI 256) n cnt (nI w) bit = 0 := by
      unfold kdA
      rw [kd_link hw256]
      have hno : ∀ c, svB S V (odI 256) cnt (nI c) (nI bit) (-1) = true → False := fun c hc => hB c ((sv_iff hn hsy hb).mp hc)
      have hv := kd_val _ (kd_lt (A := fun c => svB S V (odI 256) cnt (nI c) (nI bit) (-1)) (P := fun c => ldot c w) (2 ^ n))
      have b1 := kd_not (A := fun c => svB S V (odI 256) cnt (nI c) (nI bit) (-1)) (P := fun c => ldot c w) false (k := 2 ^ n) (fun c _ hc => (hno c hc).elim)
      have b2 := kd_not (A := fun c => svB S V (odI 256) cnt (nI c) (nI bit) (-1)) (P := fun c => ldot c w) true (k := 2 ^ n) (fun c _ hc => (hno c hc).elim)
      rw [hv.1 b1 b2]; rfl
    rw [if_neg (by rw [alB_false (f := fun b => decide (¬ kdA S V (odI 256) n cnt (nI w) b = 0 ∧ ¬ kdA S V (odI 256) n cnt (nI w) b = 3)) (k := bit) (decide_eq_false (fun h => h.1 hk)) 8 hb]; decide)]
end sums
end
section
/-! PLAIN: what a further symbol would make known -/
theorem i_andn (a b : Int32) : a &&& (b ^^^ (-1)) = a ^^^ (a &&& b) := by
  apply Int32.toBitVec_inj.mp
  show a.toBitVec &&& (b.toBitVec ^^^ (-1 : Int32).toBitVec) = a.toBitVec ^^^ (a.toBitVec &&& b.toBitVec)
  rw [show (-1 : Int32).toBitVec = BitVec.allOnes 32 from by decide]
  apply BitVec.eq_of_getLsbD_eq
  intro i hi
  rw [BitVec.getLsbD_and, BitVec.getLsbD_xor, BitVec.getLsbD_xor, BitVec.getLsbD_and, BitVec.getLsbD_allOnes, decide_eq_true hi]
  cases a.toBitVec.getLsbD i <;> cases b.toBitVec.getLsbD i <;> rfl
theorem xor_z {a b : Nat} : a ^^^ b = 0 ↔ a = b := by
  constructor
  · intro h
    have h2 := xor_self2 a b
    rw [h, Nat.zero_xor] at h2
    exact h2.symm
  · intro h; rw [h, Nat.xor_self]
theorem andn_z {a b : Nat} (ha : a < 256) : nI a &&& (nI b ^^^ (-1)) = 0 ↔ a = a &&& b := by
  have h1 : a &&& b ≤ a := Nat.and_le_left
  have h2 : a ^^^ (a &&& b) < 256 := Nat.xor_lt_two_pow (n := 8) ha (by omega)
  rw [i_andn, fd_and, fd_xor, nI_z h2, xor_z]
def unN (y : Nat) : Nat := if (∃ t, t < 8 ∧ y = 2 ^ t) then y else 0
theorem un_dec : ∀ y, y < 256 → unM (nI y) = nI (if (∃ t, t < 8 ∧ y = 2 ^ t) then y else 0) := by decide +kernel
theorem unN_bit {y : Nat} (hy : y < 256) (p : Nat) : (unN y).testBit p = true ↔ y = 2 ^ p := by
  unfold unN
  split
  · rename_i h
    obtain ⟨q, hq, e⟩ := h
    rw [e, Nat.testBit_two_pow, decide_eq_true_iff]
    exact ⟨fun h => by rw [h], fun h => pow_inj h⟩
  · rename_i h
    rw [Nat.zero_testBit]
    refine ⟨fun h => (by cases h), fun e => ?_⟩
    exfalso
    apply h
    refine ⟨p, ?_, e⟩
    rw [e] at hy
    exact (Nat.pow_lt_pow_iff_right (by decide)).mp (show 2 ^ p < 2 ^ 8 from hy)
def whN (ρ : Nat → Nat) (y : Nat) : Nat → Nat
  | 0 => unN y
  | k + 1 => whN ρ y k ||| unN (ρ k)
theorem whN_bit {ρ : Nat → Nat} {y : Nat} (hy : y < 256) (p : Nat) : ∀ k, (∀ i, i < k → ρ i < 256) → ((whN ρ y k).testBit p = true ↔ (y = 2 ^ p ∨ ∃ i, i < k ∧ ρ i = 2 ^ p)) := by
  intro k
  induction k with
  | zero =>
    intro _
    rw [whN, unN_bit hy]
    exact ⟨fun h => Or.inl h, fun h => h.elim id (fun ⟨i, hi, _⟩ => absurd hi (Nat.not_lt_zero _))⟩
  | succ k ih =>
    intro h
    rw [whN, Nat.testBit_or, Bool.or_eq_true, ih (fun i hi => h i (by omega)), unN_bit (h k (by omega))]
    constructor
    · rintro ((h1 | ⟨i, hi, h1⟩) | h1)
      · exact Or.inl h1
      · exact Or.inr ⟨i, by omega, h1⟩
      · exact Or.inr ⟨k, by omega, h1⟩
    · rintro (h1 | ⟨i, hi, h1⟩)
      · exact Or.inl (Or.inl h1)
      · rcases Nat.lt_or_ge i k with q | q
        · exact Or.inl (Or.inr ⟨i, q, h1⟩)
        · obtain rfl : k = i := by omega
          exact Or.inr h1
section useful
variable {S V R U : Nat → Int32} {s v : Nat → Nat} {n cnt N : Nat} {ρ υ t : Nat → Nat}
theorem wh_link (hn : n ≤ 8) (hR : RR n ρ t N) (hl : lkR R U ρ υ N) {y ty : Nat} (hy : y < 2 ^ n) : ∀ k, k ≤ N → whL R (nI y) (nI (2 ^ ty)) k = nI (whN (nwR ρ N y ty) y k) := by
  intro k
  induction k with
  | zero => intro _; rw [whL, whN]; exact un_dec y (Nat.lt_of_lt_of_le hy (p8 hn))
  | succ k ih =>
    intro hk
    have e1 := (hl k (by omega)).1
    have h256 := hR.l256 hn k (by omega)
    have e : ¬ k = N := by omega
    have hrow : whR R (nI y) (nI (2 ^ ty)) k = nI (nwR ρ N y ty k) := by
      unfold whR nwR
      rw [if_neg e, e1]
      by_cases q : (ρ k).testBit ty = true
      · rw [if_neg (fun hh => by rw [(bit_ask h256).mp hh] at q; cases q), if_pos q, fd_xor]
      · rw [if_pos ((bit_ask h256).mpr (by simpa using q)), if_neg q]
    have hlt : nwR ρ N y ty k < 256 := by
      unfold nwR
      rw [if_neg e]
      split
      · exact Nat.xor_lt_two_pow (n := 8) h256 (Nat.lt_of_lt_of_le hy (p8 hn))
      · exact h256
    rw [whL, whN, ih (by omega), hrow, un_dec _ hlt, fd_or]
    rfl
theorem hp_eq (hn : n ≤ 8) (hsy : syN S V s v n cnt) (h : STI s v n (-1) cnt R U N 1) {w : Nat} (hw : w < 2 ^ n) :
    (seM 1 (rdM R U (nI w) 0 N) < 0 ∧ ¬ whM R U N (nI w) (knM R 1 N) = 0) ↔ ¬ hpM S V (odI 256) n cnt (nI w) (kwM S V (odI 256) n cnt (-1)) = 0 := by
  have hw256 : w < 256 := Nat.lt_of_lt_of_le hw (p8 hn)
  have hkw := kw_eq hn hsy h
  obtain ⟨ρ, υ, t, hR, hl, hB, -⟩ := h
  have hB := (hB.resolve_right (fun e => absurd e.1 (by decide))).2 0 (by decide)
  rw [← hkw, kn_link hR hn hl N (Nat.le_refl _)]
  have hKlt := knN_lt (ρ := ρ) (n := n) N (fun k hk => (hR k hk).1)
  have hq := rd_link hR hn hl hw (b := 0) (by decide) N (Nat.le_refl _)
  have hlt := rd_lt (t := t) (hl.lt hR) hw (b := 0) (by decide) N (Nat.le_refl _)
  have hsol : ∀ bit c, solR ρ υ N bit c → (ldot c (rdN ρ υ t w 0 N).1 ^^ (rdN ρ υ t w 0 N).2.testBit bit) = (ldot c w ^^ (0 : Nat).testBit bit) := fun bit c hc => rd_sol N hc
  have hbit : ∀ j, j < N → (rdN ρ υ t w 0 N).1.testBit (t j) = false := fun j hj => by
    rw [rd_bit hR _ _ hj N (Nat.le_refl _)]
    have : ¬ N ≤ j := by omega
    simp [this]
  have hq : rdM R U (nI w) 0 N = (nI (rdN ρ υ t w 0 N).1, nI (rdN ρ υ t w 0 N).2) := hq
  generalize rdN ρ υ t w 0 N = qq at hq hlt hsol hbit
  obtain ⟨y, z⟩ := qq
  dsimp only at hq hlt hsol hbit
  have hy256 : y < 256 := Nat.lt_of_lt_of_le hlt.1 (p8 hn)
  have hA : ∀ a, ((decide (odI 256 (nI a &&& nI w).toNatClampNeg = 0) && svB S V (odI 256) cnt (nI a) 0 (-1)) = true ↔ (ldot a w = false ∧ solR ρ υ N 0 a)) := by
    intro a
    rw [Bool.and_eq_true, decide_eq_true_iff, od_dot hw256, bI_0]
    have h1 : svB S V (odI 256) cnt (nI a) 0 (-1) = true ↔ solR ρ υ N 0 a := (sv_iff (bit := 0) hn hsy (by decide)).trans (hB a)
    rw [h1]
  unfold hpM whM
  rw [hp_fo, hq]
  dsimp only
  rw [seM, if_neg (by decide)]
  dsimp only
  by_cases hy : y = 0
  · subst hy
    have e0 : nI 0 = (0 : Int32) := rfl
    rw [if_pos e0]
    have hP : ∀ c, solR ρ υ N 0 c → ldot c w = z.testBit 0 := by
      intro c hc
      have h1 := hsol 0 c hc
      rw [ldot_0r, Nat.zero_testBit] at h1
      cases a1 : ldot c w <;> cases a2 : z.testBit 0 <;> rw [a1, a2] at h1 <;> first | rfl | exact absurd h1 (by decide)
    refine ⟨fun hh => absurd hh.1 (nI_n0 hlt.2), fun hh => ?_⟩
    exfalso
    apply hh
    cases hz : z.testBit 0
    · have hk := known_eq hR hn (bit := 0) (A := fun a => decide (odI 256 (nI a &&& nI w).toNatClampNeg = 0) && svB S V (odI 256) cnt (nI a) 0 (-1)) (fun a _ => by
        rw [hA a]
        exact ⟨fun q => q.2, fun q => ⟨by rw [hP a q, hz], q⟩⟩)
      rw [if_pos hk.1, fd_xor, hk.2, sub_xor hn hKlt, if_pos rfl]
    · rw [if_neg]
      intro hany
      obtain ⟨a, -, ha⟩ := (fo_any _).mp hany
      obtain ⟨h1, h2⟩ := (hA a).mp ha
      rw [hP a h2, hz] at h1; cases h1
  · obtain ⟨ty, htn, hty⟩ := top_ex hn hlt.1 hy
    rw [if_neg (fun e => hy ((nI_z hy256).mp e)), topM_of hn hlt.1 hty]
    have hR2 := nw_RR hR hlt.1 hty hbit
    have hk := known_eq hR2 hn (bit := 0) (υ := nwV ρ υ N z ty) (A := fun a => decide (odI 256 (nI a &&& nI w).toNatClampNeg = 0) && svB S V (odI 256) cnt (nI a) 0 (-1)) (fun a _ => by
      rw [hA a, nw_sol]
      constructor
      · rintro ⟨h1, h2⟩
        have h3 := hsol 0 a h2
        rw [h1, Nat.zero_testBit] at h3
        refine ⟨h2, ?_⟩
        cases a1 : ldot a y <;> cases a2 : z.testBit 0 <;> rw [a1, a2] at h3 <;> first | rfl | exact absurd h3 (by decide)
      · rintro ⟨h2, h1⟩
        have h3 := hsol 0 a h2
        rw [h1, Nat.zero_testBit] at h3
        refine ⟨?_, h2⟩
        cases a1 : ldot a w
        · rfl
        · rw [a1] at h3
          cases a2 : z.testBit 0 <;> rw [a2] at h3 <;> exact absurd h3 (by decide))
    have hK2lt := knN_lt (ρ := nwR ρ N y ty) (n := n) (N + 1) (fun k hk => (hR2 k hk).1)
    have hK2256 : knN (nwR ρ N y ty) (N + 1) < 256 := Nat.lt_of_lt_of_le hK2lt (p8 hn)
    have hwh : whN (nwR ρ N y ty) y N = knN (nwR ρ N y ty) (N + 1) := by
      apply fd_bx
      intro p
      apply Bool.eq_iff_iff.mpr
      rw [whN_bit hy256 p N (fun i hi => hR2.l256 hn i (by omega)), knN_bit p (N + 1) (hR2.l256 hn)]
      have eN : nwR ρ N y ty N = y := by unfold nwR; simp
      constructor
      · rintro (h1 | ⟨i, hi, h1⟩)
        · exact ⟨N, by omega, by rw [eN]; exact h1⟩
        · exact ⟨i, by omega, h1⟩
      · rintro ⟨i, hi, h1⟩
        rcases Nat.lt_or_ge i N with q | q
        · exact Or.inr ⟨i, q, h1⟩
        · obtain rfl : N = i := by omega
          rw [eN] at h1
          exact Or.inl h1
    have hsub : knN ρ N = knN (nwR ρ N y ty) (N + 1) &&& knN ρ N := by
      apply fd_bx
      intro p
      rw [Nat.testBit_and]
      cases q : (knN ρ N).testBit p
      · simp
      · obtain ⟨k, hk, e⟩ := (knN_bit p N (hR.l256 hn)).mp q
        have h1 : (knN (nwR ρ N y ty) (N + 1)).testBit p = true := by
          refine (knN_bit p (N + 1) (hR2.l256 hn)).mpr ⟨k, by omega, ?_⟩
          have ek : ¬ k = N := by omega
          have etk : p = t k := by
            have h2 := (hR k hk).2.2.1.1
            rw [e, Nat.testBit_two_pow, decide_eq_true_iff] at h2
            exact h2
          have h3 : (ρ k).testBit ty = false := by
            rw [e, Nat.testBit_two_pow]
            by_cases q2 : p = ty
            · have h4 := hbit k hk
              rw [← etk, q2, hty.1] at h4; cases h4
            · simp [q2]
          unfold nwR
          rw [if_neg ek, if_neg (by rw [h3]; decide)]
          exact e
        rw [h1]; rfl
    rw [if_pos hk.1, fd_xor, hk.2, sub_xor hn hK2lt, wh_link hn hR hl hlt.1 N (Nat.le_refl _), hwh]
    have hKK : (nI (knN (nwR ρ N y ty) (N + 1)) = nI (knN ρ N)) ↔ knN (nwR ρ N y ty) (N + 1) = knN ρ N := nI_eq (by omega) (by have := Nat.lt_of_lt_of_le hKlt (p8 hn); omega)
    have hcond : (nI (knN (nwR ρ N y ty) (N + 1)) &&& (nI (knN ρ N) ^^^ (-1)) = 0) ↔ knN (nwR ρ N y ty) (N + 1) = knN ρ N := by
      rw [andn_z hK2256, ← hsub]
    by_cases q : knN (nwR ρ N y ty) (N + 1) = knN ρ N
    · rw [if_pos (hcond.mpr q), if_pos (hKK.mpr q)]
      exact ⟨fun hh => absurd rfl hh.2, fun hh => absurd rfl hh⟩
    · rw [if_neg (fun hh => q (hcond.mp hh)), if_neg (fun hh => q (hKK.mp hh))]
      exact ⟨fun _ => by decide, fun _ => ⟨by decide, by decide⟩⟩
end useful
theorem fdP_uniq {c c' : Nat → Prop} {N : Nat} {r r' : Int32} (h : ∀ j, j < N → (c j ↔ c' j)) (h1 : fdP c N r) (h2 : fdP c' N r') : r = r' := by
  rcases h1 with ⟨j, hj, a1, a2, rfl⟩ | ⟨a1, rfl⟩
  · rcases h2 with ⟨i, hi, b1, b2, rfl⟩ | ⟨b1, rfl⟩
    · rcases Nat.lt_trichotomy i j with q | q | q
      · exact absurd ((h i hi).mpr b2) (a1 i q)
      · rw [q]
      · exact absurd ((h j hj).mp a2) (b1 j q)
    · exact absurd ((h j hj).mp a2) (b1 j hj)
  · rcases h2 with ⟨i, hi, b1, b2, rfl⟩ | ⟨b1, rfl⟩
    · exact absurd ((h i hi).mpr b2) (a1 i hi)
    · rfl
theorem drN_lt2 {n j : Nat} (h1 : 1 ≤ n) : drN n j < 2 ^ n ∧ 1 ≤ drN n j := by
  have key : ∀ k, drS n (drX j) k < 2 ^ n := by
    intro k
    induction k with
    | zero => exact Nat.two_pow_pos n
    | succ k ih => exact Nat.xor_lt_two_pow ih (Nat.pow_lt_pow_right (by decide) (Nat.mod_lt _ (by omega)))
  have h2 : 1 < 2 ^ n := Nat.one_lt_two_pow (by omega)
  unfold drN
  split
  · exact ⟨h2, Nat.le_refl _⟩
  · exact ⟨key _, by omega⟩
end
section
/-! PLAIN: the rank is the logarithm of how many sums there are -/
def cn (f : Nat → Bool) : Nat → Nat
  | 0 => 0
  | k + 1 => cn f k + (f k).toNat
theorem cn_congr {f g : Nat → Bool} : ∀ k, (∀ i, i < k → f i = g i) → cn f k = cn g k := by
  intro k
  induction k with
  | zero => intro _; rfl
  | succ k ih =>
    intro h
    rw [cn, cn, ih (fun i hi => h i (by omega)), h k (by omega)]
theorem cn_add (f : Nat → Bool) (a : Nat) : ∀ b, cn f (a + b) = cn f a + cn (fun y => f (a + y)) b := by
  intro b
  induction b with
  | zero => rfl
  | succ b ih =>
    show cn f (a + b) + (f (a + b)).toNat = _
    rw [ih, cn]; omega
theorem cn_or {f g : Nat → Bool} : ∀ k, (∀ i, i < k → ¬ (f i = true ∧ g i = true)) → cn (fun y => f y || g y) k = cn f k + cn g k := by
  intro k
  induction k with
  | zero => intro _; rfl
  | succ k ih =>
    intro h
    rw [cn, cn, cn, ih (fun i hi => h i (by omega))]
    have h1 := h k (by omega)
    cases a : f k <;> cases b : g k
    · simp
    · simp; omega
    · simp; omega
    · exact absurd ⟨a, b⟩ h1
theorem add_xor0 : ∀ k, k < 8 → ∀ y, y < 2 ^ k → 2 ^ k + y = 2 ^ k ^^^ y := by decide +kernel
theorem cn_xor : ∀ k, k ≤ 8 → ∀ (f : Nat → Bool) (a : Nat), a < 2 ^ k → cn (fun y => f (y ^^^ a)) (2 ^ k) = cn f (2 ^ k) := by
  intro k
  induction k with
  | zero =>
    intro _ f a ha
    obtain rfl : a = 0 := by omega
    exact cn_congr _ (fun i _ => by rw [Nat.xor_zero])
  | succ k ih =>
    intro hk f a ha
    have hx := add_xor0 k (by omega)
    have e2 : 2 ^ (k + 1) = 2 ^ k + 2 ^ k := by rw [Nat.pow_succ]; omega
    rw [e2, cn_add, cn_add f]
    have hf1 : cn (fun y => f (2 ^ k + y)) (2 ^ k) = cn (fun y => f (2 ^ k ^^^ y)) (2 ^ k) := cn_congr _ (fun i hi => by rw [hx i hi])
    rw [hf1]
    rcases Nat.lt_or_ge a (2 ^ k) with q | q
    · rw [ih (by omega) f a q]
      have h2 : cn (fun y => f ((2 ^ k + y) ^^^ a)) (2 ^ k) = cn (fun y => (fun z => f (2 ^ k ^^^ z)) (y ^^^ a)) (2 ^ k) := cn_congr _ (fun i hi => by
        show f ((2 ^ k + i) ^^^ a) = f (2 ^ k ^^^ (i ^^^ a))
        rw [hx i hi, Nat.xor_assoc])
      rw [h2, ih (by omega) (fun z => f (2 ^ k ^^^ z)) a q]
    · have ha2 : a - 2 ^ k < 2 ^ k := by omega
      have ea : a = 2 ^ k ^^^ (a - 2 ^ k) := by rw [← hx _ ha2]; omega
      have h1 : cn (fun y => f (y ^^^ a)) (2 ^ k) = cn (fun y => (fun z => f (2 ^ k ^^^ z)) (y ^^^ (a - 2 ^ k))) (2 ^ k) := cn_congr _ (fun i hi => by
        show f (i ^^^ a) = f (2 ^ k ^^^ (i ^^^ (a - 2 ^ k)))
        rw [← Nat.xor_assoc, Nat.xor_comm (2 ^ k) i, Nat.xor_assoc, ← ea])
      have h2 : cn (fun y => f ((2 ^ k + y) ^^^ a)) (2 ^ k) = cn (fun y => f (y ^^^ (a - 2 ^ k))) (2 ^ k) := cn_congr _ (fun i hi => by
        show f ((2 ^ k + i) ^^^ a) = f (i ^^^ (a - 2 ^ k))
        have e3 : (2 ^ k ^^^ i) ^^^ (2 ^ k ^^^ (a - 2 ^ k)) = i ^^^ (a - 2 ^ k) := by
          rw [Nat.xor_comm (2 ^ k) i, Nat.xor_assoc, ← Nat.xor_assoc (2 ^ k) (2 ^ k), Nat.xor_self, Nat.zero_xor]
        rw [hx i hi, ← e3, ← ea])
      rw [h1, h2, ih (by omega) (fun z => f (2 ^ k ^^^ z)) _ ha2, ih (by omega) f _ ha2]
      omega
theorem tkC_cn (T : Nat → Int32) : ∀ k, tkC T k = cn (fun y => decide (¬ T y = 0)) k := by
  intro k
  induction k with
  | zero => rfl
  | succ k ih =>
    rw [tkC, cn, ih]
    by_cases q : T k = 0
    · rw [if_pos q]; simp [q]
    · rw [if_neg q]; simp [q]
theorem tkI_at (T : Nat → Int32) : ∀ k j, j < k → tkI T k j = (if nI j = 0 then 1 else 0) := by
  intro k
  induction k with
  | zero => intro j hj; exact absurd hj (Nat.not_lt_zero _)
  | succ k ih =>
    intro j hj
    rw [tkI]
    by_cases e : j = k
    · subst e; rw [pk_us]
    · rw [pk_un e]; exact ih j (by omega)
theorem tkS_at (T : Nat → Int32) {a : Nat} (ha : a < 256) : ∀ k, k ≤ 256 → ∀ y, y < 256 → (¬ tkS T (nI a) k y = 0 ↔ (¬ T y = 0 ∨ (y ^^^ a < k ∧ ¬ T (y ^^^ a) = 0))) := by
  intro k
  induction k with
  | zero =>
    intro _ y _
    rw [tkS]
    exact ⟨fun h => Or.inl h, fun h => h.elim id (fun q => absurd q.1 (Nat.not_lt_zero _))⟩
  | succ k ih =>
    intro hk y hy
    have ihk := ih (by omega) k (by omega)
    have ihy := ih (by omega) y hy
    rw [tkS]
    have hka : k ^^^ a < 256 := Nat.xor_lt_two_pow (n := 8) (by omega) ha
    by_cases q : tkS T (nI a) k k = 0
    · rw [if_pos q, ihy]
      constructor
      · rintro (h | ⟨h1, h2⟩)
        · exact Or.inl h
        · exact Or.inr ⟨by omega, h2⟩
      · rintro (h | ⟨h1, h2⟩)
        · exact Or.inl h
        · rcases Nat.lt_or_ge (y ^^^ a) k with r | r
          · exact Or.inr ⟨r, h2⟩
          · have e : y ^^^ a = k := by omega
            rw [e] at h2
            exact absurd q (ihk.mpr (Or.inl h2))
    · rw [if_neg q, fd_xor, nI_clamp (by omega)]
      by_cases e : y = k ^^^ a
      · have e2 : y ^^^ a = k := by rw [e, xor_self2]
        rw [e, pk_us]
        refine ⟨fun _ => ?_, fun _ => by decide⟩
        rw [← e, e2]
        rcases ihk.mp q with h | ⟨h1, h2⟩
        · exact Or.inr ⟨by omega, h⟩
        · rw [← e] at h2; exact Or.inl h2
      · rw [pk_un e, ihy]
        constructor
        · rintro (h | ⟨h1, h2⟩)
          · exact Or.inl h
          · exact Or.inr ⟨by omega, h2⟩
        · rintro (h | ⟨h1, h2⟩)
          · exact Or.inl h
          · rcases Nat.lt_or_ge (y ^^^ a) k with r | r
            · exact Or.inr ⟨r, h2⟩
            · exfalso
              apply e
              have e2 : y ^^^ a = k := by omega
              rw [← e2, xor_self2]
/-- y is a sum of the first k sets -/
def spP (s : Nat → Nat) (k y : Nat) : Prop := ∀ c, annP s (-1) k c → ldot c y = false
theorem nI_m1 : ∀ i, i < 16 → ¬ nI i = -1 := by decide
theorem spP_s {s : Nat → Nat} {k y : Nat} (hk : k < 16) : spP s (k + 1) y ↔ (spP s k y ∨ spP s k (y ^^^ s k)) := by
  have hs := fun c => annP_s (s := s) (wo := -1) (k := k) (c := c) (nI_m1 k hk)
  constructor
  · intro h
    by_cases h1 : spP s k y
    · exact Or.inl h1
    · refine Or.inr ?_
      intro c2 hc2
      have h1 : ∃ c, annP s (-1) k c ∧ ldot c y = true := by
        apply Classical.byContradiction
        intro hh
        apply h1
        intro c hc
        cases q : ldot c y
        · rfl
        · exact absurd ⟨c, hc, q⟩ hh
      obtain ⟨c1, hc1, hy1⟩ := h1
      rw [ldot_xr]
      have g1 : ldot c1 (s k) = true := by
        cases q : ldot c1 (s k)
        · have := h c1 ((hs c1).mpr ⟨hc1, q⟩)
          rw [hy1] at this; cases this
        · rfl
      cases q2 : ldot c2 (s k)
      · rw [h c2 ((hs c2).mpr ⟨hc2, q2⟩)]; rfl
      · -- the two together
        have h3 : annP s (-1) k (c1 ^^^ c2) := fun i hi hw => by rw [ldot_xl, hc1 i hi hw, hc2 i hi hw]; rfl
        have h4 := h (c1 ^^^ c2) ((hs _).mpr ⟨h3, by rw [ldot_xl, g1, q2]; rfl⟩)
        rw [ldot_xl, hy1] at h4
        cases q3 : ldot c2 y
        · rw [q3] at h4; cases h4
        · rfl
  · rintro (h | h) c hc
    · exact h c ((hs c).mp hc).1
    · have h1 := (hs c).mp hc
      have h2 := h c h1.1
      rw [ldot_xr, h1.2] at h2
      cases q : ldot c y
      · rfl
      · rw [q] at h2; cases h2
theorem spP_0 {s : Nat → Nat} {y : Nat} (hy : y < 256) : spP s 0 y ↔ y = 0 := by
  constructor
  · intro h
    apply Classical.byContradiction
    intro h0
    obtain ⟨b, hb, h1, -⟩ := top_ex0 y hy h0
    have h2 := h (2 ^ b) (fun i hi => absurd hi (Nat.not_lt_zero _))
    rw [ldot_pl hb, h1] at h2; cases h2
  · intro h c _
    rw [h, ldot_0r]
theorem left_iff {n N : Nat} {ρ υ t : Nat → Nat} (hn : n ≤ 8) (hR : RR n ρ t N) (hl : ∀ k, k < N → ρ k < 2 ^ n ∧ υ k < 256) {y b : Nat} (hy : y < 2 ^ n) (hb : b < 256) : (rdN ρ υ t y b N).1 = 0 ↔ ∀ c, annR ρ N c → ldot c y = false := by
  constructor
  · intro h c hc
    rw [← rd_ann (υ := υ) (t := t) (b := b) N hc, h, ldot_0r]
  · intro h
    apply Classical.byContradiction
    intro h0
    have hlt := rd_lt (t := t) hl hy hb N (Nat.le_refl _)
    obtain ⟨ty, htn, hty⟩ := top_ex hn hlt.1 h0
    have hbit : ∀ j, j < N → (rdN ρ υ t y b N).1.testBit (t j) = false := fun j hj => by
      rw [rd_bit hR _ _ hj N (Nat.le_refl _)]
      have : ¬ N ≤ j := by omega
      simp [this]
    have ha : annR ρ N (hmS ρ t N ty) := fun i hi => hmS_dot hR hn htn hi
    have h1 := hmS_free hR hn htn hty.1 hbit
    rw [rd_ann N ha, h _ ha] at h1
    cases h1
theorem rk_inv {S V R U T : Nat → Int32} {s v : Nat → Nat} {n cnt : Nat} {L X : Int32} (hn : n ≤ 8) (hc : cnt ≤ 16) (hsy : syN S V s v n cnt) : ∀ k, k ≤ cnt →
    (∀ y, y < 256 → (¬ tkR T S k y = 0 ↔ spP s k y)) ∧ tkC (tkR T S k) 256 = 2 ^ (raM S V (-1) (R, U, 0, 1, L, X) k).2.2.1 := by
  intro k
  induction k with
  | zero =>
    intro _
    have h0 : ∀ y, y < 256 → (¬ tkR T S 0 y = 0 ↔ spP s 0 y) := by
      intro y hy
      rw [tkR, tkI_at T 256 y hy, spP_0 hy]
      by_cases q : y = 0
      · subst q
        rw [if_pos (by rfl)]
        exact ⟨fun _ => rfl, fun _ => by decide⟩
      · rw [if_neg (fun e => q ((nI_z hy).mp e))]
        exact ⟨fun h => absurd rfl h, fun h => absurd h q⟩
    refine ⟨h0, ?_⟩
    rw [tkC_cn]
    show _ = 1
    have h1 : cn (fun y => decide (¬ tkR T S 0 y = 0)) 256 = cn (fun y => decide (y = 0)) 256 := cn_congr _ (fun i hi => by
      show decide (¬ tkR T S 0 i = 0) = decide (i = 0)
      exact decide_eq_decide.mpr ((h0 i hi).trans (spP_0 hi)))
    rw [h1]
    decide +kernel
  | succ k ih =>
    intro hk
    obtain ⟨ih1, ih2⟩ := ih (by omega)
    obtain ⟨e1, e2, -, e3, e4⟩ := hsy k (by omega)
    have hk16 : k < 16 := by omega
    have hsk : s k < 256 := Nat.lt_of_lt_of_le e3 (p8 hn)
    have hT : ∀ y, y < 256 → (¬ tkR T S (k + 1) y = 0 ↔ (spP s k y ∨ spP s k (y ^^^ s k))) := by
      intro y hy
      have hx : y ^^^ s k < 256 := Nat.xor_lt_two_pow (n := 8) hy hsk
      rw [tkR, e1, tkS_at _ hsk 256 (Nat.le_refl _) y hy, ih1 y hy, ih1 _ hx]
      exact ⟨fun h => h.imp id (fun q => q.2), fun h => h.imp id (fun q => ⟨hx, q⟩)⟩
    refine ⟨fun y hy => (hT y hy).trans (spP_s hk16).symm, ?_⟩
    obtain ⟨ρ, υ, t, hR, hl, -, hA⟩ := ra_st (R := R) (U := U) (L := L) (X := X) hn hsy (-1) k (by omega)
    have hq := rd_link hR hn hl e3 e4 _ (Nat.le_refl _)
    have hleft := left_iff hn hR (hl.lt hR) e3 e4
    have hlt := rd_lt (t := t) (hl.lt hR) e3 e4 _ (Nat.le_refl _)
    have hsp : (∀ c, annR ρ (raM S V (-1) (R, U, 0, 1, L, X) k).2.2.1 c → ldot c (s k) = false) ↔ spP s k (s k) := ⟨fun h c hc => h c ((hA c).mp hc), fun h c hc => h c ((hA c).mpr hc)⟩
    rw [hsp] at hleft
    rw [raM, if_neg (nI_m1 k hk16), e1, e2]
    unfold enM
    rw [hq]
    dsimp only
    rw [tkC_cn] at ih2 ⊢
    by_cases hz : (rdN ρ υ t (s k) (v k) (raM S V (-1) (R, U, 0, 1, L, X) k).2.2.1).1 = 0
    · rw [hz, if_pos (show nI 0 = 0 from rfl)]
      show _ = 2 ^ (raM S V (-1) (R, U, 0, 1, L, X) k).2.2.1
      rw [← ih2]
      refine cn_congr _ (fun y hy => decide_eq_decide.mpr ?_)
      rw [hT y hy, ih1 y hy]
      constructor
      · rintro (h | h)
        · exact h
        · intro c hc2
          have h3 := h c hc2
          rw [ldot_xr, hleft.mp hz c hc2] at h3
          cases q : ldot c y
          · rfl
          · rw [q] at h3; cases h3
      · exact fun h => Or.inl h
    · have h256 : (rdN ρ υ t (s k) (v k) (raM S V (-1) (R, U, 0, 1, L, X) k).2.2.1).1 < 256 := Nat.lt_of_lt_of_le hlt.1 (p8 hn)
      rw [if_neg (fun e => hz ((nI_z h256).mp e))]
      show _ = 2 ^ ((raM S V (-1) (R, U, 0, 1, L, X) k).2.2.1 + 1)
      have h1 : cn (fun y => decide (¬ tkR T S (k + 1) y = 0)) 256 = cn (fun y => (fun z => decide (¬ tkR T S k z = 0)) y || (fun z => decide (¬ tkR T S k (z ^^^ s k) = 0)) y) 256 := cn_congr _ (fun y hy => by
        have hx : y ^^^ s k < 256 := Nat.xor_lt_two_pow (n := 8) hy hsk
        show decide (¬ tkR T S (k + 1) y = 0) = (decide (¬ tkR T S k y = 0) || decide (¬ tkR T S k (y ^^^ s k) = 0))
        apply Bool.eq_iff_iff.mpr
        rw [Bool.or_eq_true, decide_eq_true_iff, decide_eq_true_iff, decide_eq_true_iff, hT y hy, ih1 y hy, ih1 _ hx])
      rw [h1, cn_or]
      · have h2 := cn_xor 8 (Nat.le_refl _) (fun z => decide (¬ tkR T S k z = 0)) (s k) hsk
        have h2 : cn (fun z => decide (¬ tkR T S k (z ^^^ s k) = 0)) 256 = cn (fun z => decide (¬ tkR T S k z = 0)) 256 := h2
        rw [h2, ih2, Nat.pow_succ]
        omega
      · rintro y hy ⟨h2, h3⟩
        have hx : y ^^^ s k < 256 := Nat.xor_lt_two_pow (n := 8) hy hsk
        have h2 := (ih1 y hy).mp (of_decide_eq_true h2)
        have h3 := (ih1 _ hx).mp (of_decide_eq_true h3)
        apply hz
        apply hleft.mpr
        intro c hc2
        have h4 := h2 c hc2
        have h5 := h3 c hc2
        rw [ldot_xr, h4] at h5
        simpa using h5
theorem lg_dec : ∀ N, N < 9 → lgM (2 ^ N) 8 0 = N := by decide
theorem rk_eq {S V R U T : Nat → Int32} {s v : Nat → Nat} {n cnt : Nat} {L X : Int32} (hn : n ≤ 8) (hc : cnt ≤ 16) (hsy : syN S V s v n cnt) : nI (raA S V cnt (-1) R U L X).2.2.1 = rkM T S cnt := by
  have h := (rk_inv (R := R) (U := U) (T := T) (L := L) (X := X) hn hc hsy cnt (Nat.le_refl _)).2
  have h8 := (ra_ok hn hsy (-1) R U L X cnt (Nat.le_refl _)).1
  unfold rkM raA
  rw [h, lg_dec _ (by omega)]
end
section
/-! PLAIN: peeling, both ways; the seeds; the spare symbols -/
theorem pl_same (S : Nat → Int32) (a : Int32) : ∀ k, pl2 S a k = plM S a k := by
  intro k
  induction k with
  | zero => rfl
  | succ k ih =>
    rw [pl2, plM, ih]
    generalize plM S a k = b
    generalize plO S b k = o
    by_cases q : o = 0
    · subst q
      rw [if_pos (show sgM 0 = 0 from rfl), if_pos (show (0 : Int32) &&& (0 - 1) = 0 from by decide), Int32.or_zero]
    · by_cases q2 : o &&& (o - 1) = 0
      · have h1 : sgM o = 1 := by unfold sgM; rw [if_neg q, if_pos q2]
        rw [h1, if_neg (show ¬ (1 : Int32) = 0 from by decide), if_pos q2]
      · have h1 : sgM o = 0 := by unfold sgM; rw [if_neg q, if_neg q2]
        rw [if_pos h1, if_neg q2]
section peel
variable {S V : Nat → Int32} {s v : Nat → Nat} {n cnt : Nat}
theorem pl_grow (hsy : syN S V s v n cnt) {a : Nat} (ha : a < 2 ^ n) : ∀ k, k ≤ cnt → ∃ b, b < 2 ^ n ∧ pl2 S (nI a) k = nI b ∧ ∀ i, a.testBit i = true → b.testBit i = true := by
  intro k
  induction k with
  | zero => intro _; exact ⟨a, ha, rfl, fun _ h => h⟩
  | succ k ih =>
    intro hk
    obtain ⟨b, hb, e, hsub⟩ := ih (by omega)
    obtain ⟨e1, -, -, hs, -⟩ := hsy k (by omega)
    rw [pl2, e]
    have ho : plO S (nI b) k = nI (s k ^^^ (s k &&& b)) := by
      unfold plO
      rw [e1, i_andn, fd_and, fd_xor]
    rw [ho]
    have hlt : s k ^^^ (s k &&& b) < 2 ^ n := Nat.xor_lt_two_pow hs (Nat.lt_of_le_of_lt Nat.and_le_left hs)
    split
    · exact ⟨b, hb, rfl, hsub⟩
    · refine ⟨b ||| (s k ^^^ (s k &&& b)), Nat.or_lt_two_pow hb hlt, fd_or _ _, fun i hi => ?_⟩
      rw [Nat.testBit_or, hsub i hi]; rfl
theorem sub_diff {b c : Nat} (hb : b < 2 ^ n) (hc : c < 2 ^ n) (hs : ∀ i, b.testBit i = true → c.testBit i = true) (hne : ¬ c = b) : pcN n b < pcN n c := by
  have h1 : ∃ i, b.testBit i = false ∧ c.testBit i = true := by
    apply Classical.byContradiction
    intro hno
    apply hne
    apply fd_bx
    intro i
    cases q1 : b.testBit i
    · cases q2 : c.testBit i
      · rfl
      · exact absurd ⟨i, q1, q2⟩ hno
    · exact hs i q1
  obtain ⟨i, h2, h3⟩ := h1
  exact pcN_strict (fun j _ => hs j) (tb_lt hc h3) h2 h3
theorem pr_fix (hn : n ≤ 8) (hsy : syN S V s v n cnt) {a : Nat} (ha : a < 2 ^ n) : ∀ j, ∃ b, b < 2 ^ n ∧ pr2 S cnt (nI a) j = nI b ∧ (pr2 S cnt (nI a) (j + 1) = pr2 S cnt (nI a) j ∨ j ≤ pcN n b) := by
  intro j
  induction j with
  | zero => exact ⟨a, ha, rfl, Or.inr (Nat.zero_le _)⟩
  | succ j ih =>
    obtain ⟨b, hb, e, h⟩ := ih
    obtain ⟨c, hc, e2, hs⟩ := pl_grow hsy hb cnt (Nat.le_refl _)
    have e3 : pr2 S cnt (nI a) (j + 1) = nI c := by rw [pr2, e, e2]
    refine ⟨c, hc, e3, ?_⟩
    have hfix : pr2 S cnt (nI a) (j + 1) = pr2 S cnt (nI a) j → pr2 S cnt (nI a) (j + 1 + 1) = pr2 S cnt (nI a) (j + 1) := by
      intro q
      rw [pr2, q]; exact q
    rcases h with h | h
    · exact Or.inl (hfix h)
    · by_cases q : c = b
      · exact Or.inl (hfix (by rw [e3, e, q]))
      · have := sub_diff hb hc hs q
        exact Or.inr (by omega)
theorem pr_stop (hn : n ≤ 8) (hsy : syN S V s v n cnt) {a : Nat} (ha : a < 2 ^ n) : pr2 S cnt (nI a) (n + 1) = pr2 S cnt (nI a) n := by
  obtain ⟨b, hb, e, h⟩ := pr_fix hn hsy ha n
  rcases h with h | h
  · exact h
  · obtain ⟨c, hc, e2, hs⟩ := pl_grow hsy hb cnt (Nat.le_refl _)
    by_cases q : c = b
    · rw [pr2, e, e2, q]
    · have h1 := sub_diff hb hc hs q
      have h2 := pcN_le n c
      omega
theorem pr2_s (a : Int32) : ∀ j, pr2 S cnt a (j + 1) = pr2 S cnt (pl2 S a cnt) j := by
  intro j
  induction j with
  | zero => rfl
  | succ j ih => rw [pr2, ih]; rfl
theorem pr2_c {a : Int32} (h : pl2 S a cnt = a) : ∀ j, pr2 S cnt a j = a := by
  intro j
  induction j with
  | zero => rfl
  | succ j ih => rw [pr2, ih, h]
theorem prM_pr2 : ∀ j a, prM S cnt j a = pr2 S cnt a j := by
  intro j
  induction j with
  | zero => intro a; rfl
  | succ j ih =>
    intro a
    rw [prM, ← pl_same, pr2_s]
    by_cases q : a = pl2 S a cnt
    · rw [if_pos q, ← q, pr2_c q.symm]
    · rw [if_neg q, ih]
theorem pp_eq (hn : n ≤ 8) (hsy : syN S V s v n cnt) {a : Nat} (ha : a < 2 ^ n) : ppM S n cnt (nI a) = pq2 S n cnt (nI a) := by
  unfold ppM pq2
  rw [prM_pr2, pr_stop hn hsy ha]
theorem idp_eq (hn : n ≤ 8) (hsy : syN S V s v n cnt) (a : Int32) : idM n (ppM S n cnt) a = idM n (pq2 S n cnt) a := by
  unfold idM
  by_cases q : a < 0 ∨ nI (2 ^ n) ≤ a
  · rw [if_pos q, if_pos q]
  · rw [if_neg q, if_neg q]
    obtain ⟨j, hj, rfl⟩ := fd_raw (n := 2 ^ n) (by have := (fd_p1 hn).2; omega) (fun h => q (Or.inl h)) (fun h => q (Or.inr h))
    rw [pp_eq hn hsy hj]
theorem on_all : ∀ n, n < 9 → onesM (nI (2 ^ n - 1)) 8 = nI n := by decide +kernel
theorem idp_1 (hn : n ≤ 8) (hsy : syN S V s v n cnt) {k : Nat} (hk : k < 2 ^ n) : idM n (pq2 S n cnt) (nI k) = 1 ↔ ppM S n cnt (nI k) = nI (2 ^ n - 1) := by
  have h256 := (fd_p1 hn).2
  rw [← idp_eq hn hsy]
  unfold idM
  rw [if_neg (fun h => h.elim (nI_pos (by omega)) (nI_ge hk (by omega)))]
  by_cases q : ppM S n cnt (nI k) = nI (2 ^ n - 1)
  · rw [if_pos q]; exact ⟨fun _ => q, fun _ => rfl⟩
  · rw [if_neg q]; exact ⟨fun h => absurd h (by decide), fun h => absurd h q⟩
theorem sd_inv (hn : n ≤ 8) (hsy : syN S V s v n cnt) : ∀ k, k ≤ 2 ^ n - 1 → (sd2 S n cnt k).1 = sdM S n cnt k ∧ (sd2 S n cnt k).2 = onesM (sdM S n cnt k) 8 ∧ (sd2 S n cnt k).2 ≤ nI n := by
  intro k
  induction k with
  | zero =>
    intro _
    refine ⟨rfl, ?_, ?_⟩
    · rw [sd2, sdM]; exact (on_all n (by omega)).symm
    · rw [sd2]; exact Int32.le_refl _
  | succ k ih =>
    intro hk
    obtain ⟨i1, i2, i3⟩ := ih (by omega)
    have h1 := idp_1 hn hsy (k := k) (by omega)
    rw [sd2, sdM, ← i2]
    by_cases q : (sd2 S n cnt k).2 ≤ onesM (nI k) 8
    · rw [if_pos q, if_pos q]; exact ⟨i1, i2, i3⟩
    · rw [if_neg q, if_neg q]
      by_cases q2 : ppM S n cnt (nI k) = nI (2 ^ n - 1)
      · rw [if_pos q2, if_pos (h1.mpr q2)]
        exact ⟨rfl, rfl, Int32.le_trans (Int32.le_of_lt (Int32.not_le.mp q)) i3⟩
      · rw [if_neg q2, if_neg (fun h => q2 (h1.mp h))]
        exact ⟨i1, i2, i3⟩
theorem sd_eq (hn : n ≤ 8) (hsy : syN S V s v n cnt) : sdM S n cnt (2 ^ n - 1) = (sd2 S n cnt (2 ^ n)).1 := by
  obtain ⟨i1, i2, i3⟩ := sd_inv hn hsy (2 ^ n - 1) (Nat.le_refl _)
  have e : 2 ^ n = (2 ^ n - 1) + 1 := by have := (fd_p1 hn).1; omega
  have h : sd2 S n cnt ((2 ^ n - 1) + 1) = sd2 S n cnt (2 ^ n - 1) := by
    rw [sd2, on_all n (by omega), if_pos i3]
  rw [← e] at h
  rw [h, i1]
end peel
theorem sp_eq (kf : Int32 → Int32) : ∀ k, spM kf k = sp2 kf k := by
  intro k
  induction k with
  | zero => rfl
  | succ k ih =>
    rw [spM, sp2, ih, i_andn]
    have h1 : (kf (-1) ^^^ (kf (-1) &&& kf (nI k)) = 0) ↔ (kf (nI k) &&& kf (-1) = kf (-1)) := by
      rw [Int32.xor_eq_zero_iff, Int32.and_comm]
      exact ⟨fun h => h.symm, fun h => h.symm⟩
    by_cases q : kf (nI k) &&& kf (-1) = kf (-1)
    · rw [if_pos q, if_pos (h1.mpr q)]
    · rw [if_neg q, if_neg (fun h => q (h1.mp h))]
end
section
/-! THE PLAIN LAW, as the walk of the law uses it -/
def fdInv (S V : Nat → Int32) (n cnt : Nat) : Prop := 1 ≤ n ∧ n ≤ 8 ∧ cnt ≤ 16 ∧ (∀ j, j < cnt → ∃ v : Nat, 1 ≤ v ∧ v < 2 ^ n ∧ S j = nI v) ∧ (∀ j, j < cnt → ∃ v : Nat, v < 256 ∧ V j = nI v)
section plain
variable {S V R U T : Nat → Int32} {n cnt : Nat} {L X a b r r' : Int32} {u : syST}
theorem fd_sy (h : fdInv S V n cnt) : ∃ s v : Nat → Nat, syN S V s v n cnt := by
  refine ⟨fun j => (S j).toNatClampNeg, fun j => (V j).toNatClampNeg, fun j hj => ?_⟩
  obtain ⟨x, h1, h2, e1⟩ := h.2.2.2.1 j hj
  obtain ⟨y, h3, e2⟩ := h.2.2.2.2 j hj
  have h4 := (fd_p1 h.2.1).2
  dsimp only
  rw [e1, e2, nI_clamp (by omega), nI_clamp (by omega)]
  exact ⟨rfl, rfl, h1, h2, h3⟩
theorem fd_push (h : fdInv S V n cnt) (hc : ¬ cnt = 16) {w z : Nat} (h1 : 1 ≤ w) (h2 : w < 2 ^ n) (h3 : z < 256) : fdInv (upd S cnt (nI w)) (upd V cnt (nI z)) n (cnt + 1) := by
  obtain ⟨a1, a2, a3, a4, a5⟩ := h
  refine ⟨a1, a2, by omega, fun j hj => ?_, fun j hj => ?_⟩
  · by_cases e : j = cnt
    · subst e; exact ⟨w, h1, h2, pk_us⟩
    · rw [pk_un e]; exact a4 j (by omega)
  · by_cases e : j = cnt
    · subst e; exact ⟨z, h3, pk_us⟩
    · rw [pk_un e]; exact a5 j (by omega)
theorem lo_at (S : Nat → Int32) (i cnt : Nat) : ∀ m, i + m + 1 ≤ cnt → ∀ j, j < cnt → ∃ q, q < cnt ∧ loS S i m j = S q := by
  intro m
  induction m with
  | zero => intro _ j hj; exact ⟨j, hj, rfl⟩
  | succ m ih =>
    intro hm j hj
    rw [loS]
    by_cases e : j = i + m
    · subst e; rw [pk_us]; exact ih (by omega) _ (by omega)
    · rw [pk_un e]; exact ih (by omega) j hj
theorem pl_gd (h : fdInv S V n cnt) : gdS S cnt := by
  intro j hj
  obtain ⟨x, h1, h2, e1⟩ := h.2.2.2.1 j hj
  exact ⟨x, Nat.lt_of_lt_of_le h2 (fd_p1 h.2.1).2, e1⟩
theorem pl_ra (h : fdInv S V n cnt) : raOK S V cnt := by
  obtain ⟨s, v, hsy⟩ := fd_sy h
  exact ra_ok h.2.1 hsy
theorem pl_kn (h : fdInv S V n cnt) : ∀ (wo : Int32) (R U : Nat → Int32) (L X : Int32), knU (raA S V cnt wo R U L X) = kwM S V (odI 256) n cnt wo := by
  intro wo R U L X
  obtain ⟨s, v, hsy⟩ := fd_sy h
  exact kw_eq h.2.1 hsy (ra_st h.2.1 hsy wo cnt (Nat.le_refl _))
theorem pl_co (h : fdInv S V n cnt) : coM (raA S V cnt (-1) R U L X) = c2M S V (odI 256) n cnt := by
  obtain ⟨s, v, hsy⟩ := fd_sy h
  exact co_eq h.2.1 hsy (ra_st h.2.1 hsy (-1) cnt (Nat.le_refl _))
theorem pl_rk (h : fdInv S V n cnt) : nI (raA S V cnt (-1) R U L X).2.2.1 = rkM T S cnt := by
  obtain ⟨s, v, hsy⟩ := fd_sy h
  exact rk_eq h.2.1 h.2.2.1 hsy
theorem pl_su0 (h : fdInv S V n cnt) {w : Nat} (hw : w < 2 ^ n) : neM (seU (raA S V cnt (-1) R U L X) (nI w)) = s2M S V (odI 256) n cnt (nI w) := by
  obtain ⟨s, v, hsy⟩ := fd_sy h
  have h1 := su_eq h.2.1 hsy (ra_st (R := R) (U := U) (L := L) (X := X) h.2.1 hsy (-1) cnt (Nat.le_refl _)) hw
  have h4 := (fd_p1 h.2.1).2
  rw [s2M, if_neg (fun q => q.elim (nI_pos (by omega)) (nI_ge hw (by omega)))]
  exact h1
theorem pl_va (h : fdInv S V n cnt) : vaM n (raA S V cnt (-1) R U L X) a = v2M S V (odI 256) n cnt a := by
  unfold vaM v2M
  by_cases q : a < 0 ∨ nI n ≤ a
  · rw [if_pos q, if_pos q]
  · have h8 := h.2.1
    obtain ⟨j, hj, rfl⟩ := fd_raw (n := n) (by omega) (fun h => q (Or.inl h)) (fun h => q (Or.inr h))
    rw [if_neg q, if_neg q, fd_pw (by omega)]
    exact pl_su0 h (Nat.pow_lt_pow_right (by decide) hj)
theorem pl_su (h : fdInv S V n cnt) : smM n (raA S V cnt (-1) R U L X) a = s2M S V (odI 256) n cnt a := by
  unfold smM
  by_cases q : a < 0 ∨ nI (2 ^ n) ≤ a
  · rw [if_pos q, s2M, if_pos q]
  · have h4 := (fd_p1 h.2.1).2
    obtain ⟨j, hj, rfl⟩ := fd_raw (n := 2 ^ n) (by omega) (fun h => q (Or.inl h)) (fun h => q (Or.inr h))
    rw [if_neg q]
    exact pl_su0 h hj
theorem pl_p0 (h : fdInv S V n cnt) : ppM S n cnt 0 = pq2 S n cnt 0 := by
  obtain ⟨s, v, hsy⟩ := fd_sy h
  exact pp_eq (a := 0) h.2.1 hsy (Nat.two_pow_pos n)
theorem pl_is (h : fdInv S V n cnt) : idM n (ppM S n cnt) a = idM n (pq2 S n cnt) a := by
  obtain ⟨s, v, hsy⟩ := fd_sy h
  exact idp_eq h.2.1 hsy a
theorem pl_sd (h : fdInv S V n cnt) : sdM S n cnt (2 ^ n - 1) = (sd2 S n cnt (2 ^ n)).1 := by
  obtain ⟨s, v, hsy⟩ := fd_sy h
  exact sd_eq h.2.1 hsy
theorem pl_sp (kf : Int32 → Int32) (cnt : Nat) : spM kf cnt = sp2 kf cnt := sp_eq kf cnt
theorem pl_us (h : fdInv S V n cnt) (h1 : usP n (raA S V cnt (-1) R U L X) r) (h2 : u2P S V (odI 256) n cnt r') : r = r' := by
  obtain ⟨s, v, hsy⟩ := fd_sy h
  have hst := ra_st (R := R) (U := U) (L := L) (X := X) h.2.1 hsy (-1) cnt (Nat.le_refl _)
  have hco := co_eq h.2.1 hsy hst
  have h1 : usP n (raM S V (-1) (R, U, 0, 1, L, X) cnt) r := h1
  generalize raM S V (-1) (R, U, 0, 1, L, X) cnt = w at hst hco h1
  obtain ⟨R1, U1, N1, B1, L1, X1⟩ := w
  dsimp only at hst hco
  have hB : B1 = 1 ∨ B1 = 0 := by
    obtain ⟨ρ, υ, t, -, -, hB, -⟩ := hst
    exact hB.imp (fun q => q.1) (fun q => q.1)
  rcases hB with rfl | rfl
  · rw [if_neg (show ¬ (1 : Int32) = 0 from by decide)] at hco
    have h1 := (Or.resolve_left h1 (fun q => absurd (show (1 : Int32) = 0 from q.1) (by decide))).2
    have h2 := (Or.resolve_left h2 (fun q => absurd (hco.trans q.1) (by decide))).2
    exact fdP_uniq (fun j _ => hp_eq h.2.1 hsy hst (drN_lt2 h.1).1) h1 h2
  · rw [if_pos (show (0 : Int32) = 0 from rfl)] at hco
    have h1 := (Or.resolve_right h1 (fun q => q.1 rfl)).2
    have h2 := (Or.resolve_right h2 (fun q => q.1 hco.symm)).2
    rw [h1, h2]
theorem fd_b {b : Int32} (q : ¬ (b < 0 ∨ 255 < b)) : ∃ z : Nat, z < 256 ∧ b = nI z := by
  obtain ⟨j, hj, e⟩ := nI_of2 (x := b) (M := 255) (n := 255) (by decide) (fun h => q (Or.inl h)) (Int32.not_lt.mp (fun h => q (Or.inr h)))
  exact ⟨j, by omega, e⟩
theorem pl_rc (h : fdInv S V n cnt) (e : (r, u) = rcF n S V cnt a b) : fdInv u.1 u.2.1 n u.2.2 := by
  unfold rcF at e
  by_cases q1 : a < 1 ∨ nI (2 ^ n) ≤ a
  · rw [if_pos q1] at e; cases e; exact h
  · rw [if_neg q1] at e
    by_cases q2 : b < 0 ∨ 255 < b
    · rw [if_pos q2] at e; cases e; exact h
    · rw [if_neg q2] at e
      by_cases q3 : cnt = 16
      · rw [if_pos q3] at e; cases e; exact h
      · rw [if_neg q3] at e
        have h4 := (fd_p1 h.2.1).2
        obtain ⟨w, hw, rfl⟩ := fd_raw (x := a) (n := 2 ^ n) (by omega) (fun h => q1 (Or.inl (fd_lt1.mpr (Or.inl h)))) (fun h => q1 (Or.inr h))
        obtain ⟨z, hz, rfl⟩ := fd_b q2
        have hw1 : 1 ≤ w := by
          apply Classical.byContradiction
          intro hh
          obtain rfl : w = 0 := by omega
          exact q1 (Or.inl (fd_lt1.mpr (Or.inr rfl)))
        cases e
        exact fd_push h q3 hw1 hw hz
theorem pl_dw (h : fdInv S V n cnt) (e : (r, u) = dwF n S V cnt a b) : fdInv u.1 u.2.1 n u.2.2 := by
  unfold dwF at e
  by_cases q1 : a < 0 ∨ 9999 < a
  · rw [if_pos q1] at e; cases e; exact h
  · rw [if_neg q1] at e
    by_cases q2 : b < 0 ∨ 255 < b
    · rw [if_pos q2] at e; cases e; exact h
    · rw [if_neg q2] at e
      by_cases q3 : cnt = 16
      · rw [if_pos q3] at e; cases e; exact h
      · rw [if_neg q3] at e
        obtain ⟨z, hz, rfl⟩ := fd_b q2
        cases e
        exact fd_push h q3 (drN_lt2 h.1).2 (drN_lt2 h.1).1 hz
theorem pl_lo (h : fdInv S V n cnt) (e : (r, u) = loF S V cnt a) : fdInv u.1 u.2.1 n u.2.2 := by
  unfold loF at e
  by_cases q1 : a < 0 ∨ nI cnt ≤ a
  · rw [if_pos q1] at e; cases e; exact h
  · rw [if_neg q1] at e
    obtain ⟨a1, a2, a3, a4, a5⟩ := h
    obtain ⟨i, hi, rfl⟩ := fd_raw (x := a) (n := cnt) (by omega) (fun h => q1 (Or.inl h)) (fun h => q1 (Or.inr h))
    rw [nI_clamp (by omega)] at e
    cases e
    refine ⟨a1, a2, by show cnt - 1 ≤ 16; omega, fun j hj => ?_, fun j hj => ?_⟩
    · have hj : j < cnt - 1 := hj
      obtain ⟨q, hq, e⟩ := lo_at S i cnt (cnt - 1 - i) (by omega) j (by omega)
      obtain ⟨x, h1, h2, h3⟩ := a4 q hq
      exact ⟨x, h1, h2, e.trans h3⟩
    · have hj : j < cnt - 1 := hj
      obtain ⟨q, hq, e⟩ := lo_at V i cnt (cnt - 1 - i) (by omega) j (by omega)
      obtain ⟨x, h1, h3⟩ := a5 q hq
      exact ⟨x, h1, e.trans h3⟩
end plain
end
section
/-! THE CLAIM OUT OF ONE WALK OF THE LAW'S BODY. Your part is whole_start (and what it stands on); all else here is the same for every law, but numbers. -/
def R_law : String := "FountainDecoderLaw"
def lw_P (b : Addr) (xs : List Int32) (args : Array Value) (s : State) : Prop := args = #[.ref b] ∧ s.IntsAt b xs ∧ xs.length ≤ 193 ∧ (Jvm.Cond.and given_1 narrow_1).before args s = true
def lw_Q (_ : Array Value) (s : State) (o : Outcome) (t : State) : Prop := o = .returned (some (.int 1)) ∧ Framed s o t [] 600000 7290000
def lw_Z (below : List Frame) (a : Array Value) (s : State) : State → Prop := fun t => ∃ o, t.status = .running ∧ Ended t below o ∧ lw_Q a s o t
/-- the law's own end, with 1 on the stack, nothing written that was there before, its room as the claim has it -/
theorem lw_ret {p : Program} {l : Launch} {e : Env} {s : State} {m : MethodId} {below : List Frame} {meth : Method} {c : Code} {b : Nat} (hx : p.tables.exec = Jvm.exec) (hb : c.code = code) (hr : meth.sig.returnType = ret) (hlocks : meth.locks = false) {pc : Nat} {H : Heap} {ls : Array Slot} (hdg : decode code pc = .ok (.ireturn, 1)) : W p l e room_1 s m #[Value.ref b] below meth c H [] 600000 7290000 (lw_Z below #[Value.ref b] s) (F0 m pc ls [.int 1]) := by
  intro T hT X
  obtain ⟨fs, hret, hrun, hended, hW, hframe⟩ := X.leave (v := some (.int 1)) (hlocks := hlocks) (fun h => by rw [hr] at h; cases h)
  have hmeth' : T.vm.method? m = some meth := X.method'
  refine ⟨T.setFrames fs, ?_, .returned (some (.int 1)), hrun, hended, rfl, ⟨_, rfl⟩, hW, hframe⟩
  jvm_step X.here [X.here.top, hx, hb, hdg, hmeth', hr, ret, narrow_b1]
  (try refine ⟨rfl, ?_⟩); (try refine ⟨rfl, ?_⟩)
  first | (intro acts; rw [hret _ acts rfl rfl rfl]) | rw [hret _ _ rfl rfl rfl]
  exact Steps.refl _
/-- what holds at the law's entry: the machine, the code, the tables' words (any of lw_tbl by 'hts w (by decide +kernel)'), the script of L ints xs at the cell b, what the Statement gives of the start (any of its parts by flat_of_before) -/
def lw_At (p : Program) (s : State) (m : MethodId) (meth : Method) (c : Code) (b L : Nat) (xs : Nat → Int32) : Prop :=
  p.tables.exec = Jvm.exec ∧ c.code = code ∧ meth.sig.returnType = ret ∧ c.maxLocals = 4 ∧ s.vm.findClass R_law = some m.cls ∧ (∀ w ∈ lw_tbl, w.before #[Value.ref b] s = true) ∧ va_X b L xs s s.heap ∧ b < s.heap.size ∧ meth.locks = false ∧ (Jvm.Cond.and given_1 narrow_1).before #[Value.ref b] s = true

abbrev rmX0_cell : Room := { frames := 0, cells := 0, slots := 0, locals := 0 }
def cellV (L : Nat) (xs : Nat → Int32) : Int32 := if 0 < L then xs 0 else 0
abbrev fd_PX (b L : Nat) (xs : Nat → Int32) (sz : Nat) : State → Prop := fun U => U.heap.size = sz ∧ b < sz ∧ va_X b L xs U U.heap
set_option maxHeartbeats 4000000 in
set_option maxRecDepth 100000 in
/-- cell(script, 0) -/
theorem metX0_cell (l : Launch) (b L : Nat) (xs : Nat → Int32) (hL : L ≤ 193) (sz : Nat) : Met l yX0_cell (ws_ yX0_cell cX0_cell 2 (some .int)) rmX0_cell (va_Pc [.ref b, .int (nI 0)] (fd_PX b L xs sz)) (va_Qi (fun (r : Int32) (_ : Unit) => r = cellV L xs) (fun _ _ => True) (va_A [] sz)) 0 0 (va_A [] sz) := by
  refine Met.ofW (cc := cX0_cell) (maxL := 2) (ret := some .int) (by decide) rfl ?_
  intro p e s m args below meth c s₁ B hml hv
  obtain ⟨rfl, hsz, hbz, hX⟩ := hv
  have hx := B.exec
  have hb := B.bytes
  have hr := B.returns
  have hlocks := B.notSynchronized
  subst hsz
  have hbA : ¬ va_A [] s.heap.size b := by
    rintro (⟨k, e, h⟩ | h)
    · simp at h
    · omega
  have hS : va_S (va_A [] s.heap.size) s.heap s.heap [] := va_S.rf
  have hl := lv_entry ([.ref b, .int (nI 0)]) (n := 2) (Nat.le_of_ble_eq_true rfl)
  rw [lg_entry_eq]
  generalize (lg_sl ([.ref b, .int (nI 0)]) ++ List.replicate (2 - (lg_sl ([.ref b, .int (nI 0)])).length) Slot.unset).toArray = ls at hl ⊢
  have hl : lv_has ls 2 [(0, .ref b), (1, .int (nI 0))] := hl
  refine lv_iload_n hx hb dX0_cell_0 rfl (lv_at hl 1 rfl) ?_
  refine lv_aload_n hx hb dX0_cell_1 rfl (lv_at hl 0 rfl) ?_
  refine va_slen hx hb hX hbz hbA hS dX0_cell_2 ?_
  refine lv_icmp_ge (tgt := 12) hx hb dX0_cell_3 (by decide) (fun c3 => ?_) (fun c3 => ?_)
  · have c3 : L ≤ 0 := (nI_leI (a := L) (b := 0) (by omega) (by decide)).mp c3
    refine lv_iconst (v := (0 : Int32)) hx hb dX0_cell_12 (by decide) ?_
    exact W.iret (v := 0) hx hb hr (fun t ht hW => ⟨⟨0, (), rfl, by rw [cellV, if_neg (by omega)], trivial⟩, hS.F ht⟩) hS.2.2 dX0_cell_13
  have c3 : ¬ L ≤ 0 := fun h => c3 ((nI_leI (a := L) (b := 0) (by omega) (by decide)).mpr h)
  refine lv_aload_n hx hb dX0_cell_6 rfl (lv_at hl 0 rfl) ?_
  refine lv_iload_n hx hb dX0_cell_7 rfl (lv_at hl 1 rfl) ?_
  refine va_sld hx hb hX hbz hbA hS (vp_in_nI (n := 0) (by omega) (by omega)) dX0_cell_8 ?_
  rw [nI_clamp (by decide)]
  refine lv_goto (tgt := 13) hx hb dX0_cell_9 (by decide) ?_
  exact W.iret (v := xs 0) hx hb hr (fun t ht hW => ⟨⟨xs 0, (), rfl, by rw [cellV, if_pos (by omega)], trivial⟩, hS.F ht⟩) hS.2.2 dX0_cell_13
section fd_law
variable {p : Program} {l : Launch} {e : Env} {R : Room} {s : State} {m : MethodId} {args : Array Value} {below : List Frame} {meth : Method} {c : Code} {H : Heap} {locs : List Loc} {cells slots : Nat} {Q : State → Prop}
variable {cc : ByteArray} {pc : Nat} {ls : Array Slot} {rest st0 : List Value} {D : va_G} {A : Nat → Prop} {tys : List (ClassId × FieldType)} {w wc wr : va_W}
/-- the law's script, a place by a Nat -/
theorem fd_sld (hexec : p.tables.exec = Jvm.exec) (hb : c.code = cc) {b L : Nat} {xs : Nat → Int32} (hX : va_X b L xs s s.heap) (hbl : b < s.heap.size) (hbA : ¬ A b) (hS : va_S A s.heap H locs) {k : Nat} (hk : k < L) (hL : L ≤ 193) (hdg : decode cc pc = .ok (.iaload, 1))
    (kk : W p l e R s m args below meth c H locs cells slots Q (F0 m (pc + 1) ls (.int (xs k) :: rest))) : W p l e R s m args below meth c H locs cells slots Q (F0 m pc ls (.int (nI k) :: .ref b :: rest)) := by
  refine va_sld hexec hb hX hbl hbA hS (vp_in_nI hk (by omega)) hdg ?_
  rw [nI_clamp (by omega)]
  exact kk
set_option maxHeartbeats 1000000 in
/-- cell(script, 0), called -/
theorem fd_cell {nL b L : Nat} {xs : Nat → Int32} (S0 : CallFix p m c cc nL s args lw_all "FountainDecoderLaw") (hL : L ≤ 193) (hX : va_X b L xs s s.heap) (hbl : b < s.heap.size) (hbA : ¬ A b) (hP : va_P D vwCl w H) (hD : va_D A w) (hS : va_S A s.heap H locs) (hA : ∀ q : Nat, s.heap.size ≤ q → A q) (isR : List Nat)
    (hdg : decode cc pc = .ok (.invokestatic 9, 3)) (hR : isR.map (fun i => w[i]?) = w.map some) (hn : va_nd isR = true)
    (hrm : 1 ≤ R.frames ∧ 21 ≤ R.locals) (hsz : ls.size = nL) (hst : st0 = .int (nI 0) :: .ref b :: rest) (hroom : (rest.map fun v => v.category).sum ≤ 8) (hcs : cells ≤ R.cells ∧ slots ≤ R.slots)
    (kk : ∀ (H1 : Heap) (locs1 : List Loc), va_P D vwCl w H1 → va_D A w → va_S A s.heap H1 locs1 → W p l e R s m args below meth c H1 locs1 cells slots Q (F0 m (pc + 3) ls (.int (cellV L xs) :: rest))) :
    W p l e R s m args below meth c H locs cells slots Q (F0 m pc ls st0) := by
  have hFc := va_free (wc := []) hD hS hA [] rfl
  have hXH : va_X b L xs s H := hX.kept (hS.2.1 b hbl hbA)
  refine va_calli (va_runS (As := [.ref b, .int (nI 0)]) (rest := rest) S0 (metX0_cell l b L xs hL H.size) (va_cwS 2 S0.2.2.2.2 (lw_S q179 q180 q20 q181) rfl rfl rfl (by decide +kernel) hrm) ⟨fun a U g mk q => by obtain ⟨q0, q1, q2, qX⟩ := q; exact ⟨q0, q1, q2, va_X.moved (u := U) (U := U.calling g mk a) (Vm.Alike.refl U.vm) qX⟩, fun U hU hW => ⟨rfl, by rw [hU], Nat.lt_of_lt_of_le hbl hS.1, by rw [hU]; exact va_X.moved hW.alike hXH⟩⟩ rfl rfl hsz hst (lv_room hroom) hdg hcs) hS (fun q _ h => hFc q h) hFc (fun r u t H1 locs1 ht hvm hp hB hz1 hk1 hS1 => ?_)
  have hp : r = cellV L xs := hp
  subst hp
  obtain ⟨hP2, hD2⟩ := va_join (wr := w) (w1 := []) hP hD [] isR rfl hR hn (fun i _ => List.not_mem_nil) hk1 hFc (fun k q h => by simp at h) ⟨fun i j p q h => by simp at h, fun k q h => by simp at h⟩
  rw [List.append_nil] at hP2 hD2
  exact kk H1 locs1 hP2 hD2 hS1
set_option maxHeartbeats 1000000 in
/-- a constructor, called -/
theorem fd_callN {T : Type} {y : MethodName} {bytes : ByteArray} {maxL nL n idx mc ms : Nat} {rm : Room} {postv : T → Prop} {w1 : T → va_W} {tys1 : T → List (ClassId × FieldType)} {own : String} {b : Nat} {As : List Value}
    (S0 : CallFix p m c cc nL s args lw_all own) (hK : va_K D vwCl tys s) (hP : va_P D vwCl w H) (hD : va_D A w) (hS : va_S A s.heap H locs) (hA : ∀ q : Nat, s.heap.size ≤ q → A q) (isC isR : List Nat)
    (hM : fd_N l y (ws_ y bytes maxL none) rm D (.ref b :: As) wc postv w1 tys1 mc ms)
    (h1 : Cond.methodLink own idx y ∈ lw_all) (h2 : Cond.instanceMethod y ∈ lw_all) (h4 : Cond.initialized y.cls ∈ lw_all) (h5 : Cond.code y bytes maxL none ∈ lw_all)
    (hdg : decode cc pc = .ok (.invokespecial idx, 3))
    (hC : isC.map (fun i => w[i]?) = wc.map some) (hR : isR.map (fun i => w[i]?) = wr.map some)
    (hn : (va_nd isC && va_nd isR && isR.all (fun i => !isC.contains i)) = true)
    (hrm : (rm.cells = mc ∧ rm.slots = ms) ∧ rm.frames + 1 ≤ R.frames ∧ 8 + (maxL + 11) + rm.locals ≤ R.locals)
    (hyn : y.name = "<init>") (hd : y.cls ≠ "java/lang/invoke/MethodHandle" ∧ y.cls ≠ "java/lang/invoke/VarHandle" ∧ (parseMethodDescriptor y.desc).map (fun d => d.parameters.length) = some n)
    (hlen : As.length = n) (hsz : ls.size = nL) (hst : st0 = As.reverse ++ .ref b :: rest) (hroom : (rest.map fun v => v.category).sum ≤ 8) (hcs : cells + mc ≤ R.cells ∧ slots + ms ≤ R.slots)
    (kk : ∀ (u : T) (H1 : Heap) (locs1 : List Loc), postv u → va_K D vwCl (tys ++ tys1 u) s → va_P D vwCl (wr ++ w1 u) H1 → va_D A (wr ++ w1 u) → va_S A s.heap H1 locs1 → W p l e R s m args below meth c H1 locs1 (cells + mc) (slots + ms) Q (F0 m (pc + 3) ls rest)) :
    W p l e R s m args below meth c H locs cells slots Q (F0 m pc ls st0) := by
  obtain ⟨hnC, hnR, hdis⟩ := fd_nn hn
  have hPc := hP.sub (ws' := wc) isC (fd_fm hC)
  have hDc := hD.sub (ws' := wc) isC hnC hC
  have hKc := hK.sub (tys' := []) [] rfl
  have hFc := va_free (wc := wc) hD hS hA isC hC
  have hts := S0.2.2.2.2
  refine va_callv (va_runI (As := As) (rest := rest) S0 (hM H.size) (cwI n hts (lw_meth h5) rfl hrm.1.1 hrm.1.2 (hts _ h4) (hts _ h1) (hts _ h2) hyn hd hrm.2) ⟨fun a U g mk q => by obtain ⟨q0, q1, qP, qK, qD⟩ := q; exact ⟨q0, q1, qP, va_K.moved (u := U) (U := U.calling g mk a) (Vm.Alike.refl U.vm) qK, qD⟩, fun U hU hW => ⟨rfl, by rw [hU], by rw [hU]; exact hPc, va_K.moved hW.alike hKc, hDc.weaken (fun _ _ _ _ => trivial)⟩⟩ rfl hlen hsz hst (lv_room hroom) hdg hcs) hS (fun q _ h => hFc q h) hFc (fun u t H1 locs1 ht hvm hp hB hz1 hk1 hS1 => ?_)
  obtain ⟨hP1, hK1, hD1⟩ := hB
  rw [ht] at hP1
  have hK1 := va_K.moved hvm.symm hK1
  obtain ⟨hP2, hD2⟩ := va_join (wr := wr) (w1 := w1 u) hP hD isC isR hC hR hnR hdis hk1 hFc hP1 hD1
  exact kk u H1 locs1 hp (hK.app hK1) hP2 hD2 hS1
theorem fd_i3 {L i : Nat} (hL : L ≤ 193) (hi : i ≤ 200) (h : ¬ nI L - nI 3 < nI i) : i + 3 ≤ L := by
  rw [Int32.lt_iff_toInt_lt, pk_sub_toInt (by omega) (by decide), nI_toInt (by omega)] at h
  omega
end fd_law
end
section
/-! THE LAW: its loop, its start -/
set_option maxHeartbeats 8000000 in
set_option maxRecDepth 100000 in
theorem law_loop {p : Program} {l : Launch} {e : Env} {s : State} {m : MethodId} {below : List Frame} {meth : Method} {c : Code} {b L : Nat} {xs : Nat → Int32} (hL : L ≤ 193) (C0 : lw_At p s m meth c b L xs) (D : va_G) (g : Nat → Nat) (d : Nat → ClassId) (g2 : Nat → Nat) (d2 : Nat → ClassId) (hK : va_K D vwCl (xT d ++ yT d2) s) :
    ∀ (Nf i : Nat) (S V : Nat → Int32) (n cnt : Nat) (R U : Nat → Int32) (N : Nat) (B LL X : Int32) (T : Nat → Int32) (sm al : Int32) (H : Heap) (locs : List Loc) (ls : Array Slot), L + 3 - i < Nf → i ≤ 200 → fdInv S V n cnt → va_P D vwCl (xW g d S V n cnt R U N B LL X ++ yW g2 d2 S V n cnt (odI 256) T sm al) H → va_D (fun q : Nat => s.heap.size ≤ q) (xW g d S V n cnt R U N B LL X ++ yW g2 d2 S V n cnt (odI 256) T sm al) → va_S (fun q : Nat => s.heap.size ≤ q) s.heap H locs → lv_has ls 4 [(0, .ref b), (1, .ref (g 0)), (2, .ref (g2 0)), (3, .int (nI i))] → W p l e room_1 s m #[Value.ref b] below meth c H locs 10 610 (lw_Z below #[Value.ref b] s) (F0 m 28 ls []) := by
  obtain ⟨hx, hb, hr, hml, hown, htb, hX, hbl, hlocks, hgv⟩ := C0
  have hts : ∀ w ∈ lw_all, w.before #[Value.ref b] s = true := fun w h => htb w (lw_all_tbl h)
  have hown : s.vm.findClass "FountainDecoderLaw" = some m.cls := hown
  have hA : ∀ q : Nat, s.heap.size ≤ q → (fun q : Nat => s.heap.size ≤ q) q := fun _ h => h
  have hbA : ¬ (fun q : Nat => s.heap.size ≤ q) b := Nat.not_le.mpr hbl
  have S0 : CallFix p m c cL_law 4 s #[Value.ref b] lw_all "FountainDecoderLaw" := ⟨hx, hb, hml, hown, hts⟩
  intro Nf
  induction Nf with
  | zero => intro i S V n cnt R U N B LL X T sm al H locs ls hmu; exact absurd hmu (Nat.not_lt_zero _)
  | succ Nf ih =>
    intro i S V n cnt R U N B LL X T sm al H locs ls hmu hi hI hP hD hS hl
    have hra := pl_ra hI
    have hg := pl_gd hI
    have hkf := pl_kn hI
    obtain ⟨hn1, hn8, hc, -, -⟩ := id hI
    refine lv_iload_n hx hb dL_law_28 rfl (lv_at hl 3 rfl) ?_
    refine lv_aload_n hx hb dL_law_29 rfl (lv_at hl 0 rfl) ?_
    refine va_slen hx hb hX hbl hbA hS dL_law_30 ?_
    refine lv_iconst (v := nI 3) hx hb dL_law_31 (by decide) ?_
    refine lv_isub hx hb dL_law_32 ?_
    refine lv_icmp_gt (tgt := 441) hx hb dL_law_33 (by decide) (fun c33 => ?_) (fun c33 => ?_)
    · refine lv_iconst (v := 1) hx hb dL_law_441 (by decide) ?_
      refine va_forget (fun q hq => hS.2.2 q hq) ?_
      refine W.widen (k := 600000) (n := 7290000) (Nat.le_of_ble_eq_true rfl) (Nat.le_of_ble_eq_true rfl) ?_
      exact lw_ret hx hb hr hlocks dL_law_442
    have hi3 : i + 3 ≤ L := fd_i3 hL hi c33
    have tl : ∀ (S V : Nat → Int32) (cnt : Nat) (R U : Nat → Int32) (N : Nat) (B LL X : Int32) (T : Nat → Int32) (sm al : Int32) (H : Heap) (locs : List Loc), fdInv S V n cnt → va_P D vwCl (xW g d S V n cnt R U N B LL X ++ yW g2 d2 S V n cnt (odI 256) T sm al) H → va_D (fun q : Nat => s.heap.size ≤ q) (xW g d S V n cnt R U N B LL X ++ yW g2 d2 S V n cnt (odI 256) T sm al) → va_S (fun q : Nat => s.heap.size ≤ q) s.heap H locs → W p l e room_1 s m #[Value.ref b] below meth c H locs 10 610 (lw_Z below #[Value.ref b] s) (F0 m 435 ls []) := by
      intro S V cnt R U N B LL X T sm al H locs hI hP hD hS
      refine lv_iinc (v := nI (i + 3)) (lv' := [(3, .int (nI (i + 3))), (0, .ref b), (1, .ref (g 0)), (2, .ref (g2 0))]) hx hb dL_law_435 hl (k := 3) rfl (nI_add i 3) (by decide) rfl (fun ls hl => ?_)
      refine lv_goto (tgt := 28) hx hb dL_law_438 (by decide) ?_
      exact ih (i + 3) S V n cnt R U N B LL X T sm al H locs ls (by omega) (by omega) hI hP hD hS (lv_sub hl [1, 2, 3, 0] rfl)
    refine lv_aload_n hx hb dL_law_36 rfl (lv_at hl 0 rfl) ?_
    refine lv_iload_n hx hb dL_law_37 rfl (lv_at hl 3 rfl) ?_
    refine fd_sld hx hb hX hbl hbA hS (by omega) hL dL_law_38 ?_
    refine lv_bipush (v := 31) hx hb dL_law_39 (by decide) ?_
    refine lv_iand hx hb dL_law_41 ?_
    obtain ⟨j, hj, ej⟩ := pk_andE (xs i) (m := 31) 5 (by decide)
    refine fd_as ej ?_
    have hjj : j = 0 ∨ j = 1 ∨ j = 2 ∨ j = 3 ∨ j = 4 ∨ j = 5 ∨ j = 6 ∨ j = 7 ∨ j = 8 ∨ j = 9 ∨ j = 10 ∨ j = 11 ∨ j = 12 ∨ j = 13 ∨ j = 14 ∨ j = 15 ∨ j = 16 ∨ 17 ≤ j := by omega
    rcases hjj with rfl | rfl | rfl | rfl | rfl | rfl | rfl | rfl | rfl | rfl | rfl | rfl | rfl | rfl | rfl | rfl | rfl | hjj
    · refine lv_tableIn (off := 82) (tgt := 124) hx hb dL_law_42 (by decide) (by decide) rfl (by decide) ?_
      refine lv_aload_n hx hb dL_law_124 rfl (lv_at hl 1 rfl) ?_
      refine fd_callVi (n := 0) (rest := []) (As := []) (wr := yW g2 d2 S V n cnt (odI 256) T sm al) S0 hK hP hD hS hA [0, 1, 2, 3, 4] [5, 6, 7, 8, 9] [0, 1, 2, 3] (metX1_blocks l D g d S V n cnt R U N B LL X ) q63 q64 q65 q21 q66 dL_law_125 rfl rfl rfl rfl ⟨⟨rfl, rfl⟩, Nat.le_of_ble_eq_true rfl, Nat.le_of_ble_eq_true rfl⟩ (by decide +kernel) rfl rfl (q0 := 0) rfl rfl hl.1 rfl (Nat.le_of_ble_eq_true rfl) ⟨Nat.le_of_ble_eq_true rfl, Nat.le_of_ble_eq_true rfl⟩ (fun r1 u1 H locs hq1 hP hD hS => ?_)
      refine lv_aload_n hx hb dL_law_128 rfl (lv_at hl 2 rfl) ?_
      refine fd_callVi (n := 0) (rest := [.int r1]) (As := []) (wr := xW g d S V n cnt R U N B LL X) S0 hK hP hD hS hA [0, 1, 2, 3, 4] [5, 6, 7, 8, 9] [4, 5, 6, 7] (metX2_blocks l D g2 d2 S V n cnt (odI 256) T sm al ) q218 q219 q220 q22 q221 dL_law_129 rfl rfl rfl rfl ⟨⟨rfl, rfl⟩, Nat.le_of_ble_eq_true rfl, Nat.le_of_ble_eq_true rfl⟩ (by decide +kernel) rfl rfl (q0 := 0) rfl rfl hl.1 rfl (Nat.le_of_ble_eq_true rfl) ⟨Nat.le_of_ble_eq_true rfl, Nat.le_of_ble_eq_true rfl⟩ (fun r2 u2 H locs hq2 hP hD hS => ?_)
      refine lv_icmp_eq (tgt := 435) hx hb dL_law_132 (by decide) (fun _ => ?_) (fun hne => absurd (show r1 = r2 from hq1.trans hq2.symm) hne)
      exact tl S V cnt R U N B LL X T sm al H locs hI hP hD hS
    · refine lv_tableIn (off := 95) (tgt := 137) hx hb dL_law_42 (by decide) (by decide) rfl (by decide) ?_
      refine lv_aload_n hx hb dL_law_137 rfl (lv_at hl 1 rfl) ?_
      refine lv_aload_n hx hb dL_law_138 rfl (lv_at hl 0 rfl) ?_
      refine lv_iload_n hx hb dL_law_139 rfl (lv_at hl 3 rfl) ?_
      refine lv_iconst (v := nI 1) hx hb dL_law_140 (by decide) ?_
      refine lv_iadd hx hb dL_law_141 ?_
      refine fd_as (nI_add i 1) ?_
      refine fd_sld hx hb hX hbl hbA hS (by omega) hL dL_law_142 ?_
      refine lv_aload_n hx hb dL_law_143 rfl (lv_at hl 0 rfl) ?_
      refine lv_iload_n hx hb dL_law_144 rfl (lv_at hl 3 rfl) ?_
      refine lv_iconst (v := nI 2) hx hb dL_law_145 (by decide) ?_
      refine lv_iadd hx hb dL_law_146 ?_
      refine fd_as (nI_add i 2) ?_
      refine fd_sld hx hb hX hbl hbA hS (by omega) hL dL_law_147 ?_
      refine fd_callVi (n := 2) (rest := []) (As := [.int (xs (i + 1)), .int (xs (i + 2))]) (wr := yW g2 d2 S V n cnt (odI 256) T sm al) S0 hK hP hD hS hA [0, 1, 2, 3, 4] [5, 6, 7, 8, 9] [0, 1, 2, 3] (metX1_receive l D g d S V n cnt R U N B LL X (xs (i + 1)) (xs (i + 2)) hn8 hc) q67 q68 q69 q21 q70 dL_law_148 rfl rfl rfl rfl ⟨⟨rfl, rfl⟩, Nat.le_of_ble_eq_true rfl, Nat.le_of_ble_eq_true rfl⟩ (by decide +kernel) rfl rfl (q0 := 0) rfl rfl hl.1 rfl (Nat.le_of_ble_eq_true rfl) ⟨Nat.le_of_ble_eq_true rfl, Nat.le_of_ble_eq_true rfl⟩ (fun r1 u1 H locs hq1 hP hD hS => ?_)
      refine lv_aload_n hx hb dL_law_151 rfl (lv_at hl 2 rfl) ?_
      refine lv_aload_n hx hb dL_law_152 rfl (lv_at hl 0 rfl) ?_
      refine lv_iload_n hx hb dL_law_153 rfl (lv_at hl 3 rfl) ?_
      refine lv_iconst (v := nI 1) hx hb dL_law_154 (by decide) ?_
      refine lv_iadd hx hb dL_law_155 ?_
      refine fd_as (nI_add i 1) ?_
      refine fd_sld hx hb hX hbl hbA hS (by omega) hL dL_law_156 ?_
      refine lv_aload_n hx hb dL_law_157 rfl (lv_at hl 0 rfl) ?_
      refine lv_iload_n hx hb dL_law_158 rfl (lv_at hl 3 rfl) ?_
      refine lv_iconst (v := nI 2) hx hb dL_law_159 (by decide) ?_
      refine lv_iadd hx hb dL_law_160 ?_
      refine fd_as (nI_add i 2) ?_
      refine fd_sld hx hb hX hbl hbA hS (by omega) hL dL_law_161 ?_
      refine fd_callVi (n := 2) (rest := [.int r1]) (As := [.int (xs (i + 1)), .int (xs (i + 2))]) (wr := xW g d u1.1 u1.2.1 n u1.2.2 R U N B LL X) S0 hK hP hD hS hA [0, 1, 2, 3, 4] [5, 6, 7, 8, 9] [4, 5, 6, 7] (metX2_receive l D g2 d2 S V n cnt (odI 256) T sm al (xs (i + 1)) (xs (i + 2)) hn8 hc) q222 q223 q224 q22 q225 dL_law_162 rfl rfl rfl rfl ⟨⟨rfl, rfl⟩, Nat.le_of_ble_eq_true rfl, Nat.le_of_ble_eq_true rfl⟩ (by decide +kernel) rfl rfl (q0 := 0) rfl rfl hl.1 rfl (Nat.le_of_ble_eq_true rfl) ⟨Nat.le_of_ble_eq_true rfl, Nat.le_of_ble_eq_true rfl⟩ (fun r2 u2 H locs hq2 hP hD hS => ?_)
      obtain ⟨er, eu⟩ := Prod.mk.inj (hq1.trans hq2.symm)
      subst eu
      refine lv_icmp_eq (tgt := 435) hx hb dL_law_165 (by decide) (fun _ => ?_) (fun hne => absurd (show r1 = r2 from er) hne)
      exact tl u1.1 u1.2.1 u1.2.2 R U N B LL X T sm al H locs (pl_rc hI hq1) hP hD hS
    · refine lv_tableIn (off := 128) (tgt := 170) hx hb dL_law_42 (by decide) (by decide) rfl (by decide) ?_
      refine lv_aload_n hx hb dL_law_170 rfl (lv_at hl 1 rfl) ?_
      refine lv_aload_n hx hb dL_law_171 rfl (lv_at hl 0 rfl) ?_
      refine lv_iload_n hx hb dL_law_172 rfl (lv_at hl 3 rfl) ?_
      refine lv_iconst (v := nI 1) hx hb dL_law_173 (by decide) ?_
      refine lv_iadd hx hb dL_law_174 ?_
      refine fd_as (nI_add i 1) ?_
      refine fd_sld hx hb hX hbl hbA hS (by omega) hL dL_law_175 ?_
      refine lv_aload_n hx hb dL_law_176 rfl (lv_at hl 0 rfl) ?_
      refine lv_iload_n hx hb dL_law_177 rfl (lv_at hl 3 rfl) ?_
      refine lv_iconst (v := nI 2) hx hb dL_law_178 (by decide) ?_
      refine lv_iadd hx hb dL_law_179 ?_
      refine fd_as (nI_add i 2) ?_
      refine fd_sld hx hb hX hbl hbA hS (by omega) hL dL_law_180 ?_
      refine fd_callVi (n := 2) (rest := []) (As := [.int (xs (i + 1)), .int (xs (i + 2))]) (wr := yW g2 d2 S V n cnt (odI 256) T sm al) S0 hK hP hD hS hA [0, 1, 2, 3, 4] [5, 6, 7, 8, 9] [0, 1, 2, 3] (metX1_draw l D g d S V n cnt R U N B LL X (xs (i + 1)) (xs (i + 2)) hn1 hn8 hc) q75 q76 q77 q21 q78 dL_law_181 rfl rfl rfl rfl ⟨⟨rfl, rfl⟩, Nat.le_of_ble_eq_true rfl, Nat.le_of_ble_eq_true rfl⟩ (by decide +kernel) rfl rfl (q0 := 0) rfl rfl hl.1 rfl (Nat.le_of_ble_eq_true rfl) ⟨Nat.le_of_ble_eq_true rfl, Nat.le_of_ble_eq_true rfl⟩ (fun r1 u1 H locs hq1 hP hD hS => ?_)
      refine lv_aload_n hx hb dL_law_184 rfl (lv_at hl 2 rfl) ?_
      refine lv_aload_n hx hb dL_law_185 rfl (lv_at hl 0 rfl) ?_
      refine lv_iload_n hx hb dL_law_186 rfl (lv_at hl 3 rfl) ?_
      refine lv_iconst (v := nI 1) hx hb dL_law_187 (by decide) ?_
      refine lv_iadd hx hb dL_law_188 ?_
      refine fd_as (nI_add i 1) ?_
      refine fd_sld hx hb hX hbl hbA hS (by omega) hL dL_law_189 ?_
      refine lv_aload_n hx hb dL_law_190 rfl (lv_at hl 0 rfl) ?_
      refine lv_iload_n hx hb dL_law_191 rfl (lv_at hl 3 rfl) ?_
      refine lv_iconst (v := nI 2) hx hb dL_law_192 (by decide) ?_
      refine lv_iadd hx hb dL_law_193 ?_
      refine fd_as (nI_add i 2) ?_
      refine fd_sld hx hb hX hbl hbA hS (by omega) hL dL_law_194 ?_
      refine fd_callVi (n := 2) (rest := [.int r1]) (As := [.int (xs (i + 1)), .int (xs (i + 2))]) (wr := xW g d u1.1 u1.2.1 n u1.2.2 R U N B LL X) S0 hK hP hD hS hA [0, 1, 2, 3, 4] [5, 6, 7, 8, 9] [4, 5, 6, 7] (metX2_draw l D g2 d2 S V n cnt (odI 256) T sm al (xs (i + 1)) (xs (i + 2)) hn1 hn8 hc) q234 q235 q236 q22 q237 dL_law_195 rfl rfl rfl rfl ⟨⟨rfl, rfl⟩, Nat.le_of_ble_eq_true rfl, Nat.le_of_ble_eq_true rfl⟩ (by decide +kernel) rfl rfl (q0 := 0) rfl rfl hl.1 rfl (Nat.le_of_ble_eq_true rfl) ⟨Nat.le_of_ble_eq_true rfl, Nat.le_of_ble_eq_true rfl⟩ (fun r2 u2 H locs hq2 hP hD hS => ?_)
      obtain ⟨er, eu⟩ := Prod.mk.inj (hq1.trans hq2.symm)
      subst eu
      refine lv_icmp_eq (tgt := 435) hx hb dL_law_198 (by decide) (fun _ => ?_) (fun hne => absurd (show r1 = r2 from er) hne)
      exact tl u1.1 u1.2.1 u1.2.2 R U N B LL X T sm al H locs (pl_dw hI hq1) hP hD hS
    · refine lv_tableIn (off := 161) (tgt := 203) hx hb dL_law_42 (by decide) (by decide) rfl (by decide) ?_
      refine lv_aload_n hx hb dL_law_203 rfl (lv_at hl 1 rfl) ?_
      refine lv_aload_n hx hb dL_law_204 rfl (lv_at hl 0 rfl) ?_
      refine lv_iload_n hx hb dL_law_205 rfl (lv_at hl 3 rfl) ?_
      refine lv_iconst (v := nI 1) hx hb dL_law_206 (by decide) ?_
      refine lv_iadd hx hb dL_law_207 ?_
      refine fd_as (nI_add i 1) ?_
      refine fd_sld hx hb hX hbl hbA hS (by omega) hL dL_law_208 ?_
      refine fd_callVi (n := 1) (rest := []) (As := [.int (xs (i + 1))]) (wr := yW g2 d2 S V n cnt (odI 256) T sm al) S0 hK hP hD hS hA [0, 1, 2, 3, 4] [5, 6, 7, 8, 9] [0, 1, 2, 3] (metX1_lose l D g d S V n cnt R U N B LL X (xs (i + 1)) hc) q84 q85 q86 q21 q87 dL_law_209 rfl rfl rfl rfl ⟨⟨rfl, rfl⟩, Nat.le_of_ble_eq_true rfl, Nat.le_of_ble_eq_true rfl⟩ (by decide +kernel) rfl rfl (q0 := 0) rfl rfl hl.1 rfl (Nat.le_of_ble_eq_true rfl) ⟨Nat.le_of_ble_eq_true rfl, Nat.le_of_ble_eq_true rfl⟩ (fun r1 u1 H locs hq1 hP hD hS => ?_)
      refine lv_aload_n hx hb dL_law_212 rfl (lv_at hl 2 rfl) ?_
      refine lv_aload_n hx hb dL_law_213 rfl (lv_at hl 0 rfl) ?_
      refine lv_iload_n hx hb dL_law_214 rfl (lv_at hl 3 rfl) ?_
      refine lv_iconst (v := nI 1) hx hb dL_law_215 (by decide) ?_
      refine lv_iadd hx hb dL_law_216 ?_
      refine fd_as (nI_add i 1) ?_
      refine fd_sld hx hb hX hbl hbA hS (by omega) hL dL_law_217 ?_
      refine fd_callVi (n := 1) (rest := [.int r1]) (As := [.int (xs (i + 1))]) (wr := xW g d u1.1 u1.2.1 n u1.2.2 R U N B LL X) S0 hK hP hD hS hA [0, 1, 2, 3, 4] [5, 6, 7, 8, 9] [4, 5, 6, 7] (metX2_lose l D g2 d2 S V n cnt (odI 256) T sm al (xs (i + 1)) hc) q243 q244 q245 q22 q246 dL_law_218 rfl rfl rfl rfl ⟨⟨rfl, rfl⟩, Nat.le_of_ble_eq_true rfl, Nat.le_of_ble_eq_true rfl⟩ (by decide +kernel) rfl rfl (q0 := 0) rfl rfl hl.1 rfl (Nat.le_of_ble_eq_true rfl) ⟨Nat.le_of_ble_eq_true rfl, Nat.le_of_ble_eq_true rfl⟩ (fun r2 u2 H locs hq2 hP hD hS => ?_)
      obtain ⟨er, eu⟩ := Prod.mk.inj (hq1.trans hq2.symm)
      subst eu
      refine lv_icmp_eq (tgt := 435) hx hb dL_law_221 (by decide) (fun _ => ?_) (fun hne => absurd (show r1 = r2 from er) hne)
      exact tl u1.1 u1.2.1 u1.2.2 R U N B LL X T sm al H locs (pl_lo hI hq1) hP hD hS
    · refine lv_tableIn (off := 184) (tgt := 226) hx hb dL_law_42 (by decide) (by decide) rfl (by decide) ?_
      refine lv_aload_n hx hb dL_law_226 rfl (lv_at hl 1 rfl) ?_
      refine lv_aload_n hx hb dL_law_227 rfl (lv_at hl 0 rfl) ?_
      refine lv_iload_n hx hb dL_law_228 rfl (lv_at hl 3 rfl) ?_
      refine lv_iconst (v := nI 1) hx hb dL_law_229 (by decide) ?_
      refine lv_iadd hx hb dL_law_230 ?_
      refine fd_as (nI_add i 1) ?_
      refine fd_sld hx hb hX hbl hbA hS (by omega) hL dL_law_231 ?_
      refine fd_callVi (n := 1) (rest := []) (As := [.int (xs (i + 1))]) (wr := yW g2 d2 S V n cnt (odI 256) T sm al) S0 hK hP hD hS hA [0, 1, 2, 3, 4] [5, 6, 7, 8, 9] [0, 1, 2, 3] (metX1_setOf l D g d S V n cnt R U N B LL X (xs (i + 1)) hn1 hn8) q88 q89 q90 q21 q91 dL_law_232 rfl rfl rfl rfl ⟨⟨rfl, rfl⟩, Nat.le_of_ble_eq_true rfl, Nat.le_of_ble_eq_true rfl⟩ (by decide +kernel) rfl rfl (q0 := 0) rfl rfl hl.1 rfl (Nat.le_of_ble_eq_true rfl) ⟨Nat.le_of_ble_eq_true rfl, Nat.le_of_ble_eq_true rfl⟩ (fun r1 u1 H locs hq1 hP hD hS => ?_)
      refine lv_aload_n hx hb dL_law_235 rfl (lv_at hl 2 rfl) ?_
      refine lv_aload_n hx hb dL_law_236 rfl (lv_at hl 0 rfl) ?_
      refine lv_iload_n hx hb dL_law_237 rfl (lv_at hl 3 rfl) ?_
      refine lv_iconst (v := nI 1) hx hb dL_law_238 (by decide) ?_
      refine lv_iadd hx hb dL_law_239 ?_
      refine fd_as (nI_add i 1) ?_
      refine fd_sld hx hb hX hbl hbA hS (by omega) hL dL_law_240 ?_
      refine fd_callVi (n := 1) (rest := [.int r1]) (As := [.int (xs (i + 1))]) (wr := xW g d S V n cnt R U N B LL X) S0 hK hP hD hS hA [0, 1, 2, 3, 4] [5, 6, 7, 8, 9] [4, 5, 6, 7] (metX2_setOf l D g2 d2 S V n cnt (odI 256) T sm al (xs (i + 1)) hn1 hn8) q247 q239 q240 q22 q241 dL_law_241 rfl rfl rfl rfl ⟨⟨rfl, rfl⟩, Nat.le_of_ble_eq_true rfl, Nat.le_of_ble_eq_true rfl⟩ (by decide +kernel) rfl rfl (q0 := 0) rfl rfl hl.1 rfl (Nat.le_of_ble_eq_true rfl) ⟨Nat.le_of_ble_eq_true rfl, Nat.le_of_ble_eq_true rfl⟩ (fun r2 u2 H locs hq2 hP hD hS => ?_)
      refine lv_icmp_eq (tgt := 435) hx hb dL_law_244 (by decide) (fun _ => ?_) (fun hne => absurd (show r1 = r2 from hq1.trans hq2.symm) hne)
      exact tl S V cnt R U N B LL X T sm al H locs hI hP hD hS
    · refine lv_tableIn (off := 207) (tgt := 249) hx hb dL_law_42 (by decide) (by decide) rfl (by decide) ?_
      refine lv_aload_n hx hb dL_law_249 rfl (lv_at hl 1 rfl) ?_
      refine fd_callVi (n := 0) (rest := []) (As := []) (wr := yW g2 d2 S V n cnt (odI 256) T sm al) S0 hK hP hD hS hA [0, 1, 2, 3, 4] [5, 6, 7, 8, 9] [0, 1, 2, 3] (metX1_symbols l D g d S V n cnt R U N B LL X ) q92 q93 q94 q21 q95 dL_law_250 rfl rfl rfl rfl ⟨⟨rfl, rfl⟩, Nat.le_of_ble_eq_true rfl, Nat.le_of_ble_eq_true rfl⟩ (by decide +kernel) rfl rfl (q0 := 0) rfl rfl hl.1 rfl (Nat.le_of_ble_eq_true rfl) ⟨Nat.le_of_ble_eq_true rfl, Nat.le_of_ble_eq_true rfl⟩ (fun r1 u1 H locs hq1 hP hD hS => ?_)
      refine lv_aload_n hx hb dL_law_253 rfl (lv_at hl 2 rfl) ?_
      refine fd_callVi (n := 0) (rest := [.int r1]) (As := []) (wr := xW g d S V n cnt R U N B LL X) S0 hK hP hD hS hA [0, 1, 2, 3, 4] [5, 6, 7, 8, 9] [4, 5, 6, 7] (metX2_symbols l D g2 d2 S V n cnt (odI 256) T sm al ) q248 q249 q250 q22 q251 dL_law_254 rfl rfl rfl rfl ⟨⟨rfl, rfl⟩, Nat.le_of_ble_eq_true rfl, Nat.le_of_ble_eq_true rfl⟩ (by decide +kernel) rfl rfl (q0 := 0) rfl rfl hl.1 rfl (Nat.le_of_ble_eq_true rfl) ⟨Nat.le_of_ble_eq_true rfl, Nat.le_of_ble_eq_true rfl⟩ (fun r2 u2 H locs hq2 hP hD hS => ?_)
      refine lv_icmp_eq (tgt := 435) hx hb dL_law_257 (by decide) (fun _ => ?_) (fun hne => absurd (show r1 = r2 from hq1.trans hq2.symm) hne)
      exact tl S V cnt R U N B LL X T sm al H locs hI hP hD hS
    · refine lv_tableIn (off := 220) (tgt := 262) hx hb dL_law_42 (by decide) (by decide) rfl (by decide) ?_
      refine lv_aload_n hx hb dL_law_262 rfl (lv_at hl 1 rfl) ?_
      refine fd_callVi (n := 0) (rest := []) (As := []) (wr := yW g2 d2 S V n cnt (odI 256) T sm al) S0 hK hP hD hS hA [0, 1, 2, 3, 4] [5, 6, 7, 8, 9] [0, 1, 2, 3] (metX1_consistent l D g d S V n cnt R U N B LL X hc hra) q96 q97 q98 q21 q99 dL_law_263 rfl rfl rfl rfl ⟨⟨rfl, rfl⟩, Nat.le_of_ble_eq_true rfl, Nat.le_of_ble_eq_true rfl⟩ (by decide +kernel) rfl rfl (q0 := 0) rfl rfl hl.1 rfl (Nat.le_of_ble_eq_true rfl) ⟨Nat.le_of_ble_eq_true rfl, Nat.le_of_ble_eq_true rfl⟩ (fun r1 u1 H locs hq1 hP hD hS => ?_)
      refine lv_aload_n hx hb dL_law_266 rfl (lv_at hl 2 rfl) ?_
      refine fd_callVi (n := 0) (rest := [.int r1]) (As := []) (wr := xW g d S V n cnt u1.1 u1.2.1 u1.2.2.1 u1.2.2.2.1 u1.2.2.2.2.1 u1.2.2.2.2.2) S0 hK hP hD hS hA [0, 1, 2, 3, 4] [5, 6, 7, 8, 9] [4, 5, 6, 7] (metX2_consistent l D g2 d2 S V n cnt (odI 256) T sm al hn8 hc hg) q252 q253 q254 q22 q255 dL_law_267 rfl rfl rfl rfl ⟨⟨rfl, rfl⟩, Nat.le_of_ble_eq_true rfl, Nat.le_of_ble_eq_true rfl⟩ (by decide +kernel) rfl rfl (q0 := 0) rfl rfl hl.1 rfl (Nat.le_of_ble_eq_true rfl) ⟨Nat.le_of_ble_eq_true rfl, Nat.le_of_ble_eq_true rfl⟩ (fun r2 u2 H locs hq2 hP hD hS => ?_)
      refine lv_icmp_eq (tgt := 435) hx hb dL_law_270 (by decide) (fun _ => ?_) (fun hne => absurd (show r1 = r2 from by rw [hq1.2, hq1.1, pl_co hI]; exact hq2.symm) hne)
      exact tl S V cnt u1.1 u1.2.1 u1.2.2.1 u1.2.2.2.1 u1.2.2.2.2.1 u1.2.2.2.2.2 T u2.1 u2.2 H locs hI hP hD hS
    · refine lv_tableIn (off := 233) (tgt := 275) hx hb dL_law_42 (by decide) (by decide) rfl (by decide) ?_
      refine lv_aload_n hx hb dL_law_275 rfl (lv_at hl 1 rfl) ?_
      refine fd_callVi (n := 0) (rest := []) (As := []) (wr := yW g2 d2 S V n cnt (odI 256) T sm al) S0 hK hP hD hS hA [0, 1, 2, 3, 4] [5, 6, 7, 8, 9] [0, 1, 2, 3] (metX1_rank l D g d S V n cnt R U N B LL X hc hra) q115 q116 q117 q21 q118 dL_law_276 rfl rfl rfl rfl ⟨⟨rfl, rfl⟩, Nat.le_of_ble_eq_true rfl, Nat.le_of_ble_eq_true rfl⟩ (by decide +kernel) rfl rfl (q0 := 0) rfl rfl hl.1 rfl (Nat.le_of_ble_eq_true rfl) ⟨Nat.le_of_ble_eq_true rfl, Nat.le_of_ble_eq_true rfl⟩ (fun r1 u1 H locs hq1 hP hD hS => ?_)
      refine lv_aload_n hx hb dL_law_279 rfl (lv_at hl 2 rfl) ?_
      refine fd_callVi (n := 0) (rest := [.int r1]) (As := []) (wr := xW g d S V n cnt u1.1 u1.2.1 u1.2.2.1 u1.2.2.2.1 u1.2.2.2.2.1 u1.2.2.2.2.2) S0 hK hP hD hS hA [0, 1, 2, 3, 4] [5, 6, 7, 8, 9] [4, 5, 6, 7] (metX2_rank l D g2 d2 S V n cnt (odI 256) T sm al hc hg) q264 q265 q266 q22 q267 dL_law_280 rfl rfl rfl rfl ⟨⟨rfl, rfl⟩, Nat.le_of_ble_eq_true rfl, Nat.le_of_ble_eq_true rfl⟩ (by decide +kernel) rfl rfl (q0 := 0) rfl rfl hl.1 rfl (Nat.le_of_ble_eq_true rfl) ⟨Nat.le_of_ble_eq_true rfl, Nat.le_of_ble_eq_true rfl⟩ (fun r2 u2 H locs hq2 hP hD hS => ?_)
      refine lv_icmp_eq (tgt := 435) hx hb dL_law_283 (by decide) (fun _ => ?_) (fun hne => absurd (show r1 = r2 from by rw [hq1.2, hq1.1, pl_rk (T := T) hI]; exact hq2.symm) hne)
      exact tl S V cnt u1.1 u1.2.1 u1.2.2.1 u1.2.2.2.1 u1.2.2.2.2.1 u1.2.2.2.2.2 u2 sm al H locs hI hP hD hS
    · refine lv_tableIn (off := 246) (tgt := 288) hx hb dL_law_42 (by decide) (by decide) rfl (by decide) ?_
      refine lv_aload_n hx hb dL_law_288 rfl (lv_at hl 1 rfl) ?_
      refine fd_callVi (n := 0) (rest := []) (As := []) (wr := yW g2 d2 S V n cnt (odI 256) T sm al) S0 hK hP hD hS hA [0, 1, 2, 3, 4] [5, 6, 7, 8, 9] [0, 1, 2, 3] (metX1_known l D g d S V n cnt R U N B LL X hc hra) q119 q120 q121 q21 q122 dL_law_289 rfl rfl rfl rfl ⟨⟨rfl, rfl⟩, Nat.le_of_ble_eq_true rfl, Nat.le_of_ble_eq_true rfl⟩ (by decide +kernel) rfl rfl (q0 := 0) rfl rfl hl.1 rfl (Nat.le_of_ble_eq_true rfl) ⟨Nat.le_of_ble_eq_true rfl, Nat.le_of_ble_eq_true rfl⟩ (fun r1 u1 H locs hq1 hP hD hS => ?_)
      refine lv_aload_n hx hb dL_law_292 rfl (lv_at hl 2 rfl) ?_
      refine fd_callVi (n := 0) (rest := [.int r1]) (As := []) (wr := xW g d S V n cnt u1.1 u1.2.1 u1.2.2.1 u1.2.2.2.1 u1.2.2.2.2.1 u1.2.2.2.2.2) S0 hK hP hD hS hA [0, 1, 2, 3, 4] [5, 6, 7, 8, 9] [4, 5, 6, 7] (metX2_known l D g2 d2 S V n cnt (odI 256) T sm al hn8 hc hg) q272 q273 q274 q22 q275 dL_law_293 rfl rfl rfl rfl ⟨⟨rfl, rfl⟩, Nat.le_of_ble_eq_true rfl, Nat.le_of_ble_eq_true rfl⟩ (by decide +kernel) rfl rfl (q0 := 0) rfl rfl hl.1 rfl (Nat.le_of_ble_eq_true rfl) ⟨Nat.le_of_ble_eq_true rfl, Nat.le_of_ble_eq_true rfl⟩ (fun r2 u2 H locs hq2 hP hD hS => ?_)
      refine lv_icmp_eq (tgt := 435) hx hb dL_law_296 (by decide) (fun _ => ?_) (fun hne => absurd (show r1 = r2 from by rw [hq1.2, hq1.1, pl_kn hI]; exact hq2.symm) hne)
      exact tl S V cnt u1.1 u1.2.1 u1.2.2.1 u1.2.2.2.1 u1.2.2.2.2.1 u1.2.2.2.2.2 T u2.1 u2.2 H locs hI hP hD hS
    · refine lv_tableIn (off := 259) (tgt := 301) hx hb dL_law_42 (by decide) (by decide) rfl (by decide) ?_
      refine lv_aload_n hx hb dL_law_301 rfl (lv_at hl 1 rfl) ?_
      refine lv_aload_n hx hb dL_law_302 rfl (lv_at hl 0 rfl) ?_
      refine lv_iload_n hx hb dL_law_303 rfl (lv_at hl 3 rfl) ?_
      refine lv_iconst (v := nI 1) hx hb dL_law_304 (by decide) ?_
      refine lv_iadd hx hb dL_law_305 ?_
      refine fd_as (nI_add i 1) ?_
      refine fd_sld hx hb hX hbl hbA hS (by omega) hL dL_law_306 ?_
      refine fd_callVi (n := 1) (rest := []) (As := [.int (xs (i + 1))]) (wr := yW g2 d2 S V n cnt (odI 256) T sm al) S0 hK hP hD hS hA [0, 1, 2, 3, 4] [5, 6, 7, 8, 9] [0, 1, 2, 3] (metX1_value l D g d S V n cnt R U N B LL X (xs (i + 1)) hc hra) q127 q128 q129 q21 q130 dL_law_307 rfl rfl rfl rfl ⟨⟨rfl, rfl⟩, Nat.le_of_ble_eq_true rfl, Nat.le_of_ble_eq_true rfl⟩ (by decide +kernel) rfl rfl (q0 := 0) rfl rfl hl.1 rfl (Nat.le_of_ble_eq_true rfl) ⟨Nat.le_of_ble_eq_true rfl, Nat.le_of_ble_eq_true rfl⟩ (fun r1 u1 H locs hq1 hP hD hS => ?_)
      refine lv_aload_n hx hb dL_law_310 rfl (lv_at hl 2 rfl) ?_
      refine lv_aload_n hx hb dL_law_311 rfl (lv_at hl 0 rfl) ?_
      refine lv_iload_n hx hb dL_law_312 rfl (lv_at hl 3 rfl) ?_
      refine lv_iconst (v := nI 1) hx hb dL_law_313 (by decide) ?_
      refine lv_iadd hx hb dL_law_314 ?_
      refine fd_as (nI_add i 1) ?_
      refine fd_sld hx hb hX hbl hbA hS (by omega) hL dL_law_315 ?_
      refine fd_callVi (n := 1) (rest := [.int r1]) (As := [.int (xs (i + 1))]) (wr := xW g d S V n cnt u1.1 u1.2.1 u1.2.2.1 u1.2.2.2.1 u1.2.2.2.2.1 u1.2.2.2.2.2) S0 hK hP hD hS hA [0, 1, 2, 3, 4] [5, 6, 7, 8, 9] [4, 5, 6, 7] (metX2_value l D g2 d2 S V n cnt (odI 256) T sm al (xs (i + 1)) hn8 hc hg) q280 q281 q282 q22 q283 dL_law_316 rfl rfl rfl rfl ⟨⟨rfl, rfl⟩, Nat.le_of_ble_eq_true rfl, Nat.le_of_ble_eq_true rfl⟩ (by decide +kernel) rfl rfl (q0 := 0) rfl rfl hl.1 rfl (Nat.le_of_ble_eq_true rfl) ⟨Nat.le_of_ble_eq_true rfl, Nat.le_of_ble_eq_true rfl⟩ (fun r2 u2 H locs hq2 hP hD hS => ?_)
      refine lv_icmp_eq (tgt := 435) hx hb dL_law_319 (by decide) (fun _ => ?_) (fun hne => absurd (show r1 = r2 from (hq1.trans (pl_va hI)).trans hq2.symm) hne)
      exact tl S V cnt u1.1 u1.2.1 u1.2.2.1 u1.2.2.2.1 u1.2.2.2.2.1 u1.2.2.2.2.2 T sm al H locs hI hP hD hS
    · refine lv_tableIn (off := 282) (tgt := 324) hx hb dL_law_42 (by decide) (by decide) rfl (by decide) ?_
      refine lv_aload_n hx hb dL_law_324 rfl (lv_at hl 1 rfl) ?_
      refine lv_aload_n hx hb dL_law_325 rfl (lv_at hl 0 rfl) ?_
      refine lv_iload_n hx hb dL_law_326 rfl (lv_at hl 3 rfl) ?_
      refine lv_iconst (v := nI 1) hx hb dL_law_327 (by decide) ?_
      refine lv_iadd hx hb dL_law_328 ?_
      refine fd_as (nI_add i 1) ?_
      refine fd_sld hx hb hX hbl hbA hS (by omega) hL dL_law_329 ?_
      refine fd_callVi (n := 1) (rest := []) (As := [.int (xs (i + 1))]) (wr := yW g2 d2 S V n cnt (odI 256) T sm al) S0 hK hP hD hS hA [0, 1, 2, 3, 4] [5, 6, 7, 8, 9] [0, 1, 2, 3] (metX1_sumOf l D g d S V n cnt R U N B LL X (xs (i + 1)) hn8 hc hra) q135 q136 q137 q21 q138 dL_law_330 rfl rfl rfl rfl ⟨⟨rfl, rfl⟩, Nat.le_of_ble_eq_true rfl, Nat.le_of_ble_eq_true rfl⟩ (by decide +kernel) rfl rfl (q0 := 0) rfl rfl hl.1 rfl (Nat.le_of_ble_eq_true rfl) ⟨Nat.le_of_ble_eq_true rfl, Nat.le_of_ble_eq_true rfl⟩ (fun r1 u1 H locs hq1 hP hD hS => ?_)
      refine lv_aload_n hx hb dL_law_333 rfl (lv_at hl 2 rfl) ?_
      refine lv_aload_n hx hb dL_law_334 rfl (lv_at hl 0 rfl) ?_
      refine lv_iload_n hx hb dL_law_335 rfl (lv_at hl 3 rfl) ?_
      refine lv_iconst (v := nI 1) hx hb dL_law_336 (by decide) ?_
      refine lv_iadd hx hb dL_law_337 ?_
      refine fd_as (nI_add i 1) ?_
      refine fd_sld hx hb hX hbl hbA hS (by omega) hL dL_law_338 ?_
      refine fd_callVi (n := 1) (rest := [.int r1]) (As := [.int (xs (i + 1))]) (wr := xW g d S V n cnt u1.1 u1.2.1 u1.2.2.1 u1.2.2.2.1 u1.2.2.2.2.1 u1.2.2.2.2.2) S0 hK hP hD hS hA [0, 1, 2, 3, 4] [5, 6, 7, 8, 9] [4, 5, 6, 7] (metX2_sumOf l D g2 d2 S V n cnt (odI 256) T sm al (xs (i + 1)) hn8 hc hg) q288 q285 q286 q22 q287 dL_law_339 rfl rfl rfl rfl ⟨⟨rfl, rfl⟩, Nat.le_of_ble_eq_true rfl, Nat.le_of_ble_eq_true rfl⟩ (by decide +kernel) rfl rfl (q0 := 0) rfl rfl hl.1 rfl (Nat.le_of_ble_eq_true rfl) ⟨Nat.le_of_ble_eq_true rfl, Nat.le_of_ble_eq_true rfl⟩ (fun r2 u2 H locs hq2 hP hD hS => ?_)
      refine lv_icmp_eq (tgt := 435) hx hb dL_law_342 (by decide) (fun _ => ?_) (fun hne => absurd (show r1 = r2 from (hq1.trans (pl_su hI)).trans hq2.symm) hne)
      exact tl S V cnt u1.1 u1.2.1 u1.2.2.1 u1.2.2.2.1 u1.2.2.2.2.1 u1.2.2.2.2.2 T sm al H locs hI hP hD hS
    · refine lv_tableIn (off := 305) (tgt := 347) hx hb dL_law_42 (by decide) (by decide) rfl (by decide) ?_
      refine lv_aload_n hx hb dL_law_347 rfl (lv_at hl 1 rfl) ?_
      refine fd_callVi (n := 0) (rest := []) (As := []) (wr := yW g2 d2 S V n cnt (odI 256) T sm al) S0 hK hP hD hS hA [0, 1, 2, 3, 4] [5, 6, 7, 8, 9] [0, 1, 2, 3] (metX1_peeled l D g d S V n cnt R U N B LL X hn8 hc) q143 q144 q145 q21 q146 dL_law_348 rfl rfl rfl rfl ⟨⟨rfl, rfl⟩, Nat.le_of_ble_eq_true rfl, Nat.le_of_ble_eq_true rfl⟩ (by decide +kernel) rfl rfl (q0 := 0) rfl rfl hl.1 rfl (Nat.le_of_ble_eq_true rfl) ⟨Nat.le_of_ble_eq_true rfl, Nat.le_of_ble_eq_true rfl⟩ (fun r1 u1 H locs hq1 hP hD hS => ?_)
      refine lv_aload_n hx hb dL_law_351 rfl (lv_at hl 2 rfl) ?_
      refine fd_callVi (n := 0) (rest := [.int r1]) (As := []) (wr := xW g d S V n cnt R U N B LL X) S0 hK hP hD hS hA [0, 1, 2, 3, 4] [5, 6, 7, 8, 9] [4, 5, 6, 7] (metX2_peeled l D g2 d2 S V n cnt (odI 256) T sm al hn8 hc) q289 q290 q291 q22 q292 dL_law_352 rfl rfl rfl rfl ⟨⟨rfl, rfl⟩, Nat.le_of_ble_eq_true rfl, Nat.le_of_ble_eq_true rfl⟩ (by decide +kernel) rfl rfl (q0 := 0) rfl rfl hl.1 rfl (Nat.le_of_ble_eq_true rfl) ⟨Nat.le_of_ble_eq_true rfl, Nat.le_of_ble_eq_true rfl⟩ (fun r2 u2 H locs hq2 hP hD hS => ?_)
      refine lv_icmp_eq (tgt := 435) hx hb dL_law_355 (by decide) (fun _ => ?_) (fun hne => absurd (show r1 = r2 from (hq1.trans (pl_p0 hI)).trans hq2.symm) hne)
      exact tl S V cnt R U N B LL X T sm al H locs hI hP hD hS
    · refine lv_tableIn (off := 318) (tgt := 360) hx hb dL_law_42 (by decide) (by decide) rfl (by decide) ?_
      refine lv_aload_n hx hb dL_law_360 rfl (lv_at hl 1 rfl) ?_
      refine lv_aload_n hx hb dL_law_361 rfl (lv_at hl 0 rfl) ?_
      refine lv_iload_n hx hb dL_law_362 rfl (lv_at hl 3 rfl) ?_
      refine lv_iconst (v := nI 1) hx hb dL_law_363 (by decide) ?_
      refine lv_iadd hx hb dL_law_364 ?_
      refine fd_as (nI_add i 1) ?_
      refine fd_sld hx hb hX hbl hbA hS (by omega) hL dL_law_365 ?_
      refine fd_callVi (n := 1) (rest := []) (As := [.int (xs (i + 1))]) (wr := yW g2 d2 S V n cnt (odI 256) T sm al) S0 hK hP hD hS hA [0, 1, 2, 3, 4] [5, 6, 7, 8, 9] [0, 1, 2, 3] (metX1_isSeed l D g d S V n cnt R U N B LL X (xs (i + 1)) hn8 hc) q151 q152 q153 q21 q154 dL_law_366 rfl rfl rfl rfl ⟨⟨rfl, rfl⟩, Nat.le_of_ble_eq_true rfl, Nat.le_of_ble_eq_true rfl⟩ (by decide +kernel) rfl rfl (q0 := 0) rfl rfl hl.1 rfl (Nat.le_of_ble_eq_true rfl) ⟨Nat.le_of_ble_eq_true rfl, Nat.le_of_ble_eq_true rfl⟩ (fun r1 u1 H locs hq1 hP hD hS => ?_)
      refine lv_aload_n hx hb dL_law_369 rfl (lv_at hl 2 rfl) ?_
      refine lv_aload_n hx hb dL_law_370 rfl (lv_at hl 0 rfl) ?_
      refine lv_iload_n hx hb dL_law_371 rfl (lv_at hl 3 rfl) ?_
      refine lv_iconst (v := nI 1) hx hb dL_law_372 (by decide) ?_
      refine lv_iadd hx hb dL_law_373 ?_
      refine fd_as (nI_add i 1) ?_
      refine fd_sld hx hb hX hbl hbA hS (by omega) hL dL_law_374 ?_
      refine fd_callVi (n := 1) (rest := [.int r1]) (As := [.int (xs (i + 1))]) (wr := xW g d S V n cnt R U N B LL X) S0 hK hP hD hS hA [0, 1, 2, 3, 4] [5, 6, 7, 8, 9] [4, 5, 6, 7] (metX2_isSeed l D g2 d2 S V n cnt (odI 256) T sm al (xs (i + 1)) hn8 hc) q301 q302 q303 q22 q304 dL_law_375 rfl rfl rfl rfl ⟨⟨rfl, rfl⟩, Nat.le_of_ble_eq_true rfl, Nat.le_of_ble_eq_true rfl⟩ (by decide +kernel) rfl rfl (q0 := 0) rfl rfl hl.1 rfl (Nat.le_of_ble_eq_true rfl) ⟨Nat.le_of_ble_eq_true rfl, Nat.le_of_ble_eq_true rfl⟩ (fun r2 u2 H locs hq2 hP hD hS => ?_)
      refine lv_icmp_eq (tgt := 435) hx hb dL_law_378 (by decide) (fun _ => ?_) (fun hne => absurd (show r1 = r2 from (hq1.trans (pl_is hI)).trans hq2.symm) hne)
      exact tl S V cnt R U N B LL X T sm al H locs hI hP hD hS
    · refine lv_tableIn (off := 341) (tgt := 383) hx hb dL_law_42 (by decide) (by decide) rfl (by decide) ?_
      refine lv_aload_n hx hb dL_law_383 rfl (lv_at hl 1 rfl) ?_
      refine fd_callVi (n := 0) (rest := []) (As := []) (wr := yW g2 d2 S V n cnt (odI 256) T sm al) S0 hK hP hD hS hA [0, 1, 2, 3, 4] [5, 6, 7, 8, 9] [0, 1, 2, 3] (metX1_seedSize l D g d S V n cnt R U N B LL X hn8 hc) q155 q156 q157 q21 q158 dL_law_384 rfl rfl rfl rfl ⟨⟨rfl, rfl⟩, Nat.le_of_ble_eq_true rfl, Nat.le_of_ble_eq_true rfl⟩ (by decide +kernel) rfl rfl (q0 := 0) rfl rfl hl.1 rfl (Nat.le_of_ble_eq_true rfl) ⟨Nat.le_of_ble_eq_true rfl, Nat.le_of_ble_eq_true rfl⟩ (fun r1 u1 H locs hq1 hP hD hS => ?_)
      refine lv_aload_n hx hb dL_law_387 rfl (lv_at hl 2 rfl) ?_
      refine fd_callVi (n := 0) (rest := [.int r1]) (As := []) (wr := xW g d S V n cnt R U N B LL X) S0 hK hP hD hS hA [0, 1, 2, 3, 4] [5, 6, 7, 8, 9] [4, 5, 6, 7] (metX2_seedSize l D g2 d2 S V n cnt (odI 256) T sm al hn8 hc) q305 q306 q307 q22 q308 dL_law_388 rfl rfl rfl rfl ⟨⟨rfl, rfl⟩, Nat.le_of_ble_eq_true rfl, Nat.le_of_ble_eq_true rfl⟩ (by decide +kernel) rfl rfl (q0 := 0) rfl rfl hl.1 rfl (Nat.le_of_ble_eq_true rfl) ⟨Nat.le_of_ble_eq_true rfl, Nat.le_of_ble_eq_true rfl⟩ (fun r2 u2 H locs hq2 hP hD hS => ?_)
      refine lv_icmp_eq (tgt := 435) hx hb dL_law_391 (by decide) (fun _ => ?_) (fun hne => absurd (show r1 = r2 from by rw [hq1, pl_sd hI]; exact hq2.symm) hne)
      exact tl S V cnt R U N B LL X T sm al H locs hI hP hD hS
    · refine lv_tableIn (off := 354) (tgt := 396) hx hb dL_law_42 (by decide) (by decide) rfl (by decide) ?_
      refine lv_aload_n hx hb dL_law_396 rfl (lv_at hl 1 rfl) ?_
      refine fd_callVi (n := 0) (rest := []) (As := []) (wr := yW g2 d2 S V n cnt (odI 256) T sm al) S0 hK hP hD hS hA [0, 1, 2, 3, 4] [5, 6, 7, 8, 9] [0, 1, 2, 3] (metX1_seed l D g d S V n cnt R U N B LL X hn8 hc) q166 q160 q161 q21 q162 dL_law_397 rfl rfl rfl rfl ⟨⟨rfl, rfl⟩, Nat.le_of_ble_eq_true rfl, Nat.le_of_ble_eq_true rfl⟩ (by decide +kernel) rfl rfl (q0 := 0) rfl rfl hl.1 rfl (Nat.le_of_ble_eq_true rfl) ⟨Nat.le_of_ble_eq_true rfl, Nat.le_of_ble_eq_true rfl⟩ (fun r1 u1 H locs hq1 hP hD hS => ?_)
      refine lv_aload_n hx hb dL_law_400 rfl (lv_at hl 2 rfl) ?_
      refine fd_callVi (n := 0) (rest := [.int r1]) (As := []) (wr := xW g d S V n cnt R U N B LL X) S0 hK hP hD hS hA [0, 1, 2, 3, 4] [5, 6, 7, 8, 9] [4, 5, 6, 7] (metX2_seed l D g2 d2 S V n cnt (odI 256) T sm al hn8 hc) q314 q310 q311 q22 q312 dL_law_401 rfl rfl rfl rfl ⟨⟨rfl, rfl⟩, Nat.le_of_ble_eq_true rfl, Nat.le_of_ble_eq_true rfl⟩ (by decide +kernel) rfl rfl (q0 := 0) rfl rfl hl.1 rfl (Nat.le_of_ble_eq_true rfl) ⟨Nat.le_of_ble_eq_true rfl, Nat.le_of_ble_eq_true rfl⟩ (fun r2 u2 H locs hq2 hP hD hS => ?_)
      refine lv_icmp_eq (tgt := 435) hx hb dL_law_404 (by decide) (fun _ => ?_) (fun hne => absurd (show r1 = r2 from (hq1.trans (pl_sd hI)).trans hq2.symm) hne)
      exact tl S V cnt R U N B LL X T sm al H locs hI hP hD hS
    · refine lv_tableIn (off := 367) (tgt := 409) hx hb dL_law_42 (by decide) (by decide) rfl (by decide) ?_
      refine lv_aload_n hx hb dL_law_409 rfl (lv_at hl 1 rfl) ?_
      refine fd_callVi (n := 0) (rest := []) (As := []) (wr := yW g2 d2 S V n cnt (odI 256) T sm al) S0 hK hP hD hS hA [0, 1, 2, 3, 4] [5, 6, 7, 8, 9] [0, 1, 2, 3] (metX1_spare l D g d S V n cnt R U N B LL X (kwM S V (odI 256) n cnt) hc hra hkf) q167 q168 q169 q21 q170 dL_law_410 rfl rfl rfl rfl ⟨⟨rfl, rfl⟩, Nat.le_of_ble_eq_true rfl, Nat.le_of_ble_eq_true rfl⟩ (by decide +kernel) rfl rfl (q0 := 0) rfl rfl hl.1 rfl (Nat.le_of_ble_eq_true rfl) ⟨Nat.le_of_ble_eq_true rfl, Nat.le_of_ble_eq_true rfl⟩ (fun r1 u1 H locs hq1 hP hD hS => ?_)
      refine lv_aload_n hx hb dL_law_413 rfl (lv_at hl 2 rfl) ?_
      refine fd_callVi (n := 0) (rest := [.int r1]) (As := []) (wr := xW g d S V n cnt u1.1 u1.2.1 u1.2.2.1 u1.2.2.2.1 u1.2.2.2.2.1 u1.2.2.2.2.2) S0 hK hP hD hS hA [0, 1, 2, 3, 4] [5, 6, 7, 8, 9] [4, 5, 6, 7] (metX2_spare l D g2 d2 S V n cnt (odI 256) T sm al hn8 hc hg) q315 q316 q317 q22 q318 dL_law_414 rfl rfl rfl rfl ⟨⟨rfl, rfl⟩, Nat.le_of_ble_eq_true rfl, Nat.le_of_ble_eq_true rfl⟩ (by decide +kernel) rfl rfl (q0 := 0) rfl rfl hl.1 rfl (Nat.le_of_ble_eq_true rfl) ⟨Nat.le_of_ble_eq_true rfl, Nat.le_of_ble_eq_true rfl⟩ (fun r2 u2 H locs hq2 hP hD hS => ?_)
      refine lv_icmp_eq (tgt := 435) hx hb dL_law_417 (by decide) (fun _ => ?_) (fun hne => absurd (show r1 = r2 from (hq1.trans (pl_sp _ _)).trans hq2.symm) hne)
      exact tl S V cnt u1.1 u1.2.1 u1.2.2.1 u1.2.2.2.1 u1.2.2.2.2.1 u1.2.2.2.2.2 T u2.1 u2.2 H locs hI hP hD hS
    · refine lv_tableIn (off := 380) (tgt := 422) hx hb dL_law_42 (by decide) (by decide) rfl (by decide) ?_
      refine lv_aload_n hx hb dL_law_422 rfl (lv_at hl 1 rfl) ?_
      refine fd_callVi (n := 0) (rest := []) (As := []) (wr := yW g2 d2 S V n cnt (odI 256) T sm al) S0 hK hP hD hS hA [0, 1, 2, 3, 4] [5, 6, 7, 8, 9] [0, 1, 2, 3] (metX1_useful l D g d S V n cnt R U N B LL X hn1 hn8 hc hra) q171 q172 q173 q21 q174 dL_law_423 rfl rfl rfl rfl ⟨⟨rfl, rfl⟩, Nat.le_of_ble_eq_true rfl, Nat.le_of_ble_eq_true rfl⟩ (by decide +kernel) rfl rfl (q0 := 0) rfl rfl hl.1 rfl (Nat.le_of_ble_eq_true rfl) ⟨Nat.le_of_ble_eq_true rfl, Nat.le_of_ble_eq_true rfl⟩ (fun r1 u1 H locs hq1 hP hD hS => ?_)
      refine lv_aload_n hx hb dL_law_426 rfl (lv_at hl 2 rfl) ?_
      refine fd_callVi (n := 0) (rest := [.int r1]) (As := []) (wr := xW g d S V n cnt u1.1 u1.2.1 u1.2.2.1 u1.2.2.2.1 u1.2.2.2.2.1 u1.2.2.2.2.2) S0 hK hP hD hS hA [0, 1, 2, 3, 4] [5, 6, 7, 8, 9] [4, 5, 6, 7] (metX2_useful l D g2 d2 S V n cnt (odI 256) T sm al hn1 hn8 hc hg) q320 q321 q322 q22 q323 dL_law_427 rfl rfl rfl rfl ⟨⟨rfl, rfl⟩, Nat.le_of_ble_eq_true rfl, Nat.le_of_ble_eq_true rfl⟩ (by decide +kernel) rfl rfl (q0 := 0) rfl rfl hl.1 rfl (Nat.le_of_ble_eq_true rfl) ⟨Nat.le_of_ble_eq_true rfl, Nat.le_of_ble_eq_true rfl⟩ (fun r2 u2 H locs hq2 hP hD hS => ?_)
      refine lv_icmp_eq (tgt := 435) hx hb dL_law_430 (by decide) (fun _ => ?_) (fun hne => absurd (show r1 = r2 from pl_us hI hq1 hq2) hne)
      exact tl S V cnt u1.1 u1.2.1 u1.2.2.1 u1.2.2.2.1 u1.2.2.2.2.1 u1.2.2.2.2.2 u2.1 u2.2.1 u2.2.2 H locs hI hP hD hS
    · refine lv_tableOut (tgt := 435) hx hb dL_law_42 (Or.inr (by rw [nI_toInt (by omega)]; omega)) (by decide) ?_
      exact tl S V cnt R U N B LL X T sm al H locs hI hP hD hS
set_option maxHeartbeats 8000000 in
set_option maxRecDepth 100000 in
/-- THE LAW, from its entry -/
theorem whole_start {p : Program} {e : Env} {s : State} {m : MethodId} {below : List Frame} {meth : Method} {c : Code} (l : Launch) {b L : Nat} {xs : Nat → Int32} (hL : L ≤ 193) (C0 : lw_At p s m meth c b L xs) : W p l e room_1 s m #[Value.ref b] below meth c s.heap [] 0 0 (lw_Z below #[Value.ref b] s) (entryFrame m ([Value.ref b] : List Value).toArray 4) := by
  obtain ⟨hx, hb, hr, hml, hown, htb, hX, hbl, hlocks, hgv⟩ := id C0
  have hts : ∀ w ∈ lw_all, w.before #[Value.ref b] s = true := fun w h => htb w (lw_all_tbl h)
  have hown : s.vm.findClass "FountainDecoderLaw" = some m.cls := hown
  have hA : ∀ q : Nat, s.heap.size ≤ q → (fun q : Nat => s.heap.size ≤ q) q := fun _ h => h
  have hbA : ¬ (fun q : Nat => s.heap.size ≤ q) b := Nat.not_le.mpr hbl
  have S0 : CallFix p m c cL_law 4 s #[Value.ref b] lw_all "FountainDecoderLaw" := ⟨hx, hb, hml, hown, hts⟩
  obtain ⟨c1, iS1, hKn1⟩ := u_known (C := RX1) (T := TX1) (N := 10) (n := 10) hts in_X1 (hts _ q24)
  obtain ⟨c2, iS2, hKn2⟩ := u_known (C := RX2) (T := TX2) (N := 8) (n := 8) hts in_X2 (hts _ q183)
  obtain ⟨D, hKc⟩ : ∃ D : va_G, ∀ (k : Nat) (q : vw_C), vwCl[k]? = some q → u_Kn s q.1 q.2.1 q.2.2 (D.1 k) (D.2 k) := by
    refine ⟨(fun k => if k = 0 then c1 else c2, fun k => if k = 0 then iS1 else iS2), ?_⟩
    intro k q hq
    match k, hq with
    | 0, hq => cases hq; exact hKn1
    | 1, hq => cases hq; exact hKn2
    | k + 2, hq => simp [vwCl] at hq
  have hS : va_S (fun q : Nat => s.heap.size ≤ q) s.heap s.heap [] := va_S.rf
  have hK : va_K D vwCl [] s := ⟨hKc, fun k q h => by simp at h⟩
  have hP : va_P D vwCl [] s.heap := fun k q h => by simp at h
  have hD : va_D (fun q : Nat => s.heap.size ≤ q) [] := ⟨fun i j p q h => by simp at h, fun k q h => by simp at h⟩
  have hl := lv_entry ([.ref b]) (n := 4) (Nat.le_of_ble_eq_true rfl)
  rw [lg_entry_eq]
  generalize (lg_sl ([.ref b]) ++ List.replicate (4 - (lg_sl ([.ref b])).length) Slot.unset).toArray = ls at hl ⊢
  have hl : lv_has ls 4 [(0, .ref b)] := hl
  refine va_new (ci := 0) (fs := [.null, .null, .null, .null, .int 0, .int 0, .int 0, .int 0, .int 0, .int 0]) (C := RX1) (T := TX1) (N := 10) hx hb hts in_X1 tyX1 tyX1_ok hown (hts _ q23) (hts _ q24) (hts _ q21) hK hP hD hS hA rfl (fun j hj => by rcases (show j = 0 ∨ j = 1 ∨ j = 2 ∨ j = 3 ∨ j = 4 ∨ j = 5 ∨ j = 6 ∨ j = 7 ∨ j = 8 ∨ j = 9 by omega) with rfl | rfl | rfl | rfl | rfl | rfl | rfl | rfl | rfl | rfl <;> rfl) (Nat.le_of_ble_eq_true rfl) (Nat.le_of_ble_eq_true rfl) dL_law_0 (fun h1 H hP hD hS => ?_)
  have hP : va_P D vwCl [(h1, .inr (0, [.null, .null, .null, .null, .int 0, .int 0, .int 0, .int 0, .int 0, .int 0]))] H := hP
  have hD : va_D (fun q : Nat => s.heap.size ≤ q) [(h1, .inr (0, [.null, .null, .null, .null, .int 0, .int 0, .int 0, .int 0, .int 0, .int 0]))] := hD
  refine W.widen (k := 1) (n := 10) (Nat.le_of_ble_eq_true rfl) (Nat.le_of_ble_eq_true rfl) ?_
  refine lv_dup hx hb dL_law_3 rfl ?_
  refine lv_aload_n hx hb dL_law_4 rfl (lv_at hl 0 rfl) ?_
  refine lv_iconst (v := nI 0) hx hb dL_law_5 (by decide) ?_
  refine fd_cell (rest := [.ref h1, .ref h1]) S0 hL hX hbl hbA hP hD hS hA [0] dL_law_6 rfl rfl ⟨Nat.le_of_ble_eq_true rfl, Nat.le_of_ble_eq_true rfl⟩ hl.1 rfl (Nat.le_of_ble_eq_true rfl) ⟨Nat.le_of_ble_eq_true rfl, Nat.le_of_ble_eq_true rfl⟩ (fun H locs hP hD hS => ?_)
  refine fd_callN (n := 1) (rest := [.ref h1]) (As := [.int (cellV L xs)]) (wr := []) S0 hK hP hD hS hA [0] [] (metX1_init l D h1 (cellV L xs)) q25 q26 q21 q27 dL_law_9 rfl rfl rfl ⟨⟨rfl, rfl⟩, Nat.le_of_ble_eq_true rfl, Nat.le_of_ble_eq_true rfl⟩ rfl (by decide +kernel) rfl hl.1 rfl (Nat.le_of_ble_eq_true rfl) ⟨Nat.le_of_ble_eq_true rfl, Nat.le_of_ble_eq_true rfl⟩ (fun u H locs hq hK hP hD hS => ?_)
  obtain ⟨g, d, n⟩ := u
  obtain ⟨hg0, hn⟩ := hq
  have hg0 : g 0 = h1 := hg0
  have hn : n = nCl (cellV L xs) := hn
  rw [← hg0]
  have hK : va_K D vwCl (xT d) s := hK
  have hP : va_P D vwCl (xW g d (fun _ => 0) (fun _ => 0) n 0 (fun _ => 0) (fun _ => 0) 0 0 0 0) H := hP
  have hD : va_D (fun q : Nat => s.heap.size ≤ q) (xW g d (fun _ => 0) (fun _ => 0) n 0 (fun _ => 0) (fun _ => 0) 0 0 0 0) := hD
  refine W.widen (k := 5) (n := 58) (Nat.le_of_ble_eq_true rfl) (Nat.le_of_ble_eq_true rfl) ?_
  refine lv_astore_n (lv' := [(1, .ref (g 0)), (0, .ref b)]) hx hb dL_law_12 rfl hl (by decide) rfl (fun ls hl => ?_)
  refine va_new (ci := 1) (fs := [.null, .null, .null, .null, .int 0, .int 0, .int 0, .int 0]) (C := RX2) (T := TX2) (N := 8) hx hb hts in_X2 tyX2 tyX2_ok hown (hts _ q182) (hts _ q183) (hts _ q22) hK hP hD hS hA rfl (fun j hj => by rcases (show j = 0 ∨ j = 1 ∨ j = 2 ∨ j = 3 ∨ j = 4 ∨ j = 5 ∨ j = 6 ∨ j = 7 by omega) with rfl | rfl | rfl | rfl | rfl | rfl | rfl | rfl <;> rfl) (Nat.le_of_ble_eq_true rfl) (Nat.le_of_ble_eq_true rfl) dL_law_13 (fun h2 H hP hD hS => ?_)
  refine W.widen (k := 6) (n := 66) (Nat.le_of_ble_eq_true rfl) (Nat.le_of_ble_eq_true rfl) ?_
  refine lv_dup hx hb dL_law_16 rfl ?_
  refine lv_aload_n hx hb dL_law_17 rfl (lv_at hl 1 rfl) ?_
  refine lv_iconst (v := nI 0) hx hb dL_law_18 (by decide) ?_
  refine fd_cell (rest := [.ref h2, .ref h2]) S0 hL hX hbl hbA hP hD hS hA [0, 1, 2, 3, 4, 5] dL_law_19 rfl rfl ⟨Nat.le_of_ble_eq_true rfl, Nat.le_of_ble_eq_true rfl⟩ hl.1 rfl (Nat.le_of_ble_eq_true rfl) ⟨Nat.le_of_ble_eq_true rfl, Nat.le_of_ble_eq_true rfl⟩ (fun H locs hP hD hS => ?_)
  refine fd_callN (n := 1) (rest := [.ref h2]) (As := [.int (cellV L xs)]) (wr := xW g d (fun _ => 0) (fun _ => 0) n 0 (fun _ => 0) (fun _ => 0) 0 0 0 0) S0 hK hP hD hS hA [5] [0, 1, 2, 3, 4] (metX2_init l D h2 (cellV L xs)) q184 q185 q22 q186 dL_law_22 rfl rfl rfl ⟨⟨rfl, rfl⟩, Nat.le_of_ble_eq_true rfl, Nat.le_of_ble_eq_true rfl⟩ rfl (by decide +kernel) rfl hl.1 rfl (Nat.le_of_ble_eq_true rfl) ⟨Nat.le_of_ble_eq_true rfl, Nat.le_of_ble_eq_true rfl⟩ (fun u H locs hq hK hP hD hS => ?_)
  obtain ⟨g2, d2, n2⟩ := u
  obtain ⟨hg0, hn2⟩ := hq
  have hg0 : g2 0 = h2 := hg0
  have hn2 : n2 = nCl (cellV L xs) := hn2
  rw [← hg0]
  have hP : va_P D vwCl (xW g d (fun _ => 0) (fun _ => 0) n 0 (fun _ => 0) (fun _ => 0) 0 0 0 0 ++ yW g2 d2 (fun _ => 0) (fun _ => 0) n2 0 (odI 256) (fun _ => 0) 0 0) H := hP
  have hD : va_D (fun q : Nat => s.heap.size ≤ q) (xW g d (fun _ => 0) (fun _ => 0) n 0 (fun _ => 0) (fun _ => 0) 0 0 0 0 ++ yW g2 d2 (fun _ => 0) (fun _ => 0) n2 0 (odI 256) (fun _ => 0) 0 0) := hD
  have en : n2 = n := hn2.trans hn.symm
  rw [en] at hP hD
  have hK : va_K D vwCl (xT d ++ yT d2) s := hK
  refine W.widen (k := 10) (n := 610) (Nat.le_of_ble_eq_true rfl) (Nat.le_of_ble_eq_true rfl) ?_
  refine lv_astore_n (lv' := [(2, .ref (g2 0)), (1, .ref (g 0)), (0, .ref b)]) hx hb dL_law_25 rfl hl (by decide) rfl (fun ls hl => ?_)
  refine lv_iconst (v := nI 1) hx hb dL_law_26 (by decide) ?_
  refine lv_istore_n (lv' := [(3, .int (nI 1)), (2, .ref (g2 0)), (1, .ref (g 0)), (0, .ref b)]) hx hb dL_law_27 rfl hl (by decide) rfl (fun ls hl => ?_)
  have hI : fdInv (fun _ => 0) (fun _ => 0) n 0 := by
    obtain ⟨a1, a2⟩ := nCl_in (cellV L xs)
    exact ⟨by omega, by omega, by omega, fun j hj => absurd hj (Nat.not_lt_zero _), fun j hj => absurd hj (Nat.not_lt_zero _)⟩
  exact law_loop hL C0 D g d g2 d2 hK _ 1 (fun _ => 0) (fun _ => 0) n 0 (fun _ => 0) (fun _ => 0) 0 0 0 0 (fun _ => 0) 0 0 H locs ls (Nat.lt_succ_self _) (by omega) hI hP hD hS (lv_sub hl [3, 2, 1, 0] rfl)
end
section
-- ===== YOUR PART ENDS =====
set_option maxHeartbeats 4000000 in
theorem lw_walk (l : Launch) (b : Addr) (xs : List Int32) : MetFree l x (headSpec (Jvm.Cond.code x code maxLocals ret :: tables_1) room_1) (lw_P b xs) (fun _ _ _ _ _ => True) lw_Q := by
  refine MetFree.of_bodyS (code := code) (maxLocals := maxLocals) (ret := ret) (by decide) ?_ ?_
  · intro args s m h hn
    obtain ⟨meth, c, h1, h2, h3, h4, h5, h6, -, -⟩ := Cond.code_spec hn (atoms_spec (ws := Jvm.Cond.code x code maxLocals ret :: tables_1) h _ List.mem_cons_self)
    exact ⟨meth, c, h1, h2, h3, h4, h5, h6⟩
  · intro p e s m args below meth c s₁ B hml0 hP _
    obtain ⟨rfl, hx, hbd, hgv⟩ := hP
    obtain ⟨scr, harrAt, hlist, hof, hsmall⟩ := hx
    obtain ⟨hcb, hkn, -, -⟩ := State.arrayAt?_spec harrAt
    have hown : s.vm.findClass R_law = some m.cls := findClass_of_methodNamed B.named
    have hts0 : ∀ c ∈ (Jvm.Cond.code x code maxLocals ret :: tables_1), c.before #[Value.ref b] s = true := atoms_spec (ws := Jvm.Cond.code x code maxLocals ret :: tables_1) B.pre
    have hts : ∀ w ∈ lw_tbl, w.before #[Value.ref b] s = true := k2_hts_sels lw_privs (fun w hw => hts0 w (List.mem_cons_of_mem _ hw)) lw_privs_ok
    have hml : c.maxLocals = 4 := B.maxLocals_eq (hts0 _ List.mem_cons_self)
    have X₀ : Stand p l e room_1 s m #[Value.ref b] below meth c s₁ [] 0 0 := Stand.of_body B
    have hh0 : s₁.heap = s.heap := by rw [B.state]; rfl
    have hsz : scr.slots.size = xs.length := by rw [← Array.length_toList, hlist, List.length_map]
    have hval : ∀ j : Nat, j < xs.length → scr.slots[j]? = some (.int (xs.getD j 0)) := fun j hj => by
      rw [← Array.getElem?_toList, hlist]
      simp [hj]
    have hbl : b < s.heap.size := (Array.getElem?_eq_some_iff.mp hcb).1
    have hX : va_X b xs.length (fun j => xs.getD j 0) s s.heap := ⟨scr, hcb, hof, hkn, hsz, hval⟩
    have K : W p l e room_1 s m #[Value.ref b] below meth c s₁.heap [] 0 0 (lw_Z below #[Value.ref b] s) (entryFrame m ([Value.ref b] : List Value).toArray 4) := by
      rw [hh0]
      exact whole_start l hbd ⟨B.exec, B.bytes, B.returns, hml, hown, hts, hX, hbl, B.notSynchronized, hgv⟩
    obtain ⟨t, a1, o, b1, b2, b3⟩ := K s₁ rfl X₀
    exact ⟨t, o, a1, b1, b2, b3⟩
theorem lw_pre_spec {args : Array Value} {s : State} (h : (Jvm.Cond.and given_1 narrow_1).before args s = true) (hr : rest_1_c.before args s = true) : ∃ (b : Addr) (xs : List Int32), lw_P b xs args s := by
  have hs := flat_of_before _ h
  have hq := flat_of_before _ hr
  have hc : (Cond.count 1).before args s = true := hs _ (by decide +kernel)
  have harr : (Cond.arrayOf (.arg 0) .int).before args s = true := hs _ (by decide +kernel)
  have hle : (Cond.le (.length (.arg 0)) (.int 193)).before args s = true := hs _ (by decide +kernel)
  have hlen : (Cond.isInt (.length (.arg 0))).before args s = true := hq _ (by decide +kernel)
  have hall : (Cond.all (.arg 0) (.isInt (.elem (.arg 0) (.index 0)))).before args s = true := hq _ (by decide +kernel)
  obtain ⟨b, xs, hb, hx⟩ := State.ints_of_pre rfl harr hlen hall
  have hsm : xs.length < 2 ^ 31 := hx.choose_spec.2.2.2
  have hev : (Term.length (.arg 0)).eval args s none [] s = some (.int xs.length.toInt32) := hx.length_eval hb
  have hv := Cond.le_ints hev (show (Term.int 193).eval args s none [] s = some (.int 193) from rfl)
  have hd : xs.length.toInt32 ≤ 193 := by
    simpa [Cond.before, Cond.holds, hv] using hle
  have hN : xs.length ≤ 193 := (Int32.ofNat_le_ofNat hsm (by decide)).mp (show Int32.ofNat xs.length ≤ Int32.ofNat 193 from hd)
  exact ⟨b, xs, Cond.one_arg hc (show args[0]? = some (.ref b) from hb), hx, hN, h⟩
theorem lw_comes (l : Launch) : Comes l x (Jvm.Cond.code x code maxLocals ret :: tables_1) room_1 (fun tb e args s => Calls_1 tb e args s ∧ rest_1 tb e args s ∧ Pre_1 tb e args s)
    (fun _ _ args s o t => lw_Q args s o t) := by
  intro p e ha hc hk s m args below hf hfit hheap happ hpre
  obtain ⟨b, xs, hP⟩ := lw_pre_spec hpre.2.2 hpre.2.1
  obtain ⟨k, o, h1, h2, h3, hQ⟩ := lw_walk l b xs p e ha hc hk s m args below hf ((Spec.applies_iff_loose hf).mp happ).1 hP trivial
  exact ⟨k, o, h1, h2, h3, hQ⟩
theorem lw_frame {s t : State} {o : Outcome} {args : Array Value} (h : Framed s o t [] 600000 7290000) :
    Framed s o t (fieldLocs frame_1_writes args s ++ arrayLocs frame_1_arrays args s ++ staticLocs frame_1_statics s) 600000 7290000 := h
theorem lw_limb (L : Cond) (hL : ∀ (args : Array Value) (s t : State), L.after args s (.returned (some (.int 1))) t = true) :
    ArmFor flags0 classFile x code maxLocals ret World_1 tables_1 room_1 Calls_1 rest_1 Pre_1
      (fun tb e a s o t => postC L tb e a s o t ∧ Framed s o t (fieldLocs frame_1_writes a s ++ arrayLocs frame_1_arrays a s ++ staticLocs frame_1_statics s) 600000 7290000) := by
  intro l _ _ _ p e ha hc hk s m args below hf hfit hheap happ hpre
  obtain ⟨k, o, h1, h2, h3, rfl, hF⟩ := lw_comes l p e ha hc hk s m args below hf hfit hheap happ hpre
  exact ⟨k, _, h1, h2, h3, hL args s _, lw_frame hF⟩
theorem i_vc : Claimed_1_1 ∧ Claimed_1_2 := ⟨lw_limb limb_1_1 (fun args s t => by simp [limb_1_1, Cond.after, Cond.holds, Cond.value]), lw_limb limb_1_2 (fun args s t => Cond.after_iff.mpr (by
  first | (rw [show limb_1_2 = Cond.eq .result (.int 1) from rfl, Cond.eq_ints (x := 1) (y := 1) rfl rfl]; simp; done) | (simp [limb_1_2, Cond.value, Term.eval]; done)))⟩
end
