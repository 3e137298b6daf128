section
-- ===== PART A: goes FIRST, ahead of the names: the tables' words, and 'selects' of the private methods out of them =====
/-- a private method of a class that the tables say can be made, by its rows of tables_1 -/
def lw_okq (q : MethodName × Nat) : Prop := (q.1.cls ≠ "java/lang/invoke/MethodHandle" ∧ q.1.cls ≠ "java/lang/invoke/VarHandle") ∧ Cond.instantiable q.1.cls q.2 ∈ tables_1 ∧ Cond.privateMethod q.1 ∈ tables_1 ∧ Cond.instanceMethod q.1 ∈ tables_1
set_option maxRecDepth 100000
theorem lw_t1 {w : Cond} (h : w ∈ tables_1_1) : w ∈ tables_1 := List.mem_append_left _ h
theorem lw_t2 {w : Cond} (h : w ∈ tables_1_2) : w ∈ tables_1 := List.mem_append_right _ h
theorem lw_p0 : lw_okq (⟨"SeriesCodec", "timeNow", "()I"⟩, 20) := ⟨⟨by decide +kernel, by decide +kernel⟩, lw_t1 (List.mem_of_getElem? (i := 4) rfl), lw_t1 (List.mem_of_getElem? (i := 79) rfl), lw_t1 (List.mem_of_getElem? (i := 80) rfl)⟩
theorem lw_p1 : lw_okq (⟨"SeriesCodec", "resume", "()V"⟩, 20) := ⟨⟨by decide +kernel, by decide +kernel⟩, lw_t1 (List.mem_of_getElem? (i := 4) rfl), lw_t1 (List.mem_of_getElem? (i := 84) rfl), lw_t1 (List.mem_of_getElem? (i := 85) rfl)⟩
theorem lw_p2 : lw_okq (⟨"SeriesCodec", "unpack", "(I)V"⟩, 20) := ⟨⟨by decide +kernel, by decide +kernel⟩, lw_t1 (List.mem_of_getElem? (i := 4) rfl), lw_t1 (List.mem_of_getElem? (i := 88) rfl), lw_t1 (List.mem_of_getElem? (i := 89) rfl)⟩
theorem lw_p3 : lw_okq (⟨"SeriesCodec", "get", "(I)I"⟩, 20) := ⟨⟨by decide +kernel, by decide +kernel⟩, lw_t1 (List.mem_of_getElem? (i := 4) rfl), lw_t1 (List.mem_of_getElem? (i := 92) rfl), lw_t1 (List.mem_of_getElem? (i := 93) rfl)⟩
theorem lw_p4 : lw_okq (⟨"SeriesCodec", "inChunk", "(I)I"⟩, 20) := ⟨⟨by decide +kernel, by decide +kernel⟩, lw_t1 (List.mem_of_getElem? (i := 4) rfl), lw_t1 (List.mem_of_getElem? (i := 96) rfl), lw_t1 (List.mem_of_getElem? (i := 97) rfl)⟩
theorem lw_p5 : lw_okq (⟨"SeriesCodec", "readGapChange", "()I"⟩, 20) := ⟨⟨by decide +kernel, by decide +kernel⟩, lw_t1 (List.mem_of_getElem? (i := 4) rfl), lw_t1 (List.mem_of_getElem? (i := 100) rfl), lw_t1 (List.mem_of_getElem? (i := 101) rfl)⟩
theorem lw_p6 : lw_okq (⟨"SeriesCodec", "readChange", "()I"⟩, 20) := ⟨⟨by decide +kernel, by decide +kernel⟩, lw_t1 (List.mem_of_getElem? (i := 4) rfl), lw_t1 (List.mem_of_getElem? (i := 104) rfl), lw_t1 (List.mem_of_getElem? (i := 105) rfl)⟩
theorem lw_p7 : lw_okq (⟨"SeriesCodec", "write", "(II)V"⟩, 20) := ⟨⟨by decide +kernel, by decide +kernel⟩, lw_t1 (List.mem_of_getElem? (i := 4) rfl), lw_t1 (List.mem_of_getElem? (i := 108) rfl), lw_t1 (List.mem_of_getElem? (i := 109) rfl)⟩
theorem lw_p8 : lw_okq (⟨"SeriesCodec", "put", "(III)V"⟩, 20) := ⟨⟨by decide +kernel, by decide +kernel⟩, lw_t1 (List.mem_of_getElem? (i := 4) rfl), lw_t1 (List.mem_of_getElem? (i := 112) rfl), lw_t1 (List.mem_of_getElem? (i := 113) rfl)⟩
theorem lw_p9 : lw_okq (⟨"SeriesCodec", "writeGapChange", "(II)V"⟩, 20) := ⟨⟨by decide +kernel, by decide +kernel⟩, lw_t1 (List.mem_of_getElem? (i := 4) rfl), lw_t1 (List.mem_of_getElem? (i := 116) rfl), lw_t1 (List.mem_of_getElem? (i := 117) rfl)⟩
theorem lw_p10 : lw_okq (⟨"SeriesCodec", "writeChange", "(II)V"⟩, 20) := ⟨⟨by decide +kernel, by decide +kernel⟩, lw_t1 (List.mem_of_getElem? (i := 4) rfl), lw_t1 (List.mem_of_getElem? (i := 120) rfl), lw_t1 (List.mem_of_getElem? (i := 121) rfl)⟩
theorem lw_p11 : lw_okq (⟨"SeriesCodec", "zerosBefore", "(I)I"⟩, 20) := ⟨⟨by decide +kernel, by decide +kernel⟩, lw_t1 (List.mem_of_getElem? (i := 4) rfl), lw_t1 (List.mem_of_getElem? (i := 124) rfl), lw_t1 (List.mem_of_getElem? (i := 125) rfl)⟩
theorem lw_p12 : lw_okq (⟨"SeriesCodec", "zerosBehind", "(I)I"⟩, 20) := ⟨⟨by decide +kernel, by decide +kernel⟩, lw_t1 (List.mem_of_getElem? (i := 4) rfl), lw_t1 (List.mem_of_getElem? (i := 128) rfl), lw_t1 (List.mem_of_getElem? (i := 129) rfl)⟩
theorem lw_p13 : lw_okq (⟨"SeriesCodec", "enter", "(III)V"⟩, 20) := ⟨⟨by decide +kernel, by decide +kernel⟩, lw_t1 (List.mem_of_getElem? (i := 4) rfl), lw_t1 (List.mem_of_getElem? (i := 132) rfl), lw_t1 (List.mem_of_getElem? (i := 133) rfl)⟩
theorem lw_p14 : lw_okq (⟨"SeriesCodec", "noPoint", "(I)Z"⟩, 20) := ⟨⟨by decide +kernel, by decide +kernel⟩, lw_t1 (List.mem_of_getElem? (i := 4) rfl), lw_t1 (List.mem_of_getElem? (i := 157) rfl), lw_t1 (List.mem_of_getElem? (i := 158) rfl)⟩
theorem lw_p15 : lw_okq (⟨"SeriesCodec", "chunks", "()I"⟩, 20) := ⟨⟨by decide +kernel, by decide +kernel⟩, lw_t1 (List.mem_of_getElem? (i := 4) rfl), lw_t1 (List.mem_of_getElem? (i := 169) rfl), lw_t1 (List.mem_of_getElem? (i := 170) rfl)⟩
def lw_privs_1 : List (MethodName × Nat) := [(⟨"SeriesCodec", "timeNow", "()I"⟩, 20), (⟨"SeriesCodec", "resume", "()V"⟩, 20), (⟨"SeriesCodec", "unpack", "(I)V"⟩, 20), (⟨"SeriesCodec", "get", "(I)I"⟩, 20), (⟨"SeriesCodec", "inChunk", "(I)I"⟩, 20), (⟨"SeriesCodec", "readGapChange", "()I"⟩, 20), (⟨"SeriesCodec", "readChange", "()I"⟩, 20), (⟨"SeriesCodec", "write", "(II)V"⟩, 20), (⟨"SeriesCodec", "put", "(III)V"⟩, 20), (⟨"SeriesCodec", "writeGapChange", "(II)V"⟩, 20), (⟨"SeriesCodec", "writeChange", "(II)V"⟩, 20), (⟨"SeriesCodec", "zerosBefore", "(I)I"⟩, 20), (⟨"SeriesCodec", "zerosBehind", "(I)I"⟩, 20), (⟨"SeriesCodec", "enter", "(III)V"⟩, 20), (⟨"SeriesCodec", "noPoint", "(I)Z"⟩, 20), (⟨"SeriesCodec", "chunks", "()I"⟩, 20)]
theorem lw_r1 : ∀ q ∈ lw_privs_1, lw_okq q := List.forall_mem_cons.mpr ⟨lw_p0, List.forall_mem_cons.mpr ⟨lw_p1, List.forall_mem_cons.mpr ⟨lw_p2, List.forall_mem_cons.mpr ⟨lw_p3, List.forall_mem_cons.mpr ⟨lw_p4, List.forall_mem_cons.mpr ⟨lw_p5, List.forall_mem_cons.mpr ⟨lw_p6, List.forall_mem_cons.mpr ⟨lw_p7, List.forall_mem_cons.mpr ⟨lw_p8, List.forall_mem_cons.mpr ⟨lw_p9, List.forall_mem_cons.mpr ⟨lw_p10, List.forall_mem_cons.mpr ⟨lw_p11, List.forall_mem_cons.mpr ⟨lw_p12, List.forall_mem_cons.mpr ⟨lw_p13, List.forall_mem_cons.mpr ⟨lw_p14, List.forall_mem_cons.mpr ⟨lw_p15, fun _ h => absurd h List.not_mem_nil⟩⟩⟩⟩⟩⟩⟩⟩⟩⟩⟩⟩⟩⟩⟩⟩
theorem lw_p16 : lw_okq (⟨"SeriesCodec", "badSpan", "(II)Z"⟩, 20) := ⟨⟨by decide +kernel, by decide +kernel⟩, lw_t1 (List.mem_of_getElem? (i := 4) rfl), lw_t1 (List.mem_of_getElem? (i := 185) rfl), lw_t1 (List.mem_of_getElem? (i := 186) rfl)⟩
theorem lw_p17 : lw_okq (⟨"SeriesCodec", "search", "(II)V"⟩, 20) := ⟨⟨by decide +kernel, by decide +kernel⟩, lw_t1 (List.mem_of_getElem? (i := 4) rfl), lw_t1 (List.mem_of_getElem? (i := 189) rfl), lw_t1 (List.mem_of_getElem? (i := 190) rfl)⟩
theorem lw_p18 : lw_okq (⟨"SeriesCodec", "note", "(IIII)V"⟩, 20) := ⟨⟨by decide +kernel, by decide +kernel⟩, lw_t1 (List.mem_of_getElem? (i := 4) rfl), lw_t1 (List.mem_of_getElem? (i := 194) rfl), lw_t1 (List.mem_of_getElem? (i := 195) rfl)⟩
theorem lw_p19 : lw_okq (⟨"SeriesCodec", "cut", "(III)V"⟩, 20) := ⟨⟨by decide +kernel, by decide +kernel⟩, lw_t1 (List.mem_of_getElem? (i := 4) rfl), lw_t1 (List.mem_of_getElem? (i := 198) rfl), lw_t1 (List.mem_of_getElem? (i := 199) rfl)⟩
theorem lw_p20 : lw_okq (⟨"SeriesCodecModel", "lastTime", "()I"⟩, 5) := ⟨⟨by decide +kernel, by decide +kernel⟩, lw_t1 (List.mem_of_getElem? (i := 226) rfl), lw_t2 (List.mem_of_getElem? (i := 13) rfl), lw_t2 (List.mem_of_getElem? (i := 14) rfl)⟩
theorem lw_p21 : lw_okq (⟨"SeriesCodecModel", "isValue", "(I)Z"⟩, 5) := ⟨⟨by decide +kernel, by decide +kernel⟩, lw_t1 (List.mem_of_getElem? (i := 226) rfl), lw_t2 (List.mem_of_getElem? (i := 17) rfl), lw_t2 (List.mem_of_getElem? (i := 18) rfl)⟩
theorem lw_p22 : lw_okq (⟨"SeriesCodecModel", "isPoint", "(I)Z"⟩, 5) := ⟨⟨by decide +kernel, by decide +kernel⟩, lw_t1 (List.mem_of_getElem? (i := 226) rfl), lw_t2 (List.mem_of_getElem? (i := 44) rfl), lw_t2 (List.mem_of_getElem? (i := 45) rfl)⟩
theorem lw_p23 : lw_okq (⟨"SeriesCodecModel", "timeSize", "(I)I"⟩, 5) := ⟨⟨by decide +kernel, by decide +kernel⟩, lw_t1 (List.mem_of_getElem? (i := 226) rfl), lw_t2 (List.mem_of_getElem? (i := 56) rfl), lw_t2 (List.mem_of_getElem? (i := 57) rfl)⟩
theorem lw_p24 : lw_okq (⟨"SeriesCodecModel", "valueSize", "(I)I"⟩, 5) := ⟨⟨by decide +kernel, by decide +kernel⟩, lw_t1 (List.mem_of_getElem? (i := 226) rfl), lw_t2 (List.mem_of_getElem? (i := 60) rfl), lw_t2 (List.mem_of_getElem? (i := 61) rfl)⟩
theorem lw_p25 : lw_okq (⟨"SeriesCodecModel", "isSpan", "(II)Z"⟩, 5) := ⟨⟨by decide +kernel, by decide +kernel⟩, lw_t1 (List.mem_of_getElem? (i := 226) rfl), lw_t2 (List.mem_of_getElem? (i := 77) rfl), lw_t2 (List.mem_of_getElem? (i := 78) rfl)⟩
theorem lw_p26 : lw_okq (⟨"SeriesCodecModel", "isIn", "(III)Z"⟩, 5) := ⟨⟨by decide +kernel, by decide +kernel⟩, lw_t1 (List.mem_of_getElem? (i := 226) rfl), lw_t2 (List.mem_of_getElem? (i := 81) rfl), lw_t2 (List.mem_of_getElem? (i := 82) rfl)⟩
def lw_privs_2 : List (MethodName × Nat) := [(⟨"SeriesCodec", "badSpan", "(II)Z"⟩, 20), (⟨"SeriesCodec", "search", "(II)V"⟩, 20), (⟨"SeriesCodec", "note", "(IIII)V"⟩, 20), (⟨"SeriesCodec", "cut", "(III)V"⟩, 20), (⟨"SeriesCodecModel", "lastTime", "()I"⟩, 5), (⟨"SeriesCodecModel", "isValue", "(I)Z"⟩, 5), (⟨"SeriesCodecModel", "isPoint", "(I)Z"⟩, 5), (⟨"SeriesCodecModel", "timeSize", "(I)I"⟩, 5), (⟨"SeriesCodecModel", "valueSize", "(I)I"⟩, 5), (⟨"SeriesCodecModel", "isSpan", "(II)Z"⟩, 5), (⟨"SeriesCodecModel", "isIn", "(III)Z"⟩, 5)]
theorem lw_r2 : ∀ q ∈ lw_privs_2, lw_okq q := List.forall_mem_cons.mpr ⟨lw_p16, List.forall_mem_cons.mpr ⟨lw_p17, List.forall_mem_cons.mpr ⟨lw_p18, List.forall_mem_cons.mpr ⟨lw_p19, List.forall_mem_cons.mpr ⟨lw_p20, List.forall_mem_cons.mpr ⟨lw_p21, List.forall_mem_cons.mpr ⟨lw_p22, List.forall_mem_cons.mpr ⟨lw_p23, List.forall_mem_cons.mpr ⟨lw_p24, List.forall_mem_cons.mpr ⟨lw_p25, List.forall_mem_cons.mpr ⟨lw_p26, fun _ h => absurd h List.not_mem_nil⟩⟩⟩⟩⟩⟩⟩⟩⟩⟩⟩
def lw_privs : List (MethodName × Nat) := lw_privs_1 ++ (lw_privs_2)
def lw_tbl : List Cond := k2_sels lw_privs ++ tables_1
theorem lw_privs_ok : ∀ q ∈ lw_privs, lw_okq q := by
  show ∀ q ∈ lw_privs_1 ++ (lw_privs_2), lw_okq q
  exact List.forall_mem_append.mpr ⟨lw_r1, lw_r2⟩
-- ===== ONE list of words for every method: the tables' words that hold all through a run =====
def lw_all : List Cond := lw_tbl.filter goodWord
/-- a word of the tables by its place: claim/WORDS.tsv -/
theorem lw_w {w : Cond} (i : Nat) (h : lw_tbl[i]? = some w) (g : goodWord w = true) : w ∈ lw_all := List.mem_filter.mpr ⟨List.mem_of_getElem? h, g⟩
theorem lw_all_tbl {w : Cond} (h : w ∈ lw_all) : w ∈ lw_tbl := (List.mem_filter.mp h).1
theorem lw_self : GoodIn lw_all lw_all := fun w h => ⟨h, good_of_word (List.mem_filter.mp h).2⟩
/-- a class's field words, by their places -/
theorem lw_in (ws : List Cond) (ps : List Nat) (hp : ws = ps.filterMap (fun i => lw_tbl[i]?)) (hg : ws.all goodWord = true) : ∀ w ∈ ws, w ∈ lw_all := by
  intro w h
  have h1 := List.all_eq_true.mp hg w h
  rw [hp] at h
  obtain ⟨i, -, hi⟩ := List.mem_filterMap.mp h
  exact lw_w i hi h1
/-- the words of a contract for the method y with code b, L locals, answer r -/
abbrev ws_ (y : MethodName) (b : ByteArray) (L : Nat) (r : Option FieldType) : List Cond := Cond.code y b L r :: lw_all
theorem lw_meth {y : MethodName} {b : ByteArray} {L : Nat} {r : Option FieldType} (h : Cond.code y b L r ∈ lw_all) : GoodIn lw_all (ws_ y b L r) := by
  intro w hw
  rcases List.mem_cons.mp hw with e | e
  · rw [e]
    exact lw_self _ h
  · exact lw_self _ e
theorem lw_app {a c : List Cond} (ha : ∀ w ∈ a, w ∈ lw_all) (hc : GoodIn lw_all c) : GoodIn lw_all (a ++ c) := by
  intro w hw
  rcases List.mem_append.mp hw with e | e
  · exact lw_self w (ha w e)
  · exact hc w e
/-- what a call through an object asks: cwV n hts (lw_V ..) -/
theorem lw_V {own : String} {idx : Nat} {C : String} {y : MethodName} {b : ByteArray} {L : Nat} {r : Option FieldType} (h1 : Cond.methodLink own idx y ∈ lw_all) (h2 : Cond.instanceMethod y ∈ lw_all) (h3 : Cond.selects C y y ∈ lw_all) (h4 : Cond.initialized C ∈ lw_all) (h5 : Cond.code y b L r ∈ lw_all) : GoodIn lw_all (wsV own idx C y (ws_ y b L r)) := by
  refine lw_app ?_ (lw_meth h5)
  intro w hw
  simp only [List.mem_cons, List.not_mem_nil, or_false] at hw
  rcases hw with e | e | e | e
  · rw [e]; exact h1
  · rw [e]; exact h2
  · rw [e]; exact h3
  · rw [e]; exact h4
/-- what a static call asks: va_cwS n hts (lw_S ..) -/
theorem lw_S {own : String} {idx : Nat} {y : MethodName} {b : ByteArray} {L : Nat} {r : Option FieldType} (h1 : Cond.methodLink own idx y ∈ lw_all) (h2 : Cond.static y ∈ lw_all) (h3 : Cond.initialized y.cls ∈ lw_all) (h4 : Cond.code y b L r ∈ lw_all) : GoodIn lw_all (va_wsS own idx y (ws_ y b L r)) := by
  refine lw_app ?_ (lw_meth h4)
  intro w hw
  simp only [List.mem_cons, List.not_mem_nil, or_false] at hw
  rcases hw with e | e | e
  · rw [e]; exact h1
  · rw [e]; exact h2
  · rw [e]; exact h3
/-- the words of a contract for a method WITH HANDLERS (hh: its table) -/
abbrev wsW_ (y : MethodName) (b : ByteArray) (L : Nat) (r : Option FieldType) (hh : List (Nat × Nat × Nat × Nat)) : List Cond := Cond.codeWith y b L r hh :: lw_all
theorem lw_methW {y : MethodName} {b : ByteArray} {L : Nat} {r : Option FieldType} {hh : List (Nat × Nat × Nat × Nat)} (h : Cond.codeWith y b L r hh ∈ lw_all) : GoodIn lw_all (wsW_ y b L r hh) := by
  intro w hw
  rcases List.mem_cons.mp hw with e | e
  · rw [e]
    exact lw_self _ h
  · exact lw_self _ e
/-- any list of words by their places (lw_in), good -/
theorem lw_good {ws : List Cond} (h : ∀ w ∈ ws, w ∈ lw_all) : GoodIn lw_all ws := fun w hw => lw_self w (h w hw)
/-- what a call of a method with handlers asks: vx_cwVW n hts (lw_VW ..), vx_cwSW n hts (lw_SW ..) -/
theorem lw_VW {own : String} {idx : Nat} {C : String} {y : MethodName} {b : ByteArray} {L : Nat} {r : Option FieldType} {hh : List (Nat × Nat × Nat × Nat)} (h1 : Cond.methodLink own idx y ∈ lw_all) (h2 : Cond.instanceMethod y ∈ lw_all) (h3 : Cond.selects C y y ∈ lw_all) (h4 : Cond.initialized C ∈ lw_all) (h5 : Cond.codeWith y b L r hh ∈ lw_all) : GoodIn lw_all (wsV own idx C y (wsW_ y b L r hh)) := by
  refine lw_app ?_ (lw_methW h5)
  intro w hw
  simp only [List.mem_cons, List.not_mem_nil, or_false] at hw
  rcases hw with e | e | e | e
  · rw [e]; exact h1
  · rw [e]; exact h2
  · rw [e]; exact h3
  · rw [e]; exact h4
theorem lw_SW {own : String} {idx : Nat} {y : MethodName} {b : ByteArray} {L : Nat} {r : Option FieldType} {hh : List (Nat × Nat × Nat × Nat)} (h1 : Cond.methodLink own idx y ∈ lw_all) (h2 : Cond.static y ∈ lw_all) (h3 : Cond.initialized y.cls ∈ lw_all) (h4 : Cond.codeWith y b L r hh ∈ lw_all) : GoodIn lw_all (va_wsS own idx y (wsW_ y b L r hh)) := by
  refine lw_app ?_ (lw_methW h4)
  intro w hw
  simp only [List.mem_cons, List.not_mem_nil, or_false] at hw
  rcases hw with e | e | e
  · rw [e]; exact h1
  · rw [e]; exact h2
  · rw [e]; exact h3
/-- a word by its place in its run of the tables -/
theorem lw_at {r : List Cond} (hr : ∀ w ∈ r, w ∈ lw_tbl) {w : Cond} (i : Nat) (h : r[i]? = some w) : w ∈ lw_tbl := hr w (List.mem_of_getElem? h)
theorem lw_g {w : Cond} (h : w ∈ lw_tbl) (g : goodWord w = true) : w ∈ lw_all := List.mem_filter.mpr ⟨h, g⟩
theorem lw_ms : ∀ w ∈ k2_sels lw_privs, w ∈ lw_tbl := fun w h => show w ∈ k2_sels lw_privs ++ tables_1 from List.mem_append_left _ h
theorem lw_m1 : ∀ w ∈ tables_1_1, w ∈ lw_tbl := fun w h => show w ∈ k2_sels lw_privs ++ tables_1 from List.mem_append_right (k2_sels lw_privs) (show w ∈ tables_1 from List.mem_append_left _ h)
theorem lw_m2 : ∀ w ∈ tables_1_2, w ∈ lw_tbl := fun w h => show w ∈ k2_sels lw_privs ++ tables_1 from List.mem_append_right (k2_sels lw_privs) (show w ∈ tables_1 from List.mem_append_right _ h)
theorem qs0 : (Cond.selects "SeriesCodec" ⟨"SeriesCodec", "timeNow", "()I"⟩ ⟨"SeriesCodec", "timeNow", "()I"⟩) ∈ lw_all := lw_g (lw_at lw_ms 0 rfl) rfl
theorem qs1 : (Cond.selects "SeriesCodec" ⟨"SeriesCodec", "resume", "()V"⟩ ⟨"SeriesCodec", "resume", "()V"⟩) ∈ lw_all := lw_g (lw_at lw_ms 1 rfl) rfl
theorem qs2 : (Cond.selects "SeriesCodec" ⟨"SeriesCodec", "unpack", "(I)V"⟩ ⟨"SeriesCodec", "unpack", "(I)V"⟩) ∈ lw_all := lw_g (lw_at lw_ms 2 rfl) rfl
theorem qs3 : (Cond.selects "SeriesCodec" ⟨"SeriesCodec", "get", "(I)I"⟩ ⟨"SeriesCodec", "get", "(I)I"⟩) ∈ lw_all := lw_g (lw_at lw_ms 3 rfl) rfl
theorem qs4 : (Cond.selects "SeriesCodec" ⟨"SeriesCodec", "inChunk", "(I)I"⟩ ⟨"SeriesCodec", "inChunk", "(I)I"⟩) ∈ lw_all := lw_g (lw_at lw_ms 4 rfl) rfl
theorem qs5 : (Cond.selects "SeriesCodec" ⟨"SeriesCodec", "readGapChange", "()I"⟩ ⟨"SeriesCodec", "readGapChange", "()I"⟩) ∈ lw_all := lw_g (lw_at lw_ms 5 rfl) rfl
theorem qs6 : (Cond.selects "SeriesCodec" ⟨"SeriesCodec", "readChange", "()I"⟩ ⟨"SeriesCodec", "readChange", "()I"⟩) ∈ lw_all := lw_g (lw_at lw_ms 6 rfl) rfl
theorem qs7 : (Cond.selects "SeriesCodec" ⟨"SeriesCodec", "write", "(II)V"⟩ ⟨"SeriesCodec", "write", "(II)V"⟩) ∈ lw_all := lw_g (lw_at lw_ms 7 rfl) rfl
theorem qs8 : (Cond.selects "SeriesCodec" ⟨"SeriesCodec", "put", "(III)V"⟩ ⟨"SeriesCodec", "put", "(III)V"⟩) ∈ lw_all := lw_g (lw_at lw_ms 8 rfl) rfl
theorem qs9 : (Cond.selects "SeriesCodec" ⟨"SeriesCodec", "writeGapChange", "(II)V"⟩ ⟨"SeriesCodec", "writeGapChange", "(II)V"⟩) ∈ lw_all := lw_g (lw_at lw_ms 9 rfl) rfl
theorem qs10 : (Cond.selects "SeriesCodec" ⟨"SeriesCodec", "writeChange", "(II)V"⟩ ⟨"SeriesCodec", "writeChange", "(II)V"⟩) ∈ lw_all := lw_g (lw_at lw_ms 10 rfl) rfl
theorem qs11 : (Cond.selects "SeriesCodec" ⟨"SeriesCodec", "zerosBefore", "(I)I"⟩ ⟨"SeriesCodec", "zerosBefore", "(I)I"⟩) ∈ lw_all := lw_g (lw_at lw_ms 11 rfl) rfl
theorem qs12 : (Cond.selects "SeriesCodec" ⟨"SeriesCodec", "zerosBehind", "(I)I"⟩ ⟨"SeriesCodec", "zerosBehind", "(I)I"⟩) ∈ lw_all := lw_g (lw_at lw_ms 12 rfl) rfl
theorem qs13 : (Cond.selects "SeriesCodec" ⟨"SeriesCodec", "enter", "(III)V"⟩ ⟨"SeriesCodec", "enter", "(III)V"⟩) ∈ lw_all := lw_g (lw_at lw_ms 13 rfl) rfl
theorem qs14 : (Cond.selects "SeriesCodec" ⟨"SeriesCodec", "noPoint", "(I)Z"⟩ ⟨"SeriesCodec", "noPoint", "(I)Z"⟩) ∈ lw_all := lw_g (lw_at lw_ms 14 rfl) rfl
theorem qs15 : (Cond.selects "SeriesCodec" ⟨"SeriesCodec", "chunks", "()I"⟩ ⟨"SeriesCodec", "chunks", "()I"⟩) ∈ lw_all := lw_g (lw_at lw_ms 15 rfl) rfl
theorem qs16 : (Cond.selects "SeriesCodec" ⟨"SeriesCodec", "badSpan", "(II)Z"⟩ ⟨"SeriesCodec", "badSpan", "(II)Z"⟩) ∈ lw_all := lw_g (lw_at lw_ms 16 rfl) rfl
theorem qs17 : (Cond.selects "SeriesCodec" ⟨"SeriesCodec", "search", "(II)V"⟩ ⟨"SeriesCodec", "search", "(II)V"⟩) ∈ lw_all := lw_g (lw_at lw_ms 17 rfl) rfl
theorem qs18 : (Cond.selects "SeriesCodec" ⟨"SeriesCodec", "note", "(IIII)V"⟩ ⟨"SeriesCodec", "note", "(IIII)V"⟩) ∈ lw_all := lw_g (lw_at lw_ms 18 rfl) rfl
theorem qs19 : (Cond.selects "SeriesCodec" ⟨"SeriesCodec", "cut", "(III)V"⟩ ⟨"SeriesCodec", "cut", "(III)V"⟩) ∈ lw_all := lw_g (lw_at lw_ms 19 rfl) rfl
theorem qs20 : (Cond.selects "SeriesCodecModel" ⟨"SeriesCodecModel", "lastTime", "()I"⟩ ⟨"SeriesCodecModel", "lastTime", "()I"⟩) ∈ lw_all := lw_g (lw_at lw_ms 20 rfl) rfl
theorem qs21 : (Cond.selects "SeriesCodecModel" ⟨"SeriesCodecModel", "isValue", "(I)Z"⟩ ⟨"SeriesCodecModel", "isValue", "(I)Z"⟩) ∈ lw_all := lw_g (lw_at lw_ms 21 rfl) rfl
theorem qs22 : (Cond.selects "SeriesCodecModel" ⟨"SeriesCodecModel", "isPoint", "(I)Z"⟩ ⟨"SeriesCodecModel", "isPoint", "(I)Z"⟩) ∈ lw_all := lw_g (lw_at lw_ms 22 rfl) rfl
theorem qs23 : (Cond.selects "SeriesCodecModel" ⟨"SeriesCodecModel", "timeSize", "(I)I"⟩ ⟨"SeriesCodecModel", "timeSize", "(I)I"⟩) ∈ lw_all := lw_g (lw_at lw_ms 23 rfl) rfl
theorem qs24 : (Cond.selects "SeriesCodecModel" ⟨"SeriesCodecModel", "valueSize", "(I)I"⟩ ⟨"SeriesCodecModel", "valueSize", "(I)I"⟩) ∈ lw_all := lw_g (lw_at lw_ms 24 rfl) rfl
theorem qs25 : (Cond.selects "SeriesCodecModel" ⟨"SeriesCodecModel", "isSpan", "(II)Z"⟩ ⟨"SeriesCodecModel", "isSpan", "(II)Z"⟩) ∈ lw_all := lw_g (lw_at lw_ms 25 rfl) rfl
theorem qs26 : (Cond.selects "SeriesCodecModel" ⟨"SeriesCodecModel", "isIn", "(III)Z"⟩ ⟨"SeriesCodecModel", "isIn", "(III)Z"⟩) ∈ lw_all := lw_g (lw_at lw_ms 26 rfl) rfl
end
section
set_option maxRecDepth 100000
/-! SeriesCodec -/
def RX0 : String := "SeriesCodec"
def TX0 : u_T := fun k => match k with
  | 0 => ("SeriesCodec", "count", "I", false)
  | 1 => ("SeriesCodec", "bits", "[I", true)
  | 2 => ("SeriesCodec", "used", "[I", true)
  | 3 => ("SeriesCodec", "firstTime", "[I", true)
  | 4 => ("SeriesCodec", "lastTime", "[I", true)
  | 5 => ("SeriesCodec", "total", "[I", true)
  | 6 => ("SeriesCodec", "low", "[I", true)
  | 7 => ("SeriesCodec", "high", "[I", true)
  | 8 => ("SeriesCodec", "gapBefore", "I", false)
  | 9 => ("SeriesCodec", "valueBefore", "I", false)
  | 10 => ("SeriesCodec", "leading", "I", false)
  | 11 => ("SeriesCodec", "trailing", "I", false)
  | 12 => ("SeriesCodec", "chunk", "I", false)
  | 13 => ("SeriesCodec", "cursor", "I", false)
  | 14 => ("SeriesCodec", "times", "[I", true)
  | 15 => ("SeriesCodec", "values", "[I", true)
  | 16 => ("SeriesCodec", "foundCount", "I", false)
  | 17 => ("SeriesCodec", "foundSum", "I", false)
  | 18 => ("SeriesCodec", "foundLow", "I", false)
  | _ => ("SeriesCodec", "foundHigh", "I", false)
def tyX0 : Nat → FieldType := fun k => match k with
  | 0 => .int
  | 1 => .array .int
  | 2 => .array .int
  | 3 => .array .int
  | 4 => .array .int
  | 5 => .array .int
  | 6 => .array .int
  | 7 => .array .int
  | 8 => .int
  | 9 => .int
  | 10 => .int
  | 11 => .int
  | 12 => .int
  | 13 => .int
  | 14 => .array .int
  | 15 => .array .int
  | 16 => .int
  | 17 => .int
  | 18 => .int
  | _ => .int
abbrev wsX00 : List Cond := u_ws RX0 TX0 20
set_option maxRecDepth 100000 in
theorem nmX0 : ∀ a, a < 20 → ∀ b, b < 20 → a ≠ b → (TX0 a).2.1 ≠ (TX0 b).2.1 := by decide +kernel
set_option maxRecDepth 100000 in
theorem tyX0_ok : ∀ k, k < 20 → parseFieldDescriptor (TX0 k).2.2.1 = some (tyX0 k) := by decide +kernel
abbrev cX0_init : ByteArray := prog_1_method_1_code
def yX0_init : MethodName := ⟨RX0, "<init>", "()V"⟩
abbrev cX0_append : ByteArray := prog_1_method_16_code
def yX0_append : MethodName := ⟨RX0, "append", "(II)I"⟩
abbrev cX0_timeNow : ByteArray := prog_1_method_9_code
def yX0_timeNow : MethodName := ⟨RX0, "timeNow", "()I"⟩
abbrev cX0_resume : ByteArray := prog_1_method_15_code
def yX0_resume : MethodName := ⟨RX0, "resume", "()V"⟩
abbrev cX0_unpack : ByteArray := prog_1_method_14_code
def yX0_unpack : MethodName := ⟨RX0, "unpack", "(I)V"⟩
abbrev cX0_get : ByteArray := prog_1_method_3_code
def yX0_get : MethodName := ⟨RX0, "get", "(I)I"⟩
abbrev cX0_inChunk : ByteArray := prog_1_method_13_code
def yX0_inChunk : MethodName := ⟨RX0, "inChunk", "(I)I"⟩
abbrev cX0_readGapChange : ByteArray := prog_1_method_11_code
def yX0_readGapChange : MethodName := ⟨RX0, "readGapChange", "()I"⟩
abbrev cX0_readChange : ByteArray := prog_1_method_12_code
def yX0_readChange : MethodName := ⟨RX0, "readChange", "()I"⟩
abbrev cX0_write : ByteArray := prog_1_method_10_code
def yX0_write : MethodName := ⟨RX0, "write", "(II)V"⟩
abbrev cX0_put : ByteArray := prog_1_method_2_code
def yX0_put : MethodName := ⟨RX0, "put", "(III)V"⟩
abbrev cX0_writeGapChange : ByteArray := prog_1_method_6_code
def yX0_writeGapChange : MethodName := ⟨RX0, "writeGapChange", "(II)V"⟩
abbrev cX0_writeChange : ByteArray := prog_1_method_7_code
def yX0_writeChange : MethodName := ⟨RX0, "writeChange", "(II)V"⟩
abbrev cX0_zerosBefore : ByteArray := prog_1_method_4_code
def yX0_zerosBefore : MethodName := ⟨RX0, "zerosBefore", "(I)I"⟩
abbrev cX0_zerosBehind : ByteArray := prog_1_method_5_code
def yX0_zerosBehind : MethodName := ⟨RX0, "zerosBehind", "(I)I"⟩
abbrev cX0_enter : ByteArray := prog_1_method_8_code
def yX0_enter : MethodName := ⟨RX0, "enter", "(III)V"⟩
abbrev cX0_steady : ByteArray := prog_1_method_17_code
def yX0_steady : MethodName := ⟨RX0, "steady", "(IIII)I"⟩
abbrev cX0_dropOldest : ByteArray := prog_1_method_18_code
def yX0_dropOldest : MethodName := ⟨RX0, "dropOldest", "()I"⟩
abbrev cX0_unappend : ByteArray := prog_1_method_19_code
def yX0_unappend : MethodName := ⟨RX0, "unappend", "()I"⟩
abbrev cX0_points : ByteArray := prog_1_method_20_code
def yX0_points : MethodName := ⟨RX0, "points", "()I"⟩
abbrev cX0_time : ByteArray := prog_1_method_22_code
def yX0_time : MethodName := ⟨RX0, "time", "(I)I"⟩
abbrev cX0_noPoint : ByteArray := prog_1_method_21_code
def yX0_noPoint : MethodName := ⟨RX0, "noPoint", "(I)Z"⟩
abbrev cX0_value : ByteArray := prog_1_method_23_code
def yX0_value : MethodName := ⟨RX0, "value", "(I)I"⟩
abbrev cX0_size : ByteArray := prog_1_method_25_code
def yX0_size : MethodName := ⟨RX0, "size", "(I)I"⟩
abbrev cX0_chunks : ByteArray := prog_1_method_24_code
def yX0_chunks : MethodName := ⟨RX0, "chunks", "()I"⟩
abbrev cX0_packed : ByteArray := prog_1_method_26_code
def yX0_packed : MethodName := ⟨RX0, "packed", "()I"⟩
abbrev cX0_firstFrom : ByteArray := prog_1_method_27_code
def yX0_firstFrom : MethodName := ⟨RX0, "firstFrom", "(I)I"⟩
abbrev cX0_count : ByteArray := prog_1_method_32_code
def yX0_count : MethodName := ⟨RX0, "count", "(II)I"⟩
abbrev cX0_badSpan : ByteArray := prog_1_method_28_code
def yX0_badSpan : MethodName := ⟨RX0, "badSpan", "(II)Z"⟩
abbrev cX0_search : ByteArray := prog_1_method_31_code
def yX0_search : MethodName := ⟨RX0, "search", "(II)V"⟩
abbrev cX0_note : ByteArray := prog_1_method_29_code
def yX0_note : MethodName := ⟨RX0, "note", "(IIII)V"⟩
abbrev cX0_cut : ByteArray := prog_1_method_30_code
def yX0_cut : MethodName := ⟨RX0, "cut", "(III)V"⟩
abbrev cX0_sum : ByteArray := prog_1_method_33_code
def yX0_sum : MethodName := ⟨RX0, "sum", "(II)I"⟩
abbrev cX0_greatest : ByteArray := prog_1_method_34_code
def yX0_greatest : MethodName := ⟨RX0, "greatest", "(II)I"⟩
abbrev cX0_least : ByteArray := prog_1_method_35_code
def yX0_least : MethodName := ⟨RX0, "least", "(II)I"⟩
abbrev cX0_valueAt : ByteArray := prog_1_method_36_code
def yX0_valueAt : MethodName := ⟨RX0, "valueAt", "(I)I"⟩
abbrev cX0_rises : ByteArray := prog_1_method_37_code
def yX0_rises : MethodName := ⟨RX0, "rises", "()I"⟩
abbrev cX0_widestGap : ByteArray := prog_1_method_38_code
def yX0_widestGap : MethodName := ⟨RX0, "widestGap", "()I"⟩
theorem q28 : (Jvm.Cond.initialized "SeriesCodec") ∈ lw_all := lw_g (lw_at lw_m1 1 rfl) rfl
theorem q31 : (Jvm.Cond.instantiable "SeriesCodec" (20 : Nat)) ∈ lw_all := lw_g (lw_at lw_m1 4 rfl) rfl
theorem q33 : (Jvm.Cond.instanceMethod ({ cls := "SeriesCodec", name := "<init>", desc := "()V" } : Jvm.MethodName)) ∈ lw_all := lw_g (lw_at lw_m1 6 rfl) rfl
theorem q34 : (Jvm.Cond.code ({ cls := "SeriesCodec", name := "<init>", desc := "()V" } : Jvm.MethodName) prog_1_method_1_code (1 : Nat) (Option.none : Option Jvm.ClassFile.FieldType)) ∈ lw_all := lw_g (lw_at lw_m1 7 rfl) rfl
theorem q35 : (Jvm.Cond.methodLink "SeriesCodec" (1 : Nat) ({ cls := "java/lang/Object", name := "<init>", desc := "()V" } : Jvm.MethodName)) ∈ lw_all := lw_g (lw_at lw_m1 8 rfl) rfl
theorem q38 : (Jvm.Cond.fieldLink "SeriesCodec" (61 : Nat) "SeriesCodec" "count" "I") ∈ lw_all := lw_g (lw_at lw_m1 11 rfl) rfl
theorem q39 : (Jvm.Cond.fieldLink "SeriesCodec" (7 : Nat) "SeriesCodec" "bits" "[I") ∈ lw_all := lw_g (lw_at lw_m1 12 rfl) rfl
theorem q40 : (Jvm.Cond.fieldLink "SeriesCodec" (13 : Nat) "SeriesCodec" "used" "[I") ∈ lw_all := lw_g (lw_at lw_m1 13 rfl) rfl
theorem q41 : (Jvm.Cond.fieldLink "SeriesCodec" (16 : Nat) "SeriesCodec" "firstTime" "[I") ∈ lw_all := lw_g (lw_at lw_m1 14 rfl) rfl
theorem q42 : (Jvm.Cond.fieldLink "SeriesCodec" (19 : Nat) "SeriesCodec" "lastTime" "[I") ∈ lw_all := lw_g (lw_at lw_m1 15 rfl) rfl
theorem q43 : (Jvm.Cond.fieldLink "SeriesCodec" (22 : Nat) "SeriesCodec" "total" "[I") ∈ lw_all := lw_g (lw_at lw_m1 16 rfl) rfl
theorem q44 : (Jvm.Cond.fieldLink "SeriesCodec" (25 : Nat) "SeriesCodec" "low" "[I") ∈ lw_all := lw_g (lw_at lw_m1 17 rfl) rfl
theorem q45 : (Jvm.Cond.fieldLink "SeriesCodec" (28 : Nat) "SeriesCodec" "high" "[I") ∈ lw_all := lw_g (lw_at lw_m1 18 rfl) rfl
theorem q46 : (Jvm.Cond.fieldLink "SeriesCodec" (69 : Nat) "SeriesCodec" "gapBefore" "I") ∈ lw_all := lw_g (lw_at lw_m1 19 rfl) rfl
theorem q47 : (Jvm.Cond.fieldLink "SeriesCodec" (76 : Nat) "SeriesCodec" "valueBefore" "I") ∈ lw_all := lw_g (lw_at lw_m1 20 rfl) rfl
theorem q48 : (Jvm.Cond.fieldLink "SeriesCodec" (37 : Nat) "SeriesCodec" "leading" "I") ∈ lw_all := lw_g (lw_at lw_m1 21 rfl) rfl
theorem q49 : (Jvm.Cond.fieldLink "SeriesCodec" (58 : Nat) "SeriesCodec" "trailing" "I") ∈ lw_all := lw_g (lw_at lw_m1 22 rfl) rfl
theorem q50 : (Jvm.Cond.fieldLink "SeriesCodec" (41 : Nat) "SeriesCodec" "chunk" "I") ∈ lw_all := lw_g (lw_at lw_m1 23 rfl) rfl
theorem q51 : (Jvm.Cond.fieldLink "SeriesCodec" (44 : Nat) "SeriesCodec" "cursor" "I") ∈ lw_all := lw_g (lw_at lw_m1 24 rfl) rfl
theorem q52 : (Jvm.Cond.fieldLink "SeriesCodec" (31 : Nat) "SeriesCodec" "times" "[I") ∈ lw_all := lw_g (lw_at lw_m1 25 rfl) rfl
theorem q53 : (Jvm.Cond.fieldLink "SeriesCodec" (34 : Nat) "SeriesCodec" "values" "[I") ∈ lw_all := lw_g (lw_at lw_m1 26 rfl) rfl
theorem q54 : (Jvm.Cond.fieldLink "SeriesCodec" (116 : Nat) "SeriesCodec" "foundCount" "I") ∈ lw_all := lw_g (lw_at lw_m1 27 rfl) rfl
theorem q55 : (Jvm.Cond.fieldLink "SeriesCodec" (119 : Nat) "SeriesCodec" "foundSum" "I") ∈ lw_all := lw_g (lw_at lw_m1 28 rfl) rfl
theorem q56 : (Jvm.Cond.fieldLink "SeriesCodec" (122 : Nat) "SeriesCodec" "foundLow" "I") ∈ lw_all := lw_g (lw_at lw_m1 29 rfl) rfl
theorem q57 : (Jvm.Cond.fieldLink "SeriesCodec" (125 : Nat) "SeriesCodec" "foundHigh" "I") ∈ lw_all := lw_g (lw_at lw_m1 30 rfl) rfl
theorem q58 : (Jvm.Cond.lays "SeriesCodec" "SeriesCodec" "count" "I") ∈ lw_all := lw_g (lw_at lw_m1 31 rfl) rfl
theorem q59 : (Jvm.Cond.soleField "SeriesCodec" "count") ∈ lw_all := lw_g (lw_at lw_m1 32 rfl) rfl
theorem q60 : (Jvm.Cond.laysFinal "SeriesCodec" "SeriesCodec" "bits" "[I") ∈ lw_all := lw_g (lw_at lw_m1 33 rfl) rfl
theorem q61 : (Jvm.Cond.soleField "SeriesCodec" "bits") ∈ lw_all := lw_g (lw_at lw_m1 34 rfl) rfl
theorem q62 : (Jvm.Cond.laysFinal "SeriesCodec" "SeriesCodec" "used" "[I") ∈ lw_all := lw_g (lw_at lw_m1 35 rfl) rfl
theorem q63 : (Jvm.Cond.soleField "SeriesCodec" "used") ∈ lw_all := lw_g (lw_at lw_m1 36 rfl) rfl
theorem q64 : (Jvm.Cond.laysFinal "SeriesCodec" "SeriesCodec" "firstTime" "[I") ∈ lw_all := lw_g (lw_at lw_m1 37 rfl) rfl
theorem q65 : (Jvm.Cond.soleField "SeriesCodec" "firstTime") ∈ lw_all := lw_g (lw_at lw_m1 38 rfl) rfl
theorem q66 : (Jvm.Cond.laysFinal "SeriesCodec" "SeriesCodec" "lastTime" "[I") ∈ lw_all := lw_g (lw_at lw_m1 39 rfl) rfl
theorem q67 : (Jvm.Cond.soleField "SeriesCodec" "lastTime") ∈ lw_all := lw_g (lw_at lw_m1 40 rfl) rfl
theorem q68 : (Jvm.Cond.laysFinal "SeriesCodec" "SeriesCodec" "total" "[I") ∈ lw_all := lw_g (lw_at lw_m1 41 rfl) rfl
theorem q69 : (Jvm.Cond.soleField "SeriesCodec" "total") ∈ lw_all := lw_g (lw_at lw_m1 42 rfl) rfl
theorem q70 : (Jvm.Cond.laysFinal "SeriesCodec" "SeriesCodec" "low" "[I") ∈ lw_all := lw_g (lw_at lw_m1 43 rfl) rfl
theorem q71 : (Jvm.Cond.soleField "SeriesCodec" "low") ∈ lw_all := lw_g (lw_at lw_m1 44 rfl) rfl
theorem q72 : (Jvm.Cond.laysFinal "SeriesCodec" "SeriesCodec" "high" "[I") ∈ lw_all := lw_g (lw_at lw_m1 45 rfl) rfl
theorem q73 : (Jvm.Cond.soleField "SeriesCodec" "high") ∈ lw_all := lw_g (lw_at lw_m1 46 rfl) rfl
theorem q74 : (Jvm.Cond.lays "SeriesCodec" "SeriesCodec" "gapBefore" "I") ∈ lw_all := lw_g (lw_at lw_m1 47 rfl) rfl
theorem q75 : (Jvm.Cond.soleField "SeriesCodec" "gapBefore") ∈ lw_all := lw_g (lw_at lw_m1 48 rfl) rfl
theorem q76 : (Jvm.Cond.lays "SeriesCodec" "SeriesCodec" "valueBefore" "I") ∈ lw_all := lw_g (lw_at lw_m1 49 rfl) rfl
theorem q77 : (Jvm.Cond.soleField "SeriesCodec" "valueBefore") ∈ lw_all := lw_g (lw_at lw_m1 50 rfl) rfl
theorem q78 : (Jvm.Cond.lays "SeriesCodec" "SeriesCodec" "leading" "I") ∈ lw_all := lw_g (lw_at lw_m1 51 rfl) rfl
theorem q79 : (Jvm.Cond.soleField "SeriesCodec" "leading") ∈ lw_all := lw_g (lw_at lw_m1 52 rfl) rfl
theorem q80 : (Jvm.Cond.lays "SeriesCodec" "SeriesCodec" "trailing" "I") ∈ lw_all := lw_g (lw_at lw_m1 53 rfl) rfl
theorem q81 : (Jvm.Cond.soleField "SeriesCodec" "trailing") ∈ lw_all := lw_g (lw_at lw_m1 54 rfl) rfl
theorem q82 : (Jvm.Cond.lays "SeriesCodec" "SeriesCodec" "chunk" "I") ∈ lw_all := lw_g (lw_at lw_m1 55 rfl) rfl
theorem q83 : (Jvm.Cond.soleField "SeriesCodec" "chunk") ∈ lw_all := lw_g (lw_at lw_m1 56 rfl) rfl
theorem q84 : (Jvm.Cond.lays "SeriesCodec" "SeriesCodec" "cursor" "I") ∈ lw_all := lw_g (lw_at lw_m1 57 rfl) rfl
theorem q85 : (Jvm.Cond.soleField "SeriesCodec" "cursor") ∈ lw_all := lw_g (lw_at lw_m1 58 rfl) rfl
theorem q86 : (Jvm.Cond.laysFinal "SeriesCodec" "SeriesCodec" "times" "[I") ∈ lw_all := lw_g (lw_at lw_m1 59 rfl) rfl
theorem q87 : (Jvm.Cond.soleField "SeriesCodec" "times") ∈ lw_all := lw_g (lw_at lw_m1 60 rfl) rfl
theorem q88 : (Jvm.Cond.laysFinal "SeriesCodec" "SeriesCodec" "values" "[I") ∈ lw_all := lw_g (lw_at lw_m1 61 rfl) rfl
theorem q89 : (Jvm.Cond.soleField "SeriesCodec" "values") ∈ lw_all := lw_g (lw_at lw_m1 62 rfl) rfl
theorem q90 : (Jvm.Cond.lays "SeriesCodec" "SeriesCodec" "foundCount" "I") ∈ lw_all := lw_g (lw_at lw_m1 63 rfl) rfl
theorem q91 : (Jvm.Cond.soleField "SeriesCodec" "foundCount") ∈ lw_all := lw_g (lw_at lw_m1 64 rfl) rfl
theorem q92 : (Jvm.Cond.lays "SeriesCodec" "SeriesCodec" "foundSum" "I") ∈ lw_all := lw_g (lw_at lw_m1 65 rfl) rfl
theorem q93 : (Jvm.Cond.soleField "SeriesCodec" "foundSum") ∈ lw_all := lw_g (lw_at lw_m1 66 rfl) rfl
theorem q94 : (Jvm.Cond.lays "SeriesCodec" "SeriesCodec" "foundLow" "I") ∈ lw_all := lw_g (lw_at lw_m1 67 rfl) rfl
theorem q95 : (Jvm.Cond.soleField "SeriesCodec" "foundLow") ∈ lw_all := lw_g (lw_at lw_m1 68 rfl) rfl
theorem q96 : (Jvm.Cond.lays "SeriesCodec" "SeriesCodec" "foundHigh" "I") ∈ lw_all := lw_g (lw_at lw_m1 69 rfl) rfl
theorem q97 : (Jvm.Cond.soleField "SeriesCodec" "foundHigh") ∈ lw_all := lw_g (lw_at lw_m1 70 rfl) rfl
theorem q98 : (Jvm.Cond.superclass "SeriesCodec" "java/lang/Object") ∈ lw_all := lw_g (lw_at lw_m1 71 rfl) rfl
theorem q101 : (Jvm.Cond.instanceMethod ({ cls := "SeriesCodec", name := "append", desc := "(II)I" } : Jvm.MethodName)) ∈ lw_all := lw_g (lw_at lw_m1 74 rfl) rfl
theorem q102 : (Jvm.Cond.selects "SeriesCodec" ({ cls := "SeriesCodec", name := "append", desc := "(II)I" } : Jvm.MethodName) ({ cls := "SeriesCodec", name := "append", desc := "(II)I" } : Jvm.MethodName)) ∈ lw_all := lw_g (lw_at lw_m1 75 rfl) rfl
theorem q103 : (Jvm.Cond.code ({ cls := "SeriesCodec", name := "append", desc := "(II)I" } : Jvm.MethodName) prog_1_method_16_code (3 : Nat) (Option.some Jvm.ClassFile.FieldType.int)) ∈ lw_all := lw_g (lw_at lw_m1 76 rfl) rfl
theorem q104 : (Jvm.Cond.constant "SeriesCodec" (101 : Nat) (60000 : Int32)) ∈ lw_all := lw_g (lw_at lw_m1 77 rfl) rfl
theorem q105 : (Jvm.Cond.methodLink "SeriesCodec" (64 : Nat) ({ cls := "SeriesCodec", name := "timeNow", desc := "()I" } : Jvm.MethodName)) ∈ lw_all := lw_g (lw_at lw_m1 78 rfl) rfl
theorem q106 : (Jvm.Cond.privateMethod ({ cls := "SeriesCodec", name := "timeNow", desc := "()I" } : Jvm.MethodName)) ∈ lw_tbl := lw_at lw_m1 79 rfl
theorem q107 : (Jvm.Cond.instanceMethod ({ cls := "SeriesCodec", name := "timeNow", desc := "()I" } : Jvm.MethodName)) ∈ lw_all := lw_g (lw_at lw_m1 80 rfl) rfl
theorem q108 : (Jvm.Cond.code ({ cls := "SeriesCodec", name := "timeNow", desc := "()I" } : Jvm.MethodName) prog_1_method_9_code (1 : Nat) (Option.some Jvm.ClassFile.FieldType.int)) ∈ lw_all := lw_g (lw_at lw_m1 81 rfl) rfl
theorem q109 : (Jvm.Cond.constant "SeriesCodec" (68 : Nat) (65535 : Int32)) ∈ lw_all := lw_g (lw_at lw_m1 82 rfl) rfl
theorem q110 : (Jvm.Cond.methodLink "SeriesCodec" (102 : Nat) ({ cls := "SeriesCodec", name := "resume", desc := "()V" } : Jvm.MethodName)) ∈ lw_all := lw_g (lw_at lw_m1 83 rfl) rfl
theorem q111 : (Jvm.Cond.privateMethod ({ cls := "SeriesCodec", name := "resume", desc := "()V" } : Jvm.MethodName)) ∈ lw_tbl := lw_at lw_m1 84 rfl
theorem q112 : (Jvm.Cond.instanceMethod ({ cls := "SeriesCodec", name := "resume", desc := "()V" } : Jvm.MethodName)) ∈ lw_all := lw_g (lw_at lw_m1 85 rfl) rfl
theorem q113 : (Jvm.Cond.code ({ cls := "SeriesCodec", name := "resume", desc := "()V" } : Jvm.MethodName) prog_1_method_15_code (1 : Nat) (Option.none : Option Jvm.ClassFile.FieldType)) ∈ lw_all := lw_g (lw_at lw_m1 86 rfl) rfl
theorem q114 : (Jvm.Cond.methodLink "SeriesCodec" (97 : Nat) ({ cls := "SeriesCodec", name := "unpack", desc := "(I)V" } : Jvm.MethodName)) ∈ lw_all := lw_g (lw_at lw_m1 87 rfl) rfl
theorem q115 : (Jvm.Cond.privateMethod ({ cls := "SeriesCodec", name := "unpack", desc := "(I)V" } : Jvm.MethodName)) ∈ lw_tbl := lw_at lw_m1 88 rfl
theorem q116 : (Jvm.Cond.instanceMethod ({ cls := "SeriesCodec", name := "unpack", desc := "(I)V" } : Jvm.MethodName)) ∈ lw_all := lw_g (lw_at lw_m1 89 rfl) rfl
theorem q117 : (Jvm.Cond.code ({ cls := "SeriesCodec", name := "unpack", desc := "(I)V" } : Jvm.MethodName) prog_1_method_14_code (6 : Nat) (Option.none : Option Jvm.ClassFile.FieldType)) ∈ lw_all := lw_g (lw_at lw_m1 90 rfl) rfl
theorem q118 : (Jvm.Cond.methodLink "SeriesCodec" (85 : Nat) ({ cls := "SeriesCodec", name := "get", desc := "(I)I" } : Jvm.MethodName)) ∈ lw_all := lw_g (lw_at lw_m1 91 rfl) rfl
theorem q119 : (Jvm.Cond.privateMethod ({ cls := "SeriesCodec", name := "get", desc := "(I)I" } : Jvm.MethodName)) ∈ lw_tbl := lw_at lw_m1 92 rfl
theorem q120 : (Jvm.Cond.instanceMethod ({ cls := "SeriesCodec", name := "get", desc := "(I)I" } : Jvm.MethodName)) ∈ lw_all := lw_g (lw_at lw_m1 93 rfl) rfl
theorem q121 : (Jvm.Cond.code ({ cls := "SeriesCodec", name := "get", desc := "(I)I" } : Jvm.MethodName) prog_1_method_3_code (5 : Nat) (Option.some Jvm.ClassFile.FieldType.int)) ∈ lw_all := lw_g (lw_at lw_m1 94 rfl) rfl
theorem q122 : (Jvm.Cond.methodLink "SeriesCodec" (88 : Nat) ({ cls := "SeriesCodec", name := "inChunk", desc := "(I)I" } : Jvm.MethodName)) ∈ lw_all := lw_g (lw_at lw_m1 95 rfl) rfl
theorem q123 : (Jvm.Cond.privateMethod ({ cls := "SeriesCodec", name := "inChunk", desc := "(I)I" } : Jvm.MethodName)) ∈ lw_tbl := lw_at lw_m1 96 rfl
theorem q124 : (Jvm.Cond.instanceMethod ({ cls := "SeriesCodec", name := "inChunk", desc := "(I)I" } : Jvm.MethodName)) ∈ lw_all := lw_g (lw_at lw_m1 97 rfl) rfl
theorem q125 : (Jvm.Cond.code ({ cls := "SeriesCodec", name := "inChunk", desc := "(I)I" } : Jvm.MethodName) prog_1_method_13_code (3 : Nat) (Option.some Jvm.ClassFile.FieldType.int)) ∈ lw_all := lw_g (lw_at lw_m1 98 rfl) rfl
theorem q126 : (Jvm.Cond.methodLink "SeriesCodec" (91 : Nat) ({ cls := "SeriesCodec", name := "readGapChange", desc := "()I" } : Jvm.MethodName)) ∈ lw_all := lw_g (lw_at lw_m1 99 rfl) rfl
theorem q127 : (Jvm.Cond.privateMethod ({ cls := "SeriesCodec", name := "readGapChange", desc := "()I" } : Jvm.MethodName)) ∈ lw_tbl := lw_at lw_m1 100 rfl
theorem q128 : (Jvm.Cond.instanceMethod ({ cls := "SeriesCodec", name := "readGapChange", desc := "()I" } : Jvm.MethodName)) ∈ lw_all := lw_g (lw_at lw_m1 101 rfl) rfl
theorem q129 : (Jvm.Cond.code ({ cls := "SeriesCodec", name := "readGapChange", desc := "()I" } : Jvm.MethodName) prog_1_method_11_code (3 : Nat) (Option.some Jvm.ClassFile.FieldType.int)) ∈ lw_all := lw_g (lw_at lw_m1 102 rfl) rfl
theorem q130 : (Jvm.Cond.methodLink "SeriesCodec" (94 : Nat) ({ cls := "SeriesCodec", name := "readChange", desc := "()I" } : Jvm.MethodName)) ∈ lw_all := lw_g (lw_at lw_m1 103 rfl) rfl
theorem q131 : (Jvm.Cond.privateMethod ({ cls := "SeriesCodec", name := "readChange", desc := "()I" } : Jvm.MethodName)) ∈ lw_tbl := lw_at lw_m1 104 rfl
theorem q132 : (Jvm.Cond.instanceMethod ({ cls := "SeriesCodec", name := "readChange", desc := "()I" } : Jvm.MethodName)) ∈ lw_all := lw_g (lw_at lw_m1 105 rfl) rfl
theorem q133 : (Jvm.Cond.code ({ cls := "SeriesCodec", name := "readChange", desc := "()I" } : Jvm.MethodName) prog_1_method_12_code (3 : Nat) (Option.some Jvm.ClassFile.FieldType.int)) ∈ lw_all := lw_g (lw_at lw_m1 106 rfl) rfl
theorem q134 : (Jvm.Cond.methodLink "SeriesCodec" (105 : Nat) ({ cls := "SeriesCodec", name := "write", desc := "(II)V" } : Jvm.MethodName)) ∈ lw_all := lw_g (lw_at lw_m1 107 rfl) rfl
theorem q135 : (Jvm.Cond.privateMethod ({ cls := "SeriesCodec", name := "write", desc := "(II)V" } : Jvm.MethodName)) ∈ lw_tbl := lw_at lw_m1 108 rfl
theorem q136 : (Jvm.Cond.instanceMethod ({ cls := "SeriesCodec", name := "write", desc := "(II)V" } : Jvm.MethodName)) ∈ lw_all := lw_g (lw_at lw_m1 109 rfl) rfl
theorem q137 : (Jvm.Cond.code ({ cls := "SeriesCodec", name := "write", desc := "(II)V" } : Jvm.MethodName) prog_1_method_10_code (5 : Nat) (Option.none : Option Jvm.ClassFile.FieldType)) ∈ lw_all := lw_g (lw_at lw_m1 110 rfl) rfl
theorem q138 : (Jvm.Cond.methodLink "SeriesCodec" (47 : Nat) ({ cls := "SeriesCodec", name := "put", desc := "(III)V" } : Jvm.MethodName)) ∈ lw_all := lw_g (lw_at lw_m1 111 rfl) rfl
theorem q139 : (Jvm.Cond.privateMethod ({ cls := "SeriesCodec", name := "put", desc := "(III)V" } : Jvm.MethodName)) ∈ lw_tbl := lw_at lw_m1 112 rfl
theorem q140 : (Jvm.Cond.instanceMethod ({ cls := "SeriesCodec", name := "put", desc := "(III)V" } : Jvm.MethodName)) ∈ lw_all := lw_g (lw_at lw_m1 113 rfl) rfl
theorem q141 : (Jvm.Cond.code ({ cls := "SeriesCodec", name := "put", desc := "(III)V" } : Jvm.MethodName) prog_1_method_2_code (7 : Nat) (Option.none : Option Jvm.ClassFile.FieldType)) ∈ lw_all := lw_g (lw_at lw_m1 114 rfl) rfl
theorem q142 : (Jvm.Cond.methodLink "SeriesCodec" (72 : Nat) ({ cls := "SeriesCodec", name := "writeGapChange", desc := "(II)V" } : Jvm.MethodName)) ∈ lw_all := lw_g (lw_at lw_m1 115 rfl) rfl
theorem q143 : (Jvm.Cond.privateMethod ({ cls := "SeriesCodec", name := "writeGapChange", desc := "(II)V" } : Jvm.MethodName)) ∈ lw_tbl := lw_at lw_m1 116 rfl
theorem q144 : (Jvm.Cond.instanceMethod ({ cls := "SeriesCodec", name := "writeGapChange", desc := "(II)V" } : Jvm.MethodName)) ∈ lw_all := lw_g (lw_at lw_m1 117 rfl) rfl
theorem q145 : (Jvm.Cond.code ({ cls := "SeriesCodec", name := "writeGapChange", desc := "(II)V" } : Jvm.MethodName) prog_1_method_6_code (3 : Nat) (Option.none : Option Jvm.ClassFile.FieldType)) ∈ lw_all := lw_g (lw_at lw_m1 118 rfl) rfl
theorem q146 : (Jvm.Cond.methodLink "SeriesCodec" (79 : Nat) ({ cls := "SeriesCodec", name := "writeChange", desc := "(II)V" } : Jvm.MethodName)) ∈ lw_all := lw_g (lw_at lw_m1 119 rfl) rfl
theorem q147 : (Jvm.Cond.privateMethod ({ cls := "SeriesCodec", name := "writeChange", desc := "(II)V" } : Jvm.MethodName)) ∈ lw_tbl := lw_at lw_m1 120 rfl
theorem q148 : (Jvm.Cond.instanceMethod ({ cls := "SeriesCodec", name := "writeChange", desc := "(II)V" } : Jvm.MethodName)) ∈ lw_all := lw_g (lw_at lw_m1 121 rfl) rfl
theorem q149 : (Jvm.Cond.code ({ cls := "SeriesCodec", name := "writeChange", desc := "(II)V" } : Jvm.MethodName) prog_1_method_7_code (5 : Nat) (Option.none : Option Jvm.ClassFile.FieldType)) ∈ lw_all := lw_g (lw_at lw_m1 122 rfl) rfl
theorem q150 : (Jvm.Cond.methodLink "SeriesCodec" (51 : Nat) ({ cls := "SeriesCodec", name := "zerosBefore", desc := "(I)I" } : Jvm.MethodName)) ∈ lw_all := lw_g (lw_at lw_m1 123 rfl) rfl
theorem q151 : (Jvm.Cond.privateMethod ({ cls := "SeriesCodec", name := "zerosBefore", desc := "(I)I" } : Jvm.MethodName)) ∈ lw_tbl := lw_at lw_m1 124 rfl
theorem q152 : (Jvm.Cond.instanceMethod ({ cls := "SeriesCodec", name := "zerosBefore", desc := "(I)I" } : Jvm.MethodName)) ∈ lw_all := lw_g (lw_at lw_m1 125 rfl) rfl
theorem q153 : (Jvm.Cond.code ({ cls := "SeriesCodec", name := "zerosBefore", desc := "(I)I" } : Jvm.MethodName) prog_1_method_4_code (4 : Nat) (Option.some Jvm.ClassFile.FieldType.int)) ∈ lw_all := lw_g (lw_at lw_m1 126 rfl) rfl
theorem q154 : (Jvm.Cond.methodLink "SeriesCodec" (55 : Nat) ({ cls := "SeriesCodec", name := "zerosBehind", desc := "(I)I" } : Jvm.MethodName)) ∈ lw_all := lw_g (lw_at lw_m1 127 rfl) rfl
theorem q155 : (Jvm.Cond.privateMethod ({ cls := "SeriesCodec", name := "zerosBehind", desc := "(I)I" } : Jvm.MethodName)) ∈ lw_tbl := lw_at lw_m1 128 rfl
theorem q156 : (Jvm.Cond.instanceMethod ({ cls := "SeriesCodec", name := "zerosBehind", desc := "(I)I" } : Jvm.MethodName)) ∈ lw_all := lw_g (lw_at lw_m1 129 rfl) rfl
theorem q157 : (Jvm.Cond.code ({ cls := "SeriesCodec", name := "zerosBehind", desc := "(I)I" } : Jvm.MethodName) prog_1_method_5_code (4 : Nat) (Option.some Jvm.ClassFile.FieldType.int)) ∈ lw_all := lw_g (lw_at lw_m1 130 rfl) rfl
theorem q158 : (Jvm.Cond.methodLink "SeriesCodec" (82 : Nat) ({ cls := "SeriesCodec", name := "enter", desc := "(III)V" } : Jvm.MethodName)) ∈ lw_all := lw_g (lw_at lw_m1 131 rfl) rfl
theorem q159 : (Jvm.Cond.privateMethod ({ cls := "SeriesCodec", name := "enter", desc := "(III)V" } : Jvm.MethodName)) ∈ lw_tbl := lw_at lw_m1 132 rfl
theorem q160 : (Jvm.Cond.instanceMethod ({ cls := "SeriesCodec", name := "enter", desc := "(III)V" } : Jvm.MethodName)) ∈ lw_all := lw_g (lw_at lw_m1 133 rfl) rfl
theorem q161 : (Jvm.Cond.code ({ cls := "SeriesCodec", name := "enter", desc := "(III)V" } : Jvm.MethodName) prog_1_method_8_code (4 : Nat) (Option.none : Option Jvm.ClassFile.FieldType)) ∈ lw_all := lw_g (lw_at lw_m1 134 rfl) rfl
theorem q163 : (Jvm.Cond.instanceMethod ({ cls := "SeriesCodec", name := "steady", desc := "(IIII)I" } : Jvm.MethodName)) ∈ lw_all := lw_g (lw_at lw_m1 136 rfl) rfl
theorem q164 : (Jvm.Cond.selects "SeriesCodec" ({ cls := "SeriesCodec", name := "steady", desc := "(IIII)I" } : Jvm.MethodName) ({ cls := "SeriesCodec", name := "steady", desc := "(IIII)I" } : Jvm.MethodName)) ∈ lw_all := lw_g (lw_at lw_m1 137 rfl) rfl
theorem q165 : (Jvm.Cond.code ({ cls := "SeriesCodec", name := "steady", desc := "(IIII)I" } : Jvm.MethodName) prog_1_method_17_code (6 : Nat) (Option.some Jvm.ClassFile.FieldType.int)) ∈ lw_all := lw_g (lw_at lw_m1 138 rfl) rfl
theorem q166 : (Jvm.Cond.constant "SeriesCodec" (108 : Nat) (-65535 : Int32)) ∈ lw_all := lw_g (lw_at lw_m1 139 rfl) rfl
theorem q168 : (Jvm.Cond.instanceMethod ({ cls := "SeriesCodec", name := "dropOldest", desc := "()I" } : Jvm.MethodName)) ∈ lw_all := lw_g (lw_at lw_m1 141 rfl) rfl
theorem q169 : (Jvm.Cond.selects "SeriesCodec" ({ cls := "SeriesCodec", name := "dropOldest", desc := "()I" } : Jvm.MethodName) ({ cls := "SeriesCodec", name := "dropOldest", desc := "()I" } : Jvm.MethodName)) ∈ lw_all := lw_g (lw_at lw_m1 142 rfl) rfl
theorem q170 : (Jvm.Cond.code ({ cls := "SeriesCodec", name := "dropOldest", desc := "()I" } : Jvm.MethodName) prog_1_method_18_code (2 : Nat) (Option.some Jvm.ClassFile.FieldType.int)) ∈ lw_all := lw_g (lw_at lw_m1 143 rfl) rfl
theorem q172 : (Jvm.Cond.instanceMethod ({ cls := "SeriesCodec", name := "unappend", desc := "()I" } : Jvm.MethodName)) ∈ lw_all := lw_g (lw_at lw_m1 145 rfl) rfl
theorem q173 : (Jvm.Cond.selects "SeriesCodec" ({ cls := "SeriesCodec", name := "unappend", desc := "()I" } : Jvm.MethodName) ({ cls := "SeriesCodec", name := "unappend", desc := "()I" } : Jvm.MethodName)) ∈ lw_all := lw_g (lw_at lw_m1 146 rfl) rfl
theorem q174 : (Jvm.Cond.code ({ cls := "SeriesCodec", name := "unappend", desc := "()I" } : Jvm.MethodName) prog_1_method_19_code (6 : Nat) (Option.some Jvm.ClassFile.FieldType.int)) ∈ lw_all := lw_g (lw_at lw_m1 147 rfl) rfl
theorem q176 : (Jvm.Cond.instanceMethod ({ cls := "SeriesCodec", name := "points", desc := "()I" } : Jvm.MethodName)) ∈ lw_all := lw_g (lw_at lw_m1 149 rfl) rfl
theorem q177 : (Jvm.Cond.selects "SeriesCodec" ({ cls := "SeriesCodec", name := "points", desc := "()I" } : Jvm.MethodName) ({ cls := "SeriesCodec", name := "points", desc := "()I" } : Jvm.MethodName)) ∈ lw_all := lw_g (lw_at lw_m1 150 rfl) rfl
theorem q178 : (Jvm.Cond.code ({ cls := "SeriesCodec", name := "points", desc := "()I" } : Jvm.MethodName) prog_1_method_20_code (1 : Nat) (Option.some Jvm.ClassFile.FieldType.int)) ∈ lw_all := lw_g (lw_at lw_m1 151 rfl) rfl
theorem q180 : (Jvm.Cond.instanceMethod ({ cls := "SeriesCodec", name := "time", desc := "(I)I" } : Jvm.MethodName)) ∈ lw_all := lw_g (lw_at lw_m1 153 rfl) rfl
theorem q181 : (Jvm.Cond.selects "SeriesCodec" ({ cls := "SeriesCodec", name := "time", desc := "(I)I" } : Jvm.MethodName) ({ cls := "SeriesCodec", name := "time", desc := "(I)I" } : Jvm.MethodName)) ∈ lw_all := lw_g (lw_at lw_m1 154 rfl) rfl
theorem q182 : (Jvm.Cond.code ({ cls := "SeriesCodec", name := "time", desc := "(I)I" } : Jvm.MethodName) prog_1_method_22_code (2 : Nat) (Option.some Jvm.ClassFile.FieldType.int)) ∈ lw_all := lw_g (lw_at lw_m1 155 rfl) rfl
theorem q183 : (Jvm.Cond.methodLink "SeriesCodec" (109 : Nat) ({ cls := "SeriesCodec", name := "noPoint", desc := "(I)Z" } : Jvm.MethodName)) ∈ lw_all := lw_g (lw_at lw_m1 156 rfl) rfl
theorem q184 : (Jvm.Cond.privateMethod ({ cls := "SeriesCodec", name := "noPoint", desc := "(I)Z" } : Jvm.MethodName)) ∈ lw_tbl := lw_at lw_m1 157 rfl
theorem q185 : (Jvm.Cond.instanceMethod ({ cls := "SeriesCodec", name := "noPoint", desc := "(I)Z" } : Jvm.MethodName)) ∈ lw_all := lw_g (lw_at lw_m1 158 rfl) rfl
theorem q186 : (Jvm.Cond.code ({ cls := "SeriesCodec", name := "noPoint", desc := "(I)Z" } : Jvm.MethodName) prog_1_method_21_code (2 : Nat) (Option.some Jvm.ClassFile.FieldType.boolean)) ∈ lw_all := lw_g (lw_at lw_m1 159 rfl) rfl
theorem q188 : (Jvm.Cond.instanceMethod ({ cls := "SeriesCodec", name := "value", desc := "(I)I" } : Jvm.MethodName)) ∈ lw_all := lw_g (lw_at lw_m1 161 rfl) rfl
theorem q189 : (Jvm.Cond.selects "SeriesCodec" ({ cls := "SeriesCodec", name := "value", desc := "(I)I" } : Jvm.MethodName) ({ cls := "SeriesCodec", name := "value", desc := "(I)I" } : Jvm.MethodName)) ∈ lw_all := lw_g (lw_at lw_m1 162 rfl) rfl
theorem q190 : (Jvm.Cond.code ({ cls := "SeriesCodec", name := "value", desc := "(I)I" } : Jvm.MethodName) prog_1_method_23_code (2 : Nat) (Option.some Jvm.ClassFile.FieldType.int)) ∈ lw_all := lw_g (lw_at lw_m1 163 rfl) rfl
theorem q192 : (Jvm.Cond.instanceMethod ({ cls := "SeriesCodec", name := "size", desc := "(I)I" } : Jvm.MethodName)) ∈ lw_all := lw_g (lw_at lw_m1 165 rfl) rfl
theorem q193 : (Jvm.Cond.selects "SeriesCodec" ({ cls := "SeriesCodec", name := "size", desc := "(I)I" } : Jvm.MethodName) ({ cls := "SeriesCodec", name := "size", desc := "(I)I" } : Jvm.MethodName)) ∈ lw_all := lw_g (lw_at lw_m1 166 rfl) rfl
theorem q194 : (Jvm.Cond.code ({ cls := "SeriesCodec", name := "size", desc := "(I)I" } : Jvm.MethodName) prog_1_method_25_code (2 : Nat) (Option.some Jvm.ClassFile.FieldType.int)) ∈ lw_all := lw_g (lw_at lw_m1 167 rfl) rfl
theorem q195 : (Jvm.Cond.methodLink "SeriesCodec" (113 : Nat) ({ cls := "SeriesCodec", name := "chunks", desc := "()I" } : Jvm.MethodName)) ∈ lw_all := lw_g (lw_at lw_m1 168 rfl) rfl
theorem q196 : (Jvm.Cond.privateMethod ({ cls := "SeriesCodec", name := "chunks", desc := "()I" } : Jvm.MethodName)) ∈ lw_tbl := lw_at lw_m1 169 rfl
theorem q197 : (Jvm.Cond.instanceMethod ({ cls := "SeriesCodec", name := "chunks", desc := "()I" } : Jvm.MethodName)) ∈ lw_all := lw_g (lw_at lw_m1 170 rfl) rfl
theorem q198 : (Jvm.Cond.code ({ cls := "SeriesCodec", name := "chunks", desc := "()I" } : Jvm.MethodName) prog_1_method_24_code (1 : Nat) (Option.some Jvm.ClassFile.FieldType.int)) ∈ lw_all := lw_g (lw_at lw_m1 171 rfl) rfl
theorem q200 : (Jvm.Cond.instanceMethod ({ cls := "SeriesCodec", name := "packed", desc := "()I" } : Jvm.MethodName)) ∈ lw_all := lw_g (lw_at lw_m1 173 rfl) rfl
theorem q201 : (Jvm.Cond.selects "SeriesCodec" ({ cls := "SeriesCodec", name := "packed", desc := "()I" } : Jvm.MethodName) ({ cls := "SeriesCodec", name := "packed", desc := "()I" } : Jvm.MethodName)) ∈ lw_all := lw_g (lw_at lw_m1 174 rfl) rfl
theorem q202 : (Jvm.Cond.code ({ cls := "SeriesCodec", name := "packed", desc := "()I" } : Jvm.MethodName) prog_1_method_26_code (3 : Nat) (Option.some Jvm.ClassFile.FieldType.int)) ∈ lw_all := lw_g (lw_at lw_m1 175 rfl) rfl
theorem q204 : (Jvm.Cond.instanceMethod ({ cls := "SeriesCodec", name := "firstFrom", desc := "(I)I" } : Jvm.MethodName)) ∈ lw_all := lw_g (lw_at lw_m1 177 rfl) rfl
theorem q205 : (Jvm.Cond.selects "SeriesCodec" ({ cls := "SeriesCodec", name := "firstFrom", desc := "(I)I" } : Jvm.MethodName) ({ cls := "SeriesCodec", name := "firstFrom", desc := "(I)I" } : Jvm.MethodName)) ∈ lw_all := lw_g (lw_at lw_m1 178 rfl) rfl
theorem q206 : (Jvm.Cond.code ({ cls := "SeriesCodec", name := "firstFrom", desc := "(I)I" } : Jvm.MethodName) prog_1_method_27_code (6 : Nat) (Option.some Jvm.ClassFile.FieldType.int)) ∈ lw_all := lw_g (lw_at lw_m1 179 rfl) rfl
theorem q208 : (Jvm.Cond.instanceMethod ({ cls := "SeriesCodec", name := "count", desc := "(II)I" } : Jvm.MethodName)) ∈ lw_all := lw_g (lw_at lw_m1 181 rfl) rfl
theorem q209 : (Jvm.Cond.selects "SeriesCodec" ({ cls := "SeriesCodec", name := "count", desc := "(II)I" } : Jvm.MethodName) ({ cls := "SeriesCodec", name := "count", desc := "(II)I" } : Jvm.MethodName)) ∈ lw_all := lw_g (lw_at lw_m1 182 rfl) rfl
theorem q210 : (Jvm.Cond.code ({ cls := "SeriesCodec", name := "count", desc := "(II)I" } : Jvm.MethodName) prog_1_method_32_code (3 : Nat) (Option.some Jvm.ClassFile.FieldType.int)) ∈ lw_all := lw_g (lw_at lw_m1 183 rfl) rfl
theorem q211 : (Jvm.Cond.methodLink "SeriesCodec" (136 : Nat) ({ cls := "SeriesCodec", name := "badSpan", desc := "(II)Z" } : Jvm.MethodName)) ∈ lw_all := lw_g (lw_at lw_m1 184 rfl) rfl
theorem q212 : (Jvm.Cond.privateMethod ({ cls := "SeriesCodec", name := "badSpan", desc := "(II)Z" } : Jvm.MethodName)) ∈ lw_tbl := lw_at lw_m1 185 rfl
theorem q213 : (Jvm.Cond.instanceMethod ({ cls := "SeriesCodec", name := "badSpan", desc := "(II)Z" } : Jvm.MethodName)) ∈ lw_all := lw_g (lw_at lw_m1 186 rfl) rfl
theorem q214 : (Jvm.Cond.code ({ cls := "SeriesCodec", name := "badSpan", desc := "(II)Z" } : Jvm.MethodName) prog_1_method_28_code (3 : Nat) (Option.some Jvm.ClassFile.FieldType.boolean)) ∈ lw_all := lw_g (lw_at lw_m1 187 rfl) rfl
theorem q215 : (Jvm.Cond.methodLink "SeriesCodec" (140 : Nat) ({ cls := "SeriesCodec", name := "search", desc := "(II)V" } : Jvm.MethodName)) ∈ lw_all := lw_g (lw_at lw_m1 188 rfl) rfl
theorem q216 : (Jvm.Cond.privateMethod ({ cls := "SeriesCodec", name := "search", desc := "(II)V" } : Jvm.MethodName)) ∈ lw_tbl := lw_at lw_m1 189 rfl
theorem q217 : (Jvm.Cond.instanceMethod ({ cls := "SeriesCodec", name := "search", desc := "(II)V" } : Jvm.MethodName)) ∈ lw_all := lw_g (lw_at lw_m1 190 rfl) rfl
theorem q218 : (Jvm.Cond.code ({ cls := "SeriesCodec", name := "search", desc := "(II)V" } : Jvm.MethodName) prog_1_method_31_code (6 : Nat) (Option.none : Option Jvm.ClassFile.FieldType)) ∈ lw_all := lw_g (lw_at lw_m1 191 rfl) rfl
theorem q219 : (Jvm.Cond.constant "SeriesCodec" (132 : Nat) (65536 : Int32)) ∈ lw_all := lw_g (lw_at lw_m1 192 rfl) rfl
theorem q220 : (Jvm.Cond.methodLink "SeriesCodec" (128 : Nat) ({ cls := "SeriesCodec", name := "note", desc := "(IIII)V" } : Jvm.MethodName)) ∈ lw_all := lw_g (lw_at lw_m1 193 rfl) rfl
theorem q221 : (Jvm.Cond.privateMethod ({ cls := "SeriesCodec", name := "note", desc := "(IIII)V" } : Jvm.MethodName)) ∈ lw_tbl := lw_at lw_m1 194 rfl
theorem q222 : (Jvm.Cond.instanceMethod ({ cls := "SeriesCodec", name := "note", desc := "(IIII)V" } : Jvm.MethodName)) ∈ lw_all := lw_g (lw_at lw_m1 195 rfl) rfl
theorem q223 : (Jvm.Cond.code ({ cls := "SeriesCodec", name := "note", desc := "(IIII)V" } : Jvm.MethodName) prog_1_method_29_code (5 : Nat) (Option.none : Option Jvm.ClassFile.FieldType)) ∈ lw_all := lw_g (lw_at lw_m1 196 rfl) rfl
theorem q224 : (Jvm.Cond.methodLink "SeriesCodec" (133 : Nat) ({ cls := "SeriesCodec", name := "cut", desc := "(III)V" } : Jvm.MethodName)) ∈ lw_all := lw_g (lw_at lw_m1 197 rfl) rfl
theorem q225 : (Jvm.Cond.privateMethod ({ cls := "SeriesCodec", name := "cut", desc := "(III)V" } : Jvm.MethodName)) ∈ lw_tbl := lw_at lw_m1 198 rfl
theorem q226 : (Jvm.Cond.instanceMethod ({ cls := "SeriesCodec", name := "cut", desc := "(III)V" } : Jvm.MethodName)) ∈ lw_all := lw_g (lw_at lw_m1 199 rfl) rfl
theorem q227 : (Jvm.Cond.code ({ cls := "SeriesCodec", name := "cut", desc := "(III)V" } : Jvm.MethodName) prog_1_method_30_code (6 : Nat) (Option.none : Option Jvm.ClassFile.FieldType)) ∈ lw_all := lw_g (lw_at lw_m1 200 rfl) rfl
theorem q229 : (Jvm.Cond.instanceMethod ({ cls := "SeriesCodec", name := "sum", desc := "(II)I" } : Jvm.MethodName)) ∈ lw_all := lw_g (lw_at lw_m1 202 rfl) rfl
theorem q230 : (Jvm.Cond.selects "SeriesCodec" ({ cls := "SeriesCodec", name := "sum", desc := "(II)I" } : Jvm.MethodName) ({ cls := "SeriesCodec", name := "sum", desc := "(II)I" } : Jvm.MethodName)) ∈ lw_all := lw_g (lw_at lw_m1 203 rfl) rfl
theorem q231 : (Jvm.Cond.code ({ cls := "SeriesCodec", name := "sum", desc := "(II)I" } : Jvm.MethodName) prog_1_method_33_code (3 : Nat) (Option.some Jvm.ClassFile.FieldType.int)) ∈ lw_all := lw_g (lw_at lw_m1 204 rfl) rfl
theorem q233 : (Jvm.Cond.instanceMethod ({ cls := "SeriesCodec", name := "greatest", desc := "(II)I" } : Jvm.MethodName)) ∈ lw_all := lw_g (lw_at lw_m1 206 rfl) rfl
theorem q234 : (Jvm.Cond.selects "SeriesCodec" ({ cls := "SeriesCodec", name := "greatest", desc := "(II)I" } : Jvm.MethodName) ({ cls := "SeriesCodec", name := "greatest", desc := "(II)I" } : Jvm.MethodName)) ∈ lw_all := lw_g (lw_at lw_m1 207 rfl) rfl
theorem q235 : (Jvm.Cond.code ({ cls := "SeriesCodec", name := "greatest", desc := "(II)I" } : Jvm.MethodName) prog_1_method_34_code (3 : Nat) (Option.some Jvm.ClassFile.FieldType.int)) ∈ lw_all := lw_g (lw_at lw_m1 208 rfl) rfl
theorem q237 : (Jvm.Cond.instanceMethod ({ cls := "SeriesCodec", name := "least", desc := "(II)I" } : Jvm.MethodName)) ∈ lw_all := lw_g (lw_at lw_m1 210 rfl) rfl
theorem q238 : (Jvm.Cond.selects "SeriesCodec" ({ cls := "SeriesCodec", name := "least", desc := "(II)I" } : Jvm.MethodName) ({ cls := "SeriesCodec", name := "least", desc := "(II)I" } : Jvm.MethodName)) ∈ lw_all := lw_g (lw_at lw_m1 211 rfl) rfl
theorem q239 : (Jvm.Cond.code ({ cls := "SeriesCodec", name := "least", desc := "(II)I" } : Jvm.MethodName) prog_1_method_35_code (3 : Nat) (Option.some Jvm.ClassFile.FieldType.int)) ∈ lw_all := lw_g (lw_at lw_m1 212 rfl) rfl
theorem q241 : (Jvm.Cond.instanceMethod ({ cls := "SeriesCodec", name := "valueAt", desc := "(I)I" } : Jvm.MethodName)) ∈ lw_all := lw_g (lw_at lw_m1 214 rfl) rfl
theorem q242 : (Jvm.Cond.selects "SeriesCodec" ({ cls := "SeriesCodec", name := "valueAt", desc := "(I)I" } : Jvm.MethodName) ({ cls := "SeriesCodec", name := "valueAt", desc := "(I)I" } : Jvm.MethodName)) ∈ lw_all := lw_g (lw_at lw_m1 215 rfl) rfl
theorem q243 : (Jvm.Cond.code ({ cls := "SeriesCodec", name := "valueAt", desc := "(I)I" } : Jvm.MethodName) prog_1_method_36_code (7 : Nat) (Option.some Jvm.ClassFile.FieldType.int)) ∈ lw_all := lw_g (lw_at lw_m1 216 rfl) rfl
theorem q245 : (Jvm.Cond.instanceMethod ({ cls := "SeriesCodec", name := "rises", desc := "()I" } : Jvm.MethodName)) ∈ lw_all := lw_g (lw_at lw_m1 218 rfl) rfl
theorem q246 : (Jvm.Cond.selects "SeriesCodec" ({ cls := "SeriesCodec", name := "rises", desc := "()I" } : Jvm.MethodName) ({ cls := "SeriesCodec", name := "rises", desc := "()I" } : Jvm.MethodName)) ∈ lw_all := lw_g (lw_at lw_m1 219 rfl) rfl
theorem q247 : (Jvm.Cond.code ({ cls := "SeriesCodec", name := "rises", desc := "()I" } : Jvm.MethodName) prog_1_method_37_code (7 : Nat) (Option.some Jvm.ClassFile.FieldType.int)) ∈ lw_all := lw_g (lw_at lw_m1 220 rfl) rfl
theorem q249 : (Jvm.Cond.instanceMethod ({ cls := "SeriesCodec", name := "widestGap", desc := "()I" } : Jvm.MethodName)) ∈ lw_all := lw_g (lw_at lw_m1 222 rfl) rfl
theorem q250 : (Jvm.Cond.selects "SeriesCodec" ({ cls := "SeriesCodec", name := "widestGap", desc := "()I" } : Jvm.MethodName) ({ cls := "SeriesCodec", name := "widestGap", desc := "()I" } : Jvm.MethodName)) ∈ lw_all := lw_g (lw_at lw_m1 223 rfl) rfl
theorem q251 : (Jvm.Cond.code ({ cls := "SeriesCodec", name := "widestGap", desc := "()I" } : Jvm.MethodName) prog_1_method_38_code (7 : Nat) (Option.some Jvm.ClassFile.FieldType.int)) ∈ lw_all := lw_g (lw_at lw_m1 224 rfl) rfl
theorem in_X0 : ∀ w ∈ wsX00, w ∈ lw_all := lw_in wsX00 [58, 60, 62, 64, 66, 68, 70, 72, 74, 76, 78, 80, 82, 84, 86, 88, 90, 92, 94, 96] (by decide +kernel) (by decide +kernel)
/-! SeriesCodecModel -/
def RX1 : String := "SeriesCodecModel"
def TX1 : u_T := fun k => match k with
  | 0 => ("SeriesCodecModel", "times", "[I", true)
  | 1 => ("SeriesCodecModel", "values", "[I", true)
  | 2 => ("SeriesCodecModel", "count", "I", false)
  | 3 => ("SeriesCodecModel", "left", "I", false)
  | _ => ("SeriesCodecModel", "right", "I", false)
def tyX1 : Nat → FieldType := fun k => match k with
  | 0 => .array .int
  | 1 => .array .int
  | 2 => .int
  | 3 => .int
  | _ => .int
abbrev wsX10 : List Cond := u_ws RX1 TX1 5
theorem nmX1 : ∀ a, a < 5 → ∀ b, b < 5 → a ≠ b → (TX1 a).2.1 ≠ (TX1 b).2.1 := by decide +kernel
theorem tyX1_ok : ∀ k, k < 5 → parseFieldDescriptor (TX1 k).2.2.1 = some (tyX1 k) := by decide +kernel
abbrev cX1_init : ByteArray := prog_3_method_1_code
def yX1_init : MethodName := ⟨RX1, "<init>", "()V"⟩
abbrev cX1_append : ByteArray := prog_3_method_4_code
def yX1_append : MethodName := ⟨RX1, "append", "(II)I"⟩
abbrev cX1_lastTime : ByteArray := prog_3_method_2_code
def yX1_lastTime : MethodName := ⟨RX1, "lastTime", "()I"⟩
abbrev cX1_isValue : ByteArray := prog_3_method_3_code
def yX1_isValue : MethodName := ⟨RX1, "isValue", "(I)Z"⟩
abbrev cX1_steady : ByteArray := prog_3_method_5_code
def yX1_steady : MethodName := ⟨RX1, "steady", "(IIII)I"⟩
abbrev cX1_dropOldest : ByteArray := prog_3_method_6_code
def yX1_dropOldest : MethodName := ⟨RX1, "dropOldest", "()I"⟩
abbrev cX1_unappend : ByteArray := prog_3_method_7_code
def yX1_unappend : MethodName := ⟨RX1, "unappend", "()I"⟩
abbrev cX1_points : ByteArray := prog_3_method_8_code
def yX1_points : MethodName := ⟨RX1, "points", "()I"⟩
abbrev cX1_time : ByteArray := prog_3_method_10_code
def yX1_time : MethodName := ⟨RX1, "time", "(I)I"⟩
abbrev cX1_isPoint : ByteArray := prog_3_method_9_code
def yX1_isPoint : MethodName := ⟨RX1, "isPoint", "(I)Z"⟩
abbrev cX1_value : ByteArray := prog_3_method_11_code
def yX1_value : MethodName := ⟨RX1, "value", "(I)I"⟩
abbrev cX1_size : ByteArray := prog_3_method_14_code
def yX1_size : MethodName := ⟨RX1, "size", "(I)I"⟩
abbrev cX1_timeSize : ByteArray := prog_3_method_12_code
def yX1_timeSize : MethodName := ⟨RX1, "timeSize", "(I)I"⟩
abbrev cX1_valueSize : ByteArray := prog_3_method_13_code
def yX1_valueSize : MethodName := ⟨RX1, "valueSize", "(I)I"⟩
abbrev cX1_packed : ByteArray := prog_3_method_15_code
def yX1_packed : MethodName := ⟨RX1, "packed", "()I"⟩
abbrev cX1_firstFrom : ByteArray := prog_3_method_16_code
def yX1_firstFrom : MethodName := ⟨RX1, "firstFrom", "(I)I"⟩
abbrev cX1_count : ByteArray := prog_3_method_19_code
def yX1_count : MethodName := ⟨RX1, "count", "(II)I"⟩
abbrev cX1_isSpan : ByteArray := prog_3_method_17_code
def yX1_isSpan : MethodName := ⟨RX1, "isSpan", "(II)Z"⟩
abbrev cX1_isIn : ByteArray := prog_3_method_18_code
def yX1_isIn : MethodName := ⟨RX1, "isIn", "(III)Z"⟩
abbrev cX1_sum : ByteArray := prog_3_method_20_code
def yX1_sum : MethodName := ⟨RX1, "sum", "(II)I"⟩
abbrev cX1_greatest : ByteArray := prog_3_method_21_code
def yX1_greatest : MethodName := ⟨RX1, "greatest", "(II)I"⟩
abbrev cX1_least : ByteArray := prog_3_method_22_code
def yX1_least : MethodName := ⟨RX1, "least", "(II)I"⟩
abbrev cX1_valueAt : ByteArray := prog_3_method_23_code
def yX1_valueAt : MethodName := ⟨RX1, "valueAt", "(I)I"⟩
abbrev cX1_rises : ByteArray := prog_3_method_24_code
def yX1_rises : MethodName := ⟨RX1, "rises", "()I"⟩
abbrev cX1_widestGap : ByteArray := prog_3_method_25_code
def yX1_widestGap : MethodName := ⟨RX1, "widestGap", "()I"⟩
theorem q29 : (Jvm.Cond.initialized "SeriesCodecModel") ∈ lw_all := lw_g (lw_at lw_m1 2 rfl) rfl
theorem q253 : (Jvm.Cond.instantiable "SeriesCodecModel" (5 : Nat)) ∈ lw_all := lw_g (lw_at lw_m1 226 rfl) rfl
theorem q255 : (Jvm.Cond.instanceMethod ({ cls := "SeriesCodecModel", name := "<init>", desc := "()V" } : Jvm.MethodName)) ∈ lw_all := lw_g (lw_at lw_m1 228 rfl) rfl
theorem q256 : (Jvm.Cond.code ({ cls := "SeriesCodecModel", name := "<init>", desc := "()V" } : Jvm.MethodName) prog_3_method_1_code (1 : Nat) (Option.none : Option Jvm.ClassFile.FieldType)) ∈ lw_all := lw_g (lw_at lw_m1 229 rfl) rfl
theorem q257 : (Jvm.Cond.methodLink "SeriesCodecModel" (1 : Nat) ({ cls := "java/lang/Object", name := "<init>", desc := "()V" } : Jvm.MethodName)) ∈ lw_all := lw_g (lw_at lw_m1 230 rfl) rfl
theorem q258 : (Jvm.Cond.fieldLink "SeriesCodecModel" (7 : Nat) "SeriesCodecModel" "times" "[I") ∈ lw_all := lw_g (lw_at lw_m1 231 rfl) rfl
theorem q259 : (Jvm.Cond.fieldLink "SeriesCodecModel" (13 : Nat) "SeriesCodecModel" "values" "[I") ∈ lw_all := lw_g (lw_at lw_m1 232 rfl) rfl
theorem q260 : (Jvm.Cond.fieldLink "SeriesCodecModel" (16 : Nat) "SeriesCodecModel" "count" "I") ∈ lw_all := lw_g (lw_at lw_m1 233 rfl) rfl
theorem q261 : (Jvm.Cond.fieldLink "SeriesCodecModel" (38 : Nat) "SeriesCodecModel" "left" "I") ∈ lw_all := lw_g (lw_at lw_m1 234 rfl) rfl
theorem q262 : (Jvm.Cond.fieldLink "SeriesCodecModel" (41 : Nat) "SeriesCodecModel" "right" "I") ∈ lw_all := lw_g (lw_at lw_m1 235 rfl) rfl
theorem q263 : (Jvm.Cond.laysFinal "SeriesCodecModel" "SeriesCodecModel" "times" "[I") ∈ lw_all := lw_g (lw_at lw_m1 236 rfl) rfl
theorem q264 : (Jvm.Cond.soleField "SeriesCodecModel" "times") ∈ lw_all := lw_g (lw_at lw_m1 237 rfl) rfl
theorem q265 : (Jvm.Cond.laysFinal "SeriesCodecModel" "SeriesCodecModel" "values" "[I") ∈ lw_all := lw_g (lw_at lw_m1 238 rfl) rfl
theorem q266 : (Jvm.Cond.soleField "SeriesCodecModel" "values") ∈ lw_all := lw_g (lw_at lw_m1 239 rfl) rfl
theorem q267 : (Jvm.Cond.lays "SeriesCodecModel" "SeriesCodecModel" "count" "I") ∈ lw_all := lw_g (lw_at lw_m2 0 rfl) rfl
theorem q268 : (Jvm.Cond.soleField "SeriesCodecModel" "count") ∈ lw_all := lw_g (lw_at lw_m2 1 rfl) rfl
theorem q269 : (Jvm.Cond.lays "SeriesCodecModel" "SeriesCodecModel" "left" "I") ∈ lw_all := lw_g (lw_at lw_m2 2 rfl) rfl
theorem q270 : (Jvm.Cond.soleField "SeriesCodecModel" "left") ∈ lw_all := lw_g (lw_at lw_m2 3 rfl) rfl
theorem q271 : (Jvm.Cond.lays "SeriesCodecModel" "SeriesCodecModel" "right" "I") ∈ lw_all := lw_g (lw_at lw_m2 4 rfl) rfl
theorem q272 : (Jvm.Cond.soleField "SeriesCodecModel" "right") ∈ lw_all := lw_g (lw_at lw_m2 5 rfl) rfl
theorem q273 : (Jvm.Cond.superclass "SeriesCodecModel" "java/lang/Object") ∈ lw_all := lw_g (lw_at lw_m2 6 rfl) rfl
theorem q275 : (Jvm.Cond.instanceMethod ({ cls := "SeriesCodecModel", name := "append", desc := "(II)I" } : Jvm.MethodName)) ∈ lw_all := lw_g (lw_at lw_m2 8 rfl) rfl
theorem q276 : (Jvm.Cond.selects "SeriesCodecModel" ({ cls := "SeriesCodecModel", name := "append", desc := "(II)I" } : Jvm.MethodName) ({ cls := "SeriesCodecModel", name := "append", desc := "(II)I" } : Jvm.MethodName)) ∈ lw_all := lw_g (lw_at lw_m2 9 rfl) rfl
theorem q277 : (Jvm.Cond.code ({ cls := "SeriesCodecModel", name := "append", desc := "(II)I" } : Jvm.MethodName) prog_3_method_4_code (3 : Nat) (Option.some Jvm.ClassFile.FieldType.int)) ∈ lw_all := lw_g (lw_at lw_m2 10 rfl) rfl
theorem q278 : (Jvm.Cond.constant "SeriesCodecModel" (21 : Nat) (60000 : Int32)) ∈ lw_all := lw_g (lw_at lw_m2 11 rfl) rfl
theorem q279 : (Jvm.Cond.methodLink "SeriesCodecModel" (22 : Nat) ({ cls := "SeriesCodecModel", name := "lastTime", desc := "()I" } : Jvm.MethodName)) ∈ lw_all := lw_g (lw_at lw_m2 12 rfl) rfl
theorem q280 : (Jvm.Cond.privateMethod ({ cls := "SeriesCodecModel", name := "lastTime", desc := "()I" } : Jvm.MethodName)) ∈ lw_tbl := lw_at lw_m2 13 rfl
theorem q281 : (Jvm.Cond.instanceMethod ({ cls := "SeriesCodecModel", name := "lastTime", desc := "()I" } : Jvm.MethodName)) ∈ lw_all := lw_g (lw_at lw_m2 14 rfl) rfl
theorem q282 : (Jvm.Cond.code ({ cls := "SeriesCodecModel", name := "lastTime", desc := "()I" } : Jvm.MethodName) prog_3_method_2_code (1 : Nat) (Option.some Jvm.ClassFile.FieldType.int)) ∈ lw_all := lw_g (lw_at lw_m2 15 rfl) rfl
theorem q283 : (Jvm.Cond.methodLink "SeriesCodecModel" (26 : Nat) ({ cls := "SeriesCodecModel", name := "isValue", desc := "(I)Z" } : Jvm.MethodName)) ∈ lw_all := lw_g (lw_at lw_m2 16 rfl) rfl
theorem q284 : (Jvm.Cond.privateMethod ({ cls := "SeriesCodecModel", name := "isValue", desc := "(I)Z" } : Jvm.MethodName)) ∈ lw_tbl := lw_at lw_m2 17 rfl
theorem q285 : (Jvm.Cond.instanceMethod ({ cls := "SeriesCodecModel", name := "isValue", desc := "(I)Z" } : Jvm.MethodName)) ∈ lw_all := lw_g (lw_at lw_m2 18 rfl) rfl
theorem q286 : (Jvm.Cond.code ({ cls := "SeriesCodecModel", name := "isValue", desc := "(I)Z" } : Jvm.MethodName) prog_3_method_3_code (2 : Nat) (Option.some Jvm.ClassFile.FieldType.boolean)) ∈ lw_all := lw_g (lw_at lw_m2 19 rfl) rfl
theorem q287 : (Jvm.Cond.constant "SeriesCodecModel" (20 : Nat) (65535 : Int32)) ∈ lw_all := lw_g (lw_at lw_m2 20 rfl) rfl
theorem q289 : (Jvm.Cond.instanceMethod ({ cls := "SeriesCodecModel", name := "steady", desc := "(IIII)I" } : Jvm.MethodName)) ∈ lw_all := lw_g (lw_at lw_m2 22 rfl) rfl
theorem q290 : (Jvm.Cond.selects "SeriesCodecModel" ({ cls := "SeriesCodecModel", name := "steady", desc := "(IIII)I" } : Jvm.MethodName) ({ cls := "SeriesCodecModel", name := "steady", desc := "(IIII)I" } : Jvm.MethodName)) ∈ lw_all := lw_g (lw_at lw_m2 23 rfl) rfl
theorem q291 : (Jvm.Cond.code ({ cls := "SeriesCodecModel", name := "steady", desc := "(IIII)I" } : Jvm.MethodName) prog_3_method_5_code (7 : Nat) (Option.some Jvm.ClassFile.FieldType.int)) ∈ lw_all := lw_g (lw_at lw_m2 24 rfl) rfl
theorem q292 : (Jvm.Cond.constant "SeriesCodecModel" (30 : Nat) (-65535 : Int32)) ∈ lw_all := lw_g (lw_at lw_m2 25 rfl) rfl
theorem q293 : (Jvm.Cond.methodLink "SeriesCodecModel" (31 : Nat) ({ cls := "SeriesCodecModel", name := "append", desc := "(II)I" } : Jvm.MethodName)) ∈ lw_all := lw_g (lw_at lw_m2 26 rfl) rfl
theorem q295 : (Jvm.Cond.instanceMethod ({ cls := "SeriesCodecModel", name := "dropOldest", desc := "()I" } : Jvm.MethodName)) ∈ lw_all := lw_g (lw_at lw_m2 28 rfl) rfl
theorem q296 : (Jvm.Cond.selects "SeriesCodecModel" ({ cls := "SeriesCodecModel", name := "dropOldest", desc := "()I" } : Jvm.MethodName) ({ cls := "SeriesCodecModel", name := "dropOldest", desc := "()I" } : Jvm.MethodName)) ∈ lw_all := lw_g (lw_at lw_m2 29 rfl) rfl
theorem q297 : (Jvm.Cond.code ({ cls := "SeriesCodecModel", name := "dropOldest", desc := "()I" } : Jvm.MethodName) prog_3_method_6_code (2 : Nat) (Option.some Jvm.ClassFile.FieldType.int)) ∈ lw_all := lw_g (lw_at lw_m2 30 rfl) rfl
theorem q299 : (Jvm.Cond.instanceMethod ({ cls := "SeriesCodecModel", name := "unappend", desc := "()I" } : Jvm.MethodName)) ∈ lw_all := lw_g (lw_at lw_m2 32 rfl) rfl
theorem q300 : (Jvm.Cond.selects "SeriesCodecModel" ({ cls := "SeriesCodecModel", name := "unappend", desc := "()I" } : Jvm.MethodName) ({ cls := "SeriesCodecModel", name := "unappend", desc := "()I" } : Jvm.MethodName)) ∈ lw_all := lw_g (lw_at lw_m2 33 rfl) rfl
theorem q301 : (Jvm.Cond.code ({ cls := "SeriesCodecModel", name := "unappend", desc := "()I" } : Jvm.MethodName) prog_3_method_7_code (1 : Nat) (Option.some Jvm.ClassFile.FieldType.int)) ∈ lw_all := lw_g (lw_at lw_m2 34 rfl) rfl
theorem q303 : (Jvm.Cond.instanceMethod ({ cls := "SeriesCodecModel", name := "points", desc := "()I" } : Jvm.MethodName)) ∈ lw_all := lw_g (lw_at lw_m2 36 rfl) rfl
theorem q304 : (Jvm.Cond.selects "SeriesCodecModel" ({ cls := "SeriesCodecModel", name := "points", desc := "()I" } : Jvm.MethodName) ({ cls := "SeriesCodecModel", name := "points", desc := "()I" } : Jvm.MethodName)) ∈ lw_all := lw_g (lw_at lw_m2 37 rfl) rfl
theorem q305 : (Jvm.Cond.code ({ cls := "SeriesCodecModel", name := "points", desc := "()I" } : Jvm.MethodName) prog_3_method_8_code (1 : Nat) (Option.some Jvm.ClassFile.FieldType.int)) ∈ lw_all := lw_g (lw_at lw_m2 38 rfl) rfl
theorem q307 : (Jvm.Cond.instanceMethod ({ cls := "SeriesCodecModel", name := "time", desc := "(I)I" } : Jvm.MethodName)) ∈ lw_all := lw_g (lw_at lw_m2 40 rfl) rfl
theorem q308 : (Jvm.Cond.selects "SeriesCodecModel" ({ cls := "SeriesCodecModel", name := "time", desc := "(I)I" } : Jvm.MethodName) ({ cls := "SeriesCodecModel", name := "time", desc := "(I)I" } : Jvm.MethodName)) ∈ lw_all := lw_g (lw_at lw_m2 41 rfl) rfl
theorem q309 : (Jvm.Cond.code ({ cls := "SeriesCodecModel", name := "time", desc := "(I)I" } : Jvm.MethodName) prog_3_method_10_code (2 : Nat) (Option.some Jvm.ClassFile.FieldType.int)) ∈ lw_all := lw_g (lw_at lw_m2 42 rfl) rfl
theorem q310 : (Jvm.Cond.methodLink "SeriesCodecModel" (35 : Nat) ({ cls := "SeriesCodecModel", name := "isPoint", desc := "(I)Z" } : Jvm.MethodName)) ∈ lw_all := lw_g (lw_at lw_m2 43 rfl) rfl
theorem q311 : (Jvm.Cond.privateMethod ({ cls := "SeriesCodecModel", name := "isPoint", desc := "(I)Z" } : Jvm.MethodName)) ∈ lw_tbl := lw_at lw_m2 44 rfl
theorem q312 : (Jvm.Cond.instanceMethod ({ cls := "SeriesCodecModel", name := "isPoint", desc := "(I)Z" } : Jvm.MethodName)) ∈ lw_all := lw_g (lw_at lw_m2 45 rfl) rfl
theorem q313 : (Jvm.Cond.code ({ cls := "SeriesCodecModel", name := "isPoint", desc := "(I)Z" } : Jvm.MethodName) prog_3_method_9_code (2 : Nat) (Option.some Jvm.ClassFile.FieldType.boolean)) ∈ lw_all := lw_g (lw_at lw_m2 46 rfl) rfl
theorem q315 : (Jvm.Cond.instanceMethod ({ cls := "SeriesCodecModel", name := "value", desc := "(I)I" } : Jvm.MethodName)) ∈ lw_all := lw_g (lw_at lw_m2 48 rfl) rfl
theorem q316 : (Jvm.Cond.selects "SeriesCodecModel" ({ cls := "SeriesCodecModel", name := "value", desc := "(I)I" } : Jvm.MethodName) ({ cls := "SeriesCodecModel", name := "value", desc := "(I)I" } : Jvm.MethodName)) ∈ lw_all := lw_g (lw_at lw_m2 49 rfl) rfl
theorem q317 : (Jvm.Cond.code ({ cls := "SeriesCodecModel", name := "value", desc := "(I)I" } : Jvm.MethodName) prog_3_method_11_code (2 : Nat) (Option.some Jvm.ClassFile.FieldType.int)) ∈ lw_all := lw_g (lw_at lw_m2 50 rfl) rfl
theorem q319 : (Jvm.Cond.instanceMethod ({ cls := "SeriesCodecModel", name := "size", desc := "(I)I" } : Jvm.MethodName)) ∈ lw_all := lw_g (lw_at lw_m2 52 rfl) rfl
theorem q320 : (Jvm.Cond.selects "SeriesCodecModel" ({ cls := "SeriesCodecModel", name := "size", desc := "(I)I" } : Jvm.MethodName) ({ cls := "SeriesCodecModel", name := "size", desc := "(I)I" } : Jvm.MethodName)) ∈ lw_all := lw_g (lw_at lw_m2 53 rfl) rfl
theorem q321 : (Jvm.Cond.code ({ cls := "SeriesCodecModel", name := "size", desc := "(I)I" } : Jvm.MethodName) prog_3_method_14_code (4 : Nat) (Option.some Jvm.ClassFile.FieldType.int)) ∈ lw_all := lw_g (lw_at lw_m2 54 rfl) rfl
theorem q322 : (Jvm.Cond.methodLink "SeriesCodecModel" (44 : Nat) ({ cls := "SeriesCodecModel", name := "timeSize", desc := "(I)I" } : Jvm.MethodName)) ∈ lw_all := lw_g (lw_at lw_m2 55 rfl) rfl
theorem q323 : (Jvm.Cond.privateMethod ({ cls := "SeriesCodecModel", name := "timeSize", desc := "(I)I" } : Jvm.MethodName)) ∈ lw_tbl := lw_at lw_m2 56 rfl
theorem q324 : (Jvm.Cond.instanceMethod ({ cls := "SeriesCodecModel", name := "timeSize", desc := "(I)I" } : Jvm.MethodName)) ∈ lw_all := lw_g (lw_at lw_m2 57 rfl) rfl
theorem q325 : (Jvm.Cond.code ({ cls := "SeriesCodecModel", name := "timeSize", desc := "(I)I" } : Jvm.MethodName) prog_3_method_12_code (4 : Nat) (Option.some Jvm.ClassFile.FieldType.int)) ∈ lw_all := lw_g (lw_at lw_m2 58 rfl) rfl
theorem q326 : (Jvm.Cond.methodLink "SeriesCodecModel" (48 : Nat) ({ cls := "SeriesCodecModel", name := "valueSize", desc := "(I)I" } : Jvm.MethodName)) ∈ lw_all := lw_g (lw_at lw_m2 59 rfl) rfl
theorem q327 : (Jvm.Cond.privateMethod ({ cls := "SeriesCodecModel", name := "valueSize", desc := "(I)I" } : Jvm.MethodName)) ∈ lw_tbl := lw_at lw_m2 60 rfl
theorem q328 : (Jvm.Cond.instanceMethod ({ cls := "SeriesCodecModel", name := "valueSize", desc := "(I)I" } : Jvm.MethodName)) ∈ lw_all := lw_g (lw_at lw_m2 61 rfl) rfl
theorem q329 : (Jvm.Cond.code ({ cls := "SeriesCodecModel", name := "valueSize", desc := "(I)I" } : Jvm.MethodName) prog_3_method_13_code (5 : Nat) (Option.some Jvm.ClassFile.FieldType.int)) ∈ lw_all := lw_g (lw_at lw_m2 62 rfl) rfl
theorem q331 : (Jvm.Cond.instanceMethod ({ cls := "SeriesCodecModel", name := "packed", desc := "()I" } : Jvm.MethodName)) ∈ lw_all := lw_g (lw_at lw_m2 64 rfl) rfl
theorem q332 : (Jvm.Cond.selects "SeriesCodecModel" ({ cls := "SeriesCodecModel", name := "packed", desc := "()I" } : Jvm.MethodName) ({ cls := "SeriesCodecModel", name := "packed", desc := "()I" } : Jvm.MethodName)) ∈ lw_all := lw_g (lw_at lw_m2 65 rfl) rfl
theorem q333 : (Jvm.Cond.code ({ cls := "SeriesCodecModel", name := "packed", desc := "()I" } : Jvm.MethodName) prog_3_method_15_code (3 : Nat) (Option.some Jvm.ClassFile.FieldType.int)) ∈ lw_all := lw_g (lw_at lw_m2 66 rfl) rfl
theorem q334 : (Jvm.Cond.methodLink "SeriesCodecModel" (51 : Nat) ({ cls := "SeriesCodecModel", name := "size", desc := "(I)I" } : Jvm.MethodName)) ∈ lw_all := lw_g (lw_at lw_m2 67 rfl) rfl
theorem q336 : (Jvm.Cond.instanceMethod ({ cls := "SeriesCodecModel", name := "firstFrom", desc := "(I)I" } : Jvm.MethodName)) ∈ lw_all := lw_g (lw_at lw_m2 69 rfl) rfl
theorem q337 : (Jvm.Cond.selects "SeriesCodecModel" ({ cls := "SeriesCodecModel", name := "firstFrom", desc := "(I)I" } : Jvm.MethodName) ({ cls := "SeriesCodecModel", name := "firstFrom", desc := "(I)I" } : Jvm.MethodName)) ∈ lw_all := lw_g (lw_at lw_m2 70 rfl) rfl
theorem q338 : (Jvm.Cond.code ({ cls := "SeriesCodecModel", name := "firstFrom", desc := "(I)I" } : Jvm.MethodName) prog_3_method_16_code (3 : Nat) (Option.some Jvm.ClassFile.FieldType.int)) ∈ lw_all := lw_g (lw_at lw_m2 71 rfl) rfl
theorem q340 : (Jvm.Cond.instanceMethod ({ cls := "SeriesCodecModel", name := "count", desc := "(II)I" } : Jvm.MethodName)) ∈ lw_all := lw_g (lw_at lw_m2 73 rfl) rfl
theorem q341 : (Jvm.Cond.selects "SeriesCodecModel" ({ cls := "SeriesCodecModel", name := "count", desc := "(II)I" } : Jvm.MethodName) ({ cls := "SeriesCodecModel", name := "count", desc := "(II)I" } : Jvm.MethodName)) ∈ lw_all := lw_g (lw_at lw_m2 74 rfl) rfl
theorem q342 : (Jvm.Cond.code ({ cls := "SeriesCodecModel", name := "count", desc := "(II)I" } : Jvm.MethodName) prog_3_method_19_code (5 : Nat) (Option.some Jvm.ClassFile.FieldType.int)) ∈ lw_all := lw_g (lw_at lw_m2 75 rfl) rfl
theorem q343 : (Jvm.Cond.methodLink "SeriesCodecModel" (54 : Nat) ({ cls := "SeriesCodecModel", name := "isSpan", desc := "(II)Z" } : Jvm.MethodName)) ∈ lw_all := lw_g (lw_at lw_m2 76 rfl) rfl
theorem q344 : (Jvm.Cond.privateMethod ({ cls := "SeriesCodecModel", name := "isSpan", desc := "(II)Z" } : Jvm.MethodName)) ∈ lw_tbl := lw_at lw_m2 77 rfl
theorem q345 : (Jvm.Cond.instanceMethod ({ cls := "SeriesCodecModel", name := "isSpan", desc := "(II)Z" } : Jvm.MethodName)) ∈ lw_all := lw_g (lw_at lw_m2 78 rfl) rfl
theorem q346 : (Jvm.Cond.code ({ cls := "SeriesCodecModel", name := "isSpan", desc := "(II)Z" } : Jvm.MethodName) prog_3_method_17_code (3 : Nat) (Option.some Jvm.ClassFile.FieldType.boolean)) ∈ lw_all := lw_g (lw_at lw_m2 79 rfl) rfl
theorem q347 : (Jvm.Cond.methodLink "SeriesCodecModel" (58 : Nat) ({ cls := "SeriesCodecModel", name := "isIn", desc := "(III)Z" } : Jvm.MethodName)) ∈ lw_all := lw_g (lw_at lw_m2 80 rfl) rfl
theorem q348 : (Jvm.Cond.privateMethod ({ cls := "SeriesCodecModel", name := "isIn", desc := "(III)Z" } : Jvm.MethodName)) ∈ lw_tbl := lw_at lw_m2 81 rfl
theorem q349 : (Jvm.Cond.instanceMethod ({ cls := "SeriesCodecModel", name := "isIn", desc := "(III)Z" } : Jvm.MethodName)) ∈ lw_all := lw_g (lw_at lw_m2 82 rfl) rfl
theorem q350 : (Jvm.Cond.code ({ cls := "SeriesCodecModel", name := "isIn", desc := "(III)Z" } : Jvm.MethodName) prog_3_method_18_code (4 : Nat) (Option.some Jvm.ClassFile.FieldType.boolean)) ∈ lw_all := lw_g (lw_at lw_m2 83 rfl) rfl
theorem q352 : (Jvm.Cond.instanceMethod ({ cls := "SeriesCodecModel", name := "sum", desc := "(II)I" } : Jvm.MethodName)) ∈ lw_all := lw_g (lw_at lw_m2 85 rfl) rfl
theorem q353 : (Jvm.Cond.selects "SeriesCodecModel" ({ cls := "SeriesCodecModel", name := "sum", desc := "(II)I" } : Jvm.MethodName) ({ cls := "SeriesCodecModel", name := "sum", desc := "(II)I" } : Jvm.MethodName)) ∈ lw_all := lw_g (lw_at lw_m2 86 rfl) rfl
theorem q354 : (Jvm.Cond.code ({ cls := "SeriesCodecModel", name := "sum", desc := "(II)I" } : Jvm.MethodName) prog_3_method_20_code (5 : Nat) (Option.some Jvm.ClassFile.FieldType.int)) ∈ lw_all := lw_g (lw_at lw_m2 87 rfl) rfl
theorem q356 : (Jvm.Cond.instanceMethod ({ cls := "SeriesCodecModel", name := "greatest", desc := "(II)I" } : Jvm.MethodName)) ∈ lw_all := lw_g (lw_at lw_m2 89 rfl) rfl
theorem q357 : (Jvm.Cond.selects "SeriesCodecModel" ({ cls := "SeriesCodecModel", name := "greatest", desc := "(II)I" } : Jvm.MethodName) ({ cls := "SeriesCodecModel", name := "greatest", desc := "(II)I" } : Jvm.MethodName)) ∈ lw_all := lw_g (lw_at lw_m2 90 rfl) rfl
theorem q358 : (Jvm.Cond.code ({ cls := "SeriesCodecModel", name := "greatest", desc := "(II)I" } : Jvm.MethodName) prog_3_method_21_code (5 : Nat) (Option.some Jvm.ClassFile.FieldType.int)) ∈ lw_all := lw_g (lw_at lw_m2 91 rfl) rfl
theorem q360 : (Jvm.Cond.instanceMethod ({ cls := "SeriesCodecModel", name := "least", desc := "(II)I" } : Jvm.MethodName)) ∈ lw_all := lw_g (lw_at lw_m2 93 rfl) rfl
theorem q361 : (Jvm.Cond.selects "SeriesCodecModel" ({ cls := "SeriesCodecModel", name := "least", desc := "(II)I" } : Jvm.MethodName) ({ cls := "SeriesCodecModel", name := "least", desc := "(II)I" } : Jvm.MethodName)) ∈ lw_all := lw_g (lw_at lw_m2 94 rfl) rfl
theorem q362 : (Jvm.Cond.code ({ cls := "SeriesCodecModel", name := "least", desc := "(II)I" } : Jvm.MethodName) prog_3_method_22_code (5 : Nat) (Option.some Jvm.ClassFile.FieldType.int)) ∈ lw_all := lw_g (lw_at lw_m2 95 rfl) rfl
theorem q364 : (Jvm.Cond.instanceMethod ({ cls := "SeriesCodecModel", name := "valueAt", desc := "(I)I" } : Jvm.MethodName)) ∈ lw_all := lw_g (lw_at lw_m2 97 rfl) rfl
theorem q365 : (Jvm.Cond.selects "SeriesCodecModel" ({ cls := "SeriesCodecModel", name := "valueAt", desc := "(I)I" } : Jvm.MethodName) ({ cls := "SeriesCodecModel", name := "valueAt", desc := "(I)I" } : Jvm.MethodName)) ∈ lw_all := lw_g (lw_at lw_m2 98 rfl) rfl
theorem q366 : (Jvm.Cond.code ({ cls := "SeriesCodecModel", name := "valueAt", desc := "(I)I" } : Jvm.MethodName) prog_3_method_23_code (4 : Nat) (Option.some Jvm.ClassFile.FieldType.int)) ∈ lw_all := lw_g (lw_at lw_m2 99 rfl) rfl
theorem q368 : (Jvm.Cond.instanceMethod ({ cls := "SeriesCodecModel", name := "rises", desc := "()I" } : Jvm.MethodName)) ∈ lw_all := lw_g (lw_at lw_m2 101 rfl) rfl
theorem q369 : (Jvm.Cond.selects "SeriesCodecModel" ({ cls := "SeriesCodecModel", name := "rises", desc := "()I" } : Jvm.MethodName) ({ cls := "SeriesCodecModel", name := "rises", desc := "()I" } : Jvm.MethodName)) ∈ lw_all := lw_g (lw_at lw_m2 102 rfl) rfl
theorem q370 : (Jvm.Cond.code ({ cls := "SeriesCodecModel", name := "rises", desc := "()I" } : Jvm.MethodName) prog_3_method_24_code (3 : Nat) (Option.some Jvm.ClassFile.FieldType.int)) ∈ lw_all := lw_g (lw_at lw_m2 103 rfl) rfl
theorem q372 : (Jvm.Cond.instanceMethod ({ cls := "SeriesCodecModel", name := "widestGap", desc := "()I" } : Jvm.MethodName)) ∈ lw_all := lw_g (lw_at lw_m2 105 rfl) rfl
theorem q373 : (Jvm.Cond.selects "SeriesCodecModel" ({ cls := "SeriesCodecModel", name := "widestGap", desc := "()I" } : Jvm.MethodName) ({ cls := "SeriesCodecModel", name := "widestGap", desc := "()I" } : Jvm.MethodName)) ∈ lw_all := lw_g (lw_at lw_m2 106 rfl) rfl
theorem q374 : (Jvm.Cond.code ({ cls := "SeriesCodecModel", name := "widestGap", desc := "()I" } : Jvm.MethodName) prog_3_method_25_code (3 : Nat) (Option.some Jvm.ClassFile.FieldType.int)) ∈ lw_all := lw_g (lw_at lw_m2 107 rfl) rfl
theorem in_X1 : ∀ w ∈ wsX10, w ∈ lw_all := lw_in wsX10 [263, 265, 267, 269, 271] (by decide +kernel) (by decide +kernel)
/-! the law's own entry -/
abbrev cL_law : ByteArray := code
/-! java/lang/Object -/
def RJ0 : String := "java/lang/Object"
abbrev cJ0_init : ByteArray := object_method_1_code
def yJ0_init : MethodName := ⟨RJ0, "<init>", "()V"⟩
theorem q36 : (Jvm.Cond.instanceMethod ({ cls := "java/lang/Object", name := "<init>", desc := "()V" } : Jvm.MethodName)) ∈ lw_all := lw_g (lw_at lw_m1 9 rfl) rfl
theorem q37 : (Jvm.Cond.code ({ cls := "java/lang/Object", name := "<init>", desc := "()V" } : Jvm.MethodName) object_method_1_code (1 : Nat) (Option.none : Option Jvm.ClassFile.FieldType)) ∈ lw_all := lw_g (lw_at lw_m1 10 rfl) rfl
theorem q27 : (Jvm.Cond.initialized "SeriesCodecLaw") ∈ lw_all := lw_g (lw_at lw_m1 0 rfl) rfl
theorem q30 : (Jvm.Cond.classLink "SeriesCodecLaw" (7 : Nat) "SeriesCodec") ∈ lw_all := lw_g (lw_at lw_m1 3 rfl) rfl
theorem q32 : (Jvm.Cond.methodLink "SeriesCodecLaw" (9 : Nat) ({ cls := "SeriesCodec", name := "<init>", desc := "()V" } : Jvm.MethodName)) ∈ lw_all := lw_g (lw_at lw_m1 5 rfl) rfl
theorem q100 : (Jvm.Cond.methodLink "SeriesCodecLaw" (13 : Nat) ({ cls := "SeriesCodec", name := "append", desc := "(II)I" } : Jvm.MethodName)) ∈ lw_all := lw_g (lw_at lw_m1 73 rfl) rfl
theorem q162 : (Jvm.Cond.methodLink "SeriesCodecLaw" (18 : Nat) ({ cls := "SeriesCodec", name := "steady", desc := "(IIII)I" } : Jvm.MethodName)) ∈ lw_all := lw_g (lw_at lw_m1 135 rfl) rfl
theorem q167 : (Jvm.Cond.methodLink "SeriesCodecLaw" (23 : Nat) ({ cls := "SeriesCodec", name := "dropOldest", desc := "()I" } : Jvm.MethodName)) ∈ lw_all := lw_g (lw_at lw_m1 140 rfl) rfl
theorem q171 : (Jvm.Cond.methodLink "SeriesCodecLaw" (28 : Nat) ({ cls := "SeriesCodec", name := "unappend", desc := "()I" } : Jvm.MethodName)) ∈ lw_all := lw_g (lw_at lw_m1 144 rfl) rfl
theorem q175 : (Jvm.Cond.methodLink "SeriesCodecLaw" (32 : Nat) ({ cls := "SeriesCodec", name := "points", desc := "()I" } : Jvm.MethodName)) ∈ lw_all := lw_g (lw_at lw_m1 148 rfl) rfl
theorem q179 : (Jvm.Cond.methodLink "SeriesCodecLaw" (36 : Nat) ({ cls := "SeriesCodec", name := "time", desc := "(I)I" } : Jvm.MethodName)) ∈ lw_all := lw_g (lw_at lw_m1 152 rfl) rfl
theorem q187 : (Jvm.Cond.methodLink "SeriesCodecLaw" (41 : Nat) ({ cls := "SeriesCodec", name := "value", desc := "(I)I" } : Jvm.MethodName)) ∈ lw_all := lw_g (lw_at lw_m1 160 rfl) rfl
theorem q191 : (Jvm.Cond.methodLink "SeriesCodecLaw" (45 : Nat) ({ cls := "SeriesCodec", name := "size", desc := "(I)I" } : Jvm.MethodName)) ∈ lw_all := lw_g (lw_at lw_m1 164 rfl) rfl
theorem q199 : (Jvm.Cond.methodLink "SeriesCodecLaw" (49 : Nat) ({ cls := "SeriesCodec", name := "packed", desc := "()I" } : Jvm.MethodName)) ∈ lw_all := lw_g (lw_at lw_m1 172 rfl) rfl
theorem q203 : (Jvm.Cond.methodLink "SeriesCodecLaw" (53 : Nat) ({ cls := "SeriesCodec", name := "firstFrom", desc := "(I)I" } : Jvm.MethodName)) ∈ lw_all := lw_g (lw_at lw_m1 176 rfl) rfl
theorem q207 : (Jvm.Cond.methodLink "SeriesCodecLaw" (57 : Nat) ({ cls := "SeriesCodec", name := "count", desc := "(II)I" } : Jvm.MethodName)) ∈ lw_all := lw_g (lw_at lw_m1 180 rfl) rfl
theorem q228 : (Jvm.Cond.methodLink "SeriesCodecLaw" (61 : Nat) ({ cls := "SeriesCodec", name := "sum", desc := "(II)I" } : Jvm.MethodName)) ∈ lw_all := lw_g (lw_at lw_m1 201 rfl) rfl
theorem q232 : (Jvm.Cond.methodLink "SeriesCodecLaw" (65 : Nat) ({ cls := "SeriesCodec", name := "greatest", desc := "(II)I" } : Jvm.MethodName)) ∈ lw_all := lw_g (lw_at lw_m1 205 rfl) rfl
theorem q236 : (Jvm.Cond.methodLink "SeriesCodecLaw" (69 : Nat) ({ cls := "SeriesCodec", name := "least", desc := "(II)I" } : Jvm.MethodName)) ∈ lw_all := lw_g (lw_at lw_m1 209 rfl) rfl
theorem q240 : (Jvm.Cond.methodLink "SeriesCodecLaw" (73 : Nat) ({ cls := "SeriesCodec", name := "valueAt", desc := "(I)I" } : Jvm.MethodName)) ∈ lw_all := lw_g (lw_at lw_m1 213 rfl) rfl
theorem q244 : (Jvm.Cond.methodLink "SeriesCodecLaw" (77 : Nat) ({ cls := "SeriesCodec", name := "rises", desc := "()I" } : Jvm.MethodName)) ∈ lw_all := lw_g (lw_at lw_m1 217 rfl) rfl
theorem q248 : (Jvm.Cond.methodLink "SeriesCodecLaw" (81 : Nat) ({ cls := "SeriesCodec", name := "widestGap", desc := "()I" } : Jvm.MethodName)) ∈ lw_all := lw_g (lw_at lw_m1 221 rfl) rfl
theorem q252 : (Jvm.Cond.classLink "SeriesCodecLaw" (10 : Nat) "SeriesCodecModel") ∈ lw_all := lw_g (lw_at lw_m1 225 rfl) rfl
theorem q254 : (Jvm.Cond.methodLink "SeriesCodecLaw" (12 : Nat) ({ cls := "SeriesCodecModel", name := "<init>", desc := "()V" } : Jvm.MethodName)) ∈ lw_all := lw_g (lw_at lw_m1 227 rfl) rfl
theorem q274 : (Jvm.Cond.methodLink "SeriesCodecLaw" (17 : Nat) ({ cls := "SeriesCodecModel", name := "append", desc := "(II)I" } : Jvm.MethodName)) ∈ lw_all := lw_g (lw_at lw_m2 7 rfl) rfl
theorem q288 : (Jvm.Cond.methodLink "SeriesCodecLaw" (22 : Nat) ({ cls := "SeriesCodecModel", name := "steady", desc := "(IIII)I" } : Jvm.MethodName)) ∈ lw_all := lw_g (lw_at lw_m2 21 rfl) rfl
theorem q294 : (Jvm.Cond.methodLink "SeriesCodecLaw" (27 : Nat) ({ cls := "SeriesCodecModel", name := "dropOldest", desc := "()I" } : Jvm.MethodName)) ∈ lw_all := lw_g (lw_at lw_m2 27 rfl) rfl
theorem q298 : (Jvm.Cond.methodLink "SeriesCodecLaw" (31 : Nat) ({ cls := "SeriesCodecModel", name := "unappend", desc := "()I" } : Jvm.MethodName)) ∈ lw_all := lw_g (lw_at lw_m2 31 rfl) rfl
theorem q302 : (Jvm.Cond.methodLink "SeriesCodecLaw" (35 : Nat) ({ cls := "SeriesCodecModel", name := "points", desc := "()I" } : Jvm.MethodName)) ∈ lw_all := lw_g (lw_at lw_m2 35 rfl) rfl
theorem q306 : (Jvm.Cond.methodLink "SeriesCodecLaw" (40 : Nat) ({ cls := "SeriesCodecModel", name := "time", desc := "(I)I" } : Jvm.MethodName)) ∈ lw_all := lw_g (lw_at lw_m2 39 rfl) rfl
theorem q314 : (Jvm.Cond.methodLink "SeriesCodecLaw" (44 : Nat) ({ cls := "SeriesCodecModel", name := "value", desc := "(I)I" } : Jvm.MethodName)) ∈ lw_all := lw_g (lw_at lw_m2 47 rfl) rfl
theorem q318 : (Jvm.Cond.methodLink "SeriesCodecLaw" (48 : Nat) ({ cls := "SeriesCodecModel", name := "size", desc := "(I)I" } : Jvm.MethodName)) ∈ lw_all := lw_g (lw_at lw_m2 51 rfl) rfl
theorem q330 : (Jvm.Cond.methodLink "SeriesCodecLaw" (52 : Nat) ({ cls := "SeriesCodecModel", name := "packed", desc := "()I" } : Jvm.MethodName)) ∈ lw_all := lw_g (lw_at lw_m2 63 rfl) rfl
theorem q335 : (Jvm.Cond.methodLink "SeriesCodecLaw" (56 : Nat) ({ cls := "SeriesCodecModel", name := "firstFrom", desc := "(I)I" } : Jvm.MethodName)) ∈ lw_all := lw_g (lw_at lw_m2 68 rfl) rfl
theorem q339 : (Jvm.Cond.methodLink "SeriesCodecLaw" (60 : Nat) ({ cls := "SeriesCodecModel", name := "count", desc := "(II)I" } : Jvm.MethodName)) ∈ lw_all := lw_g (lw_at lw_m2 72 rfl) rfl
theorem q351 : (Jvm.Cond.methodLink "SeriesCodecLaw" (64 : Nat) ({ cls := "SeriesCodecModel", name := "sum", desc := "(II)I" } : Jvm.MethodName)) ∈ lw_all := lw_g (lw_at lw_m2 84 rfl) rfl
theorem q355 : (Jvm.Cond.methodLink "SeriesCodecLaw" (68 : Nat) ({ cls := "SeriesCodecModel", name := "greatest", desc := "(II)I" } : Jvm.MethodName)) ∈ lw_all := lw_g (lw_at lw_m2 88 rfl) rfl
theorem q359 : (Jvm.Cond.methodLink "SeriesCodecLaw" (72 : Nat) ({ cls := "SeriesCodecModel", name := "least", desc := "(II)I" } : Jvm.MethodName)) ∈ lw_all := lw_g (lw_at lw_m2 92 rfl) rfl
theorem q363 : (Jvm.Cond.methodLink "SeriesCodecLaw" (76 : Nat) ({ cls := "SeriesCodecModel", name := "valueAt", desc := "(I)I" } : Jvm.MethodName)) ∈ lw_all := lw_g (lw_at lw_m2 96 rfl) rfl
theorem q367 : (Jvm.Cond.methodLink "SeriesCodecLaw" (80 : Nat) ({ cls := "SeriesCodecModel", name := "rises", desc := "()I" } : Jvm.MethodName)) ∈ lw_all := lw_g (lw_at lw_m2 100 rfl) rfl
theorem q371 : (Jvm.Cond.methodLink "SeriesCodecLaw" (84 : Nat) ({ cls := "SeriesCodecModel", name := "widestGap", desc := "()I" } : Jvm.MethodName)) ∈ lw_all := lw_g (lw_at lw_m2 104 rfl) rfl
theorem q99 : (Jvm.Cond.arrayClass Jvm.ClassFile.FieldType.int) ∈ lw_all := lw_g (lw_at lw_m1 72 rfl) rfl
end
section
set_option maxRecDepth 100000
theorem dX0_init_0 : decode cX0_init 0 = .ok (.aload_n 0, 1) := by decide +kernel
theorem dX0_init_1 : decode cX0_init 1 = .ok (.invokespecial 1, 3) := by decide +kernel
theorem dX0_init_4 : decode cX0_init 4 = .ok (.aload_n 0, 1) := by decide +kernel
theorem dX0_init_5 : decode cX0_init 5 = .ok (.bipush 96, 2) := by decide +kernel
theorem dX0_init_7 : decode cX0_init 7 = .ok (.newarray .int, 2) := by decide +kernel
theorem dX0_init_9 : decode cX0_init 9 = .ok (.putfield 7, 3) := by decide +kernel
theorem dX0_init_12 : decode cX0_init 12 = .ok (.aload_n 0, 1) := by decide +kernel
theorem dX0_init_13 : decode cX0_init 13 = .ok (.iconst 4, 1) := by decide +kernel
theorem dX0_init_14 : decode cX0_init 14 = .ok (.newarray .int, 2) := by decide +kernel
theorem dX0_init_16 : decode cX0_init 16 = .ok (.putfield 13, 3) := by decide +kernel
theorem dX0_init_19 : decode cX0_init 19 = .ok (.aload_n 0, 1) := by decide +kernel
theorem dX0_init_20 : decode cX0_init 20 = .ok (.iconst 4, 1) := by decide +kernel
theorem dX0_init_21 : decode cX0_init 21 = .ok (.newarray .int, 2) := by decide +kernel
theorem dX0_init_23 : decode cX0_init 23 = .ok (.putfield 16, 3) := by decide +kernel
theorem dX0_init_26 : decode cX0_init 26 = .ok (.aload_n 0, 1) := by decide +kernel
theorem dX0_init_27 : decode cX0_init 27 = .ok (.iconst 4, 1) := by decide +kernel
theorem dX0_init_28 : decode cX0_init 28 = .ok (.newarray .int, 2) := by decide +kernel
theorem dX0_init_30 : decode cX0_init 30 = .ok (.putfield 19, 3) := by decide +kernel
theorem dX0_init_33 : decode cX0_init 33 = .ok (.aload_n 0, 1) := by decide +kernel
theorem dX0_init_34 : decode cX0_init 34 = .ok (.iconst 4, 1) := by decide +kernel
theorem dX0_init_35 : decode cX0_init 35 = .ok (.newarray .int, 2) := by decide +kernel
theorem dX0_init_37 : decode cX0_init 37 = .ok (.putfield 22, 3) := by decide +kernel
theorem dX0_init_40 : decode cX0_init 40 = .ok (.aload_n 0, 1) := by decide +kernel
theorem dX0_init_41 : decode cX0_init 41 = .ok (.iconst 4, 1) := by decide +kernel
theorem dX0_init_42 : decode cX0_init 42 = .ok (.newarray .int, 2) := by decide +kernel
theorem dX0_init_44 : decode cX0_init 44 = .ok (.putfield 25, 3) := by decide +kernel
theorem dX0_init_47 : decode cX0_init 47 = .ok (.aload_n 0, 1) := by decide +kernel
theorem dX0_init_48 : decode cX0_init 48 = .ok (.iconst 4, 1) := by decide +kernel
theorem dX0_init_49 : decode cX0_init 49 = .ok (.newarray .int, 2) := by decide +kernel
theorem dX0_init_51 : decode cX0_init 51 = .ok (.putfield 28, 3) := by decide +kernel
theorem dX0_init_54 : decode cX0_init 54 = .ok (.aload_n 0, 1) := by decide +kernel
theorem dX0_init_55 : decode cX0_init 55 = .ok (.bipush 16, 2) := by decide +kernel
theorem dX0_init_57 : decode cX0_init 57 = .ok (.newarray .int, 2) := by decide +kernel
theorem dX0_init_59 : decode cX0_init 59 = .ok (.putfield 31, 3) := by decide +kernel
theorem dX0_init_62 : decode cX0_init 62 = .ok (.aload_n 0, 1) := by decide +kernel
theorem dX0_init_63 : decode cX0_init 63 = .ok (.bipush 16, 2) := by decide +kernel
theorem dX0_init_65 : decode cX0_init 65 = .ok (.newarray .int, 2) := by decide +kernel
theorem dX0_init_67 : decode cX0_init 67 = .ok (.putfield 34, 3) := by decide +kernel
theorem dX0_init_70 : decode cX0_init 70 = .ok (.aload_n 0, 1) := by decide +kernel
theorem dX0_init_71 : decode cX0_init 71 = .ok (.iconst (-1), 1) := by decide +kernel
theorem dX0_init_72 : decode cX0_init 72 = .ok (.putfield 37, 3) := by decide +kernel
theorem dX0_init_75 : decode cX0_init 75 = .ok (.return_, 1) := by decide +kernel
theorem dX0_append_0 : decode cX0_append 0 = .ok (.iload_n 1, 1) := by decide +kernel
theorem dX0_append_1 : decode cX0_append 1 = .ok (.ifCond .lt 30, 3) := by decide +kernel
theorem dX0_append_4 : decode cX0_append 4 = .ok (.iload_n 1, 1) := by decide +kernel
theorem dX0_append_5 : decode cX0_append 5 = .ok (.ldc 101, 2) := by decide +kernel
theorem dX0_append_7 : decode cX0_append 7 = .ok (.if_icmp .gt 24, 3) := by decide +kernel
theorem dX0_append_10 : decode cX0_append 10 = .ok (.aload_n 0, 1) := by decide +kernel
theorem dX0_append_11 : decode cX0_append 11 = .ok (.invokevirtual 64, 3) := by decide +kernel
theorem dX0_append_14 : decode cX0_append 14 = .ok (.iload_n 1, 1) := by decide +kernel
theorem dX0_append_15 : decode cX0_append 15 = .ok (.iadd, 1) := by decide +kernel
theorem dX0_append_16 : decode cX0_append 16 = .ok (.ldc 101, 2) := by decide +kernel
theorem dX0_append_18 : decode cX0_append 18 = .ok (.if_icmp .gt 13, 3) := by decide +kernel
theorem dX0_append_21 : decode cX0_append 21 = .ok (.iload_n 2, 1) := by decide +kernel
theorem dX0_append_22 : decode cX0_append 22 = .ok (.ifCond .lt 9, 3) := by decide +kernel
theorem dX0_append_25 : decode cX0_append 25 = .ok (.iload_n 2, 1) := by decide +kernel
theorem dX0_append_26 : decode cX0_append 26 = .ok (.ldc 68, 2) := by decide +kernel
theorem dX0_append_28 : decode cX0_append 28 = .ok (.if_icmp .le 5, 3) := by decide +kernel
theorem dX0_append_31 : decode cX0_append 31 = .ok (.iconst (-1), 1) := by decide +kernel
theorem dX0_append_32 : decode cX0_append 32 = .ok (.ireturn, 1) := by decide +kernel
theorem dX0_append_33 : decode cX0_append 33 = .ok (.aload_n 0, 1) := by decide +kernel
theorem dX0_append_34 : decode cX0_append 34 = .ok (.getfield 61, 3) := by decide +kernel
theorem dX0_append_37 : decode cX0_append 37 = .ok (.bipush 64, 2) := by decide +kernel
theorem dX0_append_39 : decode cX0_append 39 = .ok (.if_icmp .ne 6, 3) := by decide +kernel
theorem dX0_append_42 : decode cX0_append 42 = .ok (.bipush (-2), 2) := by decide +kernel
theorem dX0_append_44 : decode cX0_append 44 = .ok (.ireturn, 1) := by decide +kernel
theorem dX0_append_45 : decode cX0_append 45 = .ok (.aload_n 0, 1) := by decide +kernel
theorem dX0_append_46 : decode cX0_append 46 = .ok (.invokevirtual 102, 3) := by decide +kernel
theorem dX0_append_49 : decode cX0_append 49 = .ok (.aload_n 0, 1) := by decide +kernel
theorem dX0_append_50 : decode cX0_append 50 = .ok (.iload_n 1, 1) := by decide +kernel
theorem dX0_append_51 : decode cX0_append 51 = .ok (.iload_n 2, 1) := by decide +kernel
theorem dX0_append_52 : decode cX0_append 52 = .ok (.invokevirtual 105, 3) := by decide +kernel
theorem dX0_append_55 : decode cX0_append 55 = .ok (.aload_n 0, 1) := by decide +kernel
theorem dX0_append_56 : decode cX0_append 56 = .ok (.getfield 61, 3) := by decide +kernel
theorem dX0_append_59 : decode cX0_append 59 = .ok (.iconst 1, 1) := by decide +kernel
theorem dX0_append_60 : decode cX0_append 60 = .ok (.isub, 1) := by decide +kernel
theorem dX0_append_61 : decode cX0_append 61 = .ok (.ireturn, 1) := by decide +kernel
theorem dX0_timeNow_0 : decode cX0_timeNow 0 = .ok (.aload_n 0, 1) := by decide +kernel
theorem dX0_timeNow_1 : decode cX0_timeNow 1 = .ok (.getfield 61, 3) := by decide +kernel
theorem dX0_timeNow_4 : decode cX0_timeNow 4 = .ok (.ifCond .ne 7, 3) := by decide +kernel
theorem dX0_timeNow_7 : decode cX0_timeNow 7 = .ok (.iconst 0, 1) := by decide +kernel
theorem dX0_timeNow_8 : decode cX0_timeNow 8 = .ok (.goto 16, 3) := by decide +kernel
theorem dX0_timeNow_11 : decode cX0_timeNow 11 = .ok (.aload_n 0, 1) := by decide +kernel
theorem dX0_timeNow_12 : decode cX0_timeNow 12 = .ok (.getfield 19, 3) := by decide +kernel
theorem dX0_timeNow_15 : decode cX0_timeNow 15 = .ok (.aload_n 0, 1) := by decide +kernel
theorem dX0_timeNow_16 : decode cX0_timeNow 16 = .ok (.getfield 61, 3) := by decide +kernel
theorem dX0_timeNow_19 : decode cX0_timeNow 19 = .ok (.iconst 1, 1) := by decide +kernel
theorem dX0_timeNow_20 : decode cX0_timeNow 20 = .ok (.isub, 1) := by decide +kernel
theorem dX0_timeNow_21 : decode cX0_timeNow 21 = .ok (.iconst 4, 1) := by decide +kernel
theorem dX0_timeNow_22 : decode cX0_timeNow 22 = .ok (.ishr, 1) := by decide +kernel
theorem dX0_timeNow_23 : decode cX0_timeNow 23 = .ok (.iaload, 1) := by decide +kernel
theorem dX0_timeNow_24 : decode cX0_timeNow 24 = .ok (.ireturn, 1) := by decide +kernel
theorem dX0_resume_0 : decode cX0_resume 0 = .ok (.aload_n 0, 1) := by decide +kernel
theorem dX0_resume_1 : decode cX0_resume 1 = .ok (.getfield 61, 3) := by decide +kernel
theorem dX0_resume_4 : decode cX0_resume 4 = .ok (.ifCond .le 15, 3) := by decide +kernel
theorem dX0_resume_7 : decode cX0_resume 7 = .ok (.aload_n 0, 1) := by decide +kernel
theorem dX0_resume_8 : decode cX0_resume 8 = .ok (.aload_n 0, 1) := by decide +kernel
theorem dX0_resume_9 : decode cX0_resume 9 = .ok (.getfield 61, 3) := by decide +kernel
theorem dX0_resume_12 : decode cX0_resume 12 = .ok (.iconst 1, 1) := by decide +kernel
theorem dX0_resume_13 : decode cX0_resume 13 = .ok (.isub, 1) := by decide +kernel
theorem dX0_resume_14 : decode cX0_resume 14 = .ok (.iconst 4, 1) := by decide +kernel
theorem dX0_resume_15 : decode cX0_resume 15 = .ok (.ishr, 1) := by decide +kernel
theorem dX0_resume_16 : decode cX0_resume 16 = .ok (.invokevirtual 97, 3) := by decide +kernel
theorem dX0_resume_19 : decode cX0_resume 19 = .ok (.return_, 1) := by decide +kernel
theorem dX0_unpack_0 : decode cX0_unpack 0 = .ok (.aload_n 0, 1) := by decide +kernel
theorem dX0_unpack_1 : decode cX0_unpack 1 = .ok (.iload_n 1, 1) := by decide +kernel
theorem dX0_unpack_2 : decode cX0_unpack 2 = .ok (.putfield 41, 3) := by decide +kernel
theorem dX0_unpack_5 : decode cX0_unpack 5 = .ok (.aload_n 0, 1) := by decide +kernel
theorem dX0_unpack_6 : decode cX0_unpack 6 = .ok (.iconst 0, 1) := by decide +kernel
theorem dX0_unpack_7 : decode cX0_unpack 7 = .ok (.putfield 44, 3) := by decide +kernel
theorem dX0_unpack_10 : decode cX0_unpack 10 = .ok (.aload_n 0, 1) := by decide +kernel
theorem dX0_unpack_11 : decode cX0_unpack 11 = .ok (.iconst (-1), 1) := by decide +kernel
theorem dX0_unpack_12 : decode cX0_unpack 12 = .ok (.putfield 37, 3) := by decide +kernel
theorem dX0_unpack_15 : decode cX0_unpack 15 = .ok (.aload_n 0, 1) := by decide +kernel
theorem dX0_unpack_16 : decode cX0_unpack 16 = .ok (.iconst 0, 1) := by decide +kernel
theorem dX0_unpack_17 : decode cX0_unpack 17 = .ok (.putfield 69, 3) := by decide +kernel
theorem dX0_unpack_20 : decode cX0_unpack 20 = .ok (.aload_n 0, 1) := by decide +kernel
theorem dX0_unpack_21 : decode cX0_unpack 21 = .ok (.getfield 31, 3) := by decide +kernel
theorem dX0_unpack_24 : decode cX0_unpack 24 = .ok (.iconst 0, 1) := by decide +kernel
theorem dX0_unpack_25 : decode cX0_unpack 25 = .ok (.aload_n 0, 1) := by decide +kernel
theorem dX0_unpack_26 : decode cX0_unpack 26 = .ok (.bipush 16, 2) := by decide +kernel
theorem dX0_unpack_28 : decode cX0_unpack 28 = .ok (.invokevirtual 85, 3) := by decide +kernel
theorem dX0_unpack_31 : decode cX0_unpack 31 = .ok (.iastore, 1) := by decide +kernel
theorem dX0_unpack_32 : decode cX0_unpack 32 = .ok (.aload_n 0, 1) := by decide +kernel
theorem dX0_unpack_33 : decode cX0_unpack 33 = .ok (.getfield 34, 3) := by decide +kernel
theorem dX0_unpack_36 : decode cX0_unpack 36 = .ok (.iconst 0, 1) := by decide +kernel
theorem dX0_unpack_37 : decode cX0_unpack 37 = .ok (.aload_n 0, 1) := by decide +kernel
theorem dX0_unpack_38 : decode cX0_unpack 38 = .ok (.bipush 16, 2) := by decide +kernel
theorem dX0_unpack_40 : decode cX0_unpack 40 = .ok (.invokevirtual 85, 3) := by decide +kernel
theorem dX0_unpack_43 : decode cX0_unpack 43 = .ok (.iastore, 1) := by decide +kernel
theorem dX0_unpack_44 : decode cX0_unpack 44 = .ok (.aload_n 0, 1) := by decide +kernel
theorem dX0_unpack_45 : decode cX0_unpack 45 = .ok (.iload_n 1, 1) := by decide +kernel
theorem dX0_unpack_46 : decode cX0_unpack 46 = .ok (.invokevirtual 88, 3) := by decide +kernel
theorem dX0_unpack_49 : decode cX0_unpack 49 = .ok (.istore_n 2, 1) := by decide +kernel
theorem dX0_unpack_50 : decode cX0_unpack 50 = .ok (.iconst 1, 1) := by decide +kernel
theorem dX0_unpack_51 : decode cX0_unpack 51 = .ok (.istore_n 3, 1) := by decide +kernel
theorem dX0_unpack_52 : decode cX0_unpack 52 = .ok (.iload_n 3, 1) := by decide +kernel
theorem dX0_unpack_53 : decode cX0_unpack 53 = .ok (.iload_n 2, 1) := by decide +kernel
theorem dX0_unpack_54 : decode cX0_unpack 54 = .ok (.if_icmp .ge 68, 3) := by decide +kernel
theorem dX0_unpack_57 : decode cX0_unpack 57 = .ok (.aload_n 0, 1) := by decide +kernel
theorem dX0_unpack_58 : decode cX0_unpack 58 = .ok (.invokevirtual 91, 3) := by decide +kernel
theorem dX0_unpack_61 : decode cX0_unpack 61 = .ok (.istore 4, 2) := by decide +kernel
theorem dX0_unpack_63 : decode cX0_unpack 63 = .ok (.aload_n 0, 1) := by decide +kernel
theorem dX0_unpack_64 : decode cX0_unpack 64 = .ok (.aload_n 0, 1) := by decide +kernel
theorem dX0_unpack_65 : decode cX0_unpack 65 = .ok (.getfield 69, 3) := by decide +kernel
theorem dX0_unpack_68 : decode cX0_unpack 68 = .ok (.iload 4, 2) := by decide +kernel
theorem dX0_unpack_70 : decode cX0_unpack 70 = .ok (.iadd, 1) := by decide +kernel
theorem dX0_unpack_71 : decode cX0_unpack 71 = .ok (.putfield 69, 3) := by decide +kernel
theorem dX0_unpack_74 : decode cX0_unpack 74 = .ok (.aload_n 0, 1) := by decide +kernel
theorem dX0_unpack_75 : decode cX0_unpack 75 = .ok (.getfield 31, 3) := by decide +kernel
theorem dX0_unpack_78 : decode cX0_unpack 78 = .ok (.iload_n 3, 1) := by decide +kernel
theorem dX0_unpack_79 : decode cX0_unpack 79 = .ok (.aload_n 0, 1) := by decide +kernel
theorem dX0_unpack_80 : decode cX0_unpack 80 = .ok (.getfield 31, 3) := by decide +kernel
theorem dX0_unpack_83 : decode cX0_unpack 83 = .ok (.iload_n 3, 1) := by decide +kernel
theorem dX0_unpack_84 : decode cX0_unpack 84 = .ok (.iconst 1, 1) := by decide +kernel
theorem dX0_unpack_85 : decode cX0_unpack 85 = .ok (.isub, 1) := by decide +kernel
theorem dX0_unpack_86 : decode cX0_unpack 86 = .ok (.iaload, 1) := by decide +kernel
theorem dX0_unpack_87 : decode cX0_unpack 87 = .ok (.aload_n 0, 1) := by decide +kernel
theorem dX0_unpack_88 : decode cX0_unpack 88 = .ok (.getfield 69, 3) := by decide +kernel
theorem dX0_unpack_91 : decode cX0_unpack 91 = .ok (.iadd, 1) := by decide +kernel
theorem dX0_unpack_92 : decode cX0_unpack 92 = .ok (.iastore, 1) := by decide +kernel
theorem dX0_unpack_93 : decode cX0_unpack 93 = .ok (.aload_n 0, 1) := by decide +kernel
theorem dX0_unpack_94 : decode cX0_unpack 94 = .ok (.invokevirtual 94, 3) := by decide +kernel
theorem dX0_unpack_97 : decode cX0_unpack 97 = .ok (.istore 5, 2) := by decide +kernel
theorem dX0_unpack_99 : decode cX0_unpack 99 = .ok (.aload_n 0, 1) := by decide +kernel
theorem dX0_unpack_100 : decode cX0_unpack 100 = .ok (.getfield 34, 3) := by decide +kernel
theorem dX0_unpack_103 : decode cX0_unpack 103 = .ok (.iload_n 3, 1) := by decide +kernel
theorem dX0_unpack_104 : decode cX0_unpack 104 = .ok (.aload_n 0, 1) := by decide +kernel
theorem dX0_unpack_105 : decode cX0_unpack 105 = .ok (.getfield 34, 3) := by decide +kernel
theorem dX0_unpack_108 : decode cX0_unpack 108 = .ok (.iload_n 3, 1) := by decide +kernel
theorem dX0_unpack_109 : decode cX0_unpack 109 = .ok (.iconst 1, 1) := by decide +kernel
theorem dX0_unpack_110 : decode cX0_unpack 110 = .ok (.isub, 1) := by decide +kernel
theorem dX0_unpack_111 : decode cX0_unpack 111 = .ok (.iaload, 1) := by decide +kernel
theorem dX0_unpack_112 : decode cX0_unpack 112 = .ok (.iload 5, 2) := by decide +kernel
theorem dX0_unpack_114 : decode cX0_unpack 114 = .ok (.ixor, 1) := by decide +kernel
theorem dX0_unpack_115 : decode cX0_unpack 115 = .ok (.iastore, 1) := by decide +kernel
theorem dX0_unpack_116 : decode cX0_unpack 116 = .ok (.iinc 3 1, 3) := by decide +kernel
theorem dX0_unpack_119 : decode cX0_unpack 119 = .ok (.goto (-67), 3) := by decide +kernel
theorem dX0_unpack_122 : decode cX0_unpack 122 = .ok (.aload_n 0, 1) := by decide +kernel
theorem dX0_unpack_123 : decode cX0_unpack 123 = .ok (.aload_n 0, 1) := by decide +kernel
theorem dX0_unpack_124 : decode cX0_unpack 124 = .ok (.getfield 34, 3) := by decide +kernel
theorem dX0_unpack_127 : decode cX0_unpack 127 = .ok (.iload_n 2, 1) := by decide +kernel
theorem dX0_unpack_128 : decode cX0_unpack 128 = .ok (.iconst 1, 1) := by decide +kernel
theorem dX0_unpack_129 : decode cX0_unpack 129 = .ok (.isub, 1) := by decide +kernel
theorem dX0_unpack_130 : decode cX0_unpack 130 = .ok (.iaload, 1) := by decide +kernel
theorem dX0_unpack_131 : decode cX0_unpack 131 = .ok (.putfield 76, 3) := by decide +kernel
theorem dX0_unpack_134 : decode cX0_unpack 134 = .ok (.return_, 1) := by decide +kernel
theorem dX0_get_0 : decode cX0_get 0 = .ok (.iconst 0, 1) := by decide +kernel
theorem dX0_get_1 : decode cX0_get 1 = .ok (.istore_n 2, 1) := by decide +kernel
theorem dX0_get_2 : decode cX0_get 2 = .ok (.iconst 0, 1) := by decide +kernel
theorem dX0_get_3 : decode cX0_get 3 = .ok (.istore_n 3, 1) := by decide +kernel
theorem dX0_get_4 : decode cX0_get 4 = .ok (.iload_n 3, 1) := by decide +kernel
theorem dX0_get_5 : decode cX0_get 5 = .ok (.iload_n 1, 1) := by decide +kernel
theorem dX0_get_6 : decode cX0_get 6 = .ok (.if_icmp .ge 57, 3) := by decide +kernel
theorem dX0_get_9 : decode cX0_get 9 = .ok (.aload_n 0, 1) := by decide +kernel
theorem dX0_get_10 : decode cX0_get 10 = .ok (.getfield 41, 3) := by decide +kernel
theorem dX0_get_13 : decode cX0_get 13 = .ok (.bipush 24, 2) := by decide +kernel
theorem dX0_get_15 : decode cX0_get 15 = .ok (.imul, 1) := by decide +kernel
theorem dX0_get_16 : decode cX0_get 16 = .ok (.aload_n 0, 1) := by decide +kernel
theorem dX0_get_17 : decode cX0_get 17 = .ok (.getfield 44, 3) := by decide +kernel
theorem dX0_get_20 : decode cX0_get 20 = .ok (.iconst 5, 1) := by decide +kernel
theorem dX0_get_21 : decode cX0_get 21 = .ok (.ishr, 1) := by decide +kernel
theorem dX0_get_22 : decode cX0_get 22 = .ok (.iadd, 1) := by decide +kernel
theorem dX0_get_23 : decode cX0_get 23 = .ok (.istore 4, 2) := by decide +kernel
theorem dX0_get_25 : decode cX0_get 25 = .ok (.iload_n 2, 1) := by decide +kernel
theorem dX0_get_26 : decode cX0_get 26 = .ok (.iconst 2, 1) := by decide +kernel
theorem dX0_get_27 : decode cX0_get 27 = .ok (.imul, 1) := by decide +kernel
theorem dX0_get_28 : decode cX0_get 28 = .ok (.aload_n 0, 1) := by decide +kernel
theorem dX0_get_29 : decode cX0_get 29 = .ok (.getfield 7, 3) := by decide +kernel
theorem dX0_get_32 : decode cX0_get 32 = .ok (.iload 4, 2) := by decide +kernel
theorem dX0_get_34 : decode cX0_get 34 = .ok (.iaload, 1) := by decide +kernel
theorem dX0_get_35 : decode cX0_get 35 = .ok (.aload_n 0, 1) := by decide +kernel
theorem dX0_get_36 : decode cX0_get 36 = .ok (.getfield 44, 3) := by decide +kernel
theorem dX0_get_39 : decode cX0_get 39 = .ok (.bipush 31, 2) := by decide +kernel
theorem dX0_get_41 : decode cX0_get 41 = .ok (.iand, 1) := by decide +kernel
theorem dX0_get_42 : decode cX0_get 42 = .ok (.ishr, 1) := by decide +kernel
theorem dX0_get_43 : decode cX0_get 43 = .ok (.iconst 1, 1) := by decide +kernel
theorem dX0_get_44 : decode cX0_get 44 = .ok (.iand, 1) := by decide +kernel
theorem dX0_get_45 : decode cX0_get 45 = .ok (.iadd, 1) := by decide +kernel
theorem dX0_get_46 : decode cX0_get 46 = .ok (.istore_n 2, 1) := by decide +kernel
theorem dX0_get_47 : decode cX0_get 47 = .ok (.aload_n 0, 1) := by decide +kernel
theorem dX0_get_48 : decode cX0_get 48 = .ok (.dup, 1) := by decide +kernel
theorem dX0_get_49 : decode cX0_get 49 = .ok (.getfield 44, 3) := by decide +kernel
theorem dX0_get_52 : decode cX0_get 52 = .ok (.iconst 1, 1) := by decide +kernel
theorem dX0_get_53 : decode cX0_get 53 = .ok (.iadd, 1) := by decide +kernel
theorem dX0_get_54 : decode cX0_get 54 = .ok (.putfield 44, 3) := by decide +kernel
theorem dX0_get_57 : decode cX0_get 57 = .ok (.iinc 3 1, 3) := by decide +kernel
theorem dX0_get_60 : decode cX0_get 60 = .ok (.goto (-56), 3) := by decide +kernel
theorem dX0_get_63 : decode cX0_get 63 = .ok (.iload_n 2, 1) := by decide +kernel
theorem dX0_get_64 : decode cX0_get 64 = .ok (.ireturn, 1) := by decide +kernel
theorem dX0_inChunk_0 : decode cX0_inChunk 0 = .ok (.aload_n 0, 1) := by decide +kernel
theorem dX0_inChunk_1 : decode cX0_inChunk 1 = .ok (.getfield 61, 3) := by decide +kernel
theorem dX0_inChunk_4 : decode cX0_inChunk 4 = .ok (.iload_n 1, 1) := by decide +kernel
theorem dX0_inChunk_5 : decode cX0_inChunk 5 = .ok (.bipush 16, 2) := by decide +kernel
theorem dX0_inChunk_7 : decode cX0_inChunk 7 = .ok (.imul, 1) := by decide +kernel
theorem dX0_inChunk_8 : decode cX0_inChunk 8 = .ok (.isub, 1) := by decide +kernel
theorem dX0_inChunk_9 : decode cX0_inChunk 9 = .ok (.istore_n 2, 1) := by decide +kernel
theorem dX0_inChunk_10 : decode cX0_inChunk 10 = .ok (.iload_n 2, 1) := by decide +kernel
theorem dX0_inChunk_11 : decode cX0_inChunk 11 = .ok (.bipush 16, 2) := by decide +kernel
theorem dX0_inChunk_13 : decode cX0_inChunk 13 = .ok (.if_icmp .ge 7, 3) := by decide +kernel
theorem dX0_inChunk_16 : decode cX0_inChunk 16 = .ok (.iload_n 2, 1) := by decide +kernel
theorem dX0_inChunk_17 : decode cX0_inChunk 17 = .ok (.goto 5, 3) := by decide +kernel
theorem dX0_inChunk_20 : decode cX0_inChunk 20 = .ok (.bipush 16, 2) := by decide +kernel
theorem dX0_inChunk_22 : decode cX0_inChunk 22 = .ok (.ireturn, 1) := by decide +kernel
theorem dX0_readGapChange_0 : decode cX0_readGapChange 0 = .ok (.aload_n 0, 1) := by decide +kernel
theorem dX0_readGapChange_1 : decode cX0_readGapChange 1 = .ok (.iconst 1, 1) := by decide +kernel
theorem dX0_readGapChange_2 : decode cX0_readGapChange 2 = .ok (.invokevirtual 85, 3) := by decide +kernel
theorem dX0_readGapChange_5 : decode cX0_readGapChange 5 = .ok (.ifCond .ne 5, 3) := by decide +kernel
theorem dX0_readGapChange_8 : decode cX0_readGapChange 8 = .ok (.iconst 0, 1) := by decide +kernel
theorem dX0_readGapChange_9 : decode cX0_readGapChange 9 = .ok (.ireturn, 1) := by decide +kernel
theorem dX0_readGapChange_10 : decode cX0_readGapChange 10 = .ok (.aload_n 0, 1) := by decide +kernel
theorem dX0_readGapChange_11 : decode cX0_readGapChange 11 = .ok (.iconst 1, 1) := by decide +kernel
theorem dX0_readGapChange_12 : decode cX0_readGapChange 12 = .ok (.invokevirtual 85, 3) := by decide +kernel
theorem dX0_readGapChange_15 : decode cX0_readGapChange 15 = .ok (.ifCond .ne 12, 3) := by decide +kernel
theorem dX0_readGapChange_18 : decode cX0_readGapChange 18 = .ok (.aload_n 0, 1) := by decide +kernel
theorem dX0_readGapChange_19 : decode cX0_readGapChange 19 = .ok (.iconst 4, 1) := by decide +kernel
theorem dX0_readGapChange_20 : decode cX0_readGapChange 20 = .ok (.invokevirtual 85, 3) := by decide +kernel
theorem dX0_readGapChange_23 : decode cX0_readGapChange 23 = .ok (.bipush 7, 2) := by decide +kernel
theorem dX0_readGapChange_25 : decode cX0_readGapChange 25 = .ok (.isub, 1) := by decide +kernel
theorem dX0_readGapChange_26 : decode cX0_readGapChange 26 = .ok (.ireturn, 1) := by decide +kernel
theorem dX0_readGapChange_27 : decode cX0_readGapChange 27 = .ok (.aload_n 0, 1) := by decide +kernel
theorem dX0_readGapChange_28 : decode cX0_readGapChange 28 = .ok (.iconst 1, 1) := by decide +kernel
theorem dX0_readGapChange_29 : decode cX0_readGapChange 29 = .ok (.invokevirtual 85, 3) := by decide +kernel
theorem dX0_readGapChange_32 : decode cX0_readGapChange 32 = .ok (.ifCond .ne 13, 3) := by decide +kernel
theorem dX0_readGapChange_35 : decode cX0_readGapChange 35 = .ok (.aload_n 0, 1) := by decide +kernel
theorem dX0_readGapChange_36 : decode cX0_readGapChange 36 = .ok (.bipush 7, 2) := by decide +kernel
theorem dX0_readGapChange_38 : decode cX0_readGapChange 38 = .ok (.invokevirtual 85, 3) := by decide +kernel
theorem dX0_readGapChange_41 : decode cX0_readGapChange 41 = .ok (.bipush 63, 2) := by decide +kernel
theorem dX0_readGapChange_43 : decode cX0_readGapChange 43 = .ok (.isub, 1) := by decide +kernel
theorem dX0_readGapChange_44 : decode cX0_readGapChange 44 = .ok (.ireturn, 1) := by decide +kernel
theorem dX0_readGapChange_45 : decode cX0_readGapChange 45 = .ok (.aload_n 0, 1) := by decide +kernel
theorem dX0_readGapChange_46 : decode cX0_readGapChange 46 = .ok (.iconst 1, 1) := by decide +kernel
theorem dX0_readGapChange_47 : decode cX0_readGapChange 47 = .ok (.invokevirtual 85, 3) := by decide +kernel
theorem dX0_readGapChange_50 : decode cX0_readGapChange 50 = .ok (.istore_n 1, 1) := by decide +kernel
theorem dX0_readGapChange_51 : decode cX0_readGapChange 51 = .ok (.aload_n 0, 1) := by decide +kernel
theorem dX0_readGapChange_52 : decode cX0_readGapChange 52 = .ok (.bipush 17, 2) := by decide +kernel
theorem dX0_readGapChange_54 : decode cX0_readGapChange 54 = .ok (.invokevirtual 85, 3) := by decide +kernel
theorem dX0_readGapChange_57 : decode cX0_readGapChange 57 = .ok (.istore_n 2, 1) := by decide +kernel
theorem dX0_readGapChange_58 : decode cX0_readGapChange 58 = .ok (.iload_n 1, 1) := by decide +kernel
theorem dX0_readGapChange_59 : decode cX0_readGapChange 59 = .ok (.iconst 1, 1) := by decide +kernel
theorem dX0_readGapChange_60 : decode cX0_readGapChange 60 = .ok (.if_icmp .ne 8, 3) := by decide +kernel
theorem dX0_readGapChange_63 : decode cX0_readGapChange 63 = .ok (.iload_n 2, 1) := by decide +kernel
theorem dX0_readGapChange_64 : decode cX0_readGapChange 64 = .ok (.ineg, 1) := by decide +kernel
theorem dX0_readGapChange_65 : decode cX0_readGapChange 65 = .ok (.goto 4, 3) := by decide +kernel
theorem dX0_readGapChange_68 : decode cX0_readGapChange 68 = .ok (.iload_n 2, 1) := by decide +kernel
theorem dX0_readGapChange_69 : decode cX0_readGapChange 69 = .ok (.ireturn, 1) := by decide +kernel
theorem dX0_readChange_0 : decode cX0_readChange 0 = .ok (.aload_n 0, 1) := by decide +kernel
theorem dX0_readChange_1 : decode cX0_readChange 1 = .ok (.iconst 1, 1) := by decide +kernel
theorem dX0_readChange_2 : decode cX0_readChange 2 = .ok (.invokevirtual 85, 3) := by decide +kernel
theorem dX0_readChange_5 : decode cX0_readChange 5 = .ok (.ifCond .ne 5, 3) := by decide +kernel
theorem dX0_readChange_8 : decode cX0_readChange 8 = .ok (.iconst 0, 1) := by decide +kernel
theorem dX0_readChange_9 : decode cX0_readChange 9 = .ok (.ireturn, 1) := by decide +kernel
theorem dX0_readChange_10 : decode cX0_readChange 10 = .ok (.aload_n 0, 1) := by decide +kernel
theorem dX0_readChange_11 : decode cX0_readChange 11 = .ok (.iconst 1, 1) := by decide +kernel
theorem dX0_readChange_12 : decode cX0_readChange 12 = .ok (.invokevirtual 85, 3) := by decide +kernel
theorem dX0_readChange_15 : decode cX0_readChange 15 = .ok (.iconst 1, 1) := by decide +kernel
theorem dX0_readChange_16 : decode cX0_readChange 16 = .ok (.if_icmp .ne 21, 3) := by decide +kernel
theorem dX0_readChange_19 : decode cX0_readChange 19 = .ok (.aload_n 0, 1) := by decide +kernel
theorem dX0_readChange_20 : decode cX0_readChange 20 = .ok (.aload_n 0, 1) := by decide +kernel
theorem dX0_readChange_21 : decode cX0_readChange 21 = .ok (.iconst 4, 1) := by decide +kernel
theorem dX0_readChange_22 : decode cX0_readChange 22 = .ok (.invokevirtual 85, 3) := by decide +kernel
theorem dX0_readChange_25 : decode cX0_readChange 25 = .ok (.putfield 37, 3) := by decide +kernel
theorem dX0_readChange_28 : decode cX0_readChange 28 = .ok (.aload_n 0, 1) := by decide +kernel
theorem dX0_readChange_29 : decode cX0_readChange 29 = .ok (.aload_n 0, 1) := by decide +kernel
theorem dX0_readChange_30 : decode cX0_readChange 30 = .ok (.iconst 4, 1) := by decide +kernel
theorem dX0_readChange_31 : decode cX0_readChange 31 = .ok (.invokevirtual 85, 3) := by decide +kernel
theorem dX0_readChange_34 : decode cX0_readChange 34 = .ok (.putfield 58, 3) := by decide +kernel
theorem dX0_readChange_37 : decode cX0_readChange 37 = .ok (.bipush 16, 2) := by decide +kernel
theorem dX0_readChange_39 : decode cX0_readChange 39 = .ok (.aload_n 0, 1) := by decide +kernel
theorem dX0_readChange_40 : decode cX0_readChange 40 = .ok (.getfield 37, 3) := by decide +kernel
theorem dX0_readChange_43 : decode cX0_readChange 43 = .ok (.isub, 1) := by decide +kernel
theorem dX0_readChange_44 : decode cX0_readChange 44 = .ok (.aload_n 0, 1) := by decide +kernel
theorem dX0_readChange_45 : decode cX0_readChange 45 = .ok (.getfield 58, 3) := by decide +kernel
theorem dX0_readChange_48 : decode cX0_readChange 48 = .ok (.isub, 1) := by decide +kernel
theorem dX0_readChange_49 : decode cX0_readChange 49 = .ok (.istore_n 1, 1) := by decide +kernel
theorem dX0_readChange_50 : decode cX0_readChange 50 = .ok (.aload_n 0, 1) := by decide +kernel
theorem dX0_readChange_51 : decode cX0_readChange 51 = .ok (.iload_n 1, 1) := by decide +kernel
theorem dX0_readChange_52 : decode cX0_readChange 52 = .ok (.invokevirtual 85, 3) := by decide +kernel
theorem dX0_readChange_55 : decode cX0_readChange 55 = .ok (.istore_n 2, 1) := by decide +kernel
theorem dX0_readChange_56 : decode cX0_readChange 56 = .ok (.iload_n 2, 1) := by decide +kernel
theorem dX0_readChange_57 : decode cX0_readChange 57 = .ok (.aload_n 0, 1) := by decide +kernel
theorem dX0_readChange_58 : decode cX0_readChange 58 = .ok (.getfield 58, 3) := by decide +kernel
theorem dX0_readChange_61 : decode cX0_readChange 61 = .ok (.ishl, 1) := by decide +kernel
theorem dX0_readChange_62 : decode cX0_readChange 62 = .ok (.ireturn, 1) := by decide +kernel
theorem dX0_write_0 : decode cX0_write 0 = .ok (.aload_n 0, 1) := by decide +kernel
theorem dX0_write_1 : decode cX0_write 1 = .ok (.invokevirtual 64, 3) := by decide +kernel
theorem dX0_write_4 : decode cX0_write 4 = .ok (.iload_n 1, 1) := by decide +kernel
theorem dX0_write_5 : decode cX0_write 5 = .ok (.iadd, 1) := by decide +kernel
theorem dX0_write_6 : decode cX0_write 6 = .ok (.istore_n 3, 1) := by decide +kernel
theorem dX0_write_7 : decode cX0_write 7 = .ok (.aload_n 0, 1) := by decide +kernel
theorem dX0_write_8 : decode cX0_write 8 = .ok (.getfield 61, 3) := by decide +kernel
theorem dX0_write_11 : decode cX0_write 11 = .ok (.iconst 4, 1) := by decide +kernel
theorem dX0_write_12 : decode cX0_write 12 = .ok (.ishr, 1) := by decide +kernel
theorem dX0_write_13 : decode cX0_write 13 = .ok (.istore 4, 2) := by decide +kernel
theorem dX0_write_15 : decode cX0_write 15 = .ok (.aload_n 0, 1) := by decide +kernel
theorem dX0_write_16 : decode cX0_write 16 = .ok (.getfield 61, 3) := by decide +kernel
theorem dX0_write_19 : decode cX0_write 19 = .ok (.bipush 15, 2) := by decide +kernel
theorem dX0_write_21 : decode cX0_write 21 = .ok (.iand, 1) := by decide +kernel
theorem dX0_write_22 : decode cX0_write 22 = .ok (.ifCond .ne 75, 3) := by decide +kernel
theorem dX0_write_25 : decode cX0_write 25 = .ok (.aload_n 0, 1) := by decide +kernel
theorem dX0_write_26 : decode cX0_write 26 = .ok (.getfield 13, 3) := by decide +kernel
theorem dX0_write_29 : decode cX0_write 29 = .ok (.iload 4, 2) := by decide +kernel
theorem dX0_write_31 : decode cX0_write 31 = .ok (.iconst 0, 1) := by decide +kernel
theorem dX0_write_32 : decode cX0_write 32 = .ok (.iastore, 1) := by decide +kernel
theorem dX0_write_33 : decode cX0_write 33 = .ok (.aload_n 0, 1) := by decide +kernel
theorem dX0_write_34 : decode cX0_write 34 = .ok (.iload 4, 2) := by decide +kernel
theorem dX0_write_36 : decode cX0_write 36 = .ok (.bipush 16, 2) := by decide +kernel
theorem dX0_write_38 : decode cX0_write 38 = .ok (.iload_n 3, 1) := by decide +kernel
theorem dX0_write_39 : decode cX0_write 39 = .ok (.invokevirtual 47, 3) := by decide +kernel
theorem dX0_write_42 : decode cX0_write 42 = .ok (.aload_n 0, 1) := by decide +kernel
theorem dX0_write_43 : decode cX0_write 43 = .ok (.iload 4, 2) := by decide +kernel
theorem dX0_write_45 : decode cX0_write 45 = .ok (.bipush 16, 2) := by decide +kernel
theorem dX0_write_47 : decode cX0_write 47 = .ok (.iload_n 2, 1) := by decide +kernel
theorem dX0_write_48 : decode cX0_write 48 = .ok (.invokevirtual 47, 3) := by decide +kernel
theorem dX0_write_51 : decode cX0_write 51 = .ok (.aload_n 0, 1) := by decide +kernel
theorem dX0_write_52 : decode cX0_write 52 = .ok (.getfield 16, 3) := by decide +kernel
theorem dX0_write_55 : decode cX0_write 55 = .ok (.iload 4, 2) := by decide +kernel
theorem dX0_write_57 : decode cX0_write 57 = .ok (.iload_n 3, 1) := by decide +kernel
theorem dX0_write_58 : decode cX0_write 58 = .ok (.iastore, 1) := by decide +kernel
theorem dX0_write_59 : decode cX0_write 59 = .ok (.aload_n 0, 1) := by decide +kernel
theorem dX0_write_60 : decode cX0_write 60 = .ok (.getfield 22, 3) := by decide +kernel
theorem dX0_write_63 : decode cX0_write 63 = .ok (.iload 4, 2) := by decide +kernel
theorem dX0_write_65 : decode cX0_write 65 = .ok (.iconst 0, 1) := by decide +kernel
theorem dX0_write_66 : decode cX0_write 66 = .ok (.iastore, 1) := by decide +kernel
theorem dX0_write_67 : decode cX0_write 67 = .ok (.aload_n 0, 1) := by decide +kernel
theorem dX0_write_68 : decode cX0_write 68 = .ok (.getfield 25, 3) := by decide +kernel
theorem dX0_write_71 : decode cX0_write 71 = .ok (.iload 4, 2) := by decide +kernel
theorem dX0_write_73 : decode cX0_write 73 = .ok (.ldc 68, 2) := by decide +kernel
theorem dX0_write_75 : decode cX0_write 75 = .ok (.iastore, 1) := by decide +kernel
theorem dX0_write_76 : decode cX0_write 76 = .ok (.aload_n 0, 1) := by decide +kernel
theorem dX0_write_77 : decode cX0_write 77 = .ok (.getfield 28, 3) := by decide +kernel
theorem dX0_write_80 : decode cX0_write 80 = .ok (.iload 4, 2) := by decide +kernel
theorem dX0_write_82 : decode cX0_write 82 = .ok (.iconst 0, 1) := by decide +kernel
theorem dX0_write_83 : decode cX0_write 83 = .ok (.iastore, 1) := by decide +kernel
theorem dX0_write_84 : decode cX0_write 84 = .ok (.aload_n 0, 1) := by decide +kernel
theorem dX0_write_85 : decode cX0_write 85 = .ok (.iconst 0, 1) := by decide +kernel
theorem dX0_write_86 : decode cX0_write 86 = .ok (.putfield 69, 3) := by decide +kernel
theorem dX0_write_89 : decode cX0_write 89 = .ok (.aload_n 0, 1) := by decide +kernel
theorem dX0_write_90 : decode cX0_write 90 = .ok (.iconst (-1), 1) := by decide +kernel
theorem dX0_write_91 : decode cX0_write 91 = .ok (.putfield 37, 3) := by decide +kernel
theorem dX0_write_94 : decode cX0_write 94 = .ok (.goto 32, 3) := by decide +kernel
theorem dX0_write_97 : decode cX0_write 97 = .ok (.aload_n 0, 1) := by decide +kernel
theorem dX0_write_98 : decode cX0_write 98 = .ok (.iload 4, 2) := by decide +kernel
theorem dX0_write_100 : decode cX0_write 100 = .ok (.iload_n 1, 1) := by decide +kernel
theorem dX0_write_101 : decode cX0_write 101 = .ok (.aload_n 0, 1) := by decide +kernel
theorem dX0_write_102 : decode cX0_write 102 = .ok (.getfield 69, 3) := by decide +kernel
theorem dX0_write_105 : decode cX0_write 105 = .ok (.isub, 1) := by decide +kernel
theorem dX0_write_106 : decode cX0_write 106 = .ok (.invokevirtual 72, 3) := by decide +kernel
theorem dX0_write_109 : decode cX0_write 109 = .ok (.aload_n 0, 1) := by decide +kernel
theorem dX0_write_110 : decode cX0_write 110 = .ok (.iload 4, 2) := by decide +kernel
theorem dX0_write_112 : decode cX0_write 112 = .ok (.iload_n 2, 1) := by decide +kernel
theorem dX0_write_113 : decode cX0_write 113 = .ok (.aload_n 0, 1) := by decide +kernel
theorem dX0_write_114 : decode cX0_write 114 = .ok (.getfield 76, 3) := by decide +kernel
theorem dX0_write_117 : decode cX0_write 117 = .ok (.ixor, 1) := by decide +kernel
theorem dX0_write_118 : decode cX0_write 118 = .ok (.invokevirtual 79, 3) := by decide +kernel
theorem dX0_write_121 : decode cX0_write 121 = .ok (.aload_n 0, 1) := by decide +kernel
theorem dX0_write_122 : decode cX0_write 122 = .ok (.iload_n 1, 1) := by decide +kernel
theorem dX0_write_123 : decode cX0_write 123 = .ok (.putfield 69, 3) := by decide +kernel
theorem dX0_write_126 : decode cX0_write 126 = .ok (.aload_n 0, 1) := by decide +kernel
theorem dX0_write_127 : decode cX0_write 127 = .ok (.iload_n 2, 1) := by decide +kernel
theorem dX0_write_128 : decode cX0_write 128 = .ok (.putfield 76, 3) := by decide +kernel
theorem dX0_write_131 : decode cX0_write 131 = .ok (.aload_n 0, 1) := by decide +kernel
theorem dX0_write_132 : decode cX0_write 132 = .ok (.iload 4, 2) := by decide +kernel
theorem dX0_write_134 : decode cX0_write 134 = .ok (.iload_n 3, 1) := by decide +kernel
theorem dX0_write_135 : decode cX0_write 135 = .ok (.iload_n 2, 1) := by decide +kernel
theorem dX0_write_136 : decode cX0_write 136 = .ok (.invokevirtual 82, 3) := by decide +kernel
theorem dX0_write_139 : decode cX0_write 139 = .ok (.aload_n 0, 1) := by decide +kernel
theorem dX0_write_140 : decode cX0_write 140 = .ok (.dup, 1) := by decide +kernel
theorem dX0_write_141 : decode cX0_write 141 = .ok (.getfield 61, 3) := by decide +kernel
theorem dX0_write_144 : decode cX0_write 144 = .ok (.iconst 1, 1) := by decide +kernel
theorem dX0_write_145 : decode cX0_write 145 = .ok (.iadd, 1) := by decide +kernel
theorem dX0_write_146 : decode cX0_write 146 = .ok (.putfield 61, 3) := by decide +kernel
theorem dX0_write_149 : decode cX0_write 149 = .ok (.return_, 1) := by decide +kernel
theorem dX0_put_0 : decode cX0_put 0 = .ok (.iload_n 2, 1) := by decide +kernel
theorem dX0_put_1 : decode cX0_put 1 = .ok (.iconst 1, 1) := by decide +kernel
theorem dX0_put_2 : decode cX0_put 2 = .ok (.isub, 1) := by decide +kernel
theorem dX0_put_3 : decode cX0_put 3 = .ok (.istore 4, 2) := by decide +kernel
theorem dX0_put_5 : decode cX0_put 5 = .ok (.iload 4, 2) := by decide +kernel
theorem dX0_put_7 : decode cX0_put 7 = .ok (.ifCond .lt 100, 3) := by decide +kernel
theorem dX0_put_10 : decode cX0_put 10 = .ok (.iload_n 1, 1) := by decide +kernel
theorem dX0_put_11 : decode cX0_put 11 = .ok (.bipush 24, 2) := by decide +kernel
theorem dX0_put_13 : decode cX0_put 13 = .ok (.imul, 1) := by decide +kernel
theorem dX0_put_14 : decode cX0_put 14 = .ok (.aload_n 0, 1) := by decide +kernel
theorem dX0_put_15 : decode cX0_put 15 = .ok (.getfield 13, 3) := by decide +kernel
theorem dX0_put_18 : decode cX0_put 18 = .ok (.iload_n 1, 1) := by decide +kernel
theorem dX0_put_19 : decode cX0_put 19 = .ok (.iaload, 1) := by decide +kernel
theorem dX0_put_20 : decode cX0_put 20 = .ok (.iconst 5, 1) := by decide +kernel
theorem dX0_put_21 : decode cX0_put 21 = .ok (.ishr, 1) := by decide +kernel
theorem dX0_put_22 : decode cX0_put 22 = .ok (.iadd, 1) := by decide +kernel
theorem dX0_put_23 : decode cX0_put 23 = .ok (.istore 5, 2) := by decide +kernel
theorem dX0_put_25 : decode cX0_put 25 = .ok (.iconst 1, 1) := by decide +kernel
theorem dX0_put_26 : decode cX0_put 26 = .ok (.aload_n 0, 1) := by decide +kernel
theorem dX0_put_27 : decode cX0_put 27 = .ok (.getfield 13, 3) := by decide +kernel
theorem dX0_put_30 : decode cX0_put 30 = .ok (.iload_n 1, 1) := by decide +kernel
theorem dX0_put_31 : decode cX0_put 31 = .ok (.iaload, 1) := by decide +kernel
theorem dX0_put_32 : decode cX0_put 32 = .ok (.bipush 31, 2) := by decide +kernel
theorem dX0_put_34 : decode cX0_put 34 = .ok (.iand, 1) := by decide +kernel
theorem dX0_put_35 : decode cX0_put 35 = .ok (.ishl, 1) := by decide +kernel
theorem dX0_put_36 : decode cX0_put 36 = .ok (.istore 6, 2) := by decide +kernel
theorem dX0_put_38 : decode cX0_put 38 = .ok (.iload_n 3, 1) := by decide +kernel
theorem dX0_put_39 : decode cX0_put 39 = .ok (.iload 4, 2) := by decide +kernel
theorem dX0_put_41 : decode cX0_put 41 = .ok (.ishr, 1) := by decide +kernel
theorem dX0_put_42 : decode cX0_put 42 = .ok (.iconst 1, 1) := by decide +kernel
theorem dX0_put_43 : decode cX0_put 43 = .ok (.iand, 1) := by decide +kernel
theorem dX0_put_44 : decode cX0_put 44 = .ok (.iconst 1, 1) := by decide +kernel
theorem dX0_put_45 : decode cX0_put 45 = .ok (.if_icmp .ne 23, 3) := by decide +kernel
theorem dX0_put_48 : decode cX0_put 48 = .ok (.aload_n 0, 1) := by decide +kernel
theorem dX0_put_49 : decode cX0_put 49 = .ok (.getfield 7, 3) := by decide +kernel
theorem dX0_put_52 : decode cX0_put 52 = .ok (.iload 5, 2) := by decide +kernel
theorem dX0_put_54 : decode cX0_put 54 = .ok (.aload_n 0, 1) := by decide +kernel
theorem dX0_put_55 : decode cX0_put 55 = .ok (.getfield 7, 3) := by decide +kernel
theorem dX0_put_58 : decode cX0_put 58 = .ok (.iload 5, 2) := by decide +kernel
theorem dX0_put_60 : decode cX0_put 60 = .ok (.iaload, 1) := by decide +kernel
theorem dX0_put_61 : decode cX0_put 61 = .ok (.iload 6, 2) := by decide +kernel
theorem dX0_put_63 : decode cX0_put 63 = .ok (.ior, 1) := by decide +kernel
theorem dX0_put_64 : decode cX0_put 64 = .ok (.iastore, 1) := by decide +kernel
theorem dX0_put_65 : decode cX0_put 65 = .ok (.goto 22, 3) := by decide +kernel
theorem dX0_put_68 : decode cX0_put 68 = .ok (.aload_n 0, 1) := by decide +kernel
theorem dX0_put_69 : decode cX0_put 69 = .ok (.getfield 7, 3) := by decide +kernel
theorem dX0_put_72 : decode cX0_put 72 = .ok (.iload 5, 2) := by decide +kernel
theorem dX0_put_74 : decode cX0_put 74 = .ok (.aload_n 0, 1) := by decide +kernel
theorem dX0_put_75 : decode cX0_put 75 = .ok (.getfield 7, 3) := by decide +kernel
theorem dX0_put_78 : decode cX0_put 78 = .ok (.iload 5, 2) := by decide +kernel
theorem dX0_put_80 : decode cX0_put 80 = .ok (.iaload, 1) := by decide +kernel
theorem dX0_put_81 : decode cX0_put 81 = .ok (.iload 6, 2) := by decide +kernel
theorem dX0_put_83 : decode cX0_put 83 = .ok (.iconst (-1), 1) := by decide +kernel
theorem dX0_put_84 : decode cX0_put 84 = .ok (.ixor, 1) := by decide +kernel
theorem dX0_put_85 : decode cX0_put 85 = .ok (.iand, 1) := by decide +kernel
theorem dX0_put_86 : decode cX0_put 86 = .ok (.iastore, 1) := by decide +kernel
theorem dX0_put_87 : decode cX0_put 87 = .ok (.aload_n 0, 1) := by decide +kernel
theorem dX0_put_88 : decode cX0_put 88 = .ok (.getfield 13, 3) := by decide +kernel
theorem dX0_put_91 : decode cX0_put 91 = .ok (.iload_n 1, 1) := by decide +kernel
theorem dX0_put_92 : decode cX0_put 92 = .ok (.aload_n 0, 1) := by decide +kernel
theorem dX0_put_93 : decode cX0_put 93 = .ok (.getfield 13, 3) := by decide +kernel
theorem dX0_put_96 : decode cX0_put 96 = .ok (.iload_n 1, 1) := by decide +kernel
theorem dX0_put_97 : decode cX0_put 97 = .ok (.iaload, 1) := by decide +kernel
theorem dX0_put_98 : decode cX0_put 98 = .ok (.iconst 1, 1) := by decide +kernel
theorem dX0_put_99 : decode cX0_put 99 = .ok (.iadd, 1) := by decide +kernel
theorem dX0_put_100 : decode cX0_put 100 = .ok (.iastore, 1) := by decide +kernel
theorem dX0_put_101 : decode cX0_put 101 = .ok (.iinc 4 (-1), 3) := by decide +kernel
theorem dX0_put_104 : decode cX0_put 104 = .ok (.goto (-99), 3) := by decide +kernel
theorem dX0_put_107 : decode cX0_put 107 = .ok (.return_, 1) := by decide +kernel
theorem dX0_writeGapChange_0 : decode cX0_writeGapChange 0 = .ok (.iload_n 2, 1) := by decide +kernel
theorem dX0_writeGapChange_1 : decode cX0_writeGapChange 1 = .ok (.ifCond .ne 13, 3) := by decide +kernel
theorem dX0_writeGapChange_4 : decode cX0_writeGapChange 4 = .ok (.aload_n 0, 1) := by decide +kernel
theorem dX0_writeGapChange_5 : decode cX0_writeGapChange 5 = .ok (.iload_n 1, 1) := by decide +kernel
theorem dX0_writeGapChange_6 : decode cX0_writeGapChange 6 = .ok (.iconst 1, 1) := by decide +kernel
theorem dX0_writeGapChange_7 : decode cX0_writeGapChange 7 = .ok (.iconst 0, 1) := by decide +kernel
theorem dX0_writeGapChange_8 : decode cX0_writeGapChange 8 = .ok (.invokevirtual 47, 3) := by decide +kernel
theorem dX0_writeGapChange_11 : decode cX0_writeGapChange 11 = .ok (.goto 109, 3) := by decide +kernel
theorem dX0_writeGapChange_14 : decode cX0_writeGapChange 14 = .ok (.iload_n 2, 1) := by decide +kernel
theorem dX0_writeGapChange_15 : decode cX0_writeGapChange 15 = .ok (.bipush (-7), 2) := by decide +kernel
theorem dX0_writeGapChange_17 : decode cX0_writeGapChange 17 = .ok (.if_icmp .lt 29, 3) := by decide +kernel
theorem dX0_writeGapChange_20 : decode cX0_writeGapChange 20 = .ok (.iload_n 2, 1) := by decide +kernel
theorem dX0_writeGapChange_21 : decode cX0_writeGapChange 21 = .ok (.bipush 8, 2) := by decide +kernel
theorem dX0_writeGapChange_23 : decode cX0_writeGapChange 23 = .ok (.if_icmp .gt 23, 3) := by decide +kernel
theorem dX0_writeGapChange_26 : decode cX0_writeGapChange 26 = .ok (.aload_n 0, 1) := by decide +kernel
theorem dX0_writeGapChange_27 : decode cX0_writeGapChange 27 = .ok (.iload_n 1, 1) := by decide +kernel
theorem dX0_writeGapChange_28 : decode cX0_writeGapChange 28 = .ok (.iconst 2, 1) := by decide +kernel
theorem dX0_writeGapChange_29 : decode cX0_writeGapChange 29 = .ok (.iconst 2, 1) := by decide +kernel
theorem dX0_writeGapChange_30 : decode cX0_writeGapChange 30 = .ok (.invokevirtual 47, 3) := by decide +kernel
theorem dX0_writeGapChange_33 : decode cX0_writeGapChange 33 = .ok (.aload_n 0, 1) := by decide +kernel
theorem dX0_writeGapChange_34 : decode cX0_writeGapChange 34 = .ok (.iload_n 1, 1) := by decide +kernel
theorem dX0_writeGapChange_35 : decode cX0_writeGapChange 35 = .ok (.iconst 4, 1) := by decide +kernel
theorem dX0_writeGapChange_36 : decode cX0_writeGapChange 36 = .ok (.iload_n 2, 1) := by decide +kernel
theorem dX0_writeGapChange_37 : decode cX0_writeGapChange 37 = .ok (.bipush 7, 2) := by decide +kernel
theorem dX0_writeGapChange_39 : decode cX0_writeGapChange 39 = .ok (.iadd, 1) := by decide +kernel
theorem dX0_writeGapChange_40 : decode cX0_writeGapChange 40 = .ok (.invokevirtual 47, 3) := by decide +kernel
theorem dX0_writeGapChange_43 : decode cX0_writeGapChange 43 = .ok (.goto 77, 3) := by decide +kernel
theorem dX0_writeGapChange_46 : decode cX0_writeGapChange 46 = .ok (.iload_n 2, 1) := by decide +kernel
theorem dX0_writeGapChange_47 : decode cX0_writeGapChange 47 = .ok (.bipush (-63), 2) := by decide +kernel
theorem dX0_writeGapChange_49 : decode cX0_writeGapChange 49 = .ok (.if_icmp .lt 31, 3) := by decide +kernel
theorem dX0_writeGapChange_52 : decode cX0_writeGapChange 52 = .ok (.iload_n 2, 1) := by decide +kernel
theorem dX0_writeGapChange_53 : decode cX0_writeGapChange 53 = .ok (.bipush 64, 2) := by decide +kernel
theorem dX0_writeGapChange_55 : decode cX0_writeGapChange 55 = .ok (.if_icmp .gt 25, 3) := by decide +kernel
theorem dX0_writeGapChange_58 : decode cX0_writeGapChange 58 = .ok (.aload_n 0, 1) := by decide +kernel
theorem dX0_writeGapChange_59 : decode cX0_writeGapChange 59 = .ok (.iload_n 1, 1) := by decide +kernel
theorem dX0_writeGapChange_60 : decode cX0_writeGapChange 60 = .ok (.iconst 3, 1) := by decide +kernel
theorem dX0_writeGapChange_61 : decode cX0_writeGapChange 61 = .ok (.bipush 6, 2) := by decide +kernel
theorem dX0_writeGapChange_63 : decode cX0_writeGapChange 63 = .ok (.invokevirtual 47, 3) := by decide +kernel
theorem dX0_writeGapChange_66 : decode cX0_writeGapChange 66 = .ok (.aload_n 0, 1) := by decide +kernel
theorem dX0_writeGapChange_67 : decode cX0_writeGapChange 67 = .ok (.iload_n 1, 1) := by decide +kernel
theorem dX0_writeGapChange_68 : decode cX0_writeGapChange 68 = .ok (.bipush 7, 2) := by decide +kernel
theorem dX0_writeGapChange_70 : decode cX0_writeGapChange 70 = .ok (.iload_n 2, 1) := by decide +kernel
theorem dX0_writeGapChange_71 : decode cX0_writeGapChange 71 = .ok (.bipush 63, 2) := by decide +kernel
theorem dX0_writeGapChange_73 : decode cX0_writeGapChange 73 = .ok (.iadd, 1) := by decide +kernel
theorem dX0_writeGapChange_74 : decode cX0_writeGapChange 74 = .ok (.invokevirtual 47, 3) := by decide +kernel
theorem dX0_writeGapChange_77 : decode cX0_writeGapChange 77 = .ok (.goto 43, 3) := by decide +kernel
theorem dX0_writeGapChange_80 : decode cX0_writeGapChange 80 = .ok (.aload_n 0, 1) := by decide +kernel
theorem dX0_writeGapChange_81 : decode cX0_writeGapChange 81 = .ok (.iload_n 1, 1) := by decide +kernel
theorem dX0_writeGapChange_82 : decode cX0_writeGapChange 82 = .ok (.iconst 3, 1) := by decide +kernel
theorem dX0_writeGapChange_83 : decode cX0_writeGapChange 83 = .ok (.bipush 7, 2) := by decide +kernel
theorem dX0_writeGapChange_85 : decode cX0_writeGapChange 85 = .ok (.invokevirtual 47, 3) := by decide +kernel
theorem dX0_writeGapChange_88 : decode cX0_writeGapChange 88 = .ok (.aload_n 0, 1) := by decide +kernel
theorem dX0_writeGapChange_89 : decode cX0_writeGapChange 89 = .ok (.iload_n 1, 1) := by decide +kernel
theorem dX0_writeGapChange_90 : decode cX0_writeGapChange 90 = .ok (.iconst 1, 1) := by decide +kernel
theorem dX0_writeGapChange_91 : decode cX0_writeGapChange 91 = .ok (.iload_n 2, 1) := by decide +kernel
theorem dX0_writeGapChange_92 : decode cX0_writeGapChange 92 = .ok (.ifCond .ge 7, 3) := by decide +kernel
theorem dX0_writeGapChange_95 : decode cX0_writeGapChange 95 = .ok (.iconst 1, 1) := by decide +kernel
theorem dX0_writeGapChange_96 : decode cX0_writeGapChange 96 = .ok (.goto 4, 3) := by decide +kernel
theorem dX0_writeGapChange_99 : decode cX0_writeGapChange 99 = .ok (.iconst 0, 1) := by decide +kernel
theorem dX0_writeGapChange_100 : decode cX0_writeGapChange 100 = .ok (.invokevirtual 47, 3) := by decide +kernel
theorem dX0_writeGapChange_103 : decode cX0_writeGapChange 103 = .ok (.aload_n 0, 1) := by decide +kernel
theorem dX0_writeGapChange_104 : decode cX0_writeGapChange 104 = .ok (.iload_n 1, 1) := by decide +kernel
theorem dX0_writeGapChange_105 : decode cX0_writeGapChange 105 = .ok (.bipush 17, 2) := by decide +kernel
theorem dX0_writeGapChange_107 : decode cX0_writeGapChange 107 = .ok (.iload_n 2, 1) := by decide +kernel
theorem dX0_writeGapChange_108 : decode cX0_writeGapChange 108 = .ok (.ifCond .ge 8, 3) := by decide +kernel
theorem dX0_writeGapChange_111 : decode cX0_writeGapChange 111 = .ok (.iload_n 2, 1) := by decide +kernel
theorem dX0_writeGapChange_112 : decode cX0_writeGapChange 112 = .ok (.ineg, 1) := by decide +kernel
theorem dX0_writeGapChange_113 : decode cX0_writeGapChange 113 = .ok (.goto 4, 3) := by decide +kernel
theorem dX0_writeGapChange_116 : decode cX0_writeGapChange 116 = .ok (.iload_n 2, 1) := by decide +kernel
theorem dX0_writeGapChange_117 : decode cX0_writeGapChange 117 = .ok (.invokevirtual 47, 3) := by decide +kernel
theorem dX0_writeGapChange_120 : decode cX0_writeGapChange 120 = .ok (.return_, 1) := by decide +kernel
theorem dX0_writeChange_0 : decode cX0_writeChange 0 = .ok (.iload_n 2, 1) := by decide +kernel
theorem dX0_writeChange_1 : decode cX0_writeChange 1 = .ok (.ifCond .ne 11, 3) := by decide +kernel
theorem dX0_writeChange_4 : decode cX0_writeChange 4 = .ok (.aload_n 0, 1) := by decide +kernel
theorem dX0_writeChange_5 : decode cX0_writeChange 5 = .ok (.iload_n 1, 1) := by decide +kernel
theorem dX0_writeChange_6 : decode cX0_writeChange 6 = .ok (.iconst 1, 1) := by decide +kernel
theorem dX0_writeChange_7 : decode cX0_writeChange 7 = .ok (.iconst 0, 1) := by decide +kernel
theorem dX0_writeChange_8 : decode cX0_writeChange 8 = .ok (.invokevirtual 47, 3) := by decide +kernel
theorem dX0_writeChange_11 : decode cX0_writeChange 11 = .ok (.return_, 1) := by decide +kernel
theorem dX0_writeChange_12 : decode cX0_writeChange 12 = .ok (.aload_n 0, 1) := by decide +kernel
theorem dX0_writeChange_13 : decode cX0_writeChange 13 = .ok (.iload_n 2, 1) := by decide +kernel
theorem dX0_writeChange_14 : decode cX0_writeChange 14 = .ok (.invokevirtual 51, 3) := by decide +kernel
theorem dX0_writeChange_17 : decode cX0_writeChange 17 = .ok (.istore_n 3, 1) := by decide +kernel
theorem dX0_writeChange_18 : decode cX0_writeChange 18 = .ok (.aload_n 0, 1) := by decide +kernel
theorem dX0_writeChange_19 : decode cX0_writeChange 19 = .ok (.iload_n 2, 1) := by decide +kernel
theorem dX0_writeChange_20 : decode cX0_writeChange 20 = .ok (.invokevirtual 55, 3) := by decide +kernel
theorem dX0_writeChange_23 : decode cX0_writeChange 23 = .ok (.istore 4, 2) := by decide +kernel
theorem dX0_writeChange_25 : decode cX0_writeChange 25 = .ok (.aload_n 0, 1) := by decide +kernel
theorem dX0_writeChange_26 : decode cX0_writeChange 26 = .ok (.getfield 37, 3) := by decide +kernel
theorem dX0_writeChange_29 : decode cX0_writeChange 29 = .ok (.ifCond .lt 53, 3) := by decide +kernel
theorem dX0_writeChange_32 : decode cX0_writeChange 32 = .ok (.iload_n 3, 1) := by decide +kernel
theorem dX0_writeChange_33 : decode cX0_writeChange 33 = .ok (.aload_n 0, 1) := by decide +kernel
theorem dX0_writeChange_34 : decode cX0_writeChange 34 = .ok (.getfield 37, 3) := by decide +kernel
theorem dX0_writeChange_37 : decode cX0_writeChange 37 = .ok (.if_icmp .lt 45, 3) := by decide +kernel
theorem dX0_writeChange_40 : decode cX0_writeChange 40 = .ok (.iload 4, 2) := by decide +kernel
theorem dX0_writeChange_42 : decode cX0_writeChange 42 = .ok (.aload_n 0, 1) := by decide +kernel
theorem dX0_writeChange_43 : decode cX0_writeChange 43 = .ok (.getfield 58, 3) := by decide +kernel
theorem dX0_writeChange_46 : decode cX0_writeChange 46 = .ok (.if_icmp .lt 36, 3) := by decide +kernel
theorem dX0_writeChange_49 : decode cX0_writeChange 49 = .ok (.aload_n 0, 1) := by decide +kernel
theorem dX0_writeChange_50 : decode cX0_writeChange 50 = .ok (.iload_n 1, 1) := by decide +kernel
theorem dX0_writeChange_51 : decode cX0_writeChange 51 = .ok (.iconst 2, 1) := by decide +kernel
theorem dX0_writeChange_52 : decode cX0_writeChange 52 = .ok (.iconst 2, 1) := by decide +kernel
theorem dX0_writeChange_53 : decode cX0_writeChange 53 = .ok (.invokevirtual 47, 3) := by decide +kernel
theorem dX0_writeChange_56 : decode cX0_writeChange 56 = .ok (.aload_n 0, 1) := by decide +kernel
theorem dX0_writeChange_57 : decode cX0_writeChange 57 = .ok (.iload_n 1, 1) := by decide +kernel
theorem dX0_writeChange_58 : decode cX0_writeChange 58 = .ok (.bipush 16, 2) := by decide +kernel
theorem dX0_writeChange_60 : decode cX0_writeChange 60 = .ok (.aload_n 0, 1) := by decide +kernel
theorem dX0_writeChange_61 : decode cX0_writeChange 61 = .ok (.getfield 37, 3) := by decide +kernel
theorem dX0_writeChange_64 : decode cX0_writeChange 64 = .ok (.isub, 1) := by decide +kernel
theorem dX0_writeChange_65 : decode cX0_writeChange 65 = .ok (.aload_n 0, 1) := by decide +kernel
theorem dX0_writeChange_66 : decode cX0_writeChange 66 = .ok (.getfield 58, 3) := by decide +kernel
theorem dX0_writeChange_69 : decode cX0_writeChange 69 = .ok (.isub, 1) := by decide +kernel
theorem dX0_writeChange_70 : decode cX0_writeChange 70 = .ok (.iload_n 2, 1) := by decide +kernel
theorem dX0_writeChange_71 : decode cX0_writeChange 71 = .ok (.aload_n 0, 1) := by decide +kernel
theorem dX0_writeChange_72 : decode cX0_writeChange 72 = .ok (.getfield 58, 3) := by decide +kernel
theorem dX0_writeChange_75 : decode cX0_writeChange 75 = .ok (.ishr, 1) := by decide +kernel
theorem dX0_writeChange_76 : decode cX0_writeChange 76 = .ok (.invokevirtual 47, 3) := by decide +kernel
theorem dX0_writeChange_79 : decode cX0_writeChange 79 = .ok (.goto 52, 3) := by decide +kernel
theorem dX0_writeChange_82 : decode cX0_writeChange 82 = .ok (.aload_n 0, 1) := by decide +kernel
theorem dX0_writeChange_83 : decode cX0_writeChange 83 = .ok (.iload_n 1, 1) := by decide +kernel
theorem dX0_writeChange_84 : decode cX0_writeChange 84 = .ok (.iconst 2, 1) := by decide +kernel
theorem dX0_writeChange_85 : decode cX0_writeChange 85 = .ok (.iconst 3, 1) := by decide +kernel
theorem dX0_writeChange_86 : decode cX0_writeChange 86 = .ok (.invokevirtual 47, 3) := by decide +kernel
theorem dX0_writeChange_89 : decode cX0_writeChange 89 = .ok (.aload_n 0, 1) := by decide +kernel
theorem dX0_writeChange_90 : decode cX0_writeChange 90 = .ok (.iload_n 1, 1) := by decide +kernel
theorem dX0_writeChange_91 : decode cX0_writeChange 91 = .ok (.iconst 4, 1) := by decide +kernel
theorem dX0_writeChange_92 : decode cX0_writeChange 92 = .ok (.iload_n 3, 1) := by decide +kernel
theorem dX0_writeChange_93 : decode cX0_writeChange 93 = .ok (.invokevirtual 47, 3) := by decide +kernel
theorem dX0_writeChange_96 : decode cX0_writeChange 96 = .ok (.aload_n 0, 1) := by decide +kernel
theorem dX0_writeChange_97 : decode cX0_writeChange 97 = .ok (.iload_n 1, 1) := by decide +kernel
theorem dX0_writeChange_98 : decode cX0_writeChange 98 = .ok (.iconst 4, 1) := by decide +kernel
theorem dX0_writeChange_99 : decode cX0_writeChange 99 = .ok (.iload 4, 2) := by decide +kernel
theorem dX0_writeChange_101 : decode cX0_writeChange 101 = .ok (.invokevirtual 47, 3) := by decide +kernel
theorem dX0_writeChange_104 : decode cX0_writeChange 104 = .ok (.aload_n 0, 1) := by decide +kernel
theorem dX0_writeChange_105 : decode cX0_writeChange 105 = .ok (.iload_n 1, 1) := by decide +kernel
theorem dX0_writeChange_106 : decode cX0_writeChange 106 = .ok (.bipush 16, 2) := by decide +kernel
theorem dX0_writeChange_108 : decode cX0_writeChange 108 = .ok (.iload_n 3, 1) := by decide +kernel
theorem dX0_writeChange_109 : decode cX0_writeChange 109 = .ok (.isub, 1) := by decide +kernel
theorem dX0_writeChange_110 : decode cX0_writeChange 110 = .ok (.iload 4, 2) := by decide +kernel
theorem dX0_writeChange_112 : decode cX0_writeChange 112 = .ok (.isub, 1) := by decide +kernel
theorem dX0_writeChange_113 : decode cX0_writeChange 113 = .ok (.iload_n 2, 1) := by decide +kernel
theorem dX0_writeChange_114 : decode cX0_writeChange 114 = .ok (.iload 4, 2) := by decide +kernel
theorem dX0_writeChange_116 : decode cX0_writeChange 116 = .ok (.ishr, 1) := by decide +kernel
theorem dX0_writeChange_117 : decode cX0_writeChange 117 = .ok (.invokevirtual 47, 3) := by decide +kernel
theorem dX0_writeChange_120 : decode cX0_writeChange 120 = .ok (.aload_n 0, 1) := by decide +kernel
theorem dX0_writeChange_121 : decode cX0_writeChange 121 = .ok (.iload_n 3, 1) := by decide +kernel
theorem dX0_writeChange_122 : decode cX0_writeChange 122 = .ok (.putfield 37, 3) := by decide +kernel
theorem dX0_writeChange_125 : decode cX0_writeChange 125 = .ok (.aload_n 0, 1) := by decide +kernel
theorem dX0_writeChange_126 : decode cX0_writeChange 126 = .ok (.iload 4, 2) := by decide +kernel
theorem dX0_writeChange_128 : decode cX0_writeChange 128 = .ok (.putfield 58, 3) := by decide +kernel
theorem dX0_writeChange_131 : decode cX0_writeChange 131 = .ok (.return_, 1) := by decide +kernel
theorem dX0_zerosBefore_0 : decode cX0_zerosBefore 0 = .ok (.iconst 0, 1) := by decide +kernel
theorem dX0_zerosBefore_1 : decode cX0_zerosBefore 1 = .ok (.istore_n 2, 1) := by decide +kernel
theorem dX0_zerosBefore_2 : decode cX0_zerosBefore 2 = .ok (.bipush 15, 2) := by decide +kernel
theorem dX0_zerosBefore_4 : decode cX0_zerosBefore 4 = .ok (.istore_n 3, 1) := by decide +kernel
theorem dX0_zerosBefore_5 : decode cX0_zerosBefore 5 = .ok (.iload_n 3, 1) := by decide +kernel
theorem dX0_zerosBefore_6 : decode cX0_zerosBefore 6 = .ok (.ifCond .lt 20, 3) := by decide +kernel
theorem dX0_zerosBefore_9 : decode cX0_zerosBefore 9 = .ok (.iload_n 1, 1) := by decide +kernel
theorem dX0_zerosBefore_10 : decode cX0_zerosBefore 10 = .ok (.iload_n 3, 1) := by decide +kernel
theorem dX0_zerosBefore_11 : decode cX0_zerosBefore 11 = .ok (.ishr, 1) := by decide +kernel
theorem dX0_zerosBefore_12 : decode cX0_zerosBefore 12 = .ok (.iconst 1, 1) := by decide +kernel
theorem dX0_zerosBefore_13 : decode cX0_zerosBefore 13 = .ok (.iand, 1) := by decide +kernel
theorem dX0_zerosBefore_14 : decode cX0_zerosBefore 14 = .ok (.ifCond .ne 12, 3) := by decide +kernel
theorem dX0_zerosBefore_17 : decode cX0_zerosBefore 17 = .ok (.iinc 2 1, 3) := by decide +kernel
theorem dX0_zerosBefore_20 : decode cX0_zerosBefore 20 = .ok (.iinc 3 (-1), 3) := by decide +kernel
theorem dX0_zerosBefore_23 : decode cX0_zerosBefore 23 = .ok (.goto (-18), 3) := by decide +kernel
theorem dX0_zerosBefore_26 : decode cX0_zerosBefore 26 = .ok (.iload_n 2, 1) := by decide +kernel
theorem dX0_zerosBefore_27 : decode cX0_zerosBefore 27 = .ok (.ireturn, 1) := by decide +kernel
theorem dX0_zerosBehind_0 : decode cX0_zerosBehind 0 = .ok (.iconst 0, 1) := by decide +kernel
theorem dX0_zerosBehind_1 : decode cX0_zerosBehind 1 = .ok (.istore_n 2, 1) := by decide +kernel
theorem dX0_zerosBehind_2 : decode cX0_zerosBehind 2 = .ok (.iconst 0, 1) := by decide +kernel
theorem dX0_zerosBehind_3 : decode cX0_zerosBehind 3 = .ok (.istore_n 3, 1) := by decide +kernel
theorem dX0_zerosBehind_4 : decode cX0_zerosBehind 4 = .ok (.iload_n 3, 1) := by decide +kernel
theorem dX0_zerosBehind_5 : decode cX0_zerosBehind 5 = .ok (.bipush 16, 2) := by decide +kernel
theorem dX0_zerosBehind_7 : decode cX0_zerosBehind 7 = .ok (.if_icmp .ge 20, 3) := by decide +kernel
theorem dX0_zerosBehind_10 : decode cX0_zerosBehind 10 = .ok (.iload_n 1, 1) := by decide +kernel
theorem dX0_zerosBehind_11 : decode cX0_zerosBehind 11 = .ok (.iload_n 3, 1) := by decide +kernel
theorem dX0_zerosBehind_12 : decode cX0_zerosBehind 12 = .ok (.ishr, 1) := by decide +kernel
theorem dX0_zerosBehind_13 : decode cX0_zerosBehind 13 = .ok (.iconst 1, 1) := by decide +kernel
theorem dX0_zerosBehind_14 : decode cX0_zerosBehind 14 = .ok (.iand, 1) := by decide +kernel
theorem dX0_zerosBehind_15 : decode cX0_zerosBehind 15 = .ok (.ifCond .ne 12, 3) := by decide +kernel
theorem dX0_zerosBehind_18 : decode cX0_zerosBehind 18 = .ok (.iinc 2 1, 3) := by decide +kernel
theorem dX0_zerosBehind_21 : decode cX0_zerosBehind 21 = .ok (.iinc 3 1, 3) := by decide +kernel
theorem dX0_zerosBehind_24 : decode cX0_zerosBehind 24 = .ok (.goto (-20), 3) := by decide +kernel
theorem dX0_zerosBehind_27 : decode cX0_zerosBehind 27 = .ok (.iload_n 2, 1) := by decide +kernel
theorem dX0_zerosBehind_28 : decode cX0_zerosBehind 28 = .ok (.ireturn, 1) := by decide +kernel
theorem dX0_enter_0 : decode cX0_enter 0 = .ok (.aload_n 0, 1) := by decide +kernel
theorem dX0_enter_1 : decode cX0_enter 1 = .ok (.getfield 19, 3) := by decide +kernel
theorem dX0_enter_4 : decode cX0_enter 4 = .ok (.iload_n 1, 1) := by decide +kernel
theorem dX0_enter_5 : decode cX0_enter 5 = .ok (.iload_n 2, 1) := by decide +kernel
theorem dX0_enter_6 : decode cX0_enter 6 = .ok (.iastore, 1) := by decide +kernel
theorem dX0_enter_7 : decode cX0_enter 7 = .ok (.aload_n 0, 1) := by decide +kernel
theorem dX0_enter_8 : decode cX0_enter 8 = .ok (.getfield 22, 3) := by decide +kernel
theorem dX0_enter_11 : decode cX0_enter 11 = .ok (.iload_n 1, 1) := by decide +kernel
theorem dX0_enter_12 : decode cX0_enter 12 = .ok (.aload_n 0, 1) := by decide +kernel
theorem dX0_enter_13 : decode cX0_enter 13 = .ok (.getfield 22, 3) := by decide +kernel
theorem dX0_enter_16 : decode cX0_enter 16 = .ok (.iload_n 1, 1) := by decide +kernel
theorem dX0_enter_17 : decode cX0_enter 17 = .ok (.iaload, 1) := by decide +kernel
theorem dX0_enter_18 : decode cX0_enter 18 = .ok (.iload_n 3, 1) := by decide +kernel
theorem dX0_enter_19 : decode cX0_enter 19 = .ok (.iadd, 1) := by decide +kernel
theorem dX0_enter_20 : decode cX0_enter 20 = .ok (.iastore, 1) := by decide +kernel
theorem dX0_enter_21 : decode cX0_enter 21 = .ok (.aload_n 0, 1) := by decide +kernel
theorem dX0_enter_22 : decode cX0_enter 22 = .ok (.getfield 25, 3) := by decide +kernel
theorem dX0_enter_25 : decode cX0_enter 25 = .ok (.iload_n 1, 1) := by decide +kernel
theorem dX0_enter_26 : decode cX0_enter 26 = .ok (.iload_n 3, 1) := by decide +kernel
theorem dX0_enter_27 : decode cX0_enter 27 = .ok (.aload_n 0, 1) := by decide +kernel
theorem dX0_enter_28 : decode cX0_enter 28 = .ok (.getfield 25, 3) := by decide +kernel
theorem dX0_enter_31 : decode cX0_enter 31 = .ok (.iload_n 1, 1) := by decide +kernel
theorem dX0_enter_32 : decode cX0_enter 32 = .ok (.iaload, 1) := by decide +kernel
theorem dX0_enter_33 : decode cX0_enter 33 = .ok (.if_icmp .ge 7, 3) := by decide +kernel
theorem dX0_enter_36 : decode cX0_enter 36 = .ok (.iload_n 3, 1) := by decide +kernel
theorem dX0_enter_37 : decode cX0_enter 37 = .ok (.goto 9, 3) := by decide +kernel
theorem dX0_enter_40 : decode cX0_enter 40 = .ok (.aload_n 0, 1) := by decide +kernel
theorem dX0_enter_41 : decode cX0_enter 41 = .ok (.getfield 25, 3) := by decide +kernel
theorem dX0_enter_44 : decode cX0_enter 44 = .ok (.iload_n 1, 1) := by decide +kernel
theorem dX0_enter_45 : decode cX0_enter 45 = .ok (.iaload, 1) := by decide +kernel
theorem dX0_enter_46 : decode cX0_enter 46 = .ok (.iastore, 1) := by decide +kernel
theorem dX0_enter_47 : decode cX0_enter 47 = .ok (.aload_n 0, 1) := by decide +kernel
theorem dX0_enter_48 : decode cX0_enter 48 = .ok (.getfield 28, 3) := by decide +kernel
theorem dX0_enter_51 : decode cX0_enter 51 = .ok (.iload_n 1, 1) := by decide +kernel
theorem dX0_enter_52 : decode cX0_enter 52 = .ok (.iload_n 3, 1) := by decide +kernel
theorem dX0_enter_53 : decode cX0_enter 53 = .ok (.aload_n 0, 1) := by decide +kernel
theorem dX0_enter_54 : decode cX0_enter 54 = .ok (.getfield 28, 3) := by decide +kernel
theorem dX0_enter_57 : decode cX0_enter 57 = .ok (.iload_n 1, 1) := by decide +kernel
theorem dX0_enter_58 : decode cX0_enter 58 = .ok (.iaload, 1) := by decide +kernel
theorem dX0_enter_59 : decode cX0_enter 59 = .ok (.if_icmp .le 7, 3) := by decide +kernel
theorem dX0_enter_62 : decode cX0_enter 62 = .ok (.iload_n 3, 1) := by decide +kernel
theorem dX0_enter_63 : decode cX0_enter 63 = .ok (.goto 9, 3) := by decide +kernel
theorem dX0_enter_66 : decode cX0_enter 66 = .ok (.aload_n 0, 1) := by decide +kernel
theorem dX0_enter_67 : decode cX0_enter 67 = .ok (.getfield 28, 3) := by decide +kernel
theorem dX0_enter_70 : decode cX0_enter 70 = .ok (.iload_n 1, 1) := by decide +kernel
theorem dX0_enter_71 : decode cX0_enter 71 = .ok (.iaload, 1) := by decide +kernel
theorem dX0_enter_72 : decode cX0_enter 72 = .ok (.iastore, 1) := by decide +kernel
theorem dX0_enter_73 : decode cX0_enter 73 = .ok (.return_, 1) := by decide +kernel
theorem dX0_steady_0 : decode cX0_steady 0 = .ok (.iload_n 1, 1) := by decide +kernel
theorem dX0_steady_1 : decode cX0_steady 1 = .ok (.ifCond .lt 29, 3) := by decide +kernel
theorem dX0_steady_4 : decode cX0_steady 4 = .ok (.iload_n 1, 1) := by decide +kernel
theorem dX0_steady_5 : decode cX0_steady 5 = .ok (.bipush 64, 2) := by decide +kernel
end
section
set_option maxRecDepth 100000
theorem dX0_steady_7 : decode cX0_steady 7 = .ok (.if_icmp .gt 23, 3) := by decide +kernel
theorem dX0_steady_10 : decode cX0_steady 10 = .ok (.iload_n 2, 1) := by decide +kernel
theorem dX0_steady_11 : decode cX0_steady 11 = .ok (.ifCond .lt 19, 3) := by decide +kernel
theorem dX0_steady_14 : decode cX0_steady 14 = .ok (.iload_n 2, 1) := by decide +kernel
theorem dX0_steady_15 : decode cX0_steady 15 = .ok (.ldc 101, 2) := by decide +kernel
theorem dX0_steady_17 : decode cX0_steady 17 = .ok (.if_icmp .gt 13, 3) := by decide +kernel
theorem dX0_steady_20 : decode cX0_steady 20 = .ok (.iload_n 3, 1) := by decide +kernel
theorem dX0_steady_21 : decode cX0_steady 21 = .ok (.ifCond .lt 9, 3) := by decide +kernel
theorem dX0_steady_24 : decode cX0_steady 24 = .ok (.iload_n 3, 1) := by decide +kernel
theorem dX0_steady_25 : decode cX0_steady 25 = .ok (.ldc 68, 2) := by decide +kernel
theorem dX0_steady_27 : decode cX0_steady 27 = .ok (.if_icmp .le 5, 3) := by decide +kernel
theorem dX0_steady_30 : decode cX0_steady 30 = .ok (.iconst (-1), 1) := by decide +kernel
theorem dX0_steady_31 : decode cX0_steady 31 = .ok (.ireturn, 1) := by decide +kernel
theorem dX0_steady_32 : decode cX0_steady 32 = .ok (.aload_n 0, 1) := by decide +kernel
theorem dX0_steady_33 : decode cX0_steady 33 = .ok (.invokevirtual 64, 3) := by decide +kernel
theorem dX0_steady_36 : decode cX0_steady 36 = .ok (.iload_n 1, 1) := by decide +kernel
theorem dX0_steady_37 : decode cX0_steady 37 = .ok (.iload_n 2, 1) := by decide +kernel
theorem dX0_steady_38 : decode cX0_steady 38 = .ok (.imul, 1) := by decide +kernel
theorem dX0_steady_39 : decode cX0_steady 39 = .ok (.iadd, 1) := by decide +kernel
theorem dX0_steady_40 : decode cX0_steady 40 = .ok (.ldc 101, 2) := by decide +kernel
theorem dX0_steady_42 : decode cX0_steady 42 = .ok (.if_icmp .gt 17, 3) := by decide +kernel
theorem dX0_steady_45 : decode cX0_steady 45 = .ok (.iload 4, 2) := by decide +kernel
theorem dX0_steady_47 : decode cX0_steady 47 = .ok (.ldc 108, 2) := by decide +kernel
theorem dX0_steady_49 : decode cX0_steady 49 = .ok (.if_icmp .lt 10, 3) := by decide +kernel
theorem dX0_steady_52 : decode cX0_steady 52 = .ok (.iload 4, 2) := by decide +kernel
theorem dX0_steady_54 : decode cX0_steady 54 = .ok (.ldc 68, 2) := by decide +kernel
theorem dX0_steady_56 : decode cX0_steady 56 = .ok (.if_icmp .le 5, 3) := by decide +kernel
theorem dX0_steady_59 : decode cX0_steady 59 = .ok (.iconst (-1), 1) := by decide +kernel
theorem dX0_steady_60 : decode cX0_steady 60 = .ok (.ireturn, 1) := by decide +kernel
theorem dX0_steady_61 : decode cX0_steady 61 = .ok (.aload_n 0, 1) := by decide +kernel
theorem dX0_steady_62 : decode cX0_steady 62 = .ok (.getfield 61, 3) := by decide +kernel
theorem dX0_steady_65 : decode cX0_steady 65 = .ok (.iload_n 1, 1) := by decide +kernel
theorem dX0_steady_66 : decode cX0_steady 66 = .ok (.iadd, 1) := by decide +kernel
theorem dX0_steady_67 : decode cX0_steady 67 = .ok (.bipush 64, 2) := by decide +kernel
theorem dX0_steady_69 : decode cX0_steady 69 = .ok (.if_icmp .le 6, 3) := by decide +kernel
theorem dX0_steady_72 : decode cX0_steady 72 = .ok (.bipush (-2), 2) := by decide +kernel
theorem dX0_steady_74 : decode cX0_steady 74 = .ok (.ireturn, 1) := by decide +kernel
theorem dX0_steady_75 : decode cX0_steady 75 = .ok (.aload_n 0, 1) := by decide +kernel
theorem dX0_steady_76 : decode cX0_steady 76 = .ok (.invokevirtual 102, 3) := by decide +kernel
theorem dX0_steady_79 : decode cX0_steady 79 = .ok (.iconst 0, 1) := by decide +kernel
theorem dX0_steady_80 : decode cX0_steady 80 = .ok (.istore 5, 2) := by decide +kernel
theorem dX0_steady_82 : decode cX0_steady 82 = .ok (.iload 5, 2) := by decide +kernel
theorem dX0_steady_84 : decode cX0_steady 84 = .ok (.iload_n 1, 1) := by decide +kernel
theorem dX0_steady_85 : decode cX0_steady 85 = .ok (.if_icmp .ge 24, 3) := by decide +kernel
theorem dX0_steady_88 : decode cX0_steady 88 = .ok (.aload_n 0, 1) := by decide +kernel
theorem dX0_steady_89 : decode cX0_steady 89 = .ok (.iload_n 2, 1) := by decide +kernel
theorem dX0_steady_90 : decode cX0_steady 90 = .ok (.iload_n 3, 1) := by decide +kernel
theorem dX0_steady_91 : decode cX0_steady 91 = .ok (.iload 5, 2) := by decide +kernel
theorem dX0_steady_93 : decode cX0_steady 93 = .ok (.iload 4, 2) := by decide +kernel
theorem dX0_steady_95 : decode cX0_steady 95 = .ok (.imul, 1) := by decide +kernel
theorem dX0_steady_96 : decode cX0_steady 96 = .ok (.iadd, 1) := by decide +kernel
theorem dX0_steady_97 : decode cX0_steady 97 = .ok (.ldc 68, 2) := by decide +kernel
theorem dX0_steady_99 : decode cX0_steady 99 = .ok (.iand, 1) := by decide +kernel
theorem dX0_steady_100 : decode cX0_steady 100 = .ok (.invokevirtual 105, 3) := by decide +kernel
theorem dX0_steady_103 : decode cX0_steady 103 = .ok (.iinc 5 1, 3) := by decide +kernel
theorem dX0_steady_106 : decode cX0_steady 106 = .ok (.goto (-24), 3) := by decide +kernel
theorem dX0_steady_109 : decode cX0_steady 109 = .ok (.aload_n 0, 1) := by decide +kernel
theorem dX0_steady_110 : decode cX0_steady 110 = .ok (.getfield 61, 3) := by decide +kernel
theorem dX0_steady_113 : decode cX0_steady 113 = .ok (.ireturn, 1) := by decide +kernel
theorem dX0_dropOldest_0 : decode cX0_dropOldest 0 = .ok (.aload_n 0, 1) := by decide +kernel
theorem dX0_dropOldest_1 : decode cX0_dropOldest 1 = .ok (.getfield 61, 3) := by decide +kernel
theorem dX0_dropOldest_4 : decode cX0_dropOldest 4 = .ok (.bipush 16, 2) := by decide +kernel
theorem dX0_dropOldest_6 : decode cX0_dropOldest 6 = .ok (.if_icmp .ge 6, 3) := by decide +kernel
theorem dX0_dropOldest_9 : decode cX0_dropOldest 9 = .ok (.bipush (-4), 2) := by decide +kernel
theorem dX0_dropOldest_11 : decode cX0_dropOldest 11 = .ok (.ireturn, 1) := by decide +kernel
theorem dX0_dropOldest_12 : decode cX0_dropOldest 12 = .ok (.iconst 0, 1) := by decide +kernel
theorem dX0_dropOldest_13 : decode cX0_dropOldest 13 = .ok (.istore_n 1, 1) := by decide +kernel
theorem dX0_dropOldest_14 : decode cX0_dropOldest 14 = .ok (.iload_n 1, 1) := by decide +kernel
theorem dX0_dropOldest_15 : decode cX0_dropOldest 15 = .ok (.bipush 72, 2) := by decide +kernel
theorem dX0_dropOldest_17 : decode cX0_dropOldest 17 = .ok (.if_icmp .ge 24, 3) := by decide +kernel
theorem dX0_dropOldest_20 : decode cX0_dropOldest 20 = .ok (.aload_n 0, 1) := by decide +kernel
theorem dX0_dropOldest_21 : decode cX0_dropOldest 21 = .ok (.getfield 7, 3) := by decide +kernel
theorem dX0_dropOldest_24 : decode cX0_dropOldest 24 = .ok (.iload_n 1, 1) := by decide +kernel
theorem dX0_dropOldest_25 : decode cX0_dropOldest 25 = .ok (.aload_n 0, 1) := by decide +kernel
theorem dX0_dropOldest_26 : decode cX0_dropOldest 26 = .ok (.getfield 7, 3) := by decide +kernel
theorem dX0_dropOldest_29 : decode cX0_dropOldest 29 = .ok (.iload_n 1, 1) := by decide +kernel
theorem dX0_dropOldest_30 : decode cX0_dropOldest 30 = .ok (.bipush 24, 2) := by decide +kernel
theorem dX0_dropOldest_32 : decode cX0_dropOldest 32 = .ok (.iadd, 1) := by decide +kernel
theorem dX0_dropOldest_33 : decode cX0_dropOldest 33 = .ok (.iaload, 1) := by decide +kernel
theorem dX0_dropOldest_34 : decode cX0_dropOldest 34 = .ok (.iastore, 1) := by decide +kernel
theorem dX0_dropOldest_35 : decode cX0_dropOldest 35 = .ok (.iinc 1 1, 3) := by decide +kernel
theorem dX0_dropOldest_38 : decode cX0_dropOldest 38 = .ok (.goto (-24), 3) := by decide +kernel
theorem dX0_dropOldest_41 : decode cX0_dropOldest 41 = .ok (.iconst 0, 1) := by decide +kernel
theorem dX0_dropOldest_42 : decode cX0_dropOldest 42 = .ok (.istore_n 1, 1) := by decide +kernel
theorem dX0_dropOldest_43 : decode cX0_dropOldest 43 = .ok (.iload_n 1, 1) := by decide +kernel
theorem dX0_dropOldest_44 : decode cX0_dropOldest 44 = .ok (.iconst 3, 1) := by decide +kernel
theorem dX0_dropOldest_45 : decode cX0_dropOldest 45 = .ok (.if_icmp .ge 93, 3) := by decide +kernel
theorem dX0_dropOldest_48 : decode cX0_dropOldest 48 = .ok (.aload_n 0, 1) := by decide +kernel
theorem dX0_dropOldest_49 : decode cX0_dropOldest 49 = .ok (.getfield 13, 3) := by decide +kernel
theorem dX0_dropOldest_52 : decode cX0_dropOldest 52 = .ok (.iload_n 1, 1) := by decide +kernel
theorem dX0_dropOldest_53 : decode cX0_dropOldest 53 = .ok (.aload_n 0, 1) := by decide +kernel
theorem dX0_dropOldest_54 : decode cX0_dropOldest 54 = .ok (.getfield 13, 3) := by decide +kernel
theorem dX0_dropOldest_57 : decode cX0_dropOldest 57 = .ok (.iload_n 1, 1) := by decide +kernel
theorem dX0_dropOldest_58 : decode cX0_dropOldest 58 = .ok (.iconst 1, 1) := by decide +kernel
theorem dX0_dropOldest_59 : decode cX0_dropOldest 59 = .ok (.iadd, 1) := by decide +kernel
theorem dX0_dropOldest_60 : decode cX0_dropOldest 60 = .ok (.iaload, 1) := by decide +kernel
theorem dX0_dropOldest_61 : decode cX0_dropOldest 61 = .ok (.iastore, 1) := by decide +kernel
theorem dX0_dropOldest_62 : decode cX0_dropOldest 62 = .ok (.aload_n 0, 1) := by decide +kernel
theorem dX0_dropOldest_63 : decode cX0_dropOldest 63 = .ok (.getfield 16, 3) := by decide +kernel
theorem dX0_dropOldest_66 : decode cX0_dropOldest 66 = .ok (.iload_n 1, 1) := by decide +kernel
theorem dX0_dropOldest_67 : decode cX0_dropOldest 67 = .ok (.aload_n 0, 1) := by decide +kernel
theorem dX0_dropOldest_68 : decode cX0_dropOldest 68 = .ok (.getfield 16, 3) := by decide +kernel
theorem dX0_dropOldest_71 : decode cX0_dropOldest 71 = .ok (.iload_n 1, 1) := by decide +kernel
theorem dX0_dropOldest_72 : decode cX0_dropOldest 72 = .ok (.iconst 1, 1) := by decide +kernel
theorem dX0_dropOldest_73 : decode cX0_dropOldest 73 = .ok (.iadd, 1) := by decide +kernel
theorem dX0_dropOldest_74 : decode cX0_dropOldest 74 = .ok (.iaload, 1) := by decide +kernel
theorem dX0_dropOldest_75 : decode cX0_dropOldest 75 = .ok (.iastore, 1) := by decide +kernel
theorem dX0_dropOldest_76 : decode cX0_dropOldest 76 = .ok (.aload_n 0, 1) := by decide +kernel
theorem dX0_dropOldest_77 : decode cX0_dropOldest 77 = .ok (.getfield 19, 3) := by decide +kernel
theorem dX0_dropOldest_80 : decode cX0_dropOldest 80 = .ok (.iload_n 1, 1) := by decide +kernel
theorem dX0_dropOldest_81 : decode cX0_dropOldest 81 = .ok (.aload_n 0, 1) := by decide +kernel
theorem dX0_dropOldest_82 : decode cX0_dropOldest 82 = .ok (.getfield 19, 3) := by decide +kernel
theorem dX0_dropOldest_85 : decode cX0_dropOldest 85 = .ok (.iload_n 1, 1) := by decide +kernel
theorem dX0_dropOldest_86 : decode cX0_dropOldest 86 = .ok (.iconst 1, 1) := by decide +kernel
theorem dX0_dropOldest_87 : decode cX0_dropOldest 87 = .ok (.iadd, 1) := by decide +kernel
theorem dX0_dropOldest_88 : decode cX0_dropOldest 88 = .ok (.iaload, 1) := by decide +kernel
theorem dX0_dropOldest_89 : decode cX0_dropOldest 89 = .ok (.iastore, 1) := by decide +kernel
theorem dX0_dropOldest_90 : decode cX0_dropOldest 90 = .ok (.aload_n 0, 1) := by decide +kernel
theorem dX0_dropOldest_91 : decode cX0_dropOldest 91 = .ok (.getfield 22, 3) := by decide +kernel
theorem dX0_dropOldest_94 : decode cX0_dropOldest 94 = .ok (.iload_n 1, 1) := by decide +kernel
theorem dX0_dropOldest_95 : decode cX0_dropOldest 95 = .ok (.aload_n 0, 1) := by decide +kernel
theorem dX0_dropOldest_96 : decode cX0_dropOldest 96 = .ok (.getfield 22, 3) := by decide +kernel
theorem dX0_dropOldest_99 : decode cX0_dropOldest 99 = .ok (.iload_n 1, 1) := by decide +kernel
theorem dX0_dropOldest_100 : decode cX0_dropOldest 100 = .ok (.iconst 1, 1) := by decide +kernel
theorem dX0_dropOldest_101 : decode cX0_dropOldest 101 = .ok (.iadd, 1) := by decide +kernel
theorem dX0_dropOldest_102 : decode cX0_dropOldest 102 = .ok (.iaload, 1) := by decide +kernel
theorem dX0_dropOldest_103 : decode cX0_dropOldest 103 = .ok (.iastore, 1) := by decide +kernel
theorem dX0_dropOldest_104 : decode cX0_dropOldest 104 = .ok (.aload_n 0, 1) := by decide +kernel
theorem dX0_dropOldest_105 : decode cX0_dropOldest 105 = .ok (.getfield 25, 3) := by decide +kernel
theorem dX0_dropOldest_108 : decode cX0_dropOldest 108 = .ok (.iload_n 1, 1) := by decide +kernel
theorem dX0_dropOldest_109 : decode cX0_dropOldest 109 = .ok (.aload_n 0, 1) := by decide +kernel
theorem dX0_dropOldest_110 : decode cX0_dropOldest 110 = .ok (.getfield 25, 3) := by decide +kernel
theorem dX0_dropOldest_113 : decode cX0_dropOldest 113 = .ok (.iload_n 1, 1) := by decide +kernel
theorem dX0_dropOldest_114 : decode cX0_dropOldest 114 = .ok (.iconst 1, 1) := by decide +kernel
theorem dX0_dropOldest_115 : decode cX0_dropOldest 115 = .ok (.iadd, 1) := by decide +kernel
theorem dX0_dropOldest_116 : decode cX0_dropOldest 116 = .ok (.iaload, 1) := by decide +kernel
theorem dX0_dropOldest_117 : decode cX0_dropOldest 117 = .ok (.iastore, 1) := by decide +kernel
theorem dX0_dropOldest_118 : decode cX0_dropOldest 118 = .ok (.aload_n 0, 1) := by decide +kernel
theorem dX0_dropOldest_119 : decode cX0_dropOldest 119 = .ok (.getfield 28, 3) := by decide +kernel
theorem dX0_dropOldest_122 : decode cX0_dropOldest 122 = .ok (.iload_n 1, 1) := by decide +kernel
theorem dX0_dropOldest_123 : decode cX0_dropOldest 123 = .ok (.aload_n 0, 1) := by decide +kernel
theorem dX0_dropOldest_124 : decode cX0_dropOldest 124 = .ok (.getfield 28, 3) := by decide +kernel
theorem dX0_dropOldest_127 : decode cX0_dropOldest 127 = .ok (.iload_n 1, 1) := by decide +kernel
theorem dX0_dropOldest_128 : decode cX0_dropOldest 128 = .ok (.iconst 1, 1) := by decide +kernel
theorem dX0_dropOldest_129 : decode cX0_dropOldest 129 = .ok (.iadd, 1) := by decide +kernel
theorem dX0_dropOldest_130 : decode cX0_dropOldest 130 = .ok (.iaload, 1) := by decide +kernel
theorem dX0_dropOldest_131 : decode cX0_dropOldest 131 = .ok (.iastore, 1) := by decide +kernel
theorem dX0_dropOldest_132 : decode cX0_dropOldest 132 = .ok (.iinc 1 1, 3) := by decide +kernel
theorem dX0_dropOldest_135 : decode cX0_dropOldest 135 = .ok (.goto (-92), 3) := by decide +kernel
theorem dX0_dropOldest_138 : decode cX0_dropOldest 138 = .ok (.aload_n 0, 1) := by decide +kernel
theorem dX0_dropOldest_139 : decode cX0_dropOldest 139 = .ok (.aload_n 0, 1) := by decide +kernel
theorem dX0_dropOldest_140 : decode cX0_dropOldest 140 = .ok (.getfield 61, 3) := by decide +kernel
theorem dX0_dropOldest_143 : decode cX0_dropOldest 143 = .ok (.bipush 16, 2) := by decide +kernel
theorem dX0_dropOldest_145 : decode cX0_dropOldest 145 = .ok (.isub, 1) := by decide +kernel
theorem dX0_dropOldest_146 : decode cX0_dropOldest 146 = .ok (.putfield 61, 3) := by decide +kernel
theorem dX0_dropOldest_149 : decode cX0_dropOldest 149 = .ok (.aload_n 0, 1) := by decide +kernel
theorem dX0_dropOldest_150 : decode cX0_dropOldest 150 = .ok (.getfield 61, 3) := by decide +kernel
theorem dX0_dropOldest_153 : decode cX0_dropOldest 153 = .ok (.ireturn, 1) := by decide +kernel
theorem dX0_unappend_0 : decode cX0_unappend 0 = .ok (.aload_n 0, 1) := by decide +kernel
theorem dX0_unappend_1 : decode cX0_unappend 1 = .ok (.getfield 61, 3) := by decide +kernel
theorem dX0_unappend_4 : decode cX0_unappend 4 = .ok (.ifCond .ne 6, 3) := by decide +kernel
theorem dX0_unappend_7 : decode cX0_unappend 7 = .ok (.bipush (-4), 2) := by decide +kernel
theorem dX0_unappend_9 : decode cX0_unappend 9 = .ok (.ireturn, 1) := by decide +kernel
theorem dX0_unappend_10 : decode cX0_unappend 10 = .ok (.aload_n 0, 1) := by decide +kernel
theorem dX0_unappend_11 : decode cX0_unappend 11 = .ok (.getfield 61, 3) := by decide +kernel
theorem dX0_unappend_14 : decode cX0_unappend 14 = .ok (.iconst 1, 1) := by decide +kernel
theorem dX0_unappend_15 : decode cX0_unappend 15 = .ok (.isub, 1) := by decide +kernel
theorem dX0_unappend_16 : decode cX0_unappend 16 = .ok (.iconst 4, 1) := by decide +kernel
theorem dX0_unappend_17 : decode cX0_unappend 17 = .ok (.ishr, 1) := by decide +kernel
theorem dX0_unappend_18 : decode cX0_unappend 18 = .ok (.istore_n 1, 1) := by decide +kernel
theorem dX0_unappend_19 : decode cX0_unappend 19 = .ok (.aload_n 0, 1) := by decide +kernel
theorem dX0_unappend_20 : decode cX0_unappend 20 = .ok (.iload_n 1, 1) := by decide +kernel
theorem dX0_unappend_21 : decode cX0_unappend 21 = .ok (.invokevirtual 97, 3) := by decide +kernel
theorem dX0_unappend_24 : decode cX0_unappend 24 = .ok (.aload_n 0, 1) := by decide +kernel
theorem dX0_unappend_25 : decode cX0_unappend 25 = .ok (.iload_n 1, 1) := by decide +kernel
theorem dX0_unappend_26 : decode cX0_unappend 26 = .ok (.invokevirtual 88, 3) := by decide +kernel
theorem dX0_unappend_29 : decode cX0_unappend 29 = .ok (.istore_n 2, 1) := by decide +kernel
theorem dX0_unappend_30 : decode cX0_unappend 30 = .ok (.aload_n 0, 1) := by decide +kernel
theorem dX0_unappend_31 : decode cX0_unappend 31 = .ok (.getfield 34, 3) := by decide +kernel
theorem dX0_unappend_34 : decode cX0_unappend 34 = .ok (.iload_n 2, 1) := by decide +kernel
theorem dX0_unappend_35 : decode cX0_unappend 35 = .ok (.iconst 1, 1) := by decide +kernel
theorem dX0_unappend_36 : decode cX0_unappend 36 = .ok (.isub, 1) := by decide +kernel
theorem dX0_unappend_37 : decode cX0_unappend 37 = .ok (.iaload, 1) := by decide +kernel
theorem dX0_unappend_38 : decode cX0_unappend 38 = .ok (.istore_n 3, 1) := by decide +kernel
theorem dX0_unappend_39 : decode cX0_unappend 39 = .ok (.aload_n 0, 1) := by decide +kernel
theorem dX0_unappend_40 : decode cX0_unappend 40 = .ok (.iload_n 1, 1) := by decide +kernel
theorem dX0_unappend_41 : decode cX0_unappend 41 = .ok (.bipush 16, 2) := by decide +kernel
theorem dX0_unappend_43 : decode cX0_unappend 43 = .ok (.imul, 1) := by decide +kernel
theorem dX0_unappend_44 : decode cX0_unappend 44 = .ok (.putfield 61, 3) := by decide +kernel
theorem dX0_unappend_47 : decode cX0_unappend 47 = .ok (.iconst 0, 1) := by decide +kernel
theorem dX0_unappend_48 : decode cX0_unappend 48 = .ok (.istore 4, 2) := by decide +kernel
theorem dX0_unappend_50 : decode cX0_unappend 50 = .ok (.iload 4, 2) := by decide +kernel
theorem dX0_unappend_52 : decode cX0_unappend 52 = .ok (.iload_n 2, 1) := by decide +kernel
theorem dX0_unappend_53 : decode cX0_unappend 53 = .ok (.iconst 1, 1) := by decide +kernel
theorem dX0_unappend_54 : decode cX0_unappend 54 = .ok (.isub, 1) := by decide +kernel
theorem dX0_unappend_55 : decode cX0_unappend 55 = .ok (.if_icmp .ge 36, 3) := by decide +kernel
theorem dX0_unappend_58 : decode cX0_unappend 58 = .ok (.aload_n 0, 1) := by decide +kernel
theorem dX0_unappend_59 : decode cX0_unappend 59 = .ok (.getfield 31, 3) := by decide +kernel
theorem dX0_unappend_62 : decode cX0_unappend 62 = .ok (.iload 4, 2) := by decide +kernel
theorem dX0_unappend_64 : decode cX0_unappend 64 = .ok (.iaload, 1) := by decide +kernel
theorem dX0_unappend_65 : decode cX0_unappend 65 = .ok (.aload_n 0, 1) := by decide +kernel
theorem dX0_unappend_66 : decode cX0_unappend 66 = .ok (.invokevirtual 64, 3) := by decide +kernel
theorem dX0_unappend_69 : decode cX0_unappend 69 = .ok (.isub, 1) := by decide +kernel
theorem dX0_unappend_70 : decode cX0_unappend 70 = .ok (.istore 5, 2) := by decide +kernel
theorem dX0_unappend_72 : decode cX0_unappend 72 = .ok (.aload_n 0, 1) := by decide +kernel
theorem dX0_unappend_73 : decode cX0_unappend 73 = .ok (.iload 5, 2) := by decide +kernel
theorem dX0_unappend_75 : decode cX0_unappend 75 = .ok (.aload_n 0, 1) := by decide +kernel
theorem dX0_unappend_76 : decode cX0_unappend 76 = .ok (.getfield 34, 3) := by decide +kernel
theorem dX0_unappend_79 : decode cX0_unappend 79 = .ok (.iload 4, 2) := by decide +kernel
theorem dX0_unappend_81 : decode cX0_unappend 81 = .ok (.iaload, 1) := by decide +kernel
theorem dX0_unappend_82 : decode cX0_unappend 82 = .ok (.invokevirtual 105, 3) := by decide +kernel
theorem dX0_unappend_85 : decode cX0_unappend 85 = .ok (.iinc 4 1, 3) := by decide +kernel
theorem dX0_unappend_88 : decode cX0_unappend 88 = .ok (.goto (-38), 3) := by decide +kernel
theorem dX0_unappend_91 : decode cX0_unappend 91 = .ok (.iload_n 3, 1) := by decide +kernel
theorem dX0_unappend_92 : decode cX0_unappend 92 = .ok (.ireturn, 1) := by decide +kernel
theorem dX0_points_0 : decode cX0_points 0 = .ok (.aload_n 0, 1) := by decide +kernel
theorem dX0_points_1 : decode cX0_points 1 = .ok (.getfield 61, 3) := by decide +kernel
theorem dX0_points_4 : decode cX0_points 4 = .ok (.ireturn, 1) := by decide +kernel
theorem dX0_time_0 : decode cX0_time 0 = .ok (.aload_n 0, 1) := by decide +kernel
theorem dX0_time_1 : decode cX0_time 1 = .ok (.iload_n 1, 1) := by decide +kernel
theorem dX0_time_2 : decode cX0_time 2 = .ok (.invokevirtual 109, 3) := by decide +kernel
theorem dX0_time_5 : decode cX0_time 5 = .ok (.ifCond .eq 6, 3) := by decide +kernel
theorem dX0_time_8 : decode cX0_time 8 = .ok (.bipush (-4), 2) := by decide +kernel
theorem dX0_time_10 : decode cX0_time 10 = .ok (.ireturn, 1) := by decide +kernel
theorem dX0_time_11 : decode cX0_time 11 = .ok (.aload_n 0, 1) := by decide +kernel
theorem dX0_time_12 : decode cX0_time 12 = .ok (.iload_n 1, 1) := by decide +kernel
theorem dX0_time_13 : decode cX0_time 13 = .ok (.iconst 4, 1) := by decide +kernel
theorem dX0_time_14 : decode cX0_time 14 = .ok (.ishr, 1) := by decide +kernel
theorem dX0_time_15 : decode cX0_time 15 = .ok (.invokevirtual 97, 3) := by decide +kernel
theorem dX0_time_18 : decode cX0_time 18 = .ok (.aload_n 0, 1) := by decide +kernel
theorem dX0_time_19 : decode cX0_time 19 = .ok (.getfield 31, 3) := by decide +kernel
theorem dX0_time_22 : decode cX0_time 22 = .ok (.iload_n 1, 1) := by decide +kernel
theorem dX0_time_23 : decode cX0_time 23 = .ok (.bipush 15, 2) := by decide +kernel
theorem dX0_time_25 : decode cX0_time 25 = .ok (.iand, 1) := by decide +kernel
theorem dX0_time_26 : decode cX0_time 26 = .ok (.iaload, 1) := by decide +kernel
theorem dX0_time_27 : decode cX0_time 27 = .ok (.ireturn, 1) := by decide +kernel
theorem dX0_noPoint_0 : decode cX0_noPoint 0 = .ok (.iload_n 1, 1) := by decide +kernel
theorem dX0_noPoint_1 : decode cX0_noPoint 1 = .ok (.ifCond .lt 11, 3) := by decide +kernel
theorem dX0_noPoint_4 : decode cX0_noPoint 4 = .ok (.iload_n 1, 1) := by decide +kernel
theorem dX0_noPoint_5 : decode cX0_noPoint 5 = .ok (.aload_n 0, 1) := by decide +kernel
theorem dX0_noPoint_6 : decode cX0_noPoint 6 = .ok (.getfield 61, 3) := by decide +kernel
theorem dX0_noPoint_9 : decode cX0_noPoint 9 = .ok (.if_icmp .lt 7, 3) := by decide +kernel
theorem dX0_noPoint_12 : decode cX0_noPoint 12 = .ok (.iconst 1, 1) := by decide +kernel
theorem dX0_noPoint_13 : decode cX0_noPoint 13 = .ok (.goto 4, 3) := by decide +kernel
theorem dX0_noPoint_16 : decode cX0_noPoint 16 = .ok (.iconst 0, 1) := by decide +kernel
theorem dX0_noPoint_17 : decode cX0_noPoint 17 = .ok (.ireturn, 1) := by decide +kernel
theorem dX0_value_0 : decode cX0_value 0 = .ok (.aload_n 0, 1) := by decide +kernel
theorem dX0_value_1 : decode cX0_value 1 = .ok (.iload_n 1, 1) := by decide +kernel
theorem dX0_value_2 : decode cX0_value 2 = .ok (.invokevirtual 109, 3) := by decide +kernel
theorem dX0_value_5 : decode cX0_value 5 = .ok (.ifCond .eq 6, 3) := by decide +kernel
theorem dX0_value_8 : decode cX0_value 8 = .ok (.bipush (-4), 2) := by decide +kernel
theorem dX0_value_10 : decode cX0_value 10 = .ok (.ireturn, 1) := by decide +kernel
theorem dX0_value_11 : decode cX0_value 11 = .ok (.aload_n 0, 1) := by decide +kernel
theorem dX0_value_12 : decode cX0_value 12 = .ok (.iload_n 1, 1) := by decide +kernel
theorem dX0_value_13 : decode cX0_value 13 = .ok (.iconst 4, 1) := by decide +kernel
theorem dX0_value_14 : decode cX0_value 14 = .ok (.ishr, 1) := by decide +kernel
theorem dX0_value_15 : decode cX0_value 15 = .ok (.invokevirtual 97, 3) := by decide +kernel
theorem dX0_value_18 : decode cX0_value 18 = .ok (.aload_n 0, 1) := by decide +kernel
theorem dX0_value_19 : decode cX0_value 19 = .ok (.getfield 34, 3) := by decide +kernel
theorem dX0_value_22 : decode cX0_value 22 = .ok (.iload_n 1, 1) := by decide +kernel
theorem dX0_value_23 : decode cX0_value 23 = .ok (.bipush 15, 2) := by decide +kernel
theorem dX0_value_25 : decode cX0_value 25 = .ok (.iand, 1) := by decide +kernel
theorem dX0_value_26 : decode cX0_value 26 = .ok (.iaload, 1) := by decide +kernel
theorem dX0_value_27 : decode cX0_value 27 = .ok (.ireturn, 1) := by decide +kernel
theorem dX0_size_0 : decode cX0_size 0 = .ok (.iload_n 1, 1) := by decide +kernel
theorem dX0_size_1 : decode cX0_size 1 = .ok (.ifCond .lt 11, 3) := by decide +kernel
theorem dX0_size_4 : decode cX0_size 4 = .ok (.iload_n 1, 1) := by decide +kernel
theorem dX0_size_5 : decode cX0_size 5 = .ok (.aload_n 0, 1) := by decide +kernel
theorem dX0_size_6 : decode cX0_size 6 = .ok (.invokevirtual 113, 3) := by decide +kernel
theorem dX0_size_9 : decode cX0_size 9 = .ok (.if_icmp .lt 8, 3) := by decide +kernel
theorem dX0_size_12 : decode cX0_size 12 = .ok (.bipush (-4), 2) := by decide +kernel
theorem dX0_size_14 : decode cX0_size 14 = .ok (.goto 9, 3) := by decide +kernel
theorem dX0_size_17 : decode cX0_size 17 = .ok (.aload_n 0, 1) := by decide +kernel
theorem dX0_size_18 : decode cX0_size 18 = .ok (.getfield 13, 3) := by decide +kernel
theorem dX0_size_21 : decode cX0_size 21 = .ok (.iload_n 1, 1) := by decide +kernel
theorem dX0_size_22 : decode cX0_size 22 = .ok (.iaload, 1) := by decide +kernel
theorem dX0_size_23 : decode cX0_size 23 = .ok (.ireturn, 1) := by decide +kernel
theorem dX0_chunks_0 : decode cX0_chunks 0 = .ok (.aload_n 0, 1) := by decide +kernel
theorem dX0_chunks_1 : decode cX0_chunks 1 = .ok (.getfield 61, 3) := by decide +kernel
theorem dX0_chunks_4 : decode cX0_chunks 4 = .ok (.bipush 15, 2) := by decide +kernel
theorem dX0_chunks_6 : decode cX0_chunks 6 = .ok (.iadd, 1) := by decide +kernel
theorem dX0_chunks_7 : decode cX0_chunks 7 = .ok (.iconst 4, 1) := by decide +kernel
theorem dX0_chunks_8 : decode cX0_chunks 8 = .ok (.ishr, 1) := by decide +kernel
theorem dX0_chunks_9 : decode cX0_chunks 9 = .ok (.ireturn, 1) := by decide +kernel
theorem dX0_packed_0 : decode cX0_packed 0 = .ok (.iconst 0, 1) := by decide +kernel
theorem dX0_packed_1 : decode cX0_packed 1 = .ok (.istore_n 1, 1) := by decide +kernel
theorem dX0_packed_2 : decode cX0_packed 2 = .ok (.iconst 0, 1) := by decide +kernel
theorem dX0_packed_3 : decode cX0_packed 3 = .ok (.istore_n 2, 1) := by decide +kernel
theorem dX0_packed_4 : decode cX0_packed 4 = .ok (.iload_n 2, 1) := by decide +kernel
theorem dX0_packed_5 : decode cX0_packed 5 = .ok (.aload_n 0, 1) := by decide +kernel
theorem dX0_packed_6 : decode cX0_packed 6 = .ok (.invokevirtual 113, 3) := by decide +kernel
theorem dX0_packed_9 : decode cX0_packed 9 = .ok (.if_icmp .ge 18, 3) := by decide +kernel
theorem dX0_packed_12 : decode cX0_packed 12 = .ok (.iload_n 1, 1) := by decide +kernel
theorem dX0_packed_13 : decode cX0_packed 13 = .ok (.aload_n 0, 1) := by decide +kernel
theorem dX0_packed_14 : decode cX0_packed 14 = .ok (.getfield 13, 3) := by decide +kernel
theorem dX0_packed_17 : decode cX0_packed 17 = .ok (.iload_n 2, 1) := by decide +kernel
theorem dX0_packed_18 : decode cX0_packed 18 = .ok (.iaload, 1) := by decide +kernel
theorem dX0_packed_19 : decode cX0_packed 19 = .ok (.iadd, 1) := by decide +kernel
theorem dX0_packed_20 : decode cX0_packed 20 = .ok (.istore_n 1, 1) := by decide +kernel
theorem dX0_packed_21 : decode cX0_packed 21 = .ok (.iinc 2 1, 3) := by decide +kernel
theorem dX0_packed_24 : decode cX0_packed 24 = .ok (.goto (-20), 3) := by decide +kernel
theorem dX0_packed_27 : decode cX0_packed 27 = .ok (.iload_n 1, 1) := by decide +kernel
theorem dX0_packed_28 : decode cX0_packed 28 = .ok (.ireturn, 1) := by decide +kernel
theorem dX0_firstFrom_0 : decode cX0_firstFrom 0 = .ok (.aload_n 0, 1) := by decide +kernel
theorem dX0_firstFrom_1 : decode cX0_firstFrom 1 = .ok (.invokevirtual 113, 3) := by decide +kernel
theorem dX0_firstFrom_4 : decode cX0_firstFrom 4 = .ok (.istore_n 2, 1) := by decide +kernel
theorem dX0_firstFrom_5 : decode cX0_firstFrom 5 = .ok (.iconst 0, 1) := by decide +kernel
theorem dX0_firstFrom_6 : decode cX0_firstFrom 6 = .ok (.istore_n 3, 1) := by decide +kernel
theorem dX0_firstFrom_7 : decode cX0_firstFrom 7 = .ok (.iload_n 3, 1) := by decide +kernel
theorem dX0_firstFrom_8 : decode cX0_firstFrom 8 = .ok (.iload_n 2, 1) := by decide +kernel
theorem dX0_firstFrom_9 : decode cX0_firstFrom 9 = .ok (.if_icmp .ge 65, 3) := by decide +kernel
theorem dX0_firstFrom_12 : decode cX0_firstFrom 12 = .ok (.aload_n 0, 1) := by decide +kernel
theorem dX0_firstFrom_13 : decode cX0_firstFrom 13 = .ok (.getfield 19, 3) := by decide +kernel
theorem dX0_firstFrom_16 : decode cX0_firstFrom 16 = .ok (.iload_n 3, 1) := by decide +kernel
theorem dX0_firstFrom_17 : decode cX0_firstFrom 17 = .ok (.iaload, 1) := by decide +kernel
theorem dX0_firstFrom_18 : decode cX0_firstFrom 18 = .ok (.iload_n 1, 1) := by decide +kernel
theorem dX0_firstFrom_19 : decode cX0_firstFrom 19 = .ok (.if_icmp .lt 49, 3) := by decide +kernel
theorem dX0_firstFrom_22 : decode cX0_firstFrom 22 = .ok (.aload_n 0, 1) := by decide +kernel
theorem dX0_firstFrom_23 : decode cX0_firstFrom 23 = .ok (.iload_n 3, 1) := by decide +kernel
theorem dX0_firstFrom_24 : decode cX0_firstFrom 24 = .ok (.invokevirtual 97, 3) := by decide +kernel
theorem dX0_firstFrom_27 : decode cX0_firstFrom 27 = .ok (.iconst 0, 1) := by decide +kernel
theorem dX0_firstFrom_28 : decode cX0_firstFrom 28 = .ok (.istore 4, 2) := by decide +kernel
theorem dX0_firstFrom_30 : decode cX0_firstFrom 30 = .ok (.iconst 0, 1) := by decide +kernel
theorem dX0_firstFrom_31 : decode cX0_firstFrom 31 = .ok (.istore 5, 2) := by decide +kernel
theorem dX0_firstFrom_33 : decode cX0_firstFrom 33 = .ok (.iload 5, 2) := by decide +kernel
theorem dX0_firstFrom_35 : decode cX0_firstFrom 35 = .ok (.bipush 16, 2) := by decide +kernel
theorem dX0_firstFrom_37 : decode cX0_firstFrom 37 = .ok (.if_icmp .ge 23, 3) := by decide +kernel
theorem dX0_firstFrom_40 : decode cX0_firstFrom 40 = .ok (.aload_n 0, 1) := by decide +kernel
theorem dX0_firstFrom_41 : decode cX0_firstFrom 41 = .ok (.getfield 31, 3) := by decide +kernel
theorem dX0_firstFrom_44 : decode cX0_firstFrom 44 = .ok (.iload 4, 2) := by decide +kernel
theorem dX0_firstFrom_46 : decode cX0_firstFrom 46 = .ok (.iaload, 1) := by decide +kernel
theorem dX0_firstFrom_47 : decode cX0_firstFrom 47 = .ok (.iload_n 1, 1) := by decide +kernel
theorem dX0_firstFrom_48 : decode cX0_firstFrom 48 = .ok (.if_icmp .ge 12, 3) := by decide +kernel
theorem dX0_firstFrom_51 : decode cX0_firstFrom 51 = .ok (.iinc 4 1, 3) := by decide +kernel
theorem dX0_firstFrom_54 : decode cX0_firstFrom 54 = .ok (.iinc 5 1, 3) := by decide +kernel
theorem dX0_firstFrom_57 : decode cX0_firstFrom 57 = .ok (.goto (-24), 3) := by decide +kernel
theorem dX0_firstFrom_60 : decode cX0_firstFrom 60 = .ok (.iload_n 3, 1) := by decide +kernel
theorem dX0_firstFrom_61 : decode cX0_firstFrom 61 = .ok (.bipush 16, 2) := by decide +kernel
theorem dX0_firstFrom_63 : decode cX0_firstFrom 63 = .ok (.imul, 1) := by decide +kernel
theorem dX0_firstFrom_64 : decode cX0_firstFrom 64 = .ok (.iload 4, 2) := by decide +kernel
theorem dX0_firstFrom_66 : decode cX0_firstFrom 66 = .ok (.iadd, 1) := by decide +kernel
theorem dX0_firstFrom_67 : decode cX0_firstFrom 67 = .ok (.ireturn, 1) := by decide +kernel
theorem dX0_firstFrom_68 : decode cX0_firstFrom 68 = .ok (.iinc 3 1, 3) := by decide +kernel
theorem dX0_firstFrom_71 : decode cX0_firstFrom 71 = .ok (.goto (-64), 3) := by decide +kernel
theorem dX0_firstFrom_74 : decode cX0_firstFrom 74 = .ok (.bipush (-4), 2) := by decide +kernel
theorem dX0_firstFrom_76 : decode cX0_firstFrom 76 = .ok (.ireturn, 1) := by decide +kernel
theorem dX0_count_0 : decode cX0_count 0 = .ok (.aload_n 0, 1) := by decide +kernel
theorem dX0_count_1 : decode cX0_count 1 = .ok (.iload_n 1, 1) := by decide +kernel
theorem dX0_count_2 : decode cX0_count 2 = .ok (.iload_n 2, 1) := by decide +kernel
theorem dX0_count_3 : decode cX0_count 3 = .ok (.invokevirtual 136, 3) := by decide +kernel
theorem dX0_count_6 : decode cX0_count 6 = .ok (.ifCond .eq 5, 3) := by decide +kernel
theorem dX0_count_9 : decode cX0_count 9 = .ok (.iconst (-1), 1) := by decide +kernel
theorem dX0_count_10 : decode cX0_count 10 = .ok (.ireturn, 1) := by decide +kernel
theorem dX0_count_11 : decode cX0_count 11 = .ok (.aload_n 0, 1) := by decide +kernel
theorem dX0_count_12 : decode cX0_count 12 = .ok (.iload_n 1, 1) := by decide +kernel
theorem dX0_count_13 : decode cX0_count 13 = .ok (.iload_n 2, 1) := by decide +kernel
theorem dX0_count_14 : decode cX0_count 14 = .ok (.invokevirtual 140, 3) := by decide +kernel
theorem dX0_count_17 : decode cX0_count 17 = .ok (.aload_n 0, 1) := by decide +kernel
theorem dX0_count_18 : decode cX0_count 18 = .ok (.getfield 116, 3) := by decide +kernel
theorem dX0_count_21 : decode cX0_count 21 = .ok (.ireturn, 1) := by decide +kernel
theorem dX0_badSpan_0 : decode cX0_badSpan 0 = .ok (.iload_n 1, 1) := by decide +kernel
theorem dX0_badSpan_1 : decode cX0_badSpan 1 = .ok (.ifCond .lt 14, 3) := by decide +kernel
theorem dX0_badSpan_4 : decode cX0_badSpan 4 = .ok (.iload_n 1, 1) := by decide +kernel
theorem dX0_badSpan_5 : decode cX0_badSpan 5 = .ok (.iload_n 2, 1) := by decide +kernel
theorem dX0_badSpan_6 : decode cX0_badSpan 6 = .ok (.if_icmp .gt 9, 3) := by decide +kernel
theorem dX0_badSpan_9 : decode cX0_badSpan 9 = .ok (.iload_n 2, 1) := by decide +kernel
theorem dX0_badSpan_10 : decode cX0_badSpan 10 = .ok (.ldc 101, 2) := by decide +kernel
theorem dX0_badSpan_12 : decode cX0_badSpan 12 = .ok (.if_icmp .le 7, 3) := by decide +kernel
theorem dX0_badSpan_15 : decode cX0_badSpan 15 = .ok (.iconst 1, 1) := by decide +kernel
theorem dX0_badSpan_16 : decode cX0_badSpan 16 = .ok (.goto 4, 3) := by decide +kernel
theorem dX0_badSpan_19 : decode cX0_badSpan 19 = .ok (.iconst 0, 1) := by decide +kernel
theorem dX0_badSpan_20 : decode cX0_badSpan 20 = .ok (.ireturn, 1) := by decide +kernel
theorem dX0_search_0 : decode cX0_search 0 = .ok (.aload_n 0, 1) := by decide +kernel
theorem dX0_search_1 : decode cX0_search 1 = .ok (.iconst 0, 1) := by decide +kernel
theorem dX0_search_2 : decode cX0_search 2 = .ok (.putfield 116, 3) := by decide +kernel
theorem dX0_search_5 : decode cX0_search 5 = .ok (.aload_n 0, 1) := by decide +kernel
theorem dX0_search_6 : decode cX0_search 6 = .ok (.iconst 0, 1) := by decide +kernel
theorem dX0_search_7 : decode cX0_search 7 = .ok (.putfield 119, 3) := by decide +kernel
theorem dX0_search_10 : decode cX0_search 10 = .ok (.aload_n 0, 1) := by decide +kernel
theorem dX0_search_11 : decode cX0_search 11 = .ok (.ldc 132, 2) := by decide +kernel
theorem dX0_search_13 : decode cX0_search 13 = .ok (.putfield 122, 3) := by decide +kernel
theorem dX0_search_16 : decode cX0_search 16 = .ok (.aload_n 0, 1) := by decide +kernel
theorem dX0_search_17 : decode cX0_search 17 = .ok (.iconst (-1), 1) := by decide +kernel
theorem dX0_search_18 : decode cX0_search 18 = .ok (.putfield 125, 3) := by decide +kernel
theorem dX0_search_21 : decode cX0_search 21 = .ok (.aload_n 0, 1) := by decide +kernel
theorem dX0_search_22 : decode cX0_search 22 = .ok (.invokevirtual 113, 3) := by decide +kernel
theorem dX0_search_25 : decode cX0_search 25 = .ok (.istore_n 3, 1) := by decide +kernel
theorem dX0_search_26 : decode cX0_search 26 = .ok (.iconst 0, 1) := by decide +kernel
theorem dX0_search_27 : decode cX0_search 27 = .ok (.istore 4, 2) := by decide +kernel
theorem dX0_search_29 : decode cX0_search 29 = .ok (.iload 4, 2) := by decide +kernel
theorem dX0_search_31 : decode cX0_search 31 = .ok (.iload_n 3, 1) := by decide +kernel
theorem dX0_search_32 : decode cX0_search 32 = .ok (.if_icmp .ge 99, 3) := by decide +kernel
theorem dX0_search_35 : decode cX0_search 35 = .ok (.aload_n 0, 1) := by decide +kernel
theorem dX0_search_36 : decode cX0_search 36 = .ok (.getfield 16, 3) := by decide +kernel
theorem dX0_search_39 : decode cX0_search 39 = .ok (.iload 4, 2) := by decide +kernel
theorem dX0_search_41 : decode cX0_search 41 = .ok (.iaload, 1) := by decide +kernel
theorem dX0_search_42 : decode cX0_search 42 = .ok (.iload_n 1, 1) := by decide +kernel
theorem dX0_search_43 : decode cX0_search 43 = .ok (.if_icmp .lt 52, 3) := by decide +kernel
theorem dX0_search_46 : decode cX0_search 46 = .ok (.aload_n 0, 1) := by decide +kernel
theorem dX0_search_47 : decode cX0_search 47 = .ok (.getfield 19, 3) := by decide +kernel
theorem dX0_search_50 : decode cX0_search 50 = .ok (.iload 4, 2) := by decide +kernel
theorem dX0_search_52 : decode cX0_search 52 = .ok (.iaload, 1) := by decide +kernel
theorem dX0_search_53 : decode cX0_search 53 = .ok (.iload_n 2, 1) := by decide +kernel
theorem dX0_search_54 : decode cX0_search 54 = .ok (.if_icmp .gt 41, 3) := by decide +kernel
theorem dX0_search_57 : decode cX0_search 57 = .ok (.aload_n 0, 1) := by decide +kernel
theorem dX0_search_58 : decode cX0_search 58 = .ok (.iload 4, 2) := by decide +kernel
theorem dX0_search_60 : decode cX0_search 60 = .ok (.invokevirtual 88, 3) := by decide +kernel
theorem dX0_search_63 : decode cX0_search 63 = .ok (.istore 5, 2) := by decide +kernel
theorem dX0_search_65 : decode cX0_search 65 = .ok (.aload_n 0, 1) := by decide +kernel
theorem dX0_search_66 : decode cX0_search 66 = .ok (.iload 5, 2) := by decide +kernel
theorem dX0_search_68 : decode cX0_search 68 = .ok (.aload_n 0, 1) := by decide +kernel
theorem dX0_search_69 : decode cX0_search 69 = .ok (.getfield 22, 3) := by decide +kernel
theorem dX0_search_72 : decode cX0_search 72 = .ok (.iload 4, 2) := by decide +kernel
theorem dX0_search_74 : decode cX0_search 74 = .ok (.iaload, 1) := by decide +kernel
theorem dX0_search_75 : decode cX0_search 75 = .ok (.aload_n 0, 1) := by decide +kernel
theorem dX0_search_76 : decode cX0_search 76 = .ok (.getfield 25, 3) := by decide +kernel
theorem dX0_search_79 : decode cX0_search 79 = .ok (.iload 4, 2) := by decide +kernel
theorem dX0_search_81 : decode cX0_search 81 = .ok (.iaload, 1) := by decide +kernel
theorem dX0_search_82 : decode cX0_search 82 = .ok (.aload_n 0, 1) := by decide +kernel
theorem dX0_search_83 : decode cX0_search 83 = .ok (.getfield 28, 3) := by decide +kernel
theorem dX0_search_86 : decode cX0_search 86 = .ok (.iload 4, 2) := by decide +kernel
theorem dX0_search_88 : decode cX0_search 88 = .ok (.iaload, 1) := by decide +kernel
theorem dX0_search_89 : decode cX0_search 89 = .ok (.invokevirtual 128, 3) := by decide +kernel
theorem dX0_search_92 : decode cX0_search 92 = .ok (.goto 33, 3) := by decide +kernel
theorem dX0_search_95 : decode cX0_search 95 = .ok (.aload_n 0, 1) := by decide +kernel
theorem dX0_search_96 : decode cX0_search 96 = .ok (.getfield 16, 3) := by decide +kernel
theorem dX0_search_99 : decode cX0_search 99 = .ok (.iload 4, 2) := by decide +kernel
theorem dX0_search_101 : decode cX0_search 101 = .ok (.iaload, 1) := by decide +kernel
theorem dX0_search_102 : decode cX0_search 102 = .ok (.iload_n 2, 1) := by decide +kernel
theorem dX0_search_103 : decode cX0_search 103 = .ok (.if_icmp .gt 22, 3) := by decide +kernel
theorem dX0_search_106 : decode cX0_search 106 = .ok (.aload_n 0, 1) := by decide +kernel
theorem dX0_search_107 : decode cX0_search 107 = .ok (.getfield 19, 3) := by decide +kernel
theorem dX0_search_110 : decode cX0_search 110 = .ok (.iload 4, 2) := by decide +kernel
theorem dX0_search_112 : decode cX0_search 112 = .ok (.iaload, 1) := by decide +kernel
theorem dX0_search_113 : decode cX0_search 113 = .ok (.iload_n 1, 1) := by decide +kernel
theorem dX0_search_114 : decode cX0_search 114 = .ok (.if_icmp .lt 11, 3) := by decide +kernel
theorem dX0_search_117 : decode cX0_search 117 = .ok (.aload_n 0, 1) := by decide +kernel
theorem dX0_search_118 : decode cX0_search 118 = .ok (.iload 4, 2) := by decide +kernel
theorem dX0_search_120 : decode cX0_search 120 = .ok (.iload_n 1, 1) := by decide +kernel
theorem dX0_search_121 : decode cX0_search 121 = .ok (.iload_n 2, 1) := by decide +kernel
theorem dX0_search_122 : decode cX0_search 122 = .ok (.invokevirtual 133, 3) := by decide +kernel
theorem dX0_search_125 : decode cX0_search 125 = .ok (.iinc 4 1, 3) := by decide +kernel
theorem dX0_search_128 : decode cX0_search 128 = .ok (.goto (-99), 3) := by decide +kernel
theorem dX0_search_131 : decode cX0_search 131 = .ok (.return_, 1) := by decide +kernel
theorem dX0_note_0 : decode cX0_note 0 = .ok (.aload_n 0, 1) := by decide +kernel
theorem dX0_note_1 : decode cX0_note 1 = .ok (.aload_n 0, 1) := by decide +kernel
theorem dX0_note_2 : decode cX0_note 2 = .ok (.getfield 116, 3) := by decide +kernel
theorem dX0_note_5 : decode cX0_note 5 = .ok (.iload_n 1, 1) := by decide +kernel
theorem dX0_note_6 : decode cX0_note 6 = .ok (.iadd, 1) := by decide +kernel
theorem dX0_note_7 : decode cX0_note 7 = .ok (.putfield 116, 3) := by decide +kernel
theorem dX0_note_10 : decode cX0_note 10 = .ok (.aload_n 0, 1) := by decide +kernel
theorem dX0_note_11 : decode cX0_note 11 = .ok (.aload_n 0, 1) := by decide +kernel
theorem dX0_note_12 : decode cX0_note 12 = .ok (.getfield 119, 3) := by decide +kernel
theorem dX0_note_15 : decode cX0_note 15 = .ok (.iload_n 2, 1) := by decide +kernel
theorem dX0_note_16 : decode cX0_note 16 = .ok (.iadd, 1) := by decide +kernel
theorem dX0_note_17 : decode cX0_note 17 = .ok (.putfield 119, 3) := by decide +kernel
theorem dX0_note_20 : decode cX0_note 20 = .ok (.aload_n 0, 1) := by decide +kernel
theorem dX0_note_21 : decode cX0_note 21 = .ok (.iload_n 3, 1) := by decide +kernel
theorem dX0_note_22 : decode cX0_note 22 = .ok (.aload_n 0, 1) := by decide +kernel
theorem dX0_note_23 : decode cX0_note 23 = .ok (.getfield 122, 3) := by decide +kernel
theorem dX0_note_26 : decode cX0_note 26 = .ok (.if_icmp .ge 7, 3) := by decide +kernel
theorem dX0_note_29 : decode cX0_note 29 = .ok (.iload_n 3, 1) := by decide +kernel
theorem dX0_note_30 : decode cX0_note 30 = .ok (.goto 7, 3) := by decide +kernel
theorem dX0_note_33 : decode cX0_note 33 = .ok (.aload_n 0, 1) := by decide +kernel
theorem dX0_note_34 : decode cX0_note 34 = .ok (.getfield 122, 3) := by decide +kernel
theorem dX0_note_37 : decode cX0_note 37 = .ok (.putfield 122, 3) := by decide +kernel
theorem dX0_note_40 : decode cX0_note 40 = .ok (.aload_n 0, 1) := by decide +kernel
theorem dX0_note_41 : decode cX0_note 41 = .ok (.iload 4, 2) := by decide +kernel
theorem dX0_note_43 : decode cX0_note 43 = .ok (.aload_n 0, 1) := by decide +kernel
theorem dX0_note_44 : decode cX0_note 44 = .ok (.getfield 125, 3) := by decide +kernel
theorem dX0_note_47 : decode cX0_note 47 = .ok (.if_icmp .le 8, 3) := by decide +kernel
theorem dX0_note_50 : decode cX0_note 50 = .ok (.iload 4, 2) := by decide +kernel
theorem dX0_note_52 : decode cX0_note 52 = .ok (.goto 7, 3) := by decide +kernel
theorem dX0_note_55 : decode cX0_note 55 = .ok (.aload_n 0, 1) := by decide +kernel
theorem dX0_note_56 : decode cX0_note 56 = .ok (.getfield 125, 3) := by decide +kernel
theorem dX0_note_59 : decode cX0_note 59 = .ok (.putfield 125, 3) := by decide +kernel
theorem dX0_note_62 : decode cX0_note 62 = .ok (.return_, 1) := by decide +kernel
theorem dX0_cut_0 : decode cX0_cut 0 = .ok (.aload_n 0, 1) := by decide +kernel
theorem dX0_cut_1 : decode cX0_cut 1 = .ok (.iload_n 1, 1) := by decide +kernel
theorem dX0_cut_2 : decode cX0_cut 2 = .ok (.invokevirtual 97, 3) := by decide +kernel
theorem dX0_cut_5 : decode cX0_cut 5 = .ok (.aload_n 0, 1) := by decide +kernel
theorem dX0_cut_6 : decode cX0_cut 6 = .ok (.iload_n 1, 1) := by decide +kernel
theorem dX0_cut_7 : decode cX0_cut 7 = .ok (.invokevirtual 88, 3) := by decide +kernel
theorem dX0_cut_10 : decode cX0_cut 10 = .ok (.istore 4, 2) := by decide +kernel
theorem dX0_cut_12 : decode cX0_cut 12 = .ok (.iconst 0, 1) := by decide +kernel
theorem dX0_cut_13 : decode cX0_cut 13 = .ok (.istore 5, 2) := by decide +kernel
theorem dX0_cut_15 : decode cX0_cut 15 = .ok (.iload 5, 2) := by decide +kernel
theorem dX0_cut_17 : decode cX0_cut 17 = .ok (.iload 4, 2) := by decide +kernel
theorem dX0_cut_19 : decode cX0_cut 19 = .ok (.if_icmp .ge 57, 3) := by decide +kernel
theorem dX0_cut_22 : decode cX0_cut 22 = .ok (.aload_n 0, 1) := by decide +kernel
theorem dX0_cut_23 : decode cX0_cut 23 = .ok (.getfield 31, 3) := by decide +kernel
theorem dX0_cut_26 : decode cX0_cut 26 = .ok (.iload 5, 2) := by decide +kernel
theorem dX0_cut_28 : decode cX0_cut 28 = .ok (.iaload, 1) := by decide +kernel
theorem dX0_cut_29 : decode cX0_cut 29 = .ok (.iload_n 2, 1) := by decide +kernel
theorem dX0_cut_30 : decode cX0_cut 30 = .ok (.if_icmp .lt 40, 3) := by decide +kernel
theorem dX0_cut_33 : decode cX0_cut 33 = .ok (.aload_n 0, 1) := by decide +kernel
theorem dX0_cut_34 : decode cX0_cut 34 = .ok (.getfield 31, 3) := by decide +kernel
theorem dX0_cut_37 : decode cX0_cut 37 = .ok (.iload 5, 2) := by decide +kernel
theorem dX0_cut_39 : decode cX0_cut 39 = .ok (.iaload, 1) := by decide +kernel
theorem dX0_cut_40 : decode cX0_cut 40 = .ok (.iload_n 3, 1) := by decide +kernel
theorem dX0_cut_41 : decode cX0_cut 41 = .ok (.if_icmp .gt 29, 3) := by decide +kernel
theorem dX0_cut_44 : decode cX0_cut 44 = .ok (.aload_n 0, 1) := by decide +kernel
theorem dX0_cut_45 : decode cX0_cut 45 = .ok (.iconst 1, 1) := by decide +kernel
theorem dX0_cut_46 : decode cX0_cut 46 = .ok (.aload_n 0, 1) := by decide +kernel
theorem dX0_cut_47 : decode cX0_cut 47 = .ok (.getfield 34, 3) := by decide +kernel
theorem dX0_cut_50 : decode cX0_cut 50 = .ok (.iload 5, 2) := by decide +kernel
theorem dX0_cut_52 : decode cX0_cut 52 = .ok (.iaload, 1) := by decide +kernel
theorem dX0_cut_53 : decode cX0_cut 53 = .ok (.aload_n 0, 1) := by decide +kernel
theorem dX0_cut_54 : decode cX0_cut 54 = .ok (.getfield 34, 3) := by decide +kernel
theorem dX0_cut_57 : decode cX0_cut 57 = .ok (.iload 5, 2) := by decide +kernel
theorem dX0_cut_59 : decode cX0_cut 59 = .ok (.iaload, 1) := by decide +kernel
theorem dX0_cut_60 : decode cX0_cut 60 = .ok (.aload_n 0, 1) := by decide +kernel
theorem dX0_cut_61 : decode cX0_cut 61 = .ok (.getfield 34, 3) := by decide +kernel
theorem dX0_cut_64 : decode cX0_cut 64 = .ok (.iload 5, 2) := by decide +kernel
theorem dX0_cut_66 : decode cX0_cut 66 = .ok (.iaload, 1) := by decide +kernel
theorem dX0_cut_67 : decode cX0_cut 67 = .ok (.invokevirtual 128, 3) := by decide +kernel
theorem dX0_cut_70 : decode cX0_cut 70 = .ok (.iinc 5 1, 3) := by decide +kernel
theorem dX0_cut_73 : decode cX0_cut 73 = .ok (.goto (-58), 3) := by decide +kernel
theorem dX0_cut_76 : decode cX0_cut 76 = .ok (.return_, 1) := by decide +kernel
theorem dX0_sum_0 : decode cX0_sum 0 = .ok (.aload_n 0, 1) := by decide +kernel
theorem dX0_sum_1 : decode cX0_sum 1 = .ok (.iload_n 1, 1) := by decide +kernel
theorem dX0_sum_2 : decode cX0_sum 2 = .ok (.iload_n 2, 1) := by decide +kernel
theorem dX0_sum_3 : decode cX0_sum 3 = .ok (.invokevirtual 136, 3) := by decide +kernel
theorem dX0_sum_6 : decode cX0_sum 6 = .ok (.ifCond .eq 5, 3) := by decide +kernel
theorem dX0_sum_9 : decode cX0_sum 9 = .ok (.iconst (-1), 1) := by decide +kernel
theorem dX0_sum_10 : decode cX0_sum 10 = .ok (.ireturn, 1) := by decide +kernel
theorem dX0_sum_11 : decode cX0_sum 11 = .ok (.aload_n 0, 1) := by decide +kernel
theorem dX0_sum_12 : decode cX0_sum 12 = .ok (.iload_n 1, 1) := by decide +kernel
theorem dX0_sum_13 : decode cX0_sum 13 = .ok (.iload_n 2, 1) := by decide +kernel
theorem dX0_sum_14 : decode cX0_sum 14 = .ok (.invokevirtual 140, 3) := by decide +kernel
theorem dX0_sum_17 : decode cX0_sum 17 = .ok (.aload_n 0, 1) := by decide +kernel
theorem dX0_sum_18 : decode cX0_sum 18 = .ok (.getfield 119, 3) := by decide +kernel
theorem dX0_sum_21 : decode cX0_sum 21 = .ok (.ireturn, 1) := by decide +kernel
theorem dX0_greatest_0 : decode cX0_greatest 0 = .ok (.aload_n 0, 1) := by decide +kernel
theorem dX0_greatest_1 : decode cX0_greatest 1 = .ok (.iload_n 1, 1) := by decide +kernel
theorem dX0_greatest_2 : decode cX0_greatest 2 = .ok (.iload_n 2, 1) := by decide +kernel
theorem dX0_greatest_3 : decode cX0_greatest 3 = .ok (.invokevirtual 136, 3) := by decide +kernel
theorem dX0_greatest_6 : decode cX0_greatest 6 = .ok (.ifCond .eq 5, 3) := by decide +kernel
theorem dX0_greatest_9 : decode cX0_greatest 9 = .ok (.iconst (-1), 1) := by decide +kernel
theorem dX0_greatest_10 : decode cX0_greatest 10 = .ok (.ireturn, 1) := by decide +kernel
theorem dX0_greatest_11 : decode cX0_greatest 11 = .ok (.aload_n 0, 1) := by decide +kernel
theorem dX0_greatest_12 : decode cX0_greatest 12 = .ok (.iload_n 1, 1) := by decide +kernel
theorem dX0_greatest_13 : decode cX0_greatest 13 = .ok (.iload_n 2, 1) := by decide +kernel
theorem dX0_greatest_14 : decode cX0_greatest 14 = .ok (.invokevirtual 140, 3) := by decide +kernel
theorem dX0_greatest_17 : decode cX0_greatest 17 = .ok (.aload_n 0, 1) := by decide +kernel
theorem dX0_greatest_18 : decode cX0_greatest 18 = .ok (.getfield 116, 3) := by decide +kernel
theorem dX0_greatest_21 : decode cX0_greatest 21 = .ok (.ifCond .ne 8, 3) := by decide +kernel
theorem dX0_greatest_24 : decode cX0_greatest 24 = .ok (.bipush (-4), 2) := by decide +kernel
theorem dX0_greatest_26 : decode cX0_greatest 26 = .ok (.goto 7, 3) := by decide +kernel
theorem dX0_greatest_29 : decode cX0_greatest 29 = .ok (.aload_n 0, 1) := by decide +kernel
theorem dX0_greatest_30 : decode cX0_greatest 30 = .ok (.getfield 125, 3) := by decide +kernel
theorem dX0_greatest_33 : decode cX0_greatest 33 = .ok (.ireturn, 1) := by decide +kernel
theorem dX0_least_0 : decode cX0_least 0 = .ok (.aload_n 0, 1) := by decide +kernel
theorem dX0_least_1 : decode cX0_least 1 = .ok (.iload_n 1, 1) := by decide +kernel
theorem dX0_least_2 : decode cX0_least 2 = .ok (.iload_n 2, 1) := by decide +kernel
theorem dX0_least_3 : decode cX0_least 3 = .ok (.invokevirtual 136, 3) := by decide +kernel
theorem dX0_least_6 : decode cX0_least 6 = .ok (.ifCond .eq 5, 3) := by decide +kernel
theorem dX0_least_9 : decode cX0_least 9 = .ok (.iconst (-1), 1) := by decide +kernel
theorem dX0_least_10 : decode cX0_least 10 = .ok (.ireturn, 1) := by decide +kernel
theorem dX0_least_11 : decode cX0_least 11 = .ok (.aload_n 0, 1) := by decide +kernel
theorem dX0_least_12 : decode cX0_least 12 = .ok (.iload_n 1, 1) := by decide +kernel
theorem dX0_least_13 : decode cX0_least 13 = .ok (.iload_n 2, 1) := by decide +kernel
theorem dX0_least_14 : decode cX0_least 14 = .ok (.invokevirtual 140, 3) := by decide +kernel
theorem dX0_least_17 : decode cX0_least 17 = .ok (.aload_n 0, 1) := by decide +kernel
theorem dX0_least_18 : decode cX0_least 18 = .ok (.getfield 116, 3) := by decide +kernel
theorem dX0_least_21 : decode cX0_least 21 = .ok (.ifCond .ne 8, 3) := by decide +kernel
theorem dX0_least_24 : decode cX0_least 24 = .ok (.bipush (-4), 2) := by decide +kernel
theorem dX0_least_26 : decode cX0_least 26 = .ok (.goto 7, 3) := by decide +kernel
theorem dX0_least_29 : decode cX0_least 29 = .ok (.aload_n 0, 1) := by decide +kernel
theorem dX0_least_30 : decode cX0_least 30 = .ok (.getfield 122, 3) := by decide +kernel
theorem dX0_least_33 : decode cX0_least 33 = .ok (.ireturn, 1) := by decide +kernel
theorem dX0_valueAt_0 : decode cX0_valueAt 0 = .ok (.aload_n 0, 1) := by decide +kernel
theorem dX0_valueAt_1 : decode cX0_valueAt 1 = .ok (.invokevirtual 113, 3) := by decide +kernel
theorem dX0_valueAt_4 : decode cX0_valueAt 4 = .ok (.istore_n 2, 1) := by decide +kernel
theorem dX0_valueAt_5 : decode cX0_valueAt 5 = .ok (.iload_n 2, 1) := by decide +kernel
theorem dX0_valueAt_6 : decode cX0_valueAt 6 = .ok (.iconst 1, 1) := by decide +kernel
theorem dX0_valueAt_7 : decode cX0_valueAt 7 = .ok (.isub, 1) := by decide +kernel
theorem dX0_valueAt_8 : decode cX0_valueAt 8 = .ok (.istore_n 3, 1) := by decide +kernel
theorem dX0_valueAt_9 : decode cX0_valueAt 9 = .ok (.iload_n 3, 1) := by decide +kernel
theorem dX0_valueAt_10 : decode cX0_valueAt 10 = .ok (.ifCond .lt 75, 3) := by decide +kernel
theorem dX0_valueAt_13 : decode cX0_valueAt 13 = .ok (.aload_n 0, 1) := by decide +kernel
theorem dX0_valueAt_14 : decode cX0_valueAt 14 = .ok (.getfield 16, 3) := by decide +kernel
theorem dX0_valueAt_17 : decode cX0_valueAt 17 = .ok (.iload_n 3, 1) := by decide +kernel
theorem dX0_valueAt_18 : decode cX0_valueAt 18 = .ok (.iaload, 1) := by decide +kernel
theorem dX0_valueAt_19 : decode cX0_valueAt 19 = .ok (.iload_n 1, 1) := by decide +kernel
theorem dX0_valueAt_20 : decode cX0_valueAt 20 = .ok (.if_icmp .gt 59, 3) := by decide +kernel
theorem dX0_valueAt_23 : decode cX0_valueAt 23 = .ok (.aload_n 0, 1) := by decide +kernel
theorem dX0_valueAt_24 : decode cX0_valueAt 24 = .ok (.iload_n 3, 1) := by decide +kernel
theorem dX0_valueAt_25 : decode cX0_valueAt 25 = .ok (.invokevirtual 97, 3) := by decide +kernel
theorem dX0_valueAt_28 : decode cX0_valueAt 28 = .ok (.aload_n 0, 1) := by decide +kernel
theorem dX0_valueAt_29 : decode cX0_valueAt 29 = .ok (.iload_n 3, 1) := by decide +kernel
theorem dX0_valueAt_30 : decode cX0_valueAt 30 = .ok (.invokevirtual 88, 3) := by decide +kernel
theorem dX0_valueAt_33 : decode cX0_valueAt 33 = .ok (.istore 4, 2) := by decide +kernel
theorem dX0_valueAt_35 : decode cX0_valueAt 35 = .ok (.iload 4, 2) := by decide +kernel
theorem dX0_valueAt_37 : decode cX0_valueAt 37 = .ok (.iconst 1, 1) := by decide +kernel
theorem dX0_valueAt_38 : decode cX0_valueAt 38 = .ok (.isub, 1) := by decide +kernel
theorem dX0_valueAt_39 : decode cX0_valueAt 39 = .ok (.istore 5, 2) := by decide +kernel
theorem dX0_valueAt_41 : decode cX0_valueAt 41 = .ok (.iconst 0, 1) := by decide +kernel
theorem dX0_valueAt_42 : decode cX0_valueAt 42 = .ok (.istore 6, 2) := by decide +kernel
theorem dX0_valueAt_44 : decode cX0_valueAt 44 = .ok (.iload 6, 2) := by decide +kernel
theorem dX0_valueAt_46 : decode cX0_valueAt 46 = .ok (.bipush 16, 2) := by decide +kernel
theorem dX0_valueAt_48 : decode cX0_valueAt 48 = .ok (.if_icmp .ge 23, 3) := by decide +kernel
theorem dX0_valueAt_51 : decode cX0_valueAt 51 = .ok (.aload_n 0, 1) := by decide +kernel
theorem dX0_valueAt_52 : decode cX0_valueAt 52 = .ok (.getfield 31, 3) := by decide +kernel
theorem dX0_valueAt_55 : decode cX0_valueAt 55 = .ok (.iload 5, 2) := by decide +kernel
theorem dX0_valueAt_57 : decode cX0_valueAt 57 = .ok (.iaload, 1) := by decide +kernel
theorem dX0_valueAt_58 : decode cX0_valueAt 58 = .ok (.iload_n 1, 1) := by decide +kernel
theorem dX0_valueAt_59 : decode cX0_valueAt 59 = .ok (.if_icmp .le 12, 3) := by decide +kernel
theorem dX0_valueAt_62 : decode cX0_valueAt 62 = .ok (.iinc 5 (-1), 3) := by decide +kernel
theorem dX0_valueAt_65 : decode cX0_valueAt 65 = .ok (.iinc 6 1, 3) := by decide +kernel
theorem dX0_valueAt_68 : decode cX0_valueAt 68 = .ok (.goto (-24), 3) := by decide +kernel
theorem dX0_valueAt_71 : decode cX0_valueAt 71 = .ok (.aload_n 0, 1) := by decide +kernel
theorem dX0_valueAt_72 : decode cX0_valueAt 72 = .ok (.getfield 34, 3) := by decide +kernel
theorem dX0_valueAt_75 : decode cX0_valueAt 75 = .ok (.iload 5, 2) := by decide +kernel
theorem dX0_valueAt_77 : decode cX0_valueAt 77 = .ok (.iaload, 1) := by decide +kernel
theorem dX0_valueAt_78 : decode cX0_valueAt 78 = .ok (.ireturn, 1) := by decide +kernel
theorem dX0_valueAt_79 : decode cX0_valueAt 79 = .ok (.iinc 3 (-1), 3) := by decide +kernel
theorem dX0_valueAt_82 : decode cX0_valueAt 82 = .ok (.goto (-73), 3) := by decide +kernel
theorem dX0_valueAt_85 : decode cX0_valueAt 85 = .ok (.bipush (-4), 2) := by decide +kernel
theorem dX0_valueAt_87 : decode cX0_valueAt 87 = .ok (.ireturn, 1) := by decide +kernel
theorem dX0_rises_0 : decode cX0_rises 0 = .ok (.iconst 0, 1) := by decide +kernel
theorem dX0_rises_1 : decode cX0_rises 1 = .ok (.istore_n 1, 1) := by decide +kernel
theorem dX0_rises_2 : decode cX0_rises 2 = .ok (.ldc 132, 2) := by decide +kernel
theorem dX0_rises_4 : decode cX0_rises 4 = .ok (.istore_n 2, 1) := by decide +kernel
theorem dX0_rises_5 : decode cX0_rises 5 = .ok (.aload_n 0, 1) := by decide +kernel
theorem dX0_rises_6 : decode cX0_rises 6 = .ok (.invokevirtual 113, 3) := by decide +kernel
theorem dX0_rises_9 : decode cX0_rises 9 = .ok (.istore_n 3, 1) := by decide +kernel
theorem dX0_rises_10 : decode cX0_rises 10 = .ok (.iconst 0, 1) := by decide +kernel
theorem dX0_rises_11 : decode cX0_rises 11 = .ok (.istore 4, 2) := by decide +kernel
theorem dX0_rises_13 : decode cX0_rises 13 = .ok (.iload 4, 2) := by decide +kernel
theorem dX0_rises_15 : decode cX0_rises 15 = .ok (.iload_n 3, 1) := by decide +kernel
theorem dX0_rises_16 : decode cX0_rises 16 = .ok (.if_icmp .ge 66, 3) := by decide +kernel
theorem dX0_rises_19 : decode cX0_rises 19 = .ok (.aload_n 0, 1) := by decide +kernel
theorem dX0_rises_20 : decode cX0_rises 20 = .ok (.iload 4, 2) := by decide +kernel
theorem dX0_rises_22 : decode cX0_rises 22 = .ok (.invokevirtual 97, 3) := by decide +kernel
theorem dX0_rises_25 : decode cX0_rises 25 = .ok (.aload_n 0, 1) := by decide +kernel
theorem dX0_rises_26 : decode cX0_rises 26 = .ok (.iload 4, 2) := by decide +kernel
theorem dX0_rises_28 : decode cX0_rises 28 = .ok (.invokevirtual 88, 3) := by decide +kernel
theorem dX0_rises_31 : decode cX0_rises 31 = .ok (.istore 5, 2) := by decide +kernel
theorem dX0_rises_33 : decode cX0_rises 33 = .ok (.iconst 0, 1) := by decide +kernel
theorem dX0_rises_34 : decode cX0_rises 34 = .ok (.istore 6, 2) := by decide +kernel
theorem dX0_rises_36 : decode cX0_rises 36 = .ok (.iload 6, 2) := by decide +kernel
theorem dX0_rises_38 : decode cX0_rises 38 = .ok (.iload 5, 2) := by decide +kernel
theorem dX0_rises_40 : decode cX0_rises 40 = .ok (.if_icmp .ge 36, 3) := by decide +kernel
theorem dX0_rises_43 : decode cX0_rises 43 = .ok (.aload_n 0, 1) := by decide +kernel
theorem dX0_rises_44 : decode cX0_rises 44 = .ok (.getfield 34, 3) := by decide +kernel
theorem dX0_rises_47 : decode cX0_rises 47 = .ok (.iload 6, 2) := by decide +kernel
theorem dX0_rises_49 : decode cX0_rises 49 = .ok (.iaload, 1) := by decide +kernel
theorem dX0_rises_50 : decode cX0_rises 50 = .ok (.iload_n 2, 1) := by decide +kernel
theorem dX0_rises_51 : decode cX0_rises 51 = .ok (.if_icmp .le 9, 3) := by decide +kernel
theorem dX0_rises_54 : decode cX0_rises 54 = .ok (.iload_n 1, 1) := by decide +kernel
theorem dX0_rises_55 : decode cX0_rises 55 = .ok (.iconst 1, 1) := by decide +kernel
theorem dX0_rises_56 : decode cX0_rises 56 = .ok (.iadd, 1) := by decide +kernel
theorem dX0_rises_57 : decode cX0_rises 57 = .ok (.goto 4, 3) := by decide +kernel
theorem dX0_rises_60 : decode cX0_rises 60 = .ok (.iload_n 1, 1) := by decide +kernel
theorem dX0_rises_61 : decode cX0_rises 61 = .ok (.istore_n 1, 1) := by decide +kernel
theorem dX0_rises_62 : decode cX0_rises 62 = .ok (.aload_n 0, 1) := by decide +kernel
theorem dX0_rises_63 : decode cX0_rises 63 = .ok (.getfield 34, 3) := by decide +kernel
theorem dX0_rises_66 : decode cX0_rises 66 = .ok (.iload 6, 2) := by decide +kernel
theorem dX0_rises_68 : decode cX0_rises 68 = .ok (.iaload, 1) := by decide +kernel
theorem dX0_rises_69 : decode cX0_rises 69 = .ok (.istore_n 2, 1) := by decide +kernel
theorem dX0_rises_70 : decode cX0_rises 70 = .ok (.iinc 6 1, 3) := by decide +kernel
theorem dX0_rises_73 : decode cX0_rises 73 = .ok (.goto (-37), 3) := by decide +kernel
theorem dX0_rises_76 : decode cX0_rises 76 = .ok (.iinc 4 1, 3) := by decide +kernel
theorem dX0_rises_79 : decode cX0_rises 79 = .ok (.goto (-66), 3) := by decide +kernel
theorem dX0_rises_82 : decode cX0_rises 82 = .ok (.iload_n 1, 1) := by decide +kernel
theorem dX0_rises_83 : decode cX0_rises 83 = .ok (.ireturn, 1) := by decide +kernel
theorem dX0_widestGap_0 : decode cX0_widestGap 0 = .ok (.bipush (-4), 2) := by decide +kernel
theorem dX0_widestGap_2 : decode cX0_widestGap 2 = .ok (.istore_n 1, 1) := by decide +kernel
theorem dX0_widestGap_3 : decode cX0_widestGap 3 = .ok (.iconst 0, 1) := by decide +kernel
theorem dX0_widestGap_4 : decode cX0_widestGap 4 = .ok (.istore_n 2, 1) := by decide +kernel
theorem dX0_widestGap_5 : decode cX0_widestGap 5 = .ok (.aload_n 0, 1) := by decide +kernel
theorem dX0_widestGap_6 : decode cX0_widestGap 6 = .ok (.invokevirtual 113, 3) := by decide +kernel
theorem dX0_widestGap_9 : decode cX0_widestGap 9 = .ok (.istore_n 3, 1) := by decide +kernel
theorem dX0_widestGap_10 : decode cX0_widestGap 10 = .ok (.iconst 0, 1) := by decide +kernel
theorem dX0_widestGap_11 : decode cX0_widestGap 11 = .ok (.istore 4, 2) := by decide +kernel
theorem dX0_widestGap_13 : decode cX0_widestGap 13 = .ok (.iload 4, 2) := by decide +kernel
theorem dX0_widestGap_15 : decode cX0_widestGap 15 = .ok (.iload_n 3, 1) := by decide +kernel
theorem dX0_widestGap_16 : decode cX0_widestGap 16 = .ok (.if_icmp .ge 78, 3) := by decide +kernel
theorem dX0_widestGap_19 : decode cX0_widestGap 19 = .ok (.aload_n 0, 1) := by decide +kernel
theorem dX0_widestGap_20 : decode cX0_widestGap 20 = .ok (.iload 4, 2) := by decide +kernel
theorem dX0_widestGap_22 : decode cX0_widestGap 22 = .ok (.invokevirtual 97, 3) := by decide +kernel
theorem dX0_widestGap_25 : decode cX0_widestGap 25 = .ok (.aload_n 0, 1) := by decide +kernel
theorem dX0_widestGap_26 : decode cX0_widestGap 26 = .ok (.iload 4, 2) := by decide +kernel
theorem dX0_widestGap_28 : decode cX0_widestGap 28 = .ok (.invokevirtual 88, 3) := by decide +kernel
theorem dX0_widestGap_31 : decode cX0_widestGap 31 = .ok (.istore 5, 2) := by decide +kernel
theorem dX0_widestGap_33 : decode cX0_widestGap 33 = .ok (.iconst 0, 1) := by decide +kernel
theorem dX0_widestGap_34 : decode cX0_widestGap 34 = .ok (.istore 6, 2) := by decide +kernel
theorem dX0_widestGap_36 : decode cX0_widestGap 36 = .ok (.iload 6, 2) := by decide +kernel
theorem dX0_widestGap_38 : decode cX0_widestGap 38 = .ok (.iload 5, 2) := by decide +kernel
theorem dX0_widestGap_40 : decode cX0_widestGap 40 = .ok (.if_icmp .ge 48, 3) := by decide +kernel
theorem dX0_widestGap_43 : decode cX0_widestGap 43 = .ok (.iload 4, 2) := by decide +kernel
theorem dX0_widestGap_45 : decode cX0_widestGap 45 = .ok (.iload 6, 2) := by decide +kernel
theorem dX0_widestGap_47 : decode cX0_widestGap 47 = .ok (.iadd, 1) := by decide +kernel
theorem dX0_widestGap_48 : decode cX0_widestGap 48 = .ok (.ifCond .le 26, 3) := by decide +kernel
theorem dX0_widestGap_51 : decode cX0_widestGap 51 = .ok (.aload_n 0, 1) := by decide +kernel
theorem dX0_widestGap_52 : decode cX0_widestGap 52 = .ok (.getfield 31, 3) := by decide +kernel
theorem dX0_widestGap_55 : decode cX0_widestGap 55 = .ok (.iload 6, 2) := by decide +kernel
theorem dX0_widestGap_57 : decode cX0_widestGap 57 = .ok (.iaload, 1) := by decide +kernel
theorem dX0_widestGap_58 : decode cX0_widestGap 58 = .ok (.iload_n 2, 1) := by decide +kernel
theorem dX0_widestGap_59 : decode cX0_widestGap 59 = .ok (.isub, 1) := by decide +kernel
theorem dX0_widestGap_60 : decode cX0_widestGap 60 = .ok (.iload_n 1, 1) := by decide +kernel
theorem dX0_widestGap_61 : decode cX0_widestGap 61 = .ok (.if_icmp .le 13, 3) := by decide +kernel
theorem dX0_widestGap_64 : decode cX0_widestGap 64 = .ok (.aload_n 0, 1) := by decide +kernel
theorem dX0_widestGap_65 : decode cX0_widestGap 65 = .ok (.getfield 31, 3) := by decide +kernel
theorem dX0_widestGap_68 : decode cX0_widestGap 68 = .ok (.iload 6, 2) := by decide +kernel
theorem dX0_widestGap_70 : decode cX0_widestGap 70 = .ok (.iaload, 1) := by decide +kernel
theorem dX0_widestGap_71 : decode cX0_widestGap 71 = .ok (.iload_n 2, 1) := by decide +kernel
theorem dX0_widestGap_72 : decode cX0_widestGap 72 = .ok (.isub, 1) := by decide +kernel
theorem dX0_widestGap_73 : decode cX0_widestGap 73 = .ok (.istore_n 1, 1) := by decide +kernel
theorem dX0_widestGap_74 : decode cX0_widestGap 74 = .ok (.aload_n 0, 1) := by decide +kernel
theorem dX0_widestGap_75 : decode cX0_widestGap 75 = .ok (.getfield 31, 3) := by decide +kernel
theorem dX0_widestGap_78 : decode cX0_widestGap 78 = .ok (.iload 6, 2) := by decide +kernel
theorem dX0_widestGap_80 : decode cX0_widestGap 80 = .ok (.iaload, 1) := by decide +kernel
theorem dX0_widestGap_81 : decode cX0_widestGap 81 = .ok (.istore_n 2, 1) := by decide +kernel
theorem dX0_widestGap_82 : decode cX0_widestGap 82 = .ok (.iinc 6 1, 3) := by decide +kernel
theorem dX0_widestGap_85 : decode cX0_widestGap 85 = .ok (.goto (-49), 3) := by decide +kernel
theorem dX0_widestGap_88 : decode cX0_widestGap 88 = .ok (.iinc 4 1, 3) := by decide +kernel
theorem dX0_widestGap_91 : decode cX0_widestGap 91 = .ok (.goto (-78), 3) := by decide +kernel
theorem dX0_widestGap_94 : decode cX0_widestGap 94 = .ok (.iload_n 1, 1) := by decide +kernel
theorem dX0_widestGap_95 : decode cX0_widestGap 95 = .ok (.ireturn, 1) := by decide +kernel
end
section
set_option maxRecDepth 100000
theorem dX1_init_0 : decode cX1_init 0 = .ok (.aload_n 0, 1) := by decide +kernel
theorem dX1_init_1 : decode cX1_init 1 = .ok (.invokespecial 1, 3) := by decide +kernel
theorem dX1_init_4 : decode cX1_init 4 = .ok (.aload_n 0, 1) := by decide +kernel
theorem dX1_init_5 : decode cX1_init 5 = .ok (.bipush 64, 2) := by decide +kernel
theorem dX1_init_7 : decode cX1_init 7 = .ok (.newarray .int, 2) := by decide +kernel
theorem dX1_init_9 : decode cX1_init 9 = .ok (.putfield 7, 3) := by decide +kernel
theorem dX1_init_12 : decode cX1_init 12 = .ok (.aload_n 0, 1) := by decide +kernel
theorem dX1_init_13 : decode cX1_init 13 = .ok (.bipush 64, 2) := by decide +kernel
theorem dX1_init_15 : decode cX1_init 15 = .ok (.newarray .int, 2) := by decide +kernel
theorem dX1_init_17 : decode cX1_init 17 = .ok (.putfield 13, 3) := by decide +kernel
theorem dX1_init_20 : decode cX1_init 20 = .ok (.return_, 1) := by decide +kernel
theorem dX1_append_0 : decode cX1_append 0 = .ok (.iload_n 1, 1) := by decide +kernel
theorem dX1_append_1 : decode cX1_append 1 = .ok (.ifCond .lt 28, 3) := by decide +kernel
theorem dX1_append_4 : decode cX1_append 4 = .ok (.iload_n 1, 1) := by decide +kernel
theorem dX1_append_5 : decode cX1_append 5 = .ok (.ldc 21, 2) := by decide +kernel
theorem dX1_append_7 : decode cX1_append 7 = .ok (.if_icmp .gt 22, 3) := by decide +kernel
theorem dX1_append_10 : decode cX1_append 10 = .ok (.aload_n 0, 1) := by decide +kernel
theorem dX1_append_11 : decode cX1_append 11 = .ok (.invokevirtual 22, 3) := by decide +kernel
theorem dX1_append_14 : decode cX1_append 14 = .ok (.iload_n 1, 1) := by decide +kernel
theorem dX1_append_15 : decode cX1_append 15 = .ok (.iadd, 1) := by decide +kernel
theorem dX1_append_16 : decode cX1_append 16 = .ok (.ldc 21, 2) := by decide +kernel
theorem dX1_append_18 : decode cX1_append 18 = .ok (.if_icmp .gt 11, 3) := by decide +kernel
theorem dX1_append_21 : decode cX1_append 21 = .ok (.aload_n 0, 1) := by decide +kernel
theorem dX1_append_22 : decode cX1_append 22 = .ok (.iload_n 2, 1) := by decide +kernel
theorem dX1_append_23 : decode cX1_append 23 = .ok (.invokevirtual 26, 3) := by decide +kernel
theorem dX1_append_26 : decode cX1_append 26 = .ok (.ifCond .ne 5, 3) := by decide +kernel
theorem dX1_append_29 : decode cX1_append 29 = .ok (.iconst (-1), 1) := by decide +kernel
theorem dX1_append_30 : decode cX1_append 30 = .ok (.ireturn, 1) := by decide +kernel
theorem dX1_append_31 : decode cX1_append 31 = .ok (.aload_n 0, 1) := by decide +kernel
theorem dX1_append_32 : decode cX1_append 32 = .ok (.getfield 16, 3) := by decide +kernel
theorem dX1_append_35 : decode cX1_append 35 = .ok (.bipush 64, 2) := by decide +kernel
theorem dX1_append_37 : decode cX1_append 37 = .ok (.if_icmp .ne 6, 3) := by decide +kernel
theorem dX1_append_40 : decode cX1_append 40 = .ok (.bipush (-2), 2) := by decide +kernel
theorem dX1_append_42 : decode cX1_append 42 = .ok (.ireturn, 1) := by decide +kernel
theorem dX1_append_43 : decode cX1_append 43 = .ok (.aload_n 0, 1) := by decide +kernel
theorem dX1_append_44 : decode cX1_append 44 = .ok (.getfield 7, 3) := by decide +kernel
theorem dX1_append_47 : decode cX1_append 47 = .ok (.aload_n 0, 1) := by decide +kernel
theorem dX1_append_48 : decode cX1_append 48 = .ok (.getfield 16, 3) := by decide +kernel
theorem dX1_append_51 : decode cX1_append 51 = .ok (.aload_n 0, 1) := by decide +kernel
theorem dX1_append_52 : decode cX1_append 52 = .ok (.invokevirtual 22, 3) := by decide +kernel
theorem dX1_append_55 : decode cX1_append 55 = .ok (.iload_n 1, 1) := by decide +kernel
theorem dX1_append_56 : decode cX1_append 56 = .ok (.iadd, 1) := by decide +kernel
theorem dX1_append_57 : decode cX1_append 57 = .ok (.iastore, 1) := by decide +kernel
theorem dX1_append_58 : decode cX1_append 58 = .ok (.aload_n 0, 1) := by decide +kernel
theorem dX1_append_59 : decode cX1_append 59 = .ok (.getfield 13, 3) := by decide +kernel
theorem dX1_append_62 : decode cX1_append 62 = .ok (.aload_n 0, 1) := by decide +kernel
theorem dX1_append_63 : decode cX1_append 63 = .ok (.getfield 16, 3) := by decide +kernel
theorem dX1_append_66 : decode cX1_append 66 = .ok (.iload_n 2, 1) := by decide +kernel
theorem dX1_append_67 : decode cX1_append 67 = .ok (.iastore, 1) := by decide +kernel
theorem dX1_append_68 : decode cX1_append 68 = .ok (.aload_n 0, 1) := by decide +kernel
theorem dX1_append_69 : decode cX1_append 69 = .ok (.dup, 1) := by decide +kernel
theorem dX1_append_70 : decode cX1_append 70 = .ok (.getfield 16, 3) := by decide +kernel
theorem dX1_append_73 : decode cX1_append 73 = .ok (.iconst 1, 1) := by decide +kernel
theorem dX1_append_74 : decode cX1_append 74 = .ok (.iadd, 1) := by decide +kernel
theorem dX1_append_75 : decode cX1_append 75 = .ok (.putfield 16, 3) := by decide +kernel
theorem dX1_append_78 : decode cX1_append 78 = .ok (.aload_n 0, 1) := by decide +kernel
theorem dX1_append_79 : decode cX1_append 79 = .ok (.getfield 16, 3) := by decide +kernel
theorem dX1_append_82 : decode cX1_append 82 = .ok (.iconst 1, 1) := by decide +kernel
theorem dX1_append_83 : decode cX1_append 83 = .ok (.isub, 1) := by decide +kernel
theorem dX1_append_84 : decode cX1_append 84 = .ok (.ireturn, 1) := by decide +kernel
theorem dX1_lastTime_0 : decode cX1_lastTime 0 = .ok (.aload_n 0, 1) := by decide +kernel
theorem dX1_lastTime_1 : decode cX1_lastTime 1 = .ok (.getfield 16, 3) := by decide +kernel
theorem dX1_lastTime_4 : decode cX1_lastTime 4 = .ok (.ifCond .ne 7, 3) := by decide +kernel
theorem dX1_lastTime_7 : decode cX1_lastTime 7 = .ok (.iconst 0, 1) := by decide +kernel
theorem dX1_lastTime_8 : decode cX1_lastTime 8 = .ok (.goto 14, 3) := by decide +kernel
theorem dX1_lastTime_11 : decode cX1_lastTime 11 = .ok (.aload_n 0, 1) := by decide +kernel
theorem dX1_lastTime_12 : decode cX1_lastTime 12 = .ok (.getfield 7, 3) := by decide +kernel
theorem dX1_lastTime_15 : decode cX1_lastTime 15 = .ok (.aload_n 0, 1) := by decide +kernel
theorem dX1_lastTime_16 : decode cX1_lastTime 16 = .ok (.getfield 16, 3) := by decide +kernel
theorem dX1_lastTime_19 : decode cX1_lastTime 19 = .ok (.iconst 1, 1) := by decide +kernel
theorem dX1_lastTime_20 : decode cX1_lastTime 20 = .ok (.isub, 1) := by decide +kernel
theorem dX1_lastTime_21 : decode cX1_lastTime 21 = .ok (.iaload, 1) := by decide +kernel
theorem dX1_lastTime_22 : decode cX1_lastTime 22 = .ok (.ireturn, 1) := by decide +kernel
theorem dX1_isValue_0 : decode cX1_isValue 0 = .ok (.iload_n 1, 1) := by decide +kernel
theorem dX1_isValue_1 : decode cX1_isValue 1 = .ok (.ifCond .lt 13, 3) := by decide +kernel
theorem dX1_isValue_4 : decode cX1_isValue 4 = .ok (.iload_n 1, 1) := by decide +kernel
theorem dX1_isValue_5 : decode cX1_isValue 5 = .ok (.ldc 20, 2) := by decide +kernel
theorem dX1_isValue_7 : decode cX1_isValue 7 = .ok (.if_icmp .gt 7, 3) := by decide +kernel
theorem dX1_isValue_10 : decode cX1_isValue 10 = .ok (.iconst 1, 1) := by decide +kernel
theorem dX1_isValue_11 : decode cX1_isValue 11 = .ok (.goto 4, 3) := by decide +kernel
theorem dX1_isValue_14 : decode cX1_isValue 14 = .ok (.iconst 0, 1) := by decide +kernel
theorem dX1_isValue_15 : decode cX1_isValue 15 = .ok (.ireturn, 1) := by decide +kernel
theorem dX1_steady_0 : decode cX1_steady 0 = .ok (.iload_n 1, 1) := by decide +kernel
theorem dX1_steady_1 : decode cX1_steady 1 = .ok (.ifCond .lt 32, 3) := by decide +kernel
theorem dX1_steady_4 : decode cX1_steady 4 = .ok (.iload_n 1, 1) := by decide +kernel
theorem dX1_steady_5 : decode cX1_steady 5 = .ok (.bipush 64, 2) := by decide +kernel
theorem dX1_steady_7 : decode cX1_steady 7 = .ok (.if_icmp .gt 26, 3) := by decide +kernel
theorem dX1_steady_10 : decode cX1_steady 10 = .ok (.iload_n 2, 1) := by decide +kernel
theorem dX1_steady_11 : decode cX1_steady 11 = .ok (.ifCond .lt 22, 3) := by decide +kernel
theorem dX1_steady_14 : decode cX1_steady 14 = .ok (.iload_n 2, 1) := by decide +kernel
theorem dX1_steady_15 : decode cX1_steady 15 = .ok (.ldc 21, 2) := by decide +kernel
theorem dX1_steady_17 : decode cX1_steady 17 = .ok (.if_icmp .gt 16, 3) := by decide +kernel
theorem dX1_steady_20 : decode cX1_steady 20 = .ok (.aload_n 0, 1) := by decide +kernel
theorem dX1_steady_21 : decode cX1_steady 21 = .ok (.invokevirtual 22, 3) := by decide +kernel
theorem dX1_steady_24 : decode cX1_steady 24 = .ok (.iload_n 1, 1) := by decide +kernel
theorem dX1_steady_25 : decode cX1_steady 25 = .ok (.iload_n 2, 1) := by decide +kernel
theorem dX1_steady_26 : decode cX1_steady 26 = .ok (.imul, 1) := by decide +kernel
theorem dX1_steady_27 : decode cX1_steady 27 = .ok (.iadd, 1) := by decide +kernel
theorem dX1_steady_28 : decode cX1_steady 28 = .ok (.ldc 21, 2) := by decide +kernel
theorem dX1_steady_30 : decode cX1_steady 30 = .ok (.if_icmp .le 5, 3) := by decide +kernel
theorem dX1_steady_33 : decode cX1_steady 33 = .ok (.iconst (-1), 1) := by decide +kernel
theorem dX1_steady_34 : decode cX1_steady 34 = .ok (.ireturn, 1) := by decide +kernel
theorem dX1_steady_35 : decode cX1_steady 35 = .ok (.aload_n 0, 1) := by decide +kernel
theorem dX1_steady_36 : decode cX1_steady 36 = .ok (.iload_n 3, 1) := by decide +kernel
theorem dX1_steady_37 : decode cX1_steady 37 = .ok (.invokevirtual 26, 3) := by decide +kernel
theorem dX1_steady_40 : decode cX1_steady 40 = .ok (.ifCond .eq 17, 3) := by decide +kernel
theorem dX1_steady_43 : decode cX1_steady 43 = .ok (.iload 4, 2) := by decide +kernel
theorem dX1_steady_45 : decode cX1_steady 45 = .ok (.ldc 30, 2) := by decide +kernel
theorem dX1_steady_47 : decode cX1_steady 47 = .ok (.if_icmp .lt 10, 3) := by decide +kernel
theorem dX1_steady_50 : decode cX1_steady 50 = .ok (.iload 4, 2) := by decide +kernel
theorem dX1_steady_52 : decode cX1_steady 52 = .ok (.ldc 20, 2) := by decide +kernel
theorem dX1_steady_54 : decode cX1_steady 54 = .ok (.if_icmp .le 5, 3) := by decide +kernel
theorem dX1_steady_57 : decode cX1_steady 57 = .ok (.iconst (-1), 1) := by decide +kernel
theorem dX1_steady_58 : decode cX1_steady 58 = .ok (.ireturn, 1) := by decide +kernel
theorem dX1_steady_59 : decode cX1_steady 59 = .ok (.aload_n 0, 1) := by decide +kernel
theorem dX1_steady_60 : decode cX1_steady 60 = .ok (.getfield 16, 3) := by decide +kernel
theorem dX1_steady_63 : decode cX1_steady 63 = .ok (.iload_n 1, 1) := by decide +kernel
theorem dX1_steady_64 : decode cX1_steady 64 = .ok (.iadd, 1) := by decide +kernel
theorem dX1_steady_65 : decode cX1_steady 65 = .ok (.bipush 64, 2) := by decide +kernel
theorem dX1_steady_67 : decode cX1_steady 67 = .ok (.if_icmp .le 6, 3) := by decide +kernel
theorem dX1_steady_70 : decode cX1_steady 70 = .ok (.bipush (-2), 2) := by decide +kernel
theorem dX1_steady_72 : decode cX1_steady 72 = .ok (.ireturn, 1) := by decide +kernel
theorem dX1_steady_73 : decode cX1_steady 73 = .ok (.iload_n 3, 1) := by decide +kernel
theorem dX1_steady_74 : decode cX1_steady 74 = .ok (.istore 5, 2) := by decide +kernel
theorem dX1_steady_76 : decode cX1_steady 76 = .ok (.iconst 0, 1) := by decide +kernel
theorem dX1_steady_77 : decode cX1_steady 77 = .ok (.istore 6, 2) := by decide +kernel
theorem dX1_steady_79 : decode cX1_steady 79 = .ok (.iload 6, 2) := by decide +kernel
theorem dX1_steady_81 : decode cX1_steady 81 = .ok (.iload_n 1, 1) := by decide +kernel
theorem dX1_steady_82 : decode cX1_steady 82 = .ok (.if_icmp .ge 27, 3) := by decide +kernel
theorem dX1_steady_85 : decode cX1_steady 85 = .ok (.aload_n 0, 1) := by decide +kernel
theorem dX1_steady_86 : decode cX1_steady 86 = .ok (.iload_n 2, 1) := by decide +kernel
theorem dX1_steady_87 : decode cX1_steady 87 = .ok (.iload 5, 2) := by decide +kernel
theorem dX1_steady_89 : decode cX1_steady 89 = .ok (.invokevirtual 31, 3) := by decide +kernel
theorem dX1_steady_92 : decode cX1_steady 92 = .ok (.pop, 1) := by decide +kernel
theorem dX1_steady_93 : decode cX1_steady 93 = .ok (.iload 5, 2) := by decide +kernel
theorem dX1_steady_95 : decode cX1_steady 95 = .ok (.iload 4, 2) := by decide +kernel
theorem dX1_steady_97 : decode cX1_steady 97 = .ok (.iadd, 1) := by decide +kernel
theorem dX1_steady_98 : decode cX1_steady 98 = .ok (.ldc 20, 2) := by decide +kernel
theorem dX1_steady_100 : decode cX1_steady 100 = .ok (.iand, 1) := by decide +kernel
theorem dX1_steady_101 : decode cX1_steady 101 = .ok (.istore 5, 2) := by decide +kernel
theorem dX1_steady_103 : decode cX1_steady 103 = .ok (.iinc 6 1, 3) := by decide +kernel
theorem dX1_steady_106 : decode cX1_steady 106 = .ok (.goto (-27), 3) := by decide +kernel
theorem dX1_steady_109 : decode cX1_steady 109 = .ok (.aload_n 0, 1) := by decide +kernel
theorem dX1_steady_110 : decode cX1_steady 110 = .ok (.getfield 16, 3) := by decide +kernel
theorem dX1_steady_113 : decode cX1_steady 113 = .ok (.ireturn, 1) := by decide +kernel
theorem dX1_dropOldest_0 : decode cX1_dropOldest 0 = .ok (.aload_n 0, 1) := by decide +kernel
theorem dX1_dropOldest_1 : decode cX1_dropOldest 1 = .ok (.getfield 16, 3) := by decide +kernel
theorem dX1_dropOldest_4 : decode cX1_dropOldest 4 = .ok (.bipush 16, 2) := by decide +kernel
theorem dX1_dropOldest_6 : decode cX1_dropOldest 6 = .ok (.if_icmp .ge 6, 3) := by decide +kernel
theorem dX1_dropOldest_9 : decode cX1_dropOldest 9 = .ok (.bipush (-4), 2) := by decide +kernel
theorem dX1_dropOldest_11 : decode cX1_dropOldest 11 = .ok (.ireturn, 1) := by decide +kernel
theorem dX1_dropOldest_12 : decode cX1_dropOldest 12 = .ok (.aload_n 0, 1) := by decide +kernel
theorem dX1_dropOldest_13 : decode cX1_dropOldest 13 = .ok (.aload_n 0, 1) := by decide +kernel
theorem dX1_dropOldest_14 : decode cX1_dropOldest 14 = .ok (.getfield 16, 3) := by decide +kernel
theorem dX1_dropOldest_17 : decode cX1_dropOldest 17 = .ok (.bipush 16, 2) := by decide +kernel
theorem dX1_dropOldest_19 : decode cX1_dropOldest 19 = .ok (.isub, 1) := by decide +kernel
theorem dX1_dropOldest_20 : decode cX1_dropOldest 20 = .ok (.putfield 16, 3) := by decide +kernel
theorem dX1_dropOldest_23 : decode cX1_dropOldest 23 = .ok (.iconst 0, 1) := by decide +kernel
theorem dX1_dropOldest_24 : decode cX1_dropOldest 24 = .ok (.istore_n 1, 1) := by decide +kernel
theorem dX1_dropOldest_25 : decode cX1_dropOldest 25 = .ok (.iload_n 1, 1) := by decide +kernel
theorem dX1_dropOldest_26 : decode cX1_dropOldest 26 = .ok (.aload_n 0, 1) := by decide +kernel
theorem dX1_dropOldest_27 : decode cX1_dropOldest 27 = .ok (.getfield 16, 3) := by decide +kernel
theorem dX1_dropOldest_30 : decode cX1_dropOldest 30 = .ok (.if_icmp .ge 39, 3) := by decide +kernel
theorem dX1_dropOldest_33 : decode cX1_dropOldest 33 = .ok (.aload_n 0, 1) := by decide +kernel
theorem dX1_dropOldest_34 : decode cX1_dropOldest 34 = .ok (.getfield 7, 3) := by decide +kernel
theorem dX1_dropOldest_37 : decode cX1_dropOldest 37 = .ok (.iload_n 1, 1) := by decide +kernel
theorem dX1_dropOldest_38 : decode cX1_dropOldest 38 = .ok (.aload_n 0, 1) := by decide +kernel
theorem dX1_dropOldest_39 : decode cX1_dropOldest 39 = .ok (.getfield 7, 3) := by decide +kernel
theorem dX1_dropOldest_42 : decode cX1_dropOldest 42 = .ok (.iload_n 1, 1) := by decide +kernel
theorem dX1_dropOldest_43 : decode cX1_dropOldest 43 = .ok (.bipush 16, 2) := by decide +kernel
theorem dX1_dropOldest_45 : decode cX1_dropOldest 45 = .ok (.iadd, 1) := by decide +kernel
theorem dX1_dropOldest_46 : decode cX1_dropOldest 46 = .ok (.iaload, 1) := by decide +kernel
theorem dX1_dropOldest_47 : decode cX1_dropOldest 47 = .ok (.iastore, 1) := by decide +kernel
theorem dX1_dropOldest_48 : decode cX1_dropOldest 48 = .ok (.aload_n 0, 1) := by decide +kernel
theorem dX1_dropOldest_49 : decode cX1_dropOldest 49 = .ok (.getfield 13, 3) := by decide +kernel
theorem dX1_dropOldest_52 : decode cX1_dropOldest 52 = .ok (.iload_n 1, 1) := by decide +kernel
theorem dX1_dropOldest_53 : decode cX1_dropOldest 53 = .ok (.aload_n 0, 1) := by decide +kernel
theorem dX1_dropOldest_54 : decode cX1_dropOldest 54 = .ok (.getfield 13, 3) := by decide +kernel
theorem dX1_dropOldest_57 : decode cX1_dropOldest 57 = .ok (.iload_n 1, 1) := by decide +kernel
theorem dX1_dropOldest_58 : decode cX1_dropOldest 58 = .ok (.bipush 16, 2) := by decide +kernel
theorem dX1_dropOldest_60 : decode cX1_dropOldest 60 = .ok (.iadd, 1) := by decide +kernel
theorem dX1_dropOldest_61 : decode cX1_dropOldest 61 = .ok (.iaload, 1) := by decide +kernel
theorem dX1_dropOldest_62 : decode cX1_dropOldest 62 = .ok (.iastore, 1) := by decide +kernel
theorem dX1_dropOldest_63 : decode cX1_dropOldest 63 = .ok (.iinc 1 1, 3) := by decide +kernel
theorem dX1_dropOldest_66 : decode cX1_dropOldest 66 = .ok (.goto (-41), 3) := by decide +kernel
theorem dX1_dropOldest_69 : decode cX1_dropOldest 69 = .ok (.aload_n 0, 1) := by decide +kernel
theorem dX1_dropOldest_70 : decode cX1_dropOldest 70 = .ok (.getfield 16, 3) := by decide +kernel
theorem dX1_dropOldest_73 : decode cX1_dropOldest 73 = .ok (.ireturn, 1) := by decide +kernel
theorem dX1_unappend_0 : decode cX1_unappend 0 = .ok (.aload_n 0, 1) := by decide +kernel
theorem dX1_unappend_1 : decode cX1_unappend 1 = .ok (.getfield 16, 3) := by decide +kernel
theorem dX1_unappend_4 : decode cX1_unappend 4 = .ok (.ifCond .ne 6, 3) := by decide +kernel
theorem dX1_unappend_7 : decode cX1_unappend 7 = .ok (.bipush (-4), 2) := by decide +kernel
theorem dX1_unappend_9 : decode cX1_unappend 9 = .ok (.ireturn, 1) := by decide +kernel
theorem dX1_unappend_10 : decode cX1_unappend 10 = .ok (.aload_n 0, 1) := by decide +kernel
theorem dX1_unappend_11 : decode cX1_unappend 11 = .ok (.dup, 1) := by decide +kernel
theorem dX1_unappend_12 : decode cX1_unappend 12 = .ok (.getfield 16, 3) := by decide +kernel
theorem dX1_unappend_15 : decode cX1_unappend 15 = .ok (.iconst 1, 1) := by decide +kernel
theorem dX1_unappend_16 : decode cX1_unappend 16 = .ok (.isub, 1) := by decide +kernel
theorem dX1_unappend_17 : decode cX1_unappend 17 = .ok (.putfield 16, 3) := by decide +kernel
theorem dX1_unappend_20 : decode cX1_unappend 20 = .ok (.aload_n 0, 1) := by decide +kernel
theorem dX1_unappend_21 : decode cX1_unappend 21 = .ok (.getfield 13, 3) := by decide +kernel
theorem dX1_unappend_24 : decode cX1_unappend 24 = .ok (.aload_n 0, 1) := by decide +kernel
theorem dX1_unappend_25 : decode cX1_unappend 25 = .ok (.getfield 16, 3) := by decide +kernel
theorem dX1_unappend_28 : decode cX1_unappend 28 = .ok (.iaload, 1) := by decide +kernel
theorem dX1_unappend_29 : decode cX1_unappend 29 = .ok (.ireturn, 1) := by decide +kernel
theorem dX1_points_0 : decode cX1_points 0 = .ok (.aload_n 0, 1) := by decide +kernel
theorem dX1_points_1 : decode cX1_points 1 = .ok (.getfield 16, 3) := by decide +kernel
theorem dX1_points_4 : decode cX1_points 4 = .ok (.ireturn, 1) := by decide +kernel
theorem dX1_time_0 : decode cX1_time 0 = .ok (.aload_n 0, 1) := by decide +kernel
theorem dX1_time_1 : decode cX1_time 1 = .ok (.iload_n 1, 1) := by decide +kernel
theorem dX1_time_2 : decode cX1_time 2 = .ok (.invokevirtual 35, 3) := by decide +kernel
theorem dX1_time_5 : decode cX1_time 5 = .ok (.ifCond .eq 12, 3) := by decide +kernel
theorem dX1_time_8 : decode cX1_time 8 = .ok (.aload_n 0, 1) := by decide +kernel
theorem dX1_time_9 : decode cX1_time 9 = .ok (.getfield 7, 3) := by decide +kernel
theorem dX1_time_12 : decode cX1_time 12 = .ok (.iload_n 1, 1) := by decide +kernel
theorem dX1_time_13 : decode cX1_time 13 = .ok (.iaload, 1) := by decide +kernel
theorem dX1_time_14 : decode cX1_time 14 = .ok (.goto 5, 3) := by decide +kernel
theorem dX1_time_17 : decode cX1_time 17 = .ok (.bipush (-4), 2) := by decide +kernel
theorem dX1_time_19 : decode cX1_time 19 = .ok (.ireturn, 1) := by decide +kernel
theorem dX1_isPoint_0 : decode cX1_isPoint 0 = .ok (.iload_n 1, 1) := by decide +kernel
theorem dX1_isPoint_1 : decode cX1_isPoint 1 = .ok (.ifCond .lt 15, 3) := by decide +kernel
theorem dX1_isPoint_4 : decode cX1_isPoint 4 = .ok (.iload_n 1, 1) := by decide +kernel
theorem dX1_isPoint_5 : decode cX1_isPoint 5 = .ok (.aload_n 0, 1) := by decide +kernel
theorem dX1_isPoint_6 : decode cX1_isPoint 6 = .ok (.getfield 16, 3) := by decide +kernel
theorem dX1_isPoint_9 : decode cX1_isPoint 9 = .ok (.if_icmp .ge 7, 3) := by decide +kernel
theorem dX1_isPoint_12 : decode cX1_isPoint 12 = .ok (.iconst 1, 1) := by decide +kernel
theorem dX1_isPoint_13 : decode cX1_isPoint 13 = .ok (.goto 4, 3) := by decide +kernel
theorem dX1_isPoint_16 : decode cX1_isPoint 16 = .ok (.iconst 0, 1) := by decide +kernel
theorem dX1_isPoint_17 : decode cX1_isPoint 17 = .ok (.ireturn, 1) := by decide +kernel
theorem dX1_value_0 : decode cX1_value 0 = .ok (.aload_n 0, 1) := by decide +kernel
theorem dX1_value_1 : decode cX1_value 1 = .ok (.iload_n 1, 1) := by decide +kernel
theorem dX1_value_2 : decode cX1_value 2 = .ok (.invokevirtual 35, 3) := by decide +kernel
theorem dX1_value_5 : decode cX1_value 5 = .ok (.ifCond .eq 12, 3) := by decide +kernel
theorem dX1_value_8 : decode cX1_value 8 = .ok (.aload_n 0, 1) := by decide +kernel
theorem dX1_value_9 : decode cX1_value 9 = .ok (.getfield 13, 3) := by decide +kernel
theorem dX1_value_12 : decode cX1_value 12 = .ok (.iload_n 1, 1) := by decide +kernel
theorem dX1_value_13 : decode cX1_value 13 = .ok (.iaload, 1) := by decide +kernel
theorem dX1_value_14 : decode cX1_value 14 = .ok (.goto 5, 3) := by decide +kernel
theorem dX1_value_17 : decode cX1_value 17 = .ok (.bipush (-4), 2) := by decide +kernel
theorem dX1_value_19 : decode cX1_value 19 = .ok (.ireturn, 1) := by decide +kernel
theorem dX1_size_0 : decode cX1_size 0 = .ok (.iload_n 1, 1) := by decide +kernel
theorem dX1_size_1 : decode cX1_size 1 = .ok (.ifCond .lt 19, 3) := by decide +kernel
theorem dX1_size_4 : decode cX1_size 4 = .ok (.iload_n 1, 1) := by decide +kernel
theorem dX1_size_5 : decode cX1_size 5 = .ok (.iconst 3, 1) := by decide +kernel
theorem dX1_size_6 : decode cX1_size 6 = .ok (.if_icmp .gt 14, 3) := by decide +kernel
theorem dX1_size_9 : decode cX1_size 9 = .ok (.bipush 16, 2) := by decide +kernel
theorem dX1_size_11 : decode cX1_size 11 = .ok (.iload_n 1, 1) := by decide +kernel
theorem dX1_size_12 : decode cX1_size 12 = .ok (.imul, 1) := by decide +kernel
theorem dX1_size_13 : decode cX1_size 13 = .ok (.aload_n 0, 1) := by decide +kernel
theorem dX1_size_14 : decode cX1_size 14 = .ok (.getfield 16, 3) := by decide +kernel
theorem dX1_size_17 : decode cX1_size 17 = .ok (.if_icmp .lt 6, 3) := by decide +kernel
theorem dX1_size_20 : decode cX1_size 20 = .ok (.bipush (-4), 2) := by decide +kernel
theorem dX1_size_22 : decode cX1_size 22 = .ok (.ireturn, 1) := by decide +kernel
theorem dX1_size_23 : decode cX1_size 23 = .ok (.bipush 32, 2) := by decide +kernel
theorem dX1_size_25 : decode cX1_size 25 = .ok (.istore_n 2, 1) := by decide +kernel
theorem dX1_size_26 : decode cX1_size 26 = .ok (.aload_n 0, 1) := by decide +kernel
theorem dX1_size_27 : decode cX1_size 27 = .ok (.iconst (-1), 1) := by decide +kernel
theorem dX1_size_28 : decode cX1_size 28 = .ok (.putfield 38, 3) := by decide +kernel
theorem dX1_size_31 : decode cX1_size 31 = .ok (.bipush 16, 2) := by decide +kernel
theorem dX1_size_33 : decode cX1_size 33 = .ok (.iload_n 1, 1) := by decide +kernel
theorem dX1_size_34 : decode cX1_size 34 = .ok (.imul, 1) := by decide +kernel
theorem dX1_size_35 : decode cX1_size 35 = .ok (.iconst 1, 1) := by decide +kernel
theorem dX1_size_36 : decode cX1_size 36 = .ok (.iadd, 1) := by decide +kernel
theorem dX1_size_37 : decode cX1_size 37 = .ok (.istore_n 3, 1) := by decide +kernel
theorem dX1_size_38 : decode cX1_size 38 = .ok (.iload_n 3, 1) := by decide +kernel
theorem dX1_size_39 : decode cX1_size 39 = .ok (.bipush 16, 2) := by decide +kernel
theorem dX1_size_41 : decode cX1_size 41 = .ok (.iload_n 1, 1) := by decide +kernel
theorem dX1_size_42 : decode cX1_size 42 = .ok (.imul, 1) := by decide +kernel
theorem dX1_size_43 : decode cX1_size 43 = .ok (.bipush 16, 2) := by decide +kernel
theorem dX1_size_45 : decode cX1_size 45 = .ok (.iadd, 1) := by decide +kernel
theorem dX1_size_46 : decode cX1_size 46 = .ok (.if_icmp .ge 31, 3) := by decide +kernel
theorem dX1_size_49 : decode cX1_size 49 = .ok (.iload_n 3, 1) := by decide +kernel
theorem dX1_size_50 : decode cX1_size 50 = .ok (.aload_n 0, 1) := by decide +kernel
theorem dX1_size_51 : decode cX1_size 51 = .ok (.getfield 16, 3) := by decide +kernel
theorem dX1_size_54 : decode cX1_size 54 = .ok (.if_icmp .ge 23, 3) := by decide +kernel
theorem dX1_size_57 : decode cX1_size 57 = .ok (.iload_n 2, 1) := by decide +kernel
theorem dX1_size_58 : decode cX1_size 58 = .ok (.aload_n 0, 1) := by decide +kernel
theorem dX1_size_59 : decode cX1_size 59 = .ok (.iload_n 3, 1) := by decide +kernel
theorem dX1_size_60 : decode cX1_size 60 = .ok (.invokevirtual 44, 3) := by decide +kernel
theorem dX1_size_63 : decode cX1_size 63 = .ok (.iadd, 1) := by decide +kernel
theorem dX1_size_64 : decode cX1_size 64 = .ok (.aload_n 0, 1) := by decide +kernel
theorem dX1_size_65 : decode cX1_size 65 = .ok (.iload_n 3, 1) := by decide +kernel
theorem dX1_size_66 : decode cX1_size 66 = .ok (.invokevirtual 48, 3) := by decide +kernel
theorem dX1_size_69 : decode cX1_size 69 = .ok (.iadd, 1) := by decide +kernel
theorem dX1_size_70 : decode cX1_size 70 = .ok (.istore_n 2, 1) := by decide +kernel
theorem dX1_size_71 : decode cX1_size 71 = .ok (.iinc 3 1, 3) := by decide +kernel
theorem dX1_size_74 : decode cX1_size 74 = .ok (.goto (-36), 3) := by decide +kernel
theorem dX1_size_77 : decode cX1_size 77 = .ok (.iload_n 2, 1) := by decide +kernel
theorem dX1_size_78 : decode cX1_size 78 = .ok (.ireturn, 1) := by decide +kernel
theorem dX1_timeSize_0 : decode cX1_timeSize 0 = .ok (.iload_n 1, 1) := by decide +kernel
theorem dX1_timeSize_1 : decode cX1_timeSize 1 = .ok (.bipush 16, 2) := by decide +kernel
theorem dX1_timeSize_3 : decode cX1_timeSize 3 = .ok (.irem, 1) := by decide +kernel
theorem dX1_timeSize_4 : decode cX1_timeSize 4 = .ok (.iconst 1, 1) := by decide +kernel
theorem dX1_timeSize_5 : decode cX1_timeSize 5 = .ok (.if_icmp .ne 7, 3) := by decide +kernel
theorem dX1_timeSize_8 : decode cX1_timeSize 8 = .ok (.iconst 0, 1) := by decide +kernel
theorem dX1_timeSize_9 : decode cX1_timeSize 9 = .ok (.goto 20, 3) := by decide +kernel
theorem dX1_timeSize_12 : decode cX1_timeSize 12 = .ok (.aload_n 0, 1) := by decide +kernel
theorem dX1_timeSize_13 : decode cX1_timeSize 13 = .ok (.getfield 7, 3) := by decide +kernel
theorem dX1_timeSize_16 : decode cX1_timeSize 16 = .ok (.iload_n 1, 1) := by decide +kernel
theorem dX1_timeSize_17 : decode cX1_timeSize 17 = .ok (.iconst 1, 1) := by decide +kernel
theorem dX1_timeSize_18 : decode cX1_timeSize 18 = .ok (.isub, 1) := by decide +kernel
theorem dX1_timeSize_19 : decode cX1_timeSize 19 = .ok (.iaload, 1) := by decide +kernel
theorem dX1_timeSize_20 : decode cX1_timeSize 20 = .ok (.aload_n 0, 1) := by decide +kernel
theorem dX1_timeSize_21 : decode cX1_timeSize 21 = .ok (.getfield 7, 3) := by decide +kernel
theorem dX1_timeSize_24 : decode cX1_timeSize 24 = .ok (.iload_n 1, 1) := by decide +kernel
theorem dX1_timeSize_25 : decode cX1_timeSize 25 = .ok (.iconst 2, 1) := by decide +kernel
theorem dX1_timeSize_26 : decode cX1_timeSize 26 = .ok (.isub, 1) := by decide +kernel
theorem dX1_timeSize_27 : decode cX1_timeSize 27 = .ok (.iaload, 1) := by decide +kernel
theorem dX1_timeSize_28 : decode cX1_timeSize 28 = .ok (.isub, 1) := by decide +kernel
theorem dX1_timeSize_29 : decode cX1_timeSize 29 = .ok (.istore_n 2, 1) := by decide +kernel
theorem dX1_timeSize_30 : decode cX1_timeSize 30 = .ok (.aload_n 0, 1) := by decide +kernel
theorem dX1_timeSize_31 : decode cX1_timeSize 31 = .ok (.getfield 7, 3) := by decide +kernel
theorem dX1_timeSize_34 : decode cX1_timeSize 34 = .ok (.iload_n 1, 1) := by decide +kernel
theorem dX1_timeSize_35 : decode cX1_timeSize 35 = .ok (.iaload, 1) := by decide +kernel
theorem dX1_timeSize_36 : decode cX1_timeSize 36 = .ok (.aload_n 0, 1) := by decide +kernel
theorem dX1_timeSize_37 : decode cX1_timeSize 37 = .ok (.getfield 7, 3) := by decide +kernel
theorem dX1_timeSize_40 : decode cX1_timeSize 40 = .ok (.iload_n 1, 1) := by decide +kernel
theorem dX1_timeSize_41 : decode cX1_timeSize 41 = .ok (.iconst 1, 1) := by decide +kernel
theorem dX1_timeSize_42 : decode cX1_timeSize 42 = .ok (.isub, 1) := by decide +kernel
theorem dX1_timeSize_43 : decode cX1_timeSize 43 = .ok (.iaload, 1) := by decide +kernel
theorem dX1_timeSize_44 : decode cX1_timeSize 44 = .ok (.isub, 1) := by decide +kernel
theorem dX1_timeSize_45 : decode cX1_timeSize 45 = .ok (.iload_n 2, 1) := by decide +kernel
theorem dX1_timeSize_46 : decode cX1_timeSize 46 = .ok (.isub, 1) := by decide +kernel
theorem dX1_timeSize_47 : decode cX1_timeSize 47 = .ok (.istore_n 3, 1) := by decide +kernel
theorem dX1_timeSize_48 : decode cX1_timeSize 48 = .ok (.iload_n 3, 1) := by decide +kernel
theorem dX1_timeSize_49 : decode cX1_timeSize 49 = .ok (.ifCond .ne 5, 3) := by decide +kernel
theorem dX1_timeSize_52 : decode cX1_timeSize 52 = .ok (.iconst 1, 1) := by decide +kernel
theorem dX1_timeSize_53 : decode cX1_timeSize 53 = .ok (.ireturn, 1) := by decide +kernel
theorem dX1_timeSize_54 : decode cX1_timeSize 54 = .ok (.iload_n 3, 1) := by decide +kernel
theorem dX1_timeSize_55 : decode cX1_timeSize 55 = .ok (.bipush (-7), 2) := by decide +kernel
theorem dX1_timeSize_57 : decode cX1_timeSize 57 = .ok (.if_icmp .lt 14, 3) := by decide +kernel
theorem dX1_timeSize_60 : decode cX1_timeSize 60 = .ok (.iload_n 3, 1) := by decide +kernel
theorem dX1_timeSize_61 : decode cX1_timeSize 61 = .ok (.bipush 8, 2) := by decide +kernel
theorem dX1_timeSize_63 : decode cX1_timeSize 63 = .ok (.if_icmp .gt 8, 3) := by decide +kernel
theorem dX1_timeSize_66 : decode cX1_timeSize 66 = .ok (.bipush 6, 2) := by decide +kernel
theorem dX1_timeSize_68 : decode cX1_timeSize 68 = .ok (.goto 22, 3) := by decide +kernel
theorem dX1_timeSize_71 : decode cX1_timeSize 71 = .ok (.iload_n 3, 1) := by decide +kernel
theorem dX1_timeSize_72 : decode cX1_timeSize 72 = .ok (.bipush (-63), 2) := by decide +kernel
theorem dX1_timeSize_74 : decode cX1_timeSize 74 = .ok (.if_icmp .lt 14, 3) := by decide +kernel
theorem dX1_timeSize_77 : decode cX1_timeSize 77 = .ok (.iload_n 3, 1) := by decide +kernel
theorem dX1_timeSize_78 : decode cX1_timeSize 78 = .ok (.bipush 64, 2) := by decide +kernel
theorem dX1_timeSize_80 : decode cX1_timeSize 80 = .ok (.if_icmp .gt 8, 3) := by decide +kernel
theorem dX1_timeSize_83 : decode cX1_timeSize 83 = .ok (.bipush 10, 2) := by decide +kernel
theorem dX1_timeSize_85 : decode cX1_timeSize 85 = .ok (.goto 5, 3) := by decide +kernel
theorem dX1_timeSize_88 : decode cX1_timeSize 88 = .ok (.bipush 21, 2) := by decide +kernel
theorem dX1_timeSize_90 : decode cX1_timeSize 90 = .ok (.ireturn, 1) := by decide +kernel
theorem dX1_valueSize_0 : decode cX1_valueSize 0 = .ok (.aload_n 0, 1) := by decide +kernel
theorem dX1_valueSize_1 : decode cX1_valueSize 1 = .ok (.getfield 13, 3) := by decide +kernel
theorem dX1_valueSize_4 : decode cX1_valueSize 4 = .ok (.iload_n 1, 1) := by decide +kernel
theorem dX1_valueSize_5 : decode cX1_valueSize 5 = .ok (.iaload, 1) := by decide +kernel
theorem dX1_valueSize_6 : decode cX1_valueSize 6 = .ok (.aload_n 0, 1) := by decide +kernel
theorem dX1_valueSize_7 : decode cX1_valueSize 7 = .ok (.getfield 13, 3) := by decide +kernel
theorem dX1_valueSize_10 : decode cX1_valueSize 10 = .ok (.iload_n 1, 1) := by decide +kernel
theorem dX1_valueSize_11 : decode cX1_valueSize 11 = .ok (.iconst 1, 1) := by decide +kernel
theorem dX1_valueSize_12 : decode cX1_valueSize 12 = .ok (.isub, 1) := by decide +kernel
theorem dX1_valueSize_13 : decode cX1_valueSize 13 = .ok (.iaload, 1) := by decide +kernel
theorem dX1_valueSize_14 : decode cX1_valueSize 14 = .ok (.ixor, 1) := by decide +kernel
theorem dX1_valueSize_15 : decode cX1_valueSize 15 = .ok (.istore_n 2, 1) := by decide +kernel
theorem dX1_valueSize_16 : decode cX1_valueSize 16 = .ok (.iload_n 2, 1) := by decide +kernel
theorem dX1_valueSize_17 : decode cX1_valueSize 17 = .ok (.ifCond .ne 5, 3) := by decide +kernel
theorem dX1_valueSize_20 : decode cX1_valueSize 20 = .ok (.iconst 1, 1) := by decide +kernel
theorem dX1_valueSize_21 : decode cX1_valueSize 21 = .ok (.ireturn, 1) := by decide +kernel
theorem dX1_valueSize_22 : decode cX1_valueSize 22 = .ok (.iconst 0, 1) := by decide +kernel
theorem dX1_valueSize_23 : decode cX1_valueSize 23 = .ok (.istore_n 3, 1) := by decide +kernel
theorem dX1_valueSize_24 : decode cX1_valueSize 24 = .ok (.iload_n 2, 1) := by decide +kernel
theorem dX1_valueSize_25 : decode cX1_valueSize 25 = .ok (.bipush 15, 2) := by decide +kernel
theorem dX1_valueSize_27 : decode cX1_valueSize 27 = .ok (.iload_n 3, 1) := by decide +kernel
theorem dX1_valueSize_28 : decode cX1_valueSize 28 = .ok (.isub, 1) := by decide +kernel
theorem dX1_valueSize_29 : decode cX1_valueSize 29 = .ok (.ishr, 1) := by decide +kernel
theorem dX1_valueSize_30 : decode cX1_valueSize 30 = .ok (.iconst 1, 1) := by decide +kernel
theorem dX1_valueSize_31 : decode cX1_valueSize 31 = .ok (.iand, 1) := by decide +kernel
theorem dX1_valueSize_32 : decode cX1_valueSize 32 = .ok (.ifCond .ne 9, 3) := by decide +kernel
theorem dX1_valueSize_35 : decode cX1_valueSize 35 = .ok (.iinc 3 1, 3) := by decide +kernel
theorem dX1_valueSize_38 : decode cX1_valueSize 38 = .ok (.goto (-14), 3) := by decide +kernel
theorem dX1_valueSize_41 : decode cX1_valueSize 41 = .ok (.iconst 0, 1) := by decide +kernel
theorem dX1_valueSize_42 : decode cX1_valueSize 42 = .ok (.istore 4, 2) := by decide +kernel
theorem dX1_valueSize_44 : decode cX1_valueSize 44 = .ok (.iload_n 2, 1) := by decide +kernel
theorem dX1_valueSize_45 : decode cX1_valueSize 45 = .ok (.iload 4, 2) := by decide +kernel
theorem dX1_valueSize_47 : decode cX1_valueSize 47 = .ok (.ishr, 1) := by decide +kernel
theorem dX1_valueSize_48 : decode cX1_valueSize 48 = .ok (.iconst 1, 1) := by decide +kernel
theorem dX1_valueSize_49 : decode cX1_valueSize 49 = .ok (.iand, 1) := by decide +kernel
theorem dX1_valueSize_50 : decode cX1_valueSize 50 = .ok (.ifCond .ne 9, 3) := by decide +kernel
theorem dX1_valueSize_53 : decode cX1_valueSize 53 = .ok (.iinc 4 1, 3) := by decide +kernel
theorem dX1_valueSize_56 : decode cX1_valueSize 56 = .ok (.goto (-12), 3) := by decide +kernel
theorem dX1_valueSize_59 : decode cX1_valueSize 59 = .ok (.aload_n 0, 1) := by decide +kernel
theorem dX1_valueSize_60 : decode cX1_valueSize 60 = .ok (.getfield 38, 3) := by decide +kernel
theorem dX1_valueSize_63 : decode cX1_valueSize 63 = .ok (.ifCond .lt 33, 3) := by decide +kernel
theorem dX1_valueSize_66 : decode cX1_valueSize 66 = .ok (.iload_n 3, 1) := by decide +kernel
theorem dX1_valueSize_67 : decode cX1_valueSize 67 = .ok (.aload_n 0, 1) := by decide +kernel
theorem dX1_valueSize_68 : decode cX1_valueSize 68 = .ok (.getfield 38, 3) := by decide +kernel
theorem dX1_valueSize_71 : decode cX1_valueSize 71 = .ok (.if_icmp .lt 25, 3) := by decide +kernel
theorem dX1_valueSize_74 : decode cX1_valueSize 74 = .ok (.iload 4, 2) := by decide +kernel
theorem dX1_valueSize_76 : decode cX1_valueSize 76 = .ok (.aload_n 0, 1) := by decide +kernel
theorem dX1_valueSize_77 : decode cX1_valueSize 77 = .ok (.getfield 41, 3) := by decide +kernel
theorem dX1_valueSize_80 : decode cX1_valueSize 80 = .ok (.if_icmp .lt 16, 3) := by decide +kernel
theorem dX1_valueSize_83 : decode cX1_valueSize 83 = .ok (.bipush 18, 2) := by decide +kernel
theorem dX1_valueSize_85 : decode cX1_valueSize 85 = .ok (.aload_n 0, 1) := by decide +kernel
theorem dX1_valueSize_86 : decode cX1_valueSize 86 = .ok (.getfield 38, 3) := by decide +kernel
theorem dX1_valueSize_89 : decode cX1_valueSize 89 = .ok (.isub, 1) := by decide +kernel
theorem dX1_valueSize_90 : decode cX1_valueSize 90 = .ok (.aload_n 0, 1) := by decide +kernel
theorem dX1_valueSize_91 : decode cX1_valueSize 91 = .ok (.getfield 41, 3) := by decide +kernel
theorem dX1_valueSize_94 : decode cX1_valueSize 94 = .ok (.isub, 1) := by decide +kernel
theorem dX1_valueSize_95 : decode cX1_valueSize 95 = .ok (.ireturn, 1) := by decide +kernel
theorem dX1_valueSize_96 : decode cX1_valueSize 96 = .ok (.aload_n 0, 1) := by decide +kernel
theorem dX1_valueSize_97 : decode cX1_valueSize 97 = .ok (.iload_n 3, 1) := by decide +kernel
theorem dX1_valueSize_98 : decode cX1_valueSize 98 = .ok (.putfield 38, 3) := by decide +kernel
theorem dX1_valueSize_101 : decode cX1_valueSize 101 = .ok (.aload_n 0, 1) := by decide +kernel
theorem dX1_valueSize_102 : decode cX1_valueSize 102 = .ok (.iload 4, 2) := by decide +kernel
theorem dX1_valueSize_104 : decode cX1_valueSize 104 = .ok (.putfield 41, 3) := by decide +kernel
theorem dX1_valueSize_107 : decode cX1_valueSize 107 = .ok (.bipush 26, 2) := by decide +kernel
theorem dX1_valueSize_109 : decode cX1_valueSize 109 = .ok (.iload_n 3, 1) := by decide +kernel
theorem dX1_valueSize_110 : decode cX1_valueSize 110 = .ok (.isub, 1) := by decide +kernel
theorem dX1_valueSize_111 : decode cX1_valueSize 111 = .ok (.iload 4, 2) := by decide +kernel
theorem dX1_valueSize_113 : decode cX1_valueSize 113 = .ok (.isub, 1) := by decide +kernel
theorem dX1_valueSize_114 : decode cX1_valueSize 114 = .ok (.ireturn, 1) := by decide +kernel
theorem dX1_packed_0 : decode cX1_packed 0 = .ok (.iconst 0, 1) := by decide +kernel
theorem dX1_packed_1 : decode cX1_packed 1 = .ok (.istore_n 1, 1) := by decide +kernel
theorem dX1_packed_2 : decode cX1_packed 2 = .ok (.iconst 0, 1) := by decide +kernel
theorem dX1_packed_3 : decode cX1_packed 3 = .ok (.istore_n 2, 1) := by decide +kernel
theorem dX1_packed_4 : decode cX1_packed 4 = .ok (.bipush 16, 2) := by decide +kernel
theorem dX1_packed_6 : decode cX1_packed 6 = .ok (.iload_n 2, 1) := by decide +kernel
theorem dX1_packed_7 : decode cX1_packed 7 = .ok (.imul, 1) := by decide +kernel
theorem dX1_packed_8 : decode cX1_packed 8 = .ok (.aload_n 0, 1) := by decide +kernel
theorem dX1_packed_9 : decode cX1_packed 9 = .ok (.getfield 16, 3) := by decide +kernel
theorem dX1_packed_12 : decode cX1_packed 12 = .ok (.if_icmp .ge 17, 3) := by decide +kernel
theorem dX1_packed_15 : decode cX1_packed 15 = .ok (.iload_n 1, 1) := by decide +kernel
theorem dX1_packed_16 : decode cX1_packed 16 = .ok (.aload_n 0, 1) := by decide +kernel
theorem dX1_packed_17 : decode cX1_packed 17 = .ok (.iload_n 2, 1) := by decide +kernel
theorem dX1_packed_18 : decode cX1_packed 18 = .ok (.invokevirtual 51, 3) := by decide +kernel
theorem dX1_packed_21 : decode cX1_packed 21 = .ok (.iadd, 1) := by decide +kernel
theorem dX1_packed_22 : decode cX1_packed 22 = .ok (.istore_n 1, 1) := by decide +kernel
theorem dX1_packed_23 : decode cX1_packed 23 = .ok (.iinc 2 1, 3) := by decide +kernel
theorem dX1_packed_26 : decode cX1_packed 26 = .ok (.goto (-22), 3) := by decide +kernel
theorem dX1_packed_29 : decode cX1_packed 29 = .ok (.iload_n 1, 1) := by decide +kernel
theorem dX1_packed_30 : decode cX1_packed 30 = .ok (.ireturn, 1) := by decide +kernel
theorem dX1_firstFrom_0 : decode cX1_firstFrom 0 = .ok (.iconst 0, 1) := by decide +kernel
theorem dX1_firstFrom_1 : decode cX1_firstFrom 1 = .ok (.istore_n 2, 1) := by decide +kernel
theorem dX1_firstFrom_2 : decode cX1_firstFrom 2 = .ok (.iload_n 2, 1) := by decide +kernel
theorem dX1_firstFrom_3 : decode cX1_firstFrom 3 = .ok (.aload_n 0, 1) := by decide +kernel
theorem dX1_firstFrom_4 : decode cX1_firstFrom 4 = .ok (.getfield 16, 3) := by decide +kernel
theorem dX1_firstFrom_7 : decode cX1_firstFrom 7 = .ok (.if_icmp .ge 21, 3) := by decide +kernel
theorem dX1_firstFrom_10 : decode cX1_firstFrom 10 = .ok (.aload_n 0, 1) := by decide +kernel
theorem dX1_firstFrom_11 : decode cX1_firstFrom 11 = .ok (.getfield 7, 3) := by decide +kernel
theorem dX1_firstFrom_14 : decode cX1_firstFrom 14 = .ok (.iload_n 2, 1) := by decide +kernel
theorem dX1_firstFrom_15 : decode cX1_firstFrom 15 = .ok (.iaload, 1) := by decide +kernel
theorem dX1_firstFrom_16 : decode cX1_firstFrom 16 = .ok (.iload_n 1, 1) := by decide +kernel
theorem dX1_firstFrom_17 : decode cX1_firstFrom 17 = .ok (.if_icmp .lt 5, 3) := by decide +kernel
theorem dX1_firstFrom_20 : decode cX1_firstFrom 20 = .ok (.iload_n 2, 1) := by decide +kernel
theorem dX1_firstFrom_21 : decode cX1_firstFrom 21 = .ok (.ireturn, 1) := by decide +kernel
theorem dX1_firstFrom_22 : decode cX1_firstFrom 22 = .ok (.iinc 2 1, 3) := by decide +kernel
theorem dX1_firstFrom_25 : decode cX1_firstFrom 25 = .ok (.goto (-23), 3) := by decide +kernel
theorem dX1_firstFrom_28 : decode cX1_firstFrom 28 = .ok (.bipush (-4), 2) := by decide +kernel
theorem dX1_firstFrom_30 : decode cX1_firstFrom 30 = .ok (.ireturn, 1) := by decide +kernel
theorem dX1_count_0 : decode cX1_count 0 = .ok (.aload_n 0, 1) := by decide +kernel
theorem dX1_count_1 : decode cX1_count 1 = .ok (.iload_n 1, 1) := by decide +kernel
theorem dX1_count_2 : decode cX1_count 2 = .ok (.iload_n 2, 1) := by decide +kernel
theorem dX1_count_3 : decode cX1_count 3 = .ok (.invokevirtual 54, 3) := by decide +kernel
theorem dX1_count_6 : decode cX1_count 6 = .ok (.ifCond .ne 5, 3) := by decide +kernel
theorem dX1_count_9 : decode cX1_count 9 = .ok (.iconst (-1), 1) := by decide +kernel
theorem dX1_count_10 : decode cX1_count 10 = .ok (.ireturn, 1) := by decide +kernel
theorem dX1_count_11 : decode cX1_count 11 = .ok (.iconst 0, 1) := by decide +kernel
theorem dX1_count_12 : decode cX1_count 12 = .ok (.istore_n 3, 1) := by decide +kernel
theorem dX1_count_13 : decode cX1_count 13 = .ok (.iconst 0, 1) := by decide +kernel
theorem dX1_count_14 : decode cX1_count 14 = .ok (.istore 4, 2) := by decide +kernel
theorem dX1_count_16 : decode cX1_count 16 = .ok (.iload 4, 2) := by decide +kernel
theorem dX1_count_18 : decode cX1_count 18 = .ok (.aload_n 0, 1) := by decide +kernel
theorem dX1_count_19 : decode cX1_count 19 = .ok (.getfield 16, 3) := by decide +kernel
theorem dX1_count_22 : decode cX1_count 22 = .ok (.if_icmp .ge 28, 3) := by decide +kernel
theorem dX1_count_25 : decode cX1_count 25 = .ok (.aload_n 0, 1) := by decide +kernel
theorem dX1_count_26 : decode cX1_count 26 = .ok (.iload 4, 2) := by decide +kernel
theorem dX1_count_28 : decode cX1_count 28 = .ok (.iload_n 1, 1) := by decide +kernel
theorem dX1_count_29 : decode cX1_count 29 = .ok (.iload_n 2, 1) := by decide +kernel
theorem dX1_count_30 : decode cX1_count 30 = .ok (.invokevirtual 58, 3) := by decide +kernel
theorem dX1_count_33 : decode cX1_count 33 = .ok (.ifCond .eq 9, 3) := by decide +kernel
theorem dX1_count_36 : decode cX1_count 36 = .ok (.iload_n 3, 1) := by decide +kernel
theorem dX1_count_37 : decode cX1_count 37 = .ok (.iconst 1, 1) := by decide +kernel
theorem dX1_count_38 : decode cX1_count 38 = .ok (.iadd, 1) := by decide +kernel
theorem dX1_count_39 : decode cX1_count 39 = .ok (.goto 4, 3) := by decide +kernel
theorem dX1_count_42 : decode cX1_count 42 = .ok (.iload_n 3, 1) := by decide +kernel
theorem dX1_count_43 : decode cX1_count 43 = .ok (.istore_n 3, 1) := by decide +kernel
theorem dX1_count_44 : decode cX1_count 44 = .ok (.iinc 4 1, 3) := by decide +kernel
theorem dX1_count_47 : decode cX1_count 47 = .ok (.goto (-31), 3) := by decide +kernel
theorem dX1_count_50 : decode cX1_count 50 = .ok (.iload_n 3, 1) := by decide +kernel
theorem dX1_count_51 : decode cX1_count 51 = .ok (.ireturn, 1) := by decide +kernel
theorem dX1_isSpan_0 : decode cX1_isSpan 0 = .ok (.iload_n 1, 1) := by decide +kernel
theorem dX1_isSpan_1 : decode cX1_isSpan 1 = .ok (.ifCond .lt 18, 3) := by decide +kernel
theorem dX1_isSpan_4 : decode cX1_isSpan 4 = .ok (.iload_n 1, 1) := by decide +kernel
theorem dX1_isSpan_5 : decode cX1_isSpan 5 = .ok (.iload_n 2, 1) := by decide +kernel
theorem dX1_isSpan_6 : decode cX1_isSpan 6 = .ok (.if_icmp .gt 13, 3) := by decide +kernel
theorem dX1_isSpan_9 : decode cX1_isSpan 9 = .ok (.iload_n 2, 1) := by decide +kernel
theorem dX1_isSpan_10 : decode cX1_isSpan 10 = .ok (.ldc 21, 2) := by decide +kernel
theorem dX1_isSpan_12 : decode cX1_isSpan 12 = .ok (.if_icmp .gt 7, 3) := by decide +kernel
theorem dX1_isSpan_15 : decode cX1_isSpan 15 = .ok (.iconst 1, 1) := by decide +kernel
theorem dX1_isSpan_16 : decode cX1_isSpan 16 = .ok (.goto 4, 3) := by decide +kernel
theorem dX1_isSpan_19 : decode cX1_isSpan 19 = .ok (.iconst 0, 1) := by decide +kernel
theorem dX1_isSpan_20 : decode cX1_isSpan 20 = .ok (.ireturn, 1) := by decide +kernel
theorem dX1_isIn_0 : decode cX1_isIn 0 = .ok (.aload_n 0, 1) := by decide +kernel
theorem dX1_isIn_1 : decode cX1_isIn 1 = .ok (.getfield 7, 3) := by decide +kernel
theorem dX1_isIn_4 : decode cX1_isIn 4 = .ok (.iload_n 1, 1) := by decide +kernel
theorem dX1_isIn_5 : decode cX1_isIn 5 = .ok (.iaload, 1) := by decide +kernel
theorem dX1_isIn_6 : decode cX1_isIn 6 = .ok (.iload_n 2, 1) := by decide +kernel
theorem dX1_isIn_7 : decode cX1_isIn 7 = .ok (.if_icmp .lt 17, 3) := by decide +kernel
theorem dX1_isIn_10 : decode cX1_isIn 10 = .ok (.aload_n 0, 1) := by decide +kernel
theorem dX1_isIn_11 : decode cX1_isIn 11 = .ok (.getfield 7, 3) := by decide +kernel
theorem dX1_isIn_14 : decode cX1_isIn 14 = .ok (.iload_n 1, 1) := by decide +kernel
theorem dX1_isIn_15 : decode cX1_isIn 15 = .ok (.iaload, 1) := by decide +kernel
theorem dX1_isIn_16 : decode cX1_isIn 16 = .ok (.iload_n 3, 1) := by decide +kernel
theorem dX1_isIn_17 : decode cX1_isIn 17 = .ok (.if_icmp .gt 7, 3) := by decide +kernel
theorem dX1_isIn_20 : decode cX1_isIn 20 = .ok (.iconst 1, 1) := by decide +kernel
theorem dX1_isIn_21 : decode cX1_isIn 21 = .ok (.goto 4, 3) := by decide +kernel
theorem dX1_isIn_24 : decode cX1_isIn 24 = .ok (.iconst 0, 1) := by decide +kernel
theorem dX1_isIn_25 : decode cX1_isIn 25 = .ok (.ireturn, 1) := by decide +kernel
theorem dX1_sum_0 : decode cX1_sum 0 = .ok (.aload_n 0, 1) := by decide +kernel
theorem dX1_sum_1 : decode cX1_sum 1 = .ok (.iload_n 1, 1) := by decide +kernel
theorem dX1_sum_2 : decode cX1_sum 2 = .ok (.iload_n 2, 1) := by decide +kernel
theorem dX1_sum_3 : decode cX1_sum 3 = .ok (.invokevirtual 54, 3) := by decide +kernel
theorem dX1_sum_6 : decode cX1_sum 6 = .ok (.ifCond .ne 5, 3) := by decide +kernel
theorem dX1_sum_9 : decode cX1_sum 9 = .ok (.iconst (-1), 1) := by decide +kernel
theorem dX1_sum_10 : decode cX1_sum 10 = .ok (.ireturn, 1) := by decide +kernel
theorem dX1_sum_11 : decode cX1_sum 11 = .ok (.iconst 0, 1) := by decide +kernel
theorem dX1_sum_12 : decode cX1_sum 12 = .ok (.istore_n 3, 1) := by decide +kernel
theorem dX1_sum_13 : decode cX1_sum 13 = .ok (.iconst 0, 1) := by decide +kernel
theorem dX1_sum_14 : decode cX1_sum 14 = .ok (.istore 4, 2) := by decide +kernel
theorem dX1_sum_16 : decode cX1_sum 16 = .ok (.iload 4, 2) := by decide +kernel
theorem dX1_sum_18 : decode cX1_sum 18 = .ok (.aload_n 0, 1) := by decide +kernel
theorem dX1_sum_19 : decode cX1_sum 19 = .ok (.getfield 16, 3) := by decide +kernel
theorem dX1_sum_22 : decode cX1_sum 22 = .ok (.if_icmp .ge 34, 3) := by decide +kernel
theorem dX1_sum_25 : decode cX1_sum 25 = .ok (.aload_n 0, 1) := by decide +kernel
theorem dX1_sum_26 : decode cX1_sum 26 = .ok (.iload 4, 2) := by decide +kernel
theorem dX1_sum_28 : decode cX1_sum 28 = .ok (.iload_n 1, 1) := by decide +kernel
theorem dX1_sum_29 : decode cX1_sum 29 = .ok (.iload_n 2, 1) := by decide +kernel
theorem dX1_sum_30 : decode cX1_sum 30 = .ok (.invokevirtual 58, 3) := by decide +kernel
theorem dX1_sum_33 : decode cX1_sum 33 = .ok (.ifCond .eq 15, 3) := by decide +kernel
theorem dX1_sum_36 : decode cX1_sum 36 = .ok (.iload_n 3, 1) := by decide +kernel
theorem dX1_sum_37 : decode cX1_sum 37 = .ok (.aload_n 0, 1) := by decide +kernel
theorem dX1_sum_38 : decode cX1_sum 38 = .ok (.getfield 13, 3) := by decide +kernel
theorem dX1_sum_41 : decode cX1_sum 41 = .ok (.iload 4, 2) := by decide +kernel
theorem dX1_sum_43 : decode cX1_sum 43 = .ok (.iaload, 1) := by decide +kernel
theorem dX1_sum_44 : decode cX1_sum 44 = .ok (.iadd, 1) := by decide +kernel
theorem dX1_sum_45 : decode cX1_sum 45 = .ok (.goto 4, 3) := by decide +kernel
theorem dX1_sum_48 : decode cX1_sum 48 = .ok (.iload_n 3, 1) := by decide +kernel
theorem dX1_sum_49 : decode cX1_sum 49 = .ok (.istore_n 3, 1) := by decide +kernel
theorem dX1_sum_50 : decode cX1_sum 50 = .ok (.iinc 4 1, 3) := by decide +kernel
theorem dX1_sum_53 : decode cX1_sum 53 = .ok (.goto (-37), 3) := by decide +kernel
theorem dX1_sum_56 : decode cX1_sum 56 = .ok (.iload_n 3, 1) := by decide +kernel
theorem dX1_sum_57 : decode cX1_sum 57 = .ok (.ireturn, 1) := by decide +kernel
theorem dX1_greatest_0 : decode cX1_greatest 0 = .ok (.aload_n 0, 1) := by decide +kernel
theorem dX1_greatest_1 : decode cX1_greatest 1 = .ok (.iload_n 1, 1) := by decide +kernel
theorem dX1_greatest_2 : decode cX1_greatest 2 = .ok (.iload_n 2, 1) := by decide +kernel
theorem dX1_greatest_3 : decode cX1_greatest 3 = .ok (.invokevirtual 54, 3) := by decide +kernel
theorem dX1_greatest_6 : decode cX1_greatest 6 = .ok (.ifCond .ne 5, 3) := by decide +kernel
theorem dX1_greatest_9 : decode cX1_greatest 9 = .ok (.iconst (-1), 1) := by decide +kernel
theorem dX1_greatest_10 : decode cX1_greatest 10 = .ok (.ireturn, 1) := by decide +kernel
theorem dX1_greatest_11 : decode cX1_greatest 11 = .ok (.bipush (-4), 2) := by decide +kernel
theorem dX1_greatest_13 : decode cX1_greatest 13 = .ok (.istore_n 3, 1) := by decide +kernel
theorem dX1_greatest_14 : decode cX1_greatest 14 = .ok (.iconst 0, 1) := by decide +kernel
theorem dX1_greatest_15 : decode cX1_greatest 15 = .ok (.istore 4, 2) := by decide +kernel
theorem dX1_greatest_17 : decode cX1_greatest 17 = .ok (.iload 4, 2) := by decide +kernel
theorem dX1_greatest_19 : decode cX1_greatest 19 = .ok (.aload_n 0, 1) := by decide +kernel
theorem dX1_greatest_20 : decode cX1_greatest 20 = .ok (.getfield 16, 3) := by decide +kernel
theorem dX1_greatest_23 : decode cX1_greatest 23 = .ok (.if_icmp .ge 43, 3) := by decide +kernel
theorem dX1_greatest_26 : decode cX1_greatest 26 = .ok (.aload_n 0, 1) := by decide +kernel
theorem dX1_greatest_27 : decode cX1_greatest 27 = .ok (.iload 4, 2) := by decide +kernel
theorem dX1_greatest_29 : decode cX1_greatest 29 = .ok (.iload_n 1, 1) := by decide +kernel
theorem dX1_greatest_30 : decode cX1_greatest 30 = .ok (.iload_n 2, 1) := by decide +kernel
theorem dX1_greatest_31 : decode cX1_greatest 31 = .ok (.invokevirtual 58, 3) := by decide +kernel
theorem dX1_greatest_34 : decode cX1_greatest 34 = .ok (.ifCond .eq 24, 3) := by decide +kernel
theorem dX1_greatest_37 : decode cX1_greatest 37 = .ok (.aload_n 0, 1) := by decide +kernel
theorem dX1_greatest_38 : decode cX1_greatest 38 = .ok (.getfield 13, 3) := by decide +kernel
theorem dX1_greatest_41 : decode cX1_greatest 41 = .ok (.iload 4, 2) := by decide +kernel
theorem dX1_greatest_43 : decode cX1_greatest 43 = .ok (.iaload, 1) := by decide +kernel
theorem dX1_greatest_44 : decode cX1_greatest 44 = .ok (.iload_n 3, 1) := by decide +kernel
theorem dX1_greatest_45 : decode cX1_greatest 45 = .ok (.if_icmp .le 13, 3) := by decide +kernel
theorem dX1_greatest_48 : decode cX1_greatest 48 = .ok (.aload_n 0, 1) := by decide +kernel
theorem dX1_greatest_49 : decode cX1_greatest 49 = .ok (.getfield 13, 3) := by decide +kernel
theorem dX1_greatest_52 : decode cX1_greatest 52 = .ok (.iload 4, 2) := by decide +kernel
theorem dX1_greatest_54 : decode cX1_greatest 54 = .ok (.iaload, 1) := by decide +kernel
theorem dX1_greatest_55 : decode cX1_greatest 55 = .ok (.goto 4, 3) := by decide +kernel
theorem dX1_greatest_58 : decode cX1_greatest 58 = .ok (.iload_n 3, 1) := by decide +kernel
theorem dX1_greatest_59 : decode cX1_greatest 59 = .ok (.istore_n 3, 1) := by decide +kernel
theorem dX1_greatest_60 : decode cX1_greatest 60 = .ok (.iinc 4 1, 3) := by decide +kernel
theorem dX1_greatest_63 : decode cX1_greatest 63 = .ok (.goto (-46), 3) := by decide +kernel
theorem dX1_greatest_66 : decode cX1_greatest 66 = .ok (.iload_n 3, 1) := by decide +kernel
theorem dX1_greatest_67 : decode cX1_greatest 67 = .ok (.ireturn, 1) := by decide +kernel
theorem dX1_least_0 : decode cX1_least 0 = .ok (.aload_n 0, 1) := by decide +kernel
theorem dX1_least_1 : decode cX1_least 1 = .ok (.iload_n 1, 1) := by decide +kernel
theorem dX1_least_2 : decode cX1_least 2 = .ok (.iload_n 2, 1) := by decide +kernel
theorem dX1_least_3 : decode cX1_least 3 = .ok (.invokevirtual 54, 3) := by decide +kernel
theorem dX1_least_6 : decode cX1_least 6 = .ok (.ifCond .ne 5, 3) := by decide +kernel
theorem dX1_least_9 : decode cX1_least 9 = .ok (.iconst (-1), 1) := by decide +kernel
theorem dX1_least_10 : decode cX1_least 10 = .ok (.ireturn, 1) := by decide +kernel
theorem dX1_least_11 : decode cX1_least 11 = .ok (.bipush (-4), 2) := by decide +kernel
theorem dX1_least_13 : decode cX1_least 13 = .ok (.istore_n 3, 1) := by decide +kernel
theorem dX1_least_14 : decode cX1_least 14 = .ok (.iconst 0, 1) := by decide +kernel
theorem dX1_least_15 : decode cX1_least 15 = .ok (.istore 4, 2) := by decide +kernel
theorem dX1_least_17 : decode cX1_least 17 = .ok (.iload 4, 2) := by decide +kernel
theorem dX1_least_19 : decode cX1_least 19 = .ok (.aload_n 0, 1) := by decide +kernel
theorem dX1_least_20 : decode cX1_least 20 = .ok (.getfield 16, 3) := by decide +kernel
theorem dX1_least_23 : decode cX1_least 23 = .ok (.if_icmp .ge 47, 3) := by decide +kernel
theorem dX1_least_26 : decode cX1_least 26 = .ok (.aload_n 0, 1) := by decide +kernel
theorem dX1_least_27 : decode cX1_least 27 = .ok (.iload 4, 2) := by decide +kernel
theorem dX1_least_29 : decode cX1_least 29 = .ok (.iload_n 1, 1) := by decide +kernel
theorem dX1_least_30 : decode cX1_least 30 = .ok (.iload_n 2, 1) := by decide +kernel
theorem dX1_least_31 : decode cX1_least 31 = .ok (.invokevirtual 58, 3) := by decide +kernel
theorem dX1_least_34 : decode cX1_least 34 = .ok (.ifCond .eq 28, 3) := by decide +kernel
theorem dX1_least_37 : decode cX1_least 37 = .ok (.iload_n 3, 1) := by decide +kernel
theorem dX1_least_38 : decode cX1_least 38 = .ok (.ifCond .lt 14, 3) := by decide +kernel
theorem dX1_least_41 : decode cX1_least 41 = .ok (.aload_n 0, 1) := by decide +kernel
theorem dX1_least_42 : decode cX1_least 42 = .ok (.getfield 13, 3) := by decide +kernel
theorem dX1_least_45 : decode cX1_least 45 = .ok (.iload 4, 2) := by decide +kernel
theorem dX1_least_47 : decode cX1_least 47 = .ok (.iaload, 1) := by decide +kernel
theorem dX1_least_48 : decode cX1_least 48 = .ok (.iload_n 3, 1) := by decide +kernel
theorem dX1_least_49 : decode cX1_least 49 = .ok (.if_icmp .ge 13, 3) := by decide +kernel
theorem dX1_least_52 : decode cX1_least 52 = .ok (.aload_n 0, 1) := by decide +kernel
theorem dX1_least_53 : decode cX1_least 53 = .ok (.getfield 13, 3) := by decide +kernel
theorem dX1_least_56 : decode cX1_least 56 = .ok (.iload 4, 2) := by decide +kernel
theorem dX1_least_58 : decode cX1_least 58 = .ok (.iaload, 1) := by decide +kernel
theorem dX1_least_59 : decode cX1_least 59 = .ok (.goto 4, 3) := by decide +kernel
theorem dX1_least_62 : decode cX1_least 62 = .ok (.iload_n 3, 1) := by decide +kernel
theorem dX1_least_63 : decode cX1_least 63 = .ok (.istore_n 3, 1) := by decide +kernel
theorem dX1_least_64 : decode cX1_least 64 = .ok (.iinc 4 1, 3) := by decide +kernel
theorem dX1_least_67 : decode cX1_least 67 = .ok (.goto (-50), 3) := by decide +kernel
theorem dX1_least_70 : decode cX1_least 70 = .ok (.iload_n 3, 1) := by decide +kernel
theorem dX1_least_71 : decode cX1_least 71 = .ok (.ireturn, 1) := by decide +kernel
theorem dX1_valueAt_0 : decode cX1_valueAt 0 = .ok (.bipush (-4), 2) := by decide +kernel
theorem dX1_valueAt_2 : decode cX1_valueAt 2 = .ok (.istore_n 2, 1) := by decide +kernel
theorem dX1_valueAt_3 : decode cX1_valueAt 3 = .ok (.iconst 0, 1) := by decide +kernel
theorem dX1_valueAt_4 : decode cX1_valueAt 4 = .ok (.istore_n 3, 1) := by decide +kernel
theorem dX1_valueAt_5 : decode cX1_valueAt 5 = .ok (.iload_n 3, 1) := by decide +kernel
theorem dX1_valueAt_6 : decode cX1_valueAt 6 = .ok (.aload_n 0, 1) := by decide +kernel
theorem dX1_valueAt_7 : decode cX1_valueAt 7 = .ok (.getfield 16, 3) := by decide +kernel
theorem dX1_valueAt_10 : decode cX1_valueAt 10 = .ok (.if_icmp .ge 30, 3) := by decide +kernel
theorem dX1_valueAt_13 : decode cX1_valueAt 13 = .ok (.aload_n 0, 1) := by decide +kernel
theorem dX1_valueAt_14 : decode cX1_valueAt 14 = .ok (.getfield 7, 3) := by decide +kernel
theorem dX1_valueAt_17 : decode cX1_valueAt 17 = .ok (.iload_n 3, 1) := by decide +kernel
theorem dX1_valueAt_18 : decode cX1_valueAt 18 = .ok (.iaload, 1) := by decide +kernel
theorem dX1_valueAt_19 : decode cX1_valueAt 19 = .ok (.iload_n 1, 1) := by decide +kernel
theorem dX1_valueAt_20 : decode cX1_valueAt 20 = .ok (.if_icmp .gt 12, 3) := by decide +kernel
theorem dX1_valueAt_23 : decode cX1_valueAt 23 = .ok (.aload_n 0, 1) := by decide +kernel
theorem dX1_valueAt_24 : decode cX1_valueAt 24 = .ok (.getfield 13, 3) := by decide +kernel
theorem dX1_valueAt_27 : decode cX1_valueAt 27 = .ok (.iload_n 3, 1) := by decide +kernel
theorem dX1_valueAt_28 : decode cX1_valueAt 28 = .ok (.iaload, 1) := by decide +kernel
theorem dX1_valueAt_29 : decode cX1_valueAt 29 = .ok (.goto 4, 3) := by decide +kernel
theorem dX1_valueAt_32 : decode cX1_valueAt 32 = .ok (.iload_n 2, 1) := by decide +kernel
theorem dX1_valueAt_33 : decode cX1_valueAt 33 = .ok (.istore_n 2, 1) := by decide +kernel
theorem dX1_valueAt_34 : decode cX1_valueAt 34 = .ok (.iinc 3 1, 3) := by decide +kernel
theorem dX1_valueAt_37 : decode cX1_valueAt 37 = .ok (.goto (-32), 3) := by decide +kernel
theorem dX1_valueAt_40 : decode cX1_valueAt 40 = .ok (.iload_n 2, 1) := by decide +kernel
theorem dX1_valueAt_41 : decode cX1_valueAt 41 = .ok (.ireturn, 1) := by decide +kernel
theorem dX1_rises_0 : decode cX1_rises 0 = .ok (.iconst 0, 1) := by decide +kernel
theorem dX1_rises_1 : decode cX1_rises 1 = .ok (.istore_n 1, 1) := by decide +kernel
theorem dX1_rises_2 : decode cX1_rises 2 = .ok (.iconst 1, 1) := by decide +kernel
theorem dX1_rises_3 : decode cX1_rises 3 = .ok (.istore_n 2, 1) := by decide +kernel
theorem dX1_rises_4 : decode cX1_rises 4 = .ok (.iload_n 2, 1) := by decide +kernel
theorem dX1_rises_5 : decode cX1_rises 5 = .ok (.aload_n 0, 1) := by decide +kernel
theorem dX1_rises_6 : decode cX1_rises 6 = .ok (.getfield 16, 3) := by decide +kernel
theorem dX1_rises_9 : decode cX1_rises 9 = .ok (.if_icmp .ge 34, 3) := by decide +kernel
theorem dX1_rises_12 : decode cX1_rises 12 = .ok (.aload_n 0, 1) := by decide +kernel
theorem dX1_rises_13 : decode cX1_rises 13 = .ok (.getfield 13, 3) := by decide +kernel
theorem dX1_rises_16 : decode cX1_rises 16 = .ok (.iload_n 2, 1) := by decide +kernel
theorem dX1_rises_17 : decode cX1_rises 17 = .ok (.iaload, 1) := by decide +kernel
theorem dX1_rises_18 : decode cX1_rises 18 = .ok (.aload_n 0, 1) := by decide +kernel
theorem dX1_rises_19 : decode cX1_rises 19 = .ok (.getfield 13, 3) := by decide +kernel
theorem dX1_rises_22 : decode cX1_rises 22 = .ok (.iload_n 2, 1) := by decide +kernel
theorem dX1_rises_23 : decode cX1_rises 23 = .ok (.iconst 1, 1) := by decide +kernel
theorem dX1_rises_24 : decode cX1_rises 24 = .ok (.isub, 1) := by decide +kernel
theorem dX1_rises_25 : decode cX1_rises 25 = .ok (.iaload, 1) := by decide +kernel
theorem dX1_rises_26 : decode cX1_rises 26 = .ok (.if_icmp .le 9, 3) := by decide +kernel
theorem dX1_rises_29 : decode cX1_rises 29 = .ok (.iload_n 1, 1) := by decide +kernel
theorem dX1_rises_30 : decode cX1_rises 30 = .ok (.iconst 1, 1) := by decide +kernel
theorem dX1_rises_31 : decode cX1_rises 31 = .ok (.iadd, 1) := by decide +kernel
theorem dX1_rises_32 : decode cX1_rises 32 = .ok (.goto 4, 3) := by decide +kernel
theorem dX1_rises_35 : decode cX1_rises 35 = .ok (.iload_n 1, 1) := by decide +kernel
theorem dX1_rises_36 : decode cX1_rises 36 = .ok (.istore_n 1, 1) := by decide +kernel
theorem dX1_rises_37 : decode cX1_rises 37 = .ok (.iinc 2 1, 3) := by decide +kernel
theorem dX1_rises_40 : decode cX1_rises 40 = .ok (.goto (-36), 3) := by decide +kernel
theorem dX1_rises_43 : decode cX1_rises 43 = .ok (.iload_n 1, 1) := by decide +kernel
theorem dX1_rises_44 : decode cX1_rises 44 = .ok (.ireturn, 1) := by decide +kernel
theorem dX1_widestGap_0 : decode cX1_widestGap 0 = .ok (.bipush (-4), 2) := by decide +kernel
theorem dX1_widestGap_2 : decode cX1_widestGap 2 = .ok (.istore_n 1, 1) := by decide +kernel
theorem dX1_widestGap_3 : decode cX1_widestGap 3 = .ok (.iconst 1, 1) := by decide +kernel
theorem dX1_widestGap_4 : decode cX1_widestGap 4 = .ok (.istore_n 2, 1) := by decide +kernel
theorem dX1_widestGap_5 : decode cX1_widestGap 5 = .ok (.iload_n 2, 1) := by decide +kernel
theorem dX1_widestGap_6 : decode cX1_widestGap 6 = .ok (.aload_n 0, 1) := by decide +kernel
theorem dX1_widestGap_7 : decode cX1_widestGap 7 = .ok (.getfield 16, 3) := by decide +kernel
theorem dX1_widestGap_10 : decode cX1_widestGap 10 = .ok (.if_icmp .ge 48, 3) := by decide +kernel
theorem dX1_widestGap_13 : decode cX1_widestGap 13 = .ok (.aload_n 0, 1) := by decide +kernel
theorem dX1_widestGap_14 : decode cX1_widestGap 14 = .ok (.getfield 7, 3) := by decide +kernel
theorem dX1_widestGap_17 : decode cX1_widestGap 17 = .ok (.iload_n 2, 1) := by decide +kernel
theorem dX1_widestGap_18 : decode cX1_widestGap 18 = .ok (.iaload, 1) := by decide +kernel
theorem dX1_widestGap_19 : decode cX1_widestGap 19 = .ok (.aload_n 0, 1) := by decide +kernel
theorem dX1_widestGap_20 : decode cX1_widestGap 20 = .ok (.getfield 7, 3) := by decide +kernel
theorem dX1_widestGap_23 : decode cX1_widestGap 23 = .ok (.iload_n 2, 1) := by decide +kernel
theorem dX1_widestGap_24 : decode cX1_widestGap 24 = .ok (.iconst 1, 1) := by decide +kernel
theorem dX1_widestGap_25 : decode cX1_widestGap 25 = .ok (.isub, 1) := by decide +kernel
theorem dX1_widestGap_26 : decode cX1_widestGap 26 = .ok (.iaload, 1) := by decide +kernel
theorem dX1_widestGap_27 : decode cX1_widestGap 27 = .ok (.isub, 1) := by decide +kernel
theorem dX1_widestGap_28 : decode cX1_widestGap 28 = .ok (.iload_n 1, 1) := by decide +kernel
theorem dX1_widestGap_29 : decode cX1_widestGap 29 = .ok (.if_icmp .le 21, 3) := by decide +kernel
theorem dX1_widestGap_32 : decode cX1_widestGap 32 = .ok (.aload_n 0, 1) := by decide +kernel
theorem dX1_widestGap_33 : decode cX1_widestGap 33 = .ok (.getfield 7, 3) := by decide +kernel
theorem dX1_widestGap_36 : decode cX1_widestGap 36 = .ok (.iload_n 2, 1) := by decide +kernel
theorem dX1_widestGap_37 : decode cX1_widestGap 37 = .ok (.iaload, 1) := by decide +kernel
theorem dX1_widestGap_38 : decode cX1_widestGap 38 = .ok (.aload_n 0, 1) := by decide +kernel
theorem dX1_widestGap_39 : decode cX1_widestGap 39 = .ok (.getfield 7, 3) := by decide +kernel
theorem dX1_widestGap_42 : decode cX1_widestGap 42 = .ok (.iload_n 2, 1) := by decide +kernel
theorem dX1_widestGap_43 : decode cX1_widestGap 43 = .ok (.iconst 1, 1) := by decide +kernel
theorem dX1_widestGap_44 : decode cX1_widestGap 44 = .ok (.isub, 1) := by decide +kernel
theorem dX1_widestGap_45 : decode cX1_widestGap 45 = .ok (.iaload, 1) := by decide +kernel
theorem dX1_widestGap_46 : decode cX1_widestGap 46 = .ok (.isub, 1) := by decide +kernel
theorem dX1_widestGap_47 : decode cX1_widestGap 47 = .ok (.goto 4, 3) := by decide +kernel
theorem dX1_widestGap_50 : decode cX1_widestGap 50 = .ok (.iload_n 1, 1) := by decide +kernel
theorem dX1_widestGap_51 : decode cX1_widestGap 51 = .ok (.istore_n 1, 1) := by decide +kernel
theorem dX1_widestGap_52 : decode cX1_widestGap 52 = .ok (.iinc 2 1, 3) := by decide +kernel
theorem dX1_widestGap_55 : decode cX1_widestGap 55 = .ok (.goto (-50), 3) := by decide +kernel
theorem dX1_widestGap_58 : decode cX1_widestGap 58 = .ok (.iload_n 1, 1) := by decide +kernel
theorem dX1_widestGap_59 : decode cX1_widestGap 59 = .ok (.ireturn, 1) := by decide +kernel
end
section
set_option maxRecDepth 100000
theorem dL_law_0 : decode cL_law 0 = .ok (.new 7, 3) := by decide +kernel
theorem dL_law_3 : decode cL_law 3 = .ok (.dup, 1) := by decide +kernel
theorem dL_law_4 : decode cL_law 4 = .ok (.invokespecial 9, 3) := by decide +kernel
theorem dL_law_7 : decode cL_law 7 = .ok (.astore_n 1, 1) := by decide +kernel
theorem dL_law_8 : decode cL_law 8 = .ok (.new 10, 3) := by decide +kernel
theorem dL_law_11 : decode cL_law 11 = .ok (.dup, 1) := by decide +kernel
theorem dL_law_12 : decode cL_law 12 = .ok (.invokespecial 12, 3) := by decide +kernel
theorem dL_law_15 : decode cL_law 15 = .ok (.astore_n 2, 1) := by decide +kernel
theorem dL_law_16 : decode cL_law 16 = .ok (.iconst 0, 1) := by decide +kernel
theorem dL_law_17 : decode cL_law 17 = .ok (.istore_n 3, 1) := by decide +kernel
theorem dL_law_18 : decode cL_law 18 = .ok (.iload_n 3, 1) := by decide +kernel
theorem dL_law_19 : decode cL_law 19 = .ok (.aload_n 0, 1) := by decide +kernel
theorem dL_law_20 : decode cL_law 20 = .ok (.arraylength, 1) := by decide +kernel
theorem dL_law_21 : decode cL_law 21 = .ok (.iconst 5, 1) := by decide +kernel
theorem dL_law_22 : decode cL_law 22 = .ok (.isub, 1) := by decide +kernel
theorem dL_law_23 : decode cL_law 23 = .ok (.if_icmp .gt 510, 3) := by decide +kernel
theorem dL_law_26 : decode cL_law 26 = .ok (.aload_n 0, 1) := by decide +kernel
theorem dL_law_27 : decode cL_law 27 = .ok (.iload_n 3, 1) := by decide +kernel
theorem dL_law_28 : decode cL_law 28 = .ok (.iaload, 1) := by decide +kernel
theorem dL_law_29 : decode cL_law 29 = .ok (.bipush 31, 2) := by decide +kernel
theorem dL_law_31 : decode cL_law 31 = .ok (.iand, 1) := by decide +kernel
theorem dL_law_32 : decode cL_law 32 = .ok (.tableswitch 495 0 16 #[84, 117, 170, 183, 196, 209, 232, 255, 278, 291, 314, 347, 380, 413, 446, 469, 482], 84) := by decide +kernel
theorem dL_law_116 : decode cL_law 116 = .ok (.aload_n 1, 1) := by decide +kernel
theorem dL_law_117 : decode cL_law 117 = .ok (.aload_n 0, 1) := by decide +kernel
theorem dL_law_118 : decode cL_law 118 = .ok (.iload_n 3, 1) := by decide +kernel
theorem dL_law_119 : decode cL_law 119 = .ok (.iconst 1, 1) := by decide +kernel
theorem dL_law_120 : decode cL_law 120 = .ok (.iadd, 1) := by decide +kernel
theorem dL_law_121 : decode cL_law 121 = .ok (.iaload, 1) := by decide +kernel
theorem dL_law_122 : decode cL_law 122 = .ok (.aload_n 0, 1) := by decide +kernel
theorem dL_law_123 : decode cL_law 123 = .ok (.iload_n 3, 1) := by decide +kernel
theorem dL_law_124 : decode cL_law 124 = .ok (.iconst 2, 1) := by decide +kernel
theorem dL_law_125 : decode cL_law 125 = .ok (.iadd, 1) := by decide +kernel
theorem dL_law_126 : decode cL_law 126 = .ok (.iaload, 1) := by decide +kernel
theorem dL_law_127 : decode cL_law 127 = .ok (.invokevirtual 13, 3) := by decide +kernel
theorem dL_law_130 : decode cL_law 130 = .ok (.aload_n 2, 1) := by decide +kernel
theorem dL_law_131 : decode cL_law 131 = .ok (.aload_n 0, 1) := by decide +kernel
theorem dL_law_132 : decode cL_law 132 = .ok (.iload_n 3, 1) := by decide +kernel
theorem dL_law_133 : decode cL_law 133 = .ok (.iconst 1, 1) := by decide +kernel
theorem dL_law_134 : decode cL_law 134 = .ok (.iadd, 1) := by decide +kernel
theorem dL_law_135 : decode cL_law 135 = .ok (.iaload, 1) := by decide +kernel
theorem dL_law_136 : decode cL_law 136 = .ok (.aload_n 0, 1) := by decide +kernel
theorem dL_law_137 : decode cL_law 137 = .ok (.iload_n 3, 1) := by decide +kernel
theorem dL_law_138 : decode cL_law 138 = .ok (.iconst 2, 1) := by decide +kernel
theorem dL_law_139 : decode cL_law 139 = .ok (.iadd, 1) := by decide +kernel
theorem dL_law_140 : decode cL_law 140 = .ok (.iaload, 1) := by decide +kernel
theorem dL_law_141 : decode cL_law 141 = .ok (.invokevirtual 17, 3) := by decide +kernel
theorem dL_law_144 : decode cL_law 144 = .ok (.if_icmp .eq 383, 3) := by decide +kernel
theorem dL_law_147 : decode cL_law 147 = .ok (.iconst 0, 1) := by decide +kernel
theorem dL_law_148 : decode cL_law 148 = .ok (.ireturn, 1) := by decide +kernel
theorem dL_law_149 : decode cL_law 149 = .ok (.aload_n 1, 1) := by decide +kernel
theorem dL_law_150 : decode cL_law 150 = .ok (.aload_n 0, 1) := by decide +kernel
theorem dL_law_151 : decode cL_law 151 = .ok (.iload_n 3, 1) := by decide +kernel
theorem dL_law_152 : decode cL_law 152 = .ok (.iconst 1, 1) := by decide +kernel
theorem dL_law_153 : decode cL_law 153 = .ok (.iadd, 1) := by decide +kernel
theorem dL_law_154 : decode cL_law 154 = .ok (.iaload, 1) := by decide +kernel
theorem dL_law_155 : decode cL_law 155 = .ok (.aload_n 0, 1) := by decide +kernel
theorem dL_law_156 : decode cL_law 156 = .ok (.iload_n 3, 1) := by decide +kernel
theorem dL_law_157 : decode cL_law 157 = .ok (.iconst 2, 1) := by decide +kernel
theorem dL_law_158 : decode cL_law 158 = .ok (.iadd, 1) := by decide +kernel
theorem dL_law_159 : decode cL_law 159 = .ok (.iaload, 1) := by decide +kernel
theorem dL_law_160 : decode cL_law 160 = .ok (.aload_n 0, 1) := by decide +kernel
theorem dL_law_161 : decode cL_law 161 = .ok (.iload_n 3, 1) := by decide +kernel
theorem dL_law_162 : decode cL_law 162 = .ok (.iconst 3, 1) := by decide +kernel
theorem dL_law_163 : decode cL_law 163 = .ok (.iadd, 1) := by decide +kernel
theorem dL_law_164 : decode cL_law 164 = .ok (.iaload, 1) := by decide +kernel
theorem dL_law_165 : decode cL_law 165 = .ok (.aload_n 0, 1) := by decide +kernel
theorem dL_law_166 : decode cL_law 166 = .ok (.iload_n 3, 1) := by decide +kernel
theorem dL_law_167 : decode cL_law 167 = .ok (.iconst 4, 1) := by decide +kernel
theorem dL_law_168 : decode cL_law 168 = .ok (.iadd, 1) := by decide +kernel
theorem dL_law_169 : decode cL_law 169 = .ok (.iaload, 1) := by decide +kernel
theorem dL_law_170 : decode cL_law 170 = .ok (.invokevirtual 18, 3) := by decide +kernel
theorem dL_law_173 : decode cL_law 173 = .ok (.aload_n 2, 1) := by decide +kernel
theorem dL_law_174 : decode cL_law 174 = .ok (.aload_n 0, 1) := by decide +kernel
theorem dL_law_175 : decode cL_law 175 = .ok (.iload_n 3, 1) := by decide +kernel
theorem dL_law_176 : decode cL_law 176 = .ok (.iconst 1, 1) := by decide +kernel
theorem dL_law_177 : decode cL_law 177 = .ok (.iadd, 1) := by decide +kernel
theorem dL_law_178 : decode cL_law 178 = .ok (.iaload, 1) := by decide +kernel
theorem dL_law_179 : decode cL_law 179 = .ok (.aload_n 0, 1) := by decide +kernel
theorem dL_law_180 : decode cL_law 180 = .ok (.iload_n 3, 1) := by decide +kernel
theorem dL_law_181 : decode cL_law 181 = .ok (.iconst 2, 1) := by decide +kernel
theorem dL_law_182 : decode cL_law 182 = .ok (.iadd, 1) := by decide +kernel
theorem dL_law_183 : decode cL_law 183 = .ok (.iaload, 1) := by decide +kernel
theorem dL_law_184 : decode cL_law 184 = .ok (.aload_n 0, 1) := by decide +kernel
theorem dL_law_185 : decode cL_law 185 = .ok (.iload_n 3, 1) := by decide +kernel
theorem dL_law_186 : decode cL_law 186 = .ok (.iconst 3, 1) := by decide +kernel
theorem dL_law_187 : decode cL_law 187 = .ok (.iadd, 1) := by decide +kernel
theorem dL_law_188 : decode cL_law 188 = .ok (.iaload, 1) := by decide +kernel
theorem dL_law_189 : decode cL_law 189 = .ok (.aload_n 0, 1) := by decide +kernel
theorem dL_law_190 : decode cL_law 190 = .ok (.iload_n 3, 1) := by decide +kernel
theorem dL_law_191 : decode cL_law 191 = .ok (.iconst 4, 1) := by decide +kernel
theorem dL_law_192 : decode cL_law 192 = .ok (.iadd, 1) := by decide +kernel
theorem dL_law_193 : decode cL_law 193 = .ok (.iaload, 1) := by decide +kernel
theorem dL_law_194 : decode cL_law 194 = .ok (.invokevirtual 22, 3) := by decide +kernel
theorem dL_law_197 : decode cL_law 197 = .ok (.if_icmp .eq 330, 3) := by decide +kernel
theorem dL_law_200 : decode cL_law 200 = .ok (.iconst 0, 1) := by decide +kernel
theorem dL_law_201 : decode cL_law 201 = .ok (.ireturn, 1) := by decide +kernel
theorem dL_law_202 : decode cL_law 202 = .ok (.aload_n 1, 1) := by decide +kernel
theorem dL_law_203 : decode cL_law 203 = .ok (.invokevirtual 23, 3) := by decide +kernel
theorem dL_law_206 : decode cL_law 206 = .ok (.aload_n 2, 1) := by decide +kernel
theorem dL_law_207 : decode cL_law 207 = .ok (.invokevirtual 27, 3) := by decide +kernel
theorem dL_law_210 : decode cL_law 210 = .ok (.if_icmp .eq 317, 3) := by decide +kernel
theorem dL_law_213 : decode cL_law 213 = .ok (.iconst 0, 1) := by decide +kernel
theorem dL_law_214 : decode cL_law 214 = .ok (.ireturn, 1) := by decide +kernel
theorem dL_law_215 : decode cL_law 215 = .ok (.aload_n 1, 1) := by decide +kernel
theorem dL_law_216 : decode cL_law 216 = .ok (.invokevirtual 28, 3) := by decide +kernel
theorem dL_law_219 : decode cL_law 219 = .ok (.aload_n 2, 1) := by decide +kernel
theorem dL_law_220 : decode cL_law 220 = .ok (.invokevirtual 31, 3) := by decide +kernel
theorem dL_law_223 : decode cL_law 223 = .ok (.if_icmp .eq 304, 3) := by decide +kernel
theorem dL_law_226 : decode cL_law 226 = .ok (.iconst 0, 1) := by decide +kernel
theorem dL_law_227 : decode cL_law 227 = .ok (.ireturn, 1) := by decide +kernel
theorem dL_law_228 : decode cL_law 228 = .ok (.aload_n 1, 1) := by decide +kernel
theorem dL_law_229 : decode cL_law 229 = .ok (.invokevirtual 32, 3) := by decide +kernel
theorem dL_law_232 : decode cL_law 232 = .ok (.aload_n 2, 1) := by decide +kernel
theorem dL_law_233 : decode cL_law 233 = .ok (.invokevirtual 35, 3) := by decide +kernel
theorem dL_law_236 : decode cL_law 236 = .ok (.if_icmp .eq 291, 3) := by decide +kernel
theorem dL_law_239 : decode cL_law 239 = .ok (.iconst 0, 1) := by decide +kernel
theorem dL_law_240 : decode cL_law 240 = .ok (.ireturn, 1) := by decide +kernel
theorem dL_law_241 : decode cL_law 241 = .ok (.aload_n 1, 1) := by decide +kernel
theorem dL_law_242 : decode cL_law 242 = .ok (.aload_n 0, 1) := by decide +kernel
theorem dL_law_243 : decode cL_law 243 = .ok (.iload_n 3, 1) := by decide +kernel
theorem dL_law_244 : decode cL_law 244 = .ok (.iconst 1, 1) := by decide +kernel
theorem dL_law_245 : decode cL_law 245 = .ok (.iadd, 1) := by decide +kernel
theorem dL_law_246 : decode cL_law 246 = .ok (.iaload, 1) := by decide +kernel
theorem dL_law_247 : decode cL_law 247 = .ok (.invokevirtual 36, 3) := by decide +kernel
theorem dL_law_250 : decode cL_law 250 = .ok (.aload_n 2, 1) := by decide +kernel
theorem dL_law_251 : decode cL_law 251 = .ok (.aload_n 0, 1) := by decide +kernel
theorem dL_law_252 : decode cL_law 252 = .ok (.iload_n 3, 1) := by decide +kernel
theorem dL_law_253 : decode cL_law 253 = .ok (.iconst 1, 1) := by decide +kernel
theorem dL_law_254 : decode cL_law 254 = .ok (.iadd, 1) := by decide +kernel
theorem dL_law_255 : decode cL_law 255 = .ok (.iaload, 1) := by decide +kernel
theorem dL_law_256 : decode cL_law 256 = .ok (.invokevirtual 40, 3) := by decide +kernel
theorem dL_law_259 : decode cL_law 259 = .ok (.if_icmp .eq 268, 3) := by decide +kernel
theorem dL_law_262 : decode cL_law 262 = .ok (.iconst 0, 1) := by decide +kernel
theorem dL_law_263 : decode cL_law 263 = .ok (.ireturn, 1) := by decide +kernel
theorem dL_law_264 : decode cL_law 264 = .ok (.aload_n 1, 1) := by decide +kernel
theorem dL_law_265 : decode cL_law 265 = .ok (.aload_n 0, 1) := by decide +kernel
theorem dL_law_266 : decode cL_law 266 = .ok (.iload_n 3, 1) := by decide +kernel
theorem dL_law_267 : decode cL_law 267 = .ok (.iconst 1, 1) := by decide +kernel
theorem dL_law_268 : decode cL_law 268 = .ok (.iadd, 1) := by decide +kernel
theorem dL_law_269 : decode cL_law 269 = .ok (.iaload, 1) := by decide +kernel
theorem dL_law_270 : decode cL_law 270 = .ok (.invokevirtual 41, 3) := by decide +kernel
theorem dL_law_273 : decode cL_law 273 = .ok (.aload_n 2, 1) := by decide +kernel
theorem dL_law_274 : decode cL_law 274 = .ok (.aload_n 0, 1) := by decide +kernel
theorem dL_law_275 : decode cL_law 275 = .ok (.iload_n 3, 1) := by decide +kernel
theorem dL_law_276 : decode cL_law 276 = .ok (.iconst 1, 1) := by decide +kernel
theorem dL_law_277 : decode cL_law 277 = .ok (.iadd, 1) := by decide +kernel
theorem dL_law_278 : decode cL_law 278 = .ok (.iaload, 1) := by decide +kernel
theorem dL_law_279 : decode cL_law 279 = .ok (.invokevirtual 44, 3) := by decide +kernel
theorem dL_law_282 : decode cL_law 282 = .ok (.if_icmp .eq 245, 3) := by decide +kernel
theorem dL_law_285 : decode cL_law 285 = .ok (.iconst 0, 1) := by decide +kernel
theorem dL_law_286 : decode cL_law 286 = .ok (.ireturn, 1) := by decide +kernel
theorem dL_law_287 : decode cL_law 287 = .ok (.aload_n 1, 1) := by decide +kernel
theorem dL_law_288 : decode cL_law 288 = .ok (.aload_n 0, 1) := by decide +kernel
theorem dL_law_289 : decode cL_law 289 = .ok (.iload_n 3, 1) := by decide +kernel
theorem dL_law_290 : decode cL_law 290 = .ok (.iconst 1, 1) := by decide +kernel
theorem dL_law_291 : decode cL_law 291 = .ok (.iadd, 1) := by decide +kernel
theorem dL_law_292 : decode cL_law 292 = .ok (.iaload, 1) := by decide +kernel
theorem dL_law_293 : decode cL_law 293 = .ok (.invokevirtual 45, 3) := by decide +kernel
theorem dL_law_296 : decode cL_law 296 = .ok (.aload_n 2, 1) := by decide +kernel
theorem dL_law_297 : decode cL_law 297 = .ok (.aload_n 0, 1) := by decide +kernel
theorem dL_law_298 : decode cL_law 298 = .ok (.iload_n 3, 1) := by decide +kernel
theorem dL_law_299 : decode cL_law 299 = .ok (.iconst 1, 1) := by decide +kernel
theorem dL_law_300 : decode cL_law 300 = .ok (.iadd, 1) := by decide +kernel
theorem dL_law_301 : decode cL_law 301 = .ok (.iaload, 1) := by decide +kernel
theorem dL_law_302 : decode cL_law 302 = .ok (.invokevirtual 48, 3) := by decide +kernel
theorem dL_law_305 : decode cL_law 305 = .ok (.if_icmp .eq 222, 3) := by decide +kernel
theorem dL_law_308 : decode cL_law 308 = .ok (.iconst 0, 1) := by decide +kernel
theorem dL_law_309 : decode cL_law 309 = .ok (.ireturn, 1) := by decide +kernel
theorem dL_law_310 : decode cL_law 310 = .ok (.aload_n 1, 1) := by decide +kernel
theorem dL_law_311 : decode cL_law 311 = .ok (.invokevirtual 49, 3) := by decide +kernel
theorem dL_law_314 : decode cL_law 314 = .ok (.aload_n 2, 1) := by decide +kernel
theorem dL_law_315 : decode cL_law 315 = .ok (.invokevirtual 52, 3) := by decide +kernel
theorem dL_law_318 : decode cL_law 318 = .ok (.if_icmp .eq 209, 3) := by decide +kernel
theorem dL_law_321 : decode cL_law 321 = .ok (.iconst 0, 1) := by decide +kernel
theorem dL_law_322 : decode cL_law 322 = .ok (.ireturn, 1) := by decide +kernel
theorem dL_law_323 : decode cL_law 323 = .ok (.aload_n 1, 1) := by decide +kernel
theorem dL_law_324 : decode cL_law 324 = .ok (.aload_n 0, 1) := by decide +kernel
theorem dL_law_325 : decode cL_law 325 = .ok (.iload_n 3, 1) := by decide +kernel
theorem dL_law_326 : decode cL_law 326 = .ok (.iconst 1, 1) := by decide +kernel
theorem dL_law_327 : decode cL_law 327 = .ok (.iadd, 1) := by decide +kernel
theorem dL_law_328 : decode cL_law 328 = .ok (.iaload, 1) := by decide +kernel
theorem dL_law_329 : decode cL_law 329 = .ok (.invokevirtual 53, 3) := by decide +kernel
theorem dL_law_332 : decode cL_law 332 = .ok (.aload_n 2, 1) := by decide +kernel
theorem dL_law_333 : decode cL_law 333 = .ok (.aload_n 0, 1) := by decide +kernel
theorem dL_law_334 : decode cL_law 334 = .ok (.iload_n 3, 1) := by decide +kernel
theorem dL_law_335 : decode cL_law 335 = .ok (.iconst 1, 1) := by decide +kernel
theorem dL_law_336 : decode cL_law 336 = .ok (.iadd, 1) := by decide +kernel
theorem dL_law_337 : decode cL_law 337 = .ok (.iaload, 1) := by decide +kernel
theorem dL_law_338 : decode cL_law 338 = .ok (.invokevirtual 56, 3) := by decide +kernel
theorem dL_law_341 : decode cL_law 341 = .ok (.if_icmp .eq 186, 3) := by decide +kernel
theorem dL_law_344 : decode cL_law 344 = .ok (.iconst 0, 1) := by decide +kernel
theorem dL_law_345 : decode cL_law 345 = .ok (.ireturn, 1) := by decide +kernel
theorem dL_law_346 : decode cL_law 346 = .ok (.aload_n 1, 1) := by decide +kernel
theorem dL_law_347 : decode cL_law 347 = .ok (.aload_n 0, 1) := by decide +kernel
theorem dL_law_348 : decode cL_law 348 = .ok (.iload_n 3, 1) := by decide +kernel
theorem dL_law_349 : decode cL_law 349 = .ok (.iconst 1, 1) := by decide +kernel
theorem dL_law_350 : decode cL_law 350 = .ok (.iadd, 1) := by decide +kernel
theorem dL_law_351 : decode cL_law 351 = .ok (.iaload, 1) := by decide +kernel
theorem dL_law_352 : decode cL_law 352 = .ok (.aload_n 0, 1) := by decide +kernel
theorem dL_law_353 : decode cL_law 353 = .ok (.iload_n 3, 1) := by decide +kernel
theorem dL_law_354 : decode cL_law 354 = .ok (.iconst 2, 1) := by decide +kernel
theorem dL_law_355 : decode cL_law 355 = .ok (.iadd, 1) := by decide +kernel
theorem dL_law_356 : decode cL_law 356 = .ok (.iaload, 1) := by decide +kernel
theorem dL_law_357 : decode cL_law 357 = .ok (.invokevirtual 57, 3) := by decide +kernel
theorem dL_law_360 : decode cL_law 360 = .ok (.aload_n 2, 1) := by decide +kernel
theorem dL_law_361 : decode cL_law 361 = .ok (.aload_n 0, 1) := by decide +kernel
theorem dL_law_362 : decode cL_law 362 = .ok (.iload_n 3, 1) := by decide +kernel
theorem dL_law_363 : decode cL_law 363 = .ok (.iconst 1, 1) := by decide +kernel
theorem dL_law_364 : decode cL_law 364 = .ok (.iadd, 1) := by decide +kernel
theorem dL_law_365 : decode cL_law 365 = .ok (.iaload, 1) := by decide +kernel
theorem dL_law_366 : decode cL_law 366 = .ok (.aload_n 0, 1) := by decide +kernel
theorem dL_law_367 : decode cL_law 367 = .ok (.iload_n 3, 1) := by decide +kernel
theorem dL_law_368 : decode cL_law 368 = .ok (.iconst 2, 1) := by decide +kernel
theorem dL_law_369 : decode cL_law 369 = .ok (.iadd, 1) := by decide +kernel
theorem dL_law_370 : decode cL_law 370 = .ok (.iaload, 1) := by decide +kernel
theorem dL_law_371 : decode cL_law 371 = .ok (.invokevirtual 60, 3) := by decide +kernel
theorem dL_law_374 : decode cL_law 374 = .ok (.if_icmp .eq 153, 3) := by decide +kernel
theorem dL_law_377 : decode cL_law 377 = .ok (.iconst 0, 1) := by decide +kernel
theorem dL_law_378 : decode cL_law 378 = .ok (.ireturn, 1) := by decide +kernel
theorem dL_law_379 : decode cL_law 379 = .ok (.aload_n 1, 1) := by decide +kernel
theorem dL_law_380 : decode cL_law 380 = .ok (.aload_n 0, 1) := by decide +kernel
theorem dL_law_381 : decode cL_law 381 = .ok (.iload_n 3, 1) := by decide +kernel
theorem dL_law_382 : decode cL_law 382 = .ok (.iconst 1, 1) := by decide +kernel
theorem dL_law_383 : decode cL_law 383 = .ok (.iadd, 1) := by decide +kernel
theorem dL_law_384 : decode cL_law 384 = .ok (.iaload, 1) := by decide +kernel
theorem dL_law_385 : decode cL_law 385 = .ok (.aload_n 0, 1) := by decide +kernel
theorem dL_law_386 : decode cL_law 386 = .ok (.iload_n 3, 1) := by decide +kernel
theorem dL_law_387 : decode cL_law 387 = .ok (.iconst 2, 1) := by decide +kernel
theorem dL_law_388 : decode cL_law 388 = .ok (.iadd, 1) := by decide +kernel
theorem dL_law_389 : decode cL_law 389 = .ok (.iaload, 1) := by decide +kernel
theorem dL_law_390 : decode cL_law 390 = .ok (.invokevirtual 61, 3) := by decide +kernel
theorem dL_law_393 : decode cL_law 393 = .ok (.aload_n 2, 1) := by decide +kernel
theorem dL_law_394 : decode cL_law 394 = .ok (.aload_n 0, 1) := by decide +kernel
theorem dL_law_395 : decode cL_law 395 = .ok (.iload_n 3, 1) := by decide +kernel
theorem dL_law_396 : decode cL_law 396 = .ok (.iconst 1, 1) := by decide +kernel
theorem dL_law_397 : decode cL_law 397 = .ok (.iadd, 1) := by decide +kernel
theorem dL_law_398 : decode cL_law 398 = .ok (.iaload, 1) := by decide +kernel
theorem dL_law_399 : decode cL_law 399 = .ok (.aload_n 0, 1) := by decide +kernel
theorem dL_law_400 : decode cL_law 400 = .ok (.iload_n 3, 1) := by decide +kernel
theorem dL_law_401 : decode cL_law 401 = .ok (.iconst 2, 1) := by decide +kernel
theorem dL_law_402 : decode cL_law 402 = .ok (.iadd, 1) := by decide +kernel
theorem dL_law_403 : decode cL_law 403 = .ok (.iaload, 1) := by decide +kernel
theorem dL_law_404 : decode cL_law 404 = .ok (.invokevirtual 64, 3) := by decide +kernel
theorem dL_law_407 : decode cL_law 407 = .ok (.if_icmp .eq 120, 3) := by decide +kernel
theorem dL_law_410 : decode cL_law 410 = .ok (.iconst 0, 1) := by decide +kernel
theorem dL_law_411 : decode cL_law 411 = .ok (.ireturn, 1) := by decide +kernel
theorem dL_law_412 : decode cL_law 412 = .ok (.aload_n 1, 1) := by decide +kernel
theorem dL_law_413 : decode cL_law 413 = .ok (.aload_n 0, 1) := by decide +kernel
theorem dL_law_414 : decode cL_law 414 = .ok (.iload_n 3, 1) := by decide +kernel
theorem dL_law_415 : decode cL_law 415 = .ok (.iconst 1, 1) := by decide +kernel
theorem dL_law_416 : decode cL_law 416 = .ok (.iadd, 1) := by decide +kernel
theorem dL_law_417 : decode cL_law 417 = .ok (.iaload, 1) := by decide +kernel
theorem dL_law_418 : decode cL_law 418 = .ok (.aload_n 0, 1) := by decide +kernel
theorem dL_law_419 : decode cL_law 419 = .ok (.iload_n 3, 1) := by decide +kernel
theorem dL_law_420 : decode cL_law 420 = .ok (.iconst 2, 1) := by decide +kernel
theorem dL_law_421 : decode cL_law 421 = .ok (.iadd, 1) := by decide +kernel
theorem dL_law_422 : decode cL_law 422 = .ok (.iaload, 1) := by decide +kernel
theorem dL_law_423 : decode cL_law 423 = .ok (.invokevirtual 65, 3) := by decide +kernel
theorem dL_law_426 : decode cL_law 426 = .ok (.aload_n 2, 1) := by decide +kernel
theorem dL_law_427 : decode cL_law 427 = .ok (.aload_n 0, 1) := by decide +kernel
theorem dL_law_428 : decode cL_law 428 = .ok (.iload_n 3, 1) := by decide +kernel
theorem dL_law_429 : decode cL_law 429 = .ok (.iconst 1, 1) := by decide +kernel
theorem dL_law_430 : decode cL_law 430 = .ok (.iadd, 1) := by decide +kernel
theorem dL_law_431 : decode cL_law 431 = .ok (.iaload, 1) := by decide +kernel
theorem dL_law_432 : decode cL_law 432 = .ok (.aload_n 0, 1) := by decide +kernel
theorem dL_law_433 : decode cL_law 433 = .ok (.iload_n 3, 1) := by decide +kernel
theorem dL_law_434 : decode cL_law 434 = .ok (.iconst 2, 1) := by decide +kernel
theorem dL_law_435 : decode cL_law 435 = .ok (.iadd, 1) := by decide +kernel
theorem dL_law_436 : decode cL_law 436 = .ok (.iaload, 1) := by decide +kernel
theorem dL_law_437 : decode cL_law 437 = .ok (.invokevirtual 68, 3) := by decide +kernel
theorem dL_law_440 : decode cL_law 440 = .ok (.if_icmp .eq 87, 3) := by decide +kernel
theorem dL_law_443 : decode cL_law 443 = .ok (.iconst 0, 1) := by decide +kernel
theorem dL_law_444 : decode cL_law 444 = .ok (.ireturn, 1) := by decide +kernel
theorem dL_law_445 : decode cL_law 445 = .ok (.aload_n 1, 1) := by decide +kernel
theorem dL_law_446 : decode cL_law 446 = .ok (.aload_n 0, 1) := by decide +kernel
theorem dL_law_447 : decode cL_law 447 = .ok (.iload_n 3, 1) := by decide +kernel
theorem dL_law_448 : decode cL_law 448 = .ok (.iconst 1, 1) := by decide +kernel
theorem dL_law_449 : decode cL_law 449 = .ok (.iadd, 1) := by decide +kernel
theorem dL_law_450 : decode cL_law 450 = .ok (.iaload, 1) := by decide +kernel
theorem dL_law_451 : decode cL_law 451 = .ok (.aload_n 0, 1) := by decide +kernel
theorem dL_law_452 : decode cL_law 452 = .ok (.iload_n 3, 1) := by decide +kernel
theorem dL_law_453 : decode cL_law 453 = .ok (.iconst 2, 1) := by decide +kernel
theorem dL_law_454 : decode cL_law 454 = .ok (.iadd, 1) := by decide +kernel
theorem dL_law_455 : decode cL_law 455 = .ok (.iaload, 1) := by decide +kernel
theorem dL_law_456 : decode cL_law 456 = .ok (.invokevirtual 69, 3) := by decide +kernel
theorem dL_law_459 : decode cL_law 459 = .ok (.aload_n 2, 1) := by decide +kernel
theorem dL_law_460 : decode cL_law 460 = .ok (.aload_n 0, 1) := by decide +kernel
theorem dL_law_461 : decode cL_law 461 = .ok (.iload_n 3, 1) := by decide +kernel
theorem dL_law_462 : decode cL_law 462 = .ok (.iconst 1, 1) := by decide +kernel
theorem dL_law_463 : decode cL_law 463 = .ok (.iadd, 1) := by decide +kernel
theorem dL_law_464 : decode cL_law 464 = .ok (.iaload, 1) := by decide +kernel
theorem dL_law_465 : decode cL_law 465 = .ok (.aload_n 0, 1) := by decide +kernel
theorem dL_law_466 : decode cL_law 466 = .ok (.iload_n 3, 1) := by decide +kernel
theorem dL_law_467 : decode cL_law 467 = .ok (.iconst 2, 1) := by decide +kernel
theorem dL_law_468 : decode cL_law 468 = .ok (.iadd, 1) := by decide +kernel
theorem dL_law_469 : decode cL_law 469 = .ok (.iaload, 1) := by decide +kernel
theorem dL_law_470 : decode cL_law 470 = .ok (.invokevirtual 72, 3) := by decide +kernel
theorem dL_law_473 : decode cL_law 473 = .ok (.if_icmp .eq 54, 3) := by decide +kernel
theorem dL_law_476 : decode cL_law 476 = .ok (.iconst 0, 1) := by decide +kernel
theorem dL_law_477 : decode cL_law 477 = .ok (.ireturn, 1) := by decide +kernel
theorem dL_law_478 : decode cL_law 478 = .ok (.aload_n 1, 1) := by decide +kernel
theorem dL_law_479 : decode cL_law 479 = .ok (.aload_n 0, 1) := by decide +kernel
theorem dL_law_480 : decode cL_law 480 = .ok (.iload_n 3, 1) := by decide +kernel
theorem dL_law_481 : decode cL_law 481 = .ok (.iconst 1, 1) := by decide +kernel
theorem dL_law_482 : decode cL_law 482 = .ok (.iadd, 1) := by decide +kernel
theorem dL_law_483 : decode cL_law 483 = .ok (.iaload, 1) := by decide +kernel
theorem dL_law_484 : decode cL_law 484 = .ok (.invokevirtual 73, 3) := by decide +kernel
theorem dL_law_487 : decode cL_law 487 = .ok (.aload_n 2, 1) := by decide +kernel
theorem dL_law_488 : decode cL_law 488 = .ok (.aload_n 0, 1) := by decide +kernel
theorem dL_law_489 : decode cL_law 489 = .ok (.iload_n 3, 1) := by decide +kernel
theorem dL_law_490 : decode cL_law 490 = .ok (.iconst 1, 1) := by decide +kernel
theorem dL_law_491 : decode cL_law 491 = .ok (.iadd, 1) := by decide +kernel
theorem dL_law_492 : decode cL_law 492 = .ok (.iaload, 1) := by decide +kernel
theorem dL_law_493 : decode cL_law 493 = .ok (.invokevirtual 76, 3) := by decide +kernel
theorem dL_law_496 : decode cL_law 496 = .ok (.if_icmp .eq 31, 3) := by decide +kernel
theorem dL_law_499 : decode cL_law 499 = .ok (.iconst 0, 1) := by decide +kernel
theorem dL_law_500 : decode cL_law 500 = .ok (.ireturn, 1) := by decide +kernel
theorem dL_law_501 : decode cL_law 501 = .ok (.aload_n 1, 1) := by decide +kernel
theorem dL_law_502 : decode cL_law 502 = .ok (.invokevirtual 77, 3) := by decide +kernel
theorem dL_law_505 : decode cL_law 505 = .ok (.aload_n 2, 1) := by decide +kernel
theorem dL_law_506 : decode cL_law 506 = .ok (.invokevirtual 80, 3) := by decide +kernel
theorem dL_law_509 : decode cL_law 509 = .ok (.if_icmp .eq 18, 3) := by decide +kernel
theorem dL_law_512 : decode cL_law 512 = .ok (.iconst 0, 1) := by decide +kernel
theorem dL_law_513 : decode cL_law 513 = .ok (.ireturn, 1) := by decide +kernel
theorem dL_law_514 : decode cL_law 514 = .ok (.aload_n 1, 1) := by decide +kernel
theorem dL_law_515 : decode cL_law 515 = .ok (.invokevirtual 81, 3) := by decide +kernel
theorem dL_law_518 : decode cL_law 518 = .ok (.aload_n 2, 1) := by decide +kernel
theorem dL_law_519 : decode cL_law 519 = .ok (.invokevirtual 84, 3) := by decide +kernel
theorem dL_law_522 : decode cL_law 522 = .ok (.if_icmp .eq 5, 3) := by decide +kernel
theorem dL_law_525 : decode cL_law 525 = .ok (.iconst 0, 1) := by decide +kernel
theorem dL_law_526 : decode cL_law 526 = .ok (.ireturn, 1) := by decide +kernel
theorem dL_law_527 : decode cL_law 527 = .ok (.iinc 3 5, 3) := by decide +kernel
theorem dL_law_530 : decode cL_law 530 = .ok (.goto (-512), 3) := by decide +kernel
theorem dL_law_533 : decode cL_law 533 = .ok (.iconst 1, 1) := by decide +kernel
theorem dL_law_534 : decode cL_law 534 = .ok (.ireturn, 1) := by decide +kernel
end
section
/-! THE BASE LAYER: sc_W K ws pc lv st: from every heap that holds the world ws, with locals lv (sorted) and stack st at pc, the machine comes to Q. K: all that stays fixed in a method's run. -/
abbrev vwCl : List vw_C := [(RX0, TX0, 20), (RX1, TX1, 5)]
def sc_get : List (Nat × Value) → Nat → Option Value
  | [], _ => none
  | q :: t, i => match Nat.beq q.1 i with
    | true => some q.2
    | false => sc_get t i
theorem sc_get_mem : ∀ (lv : List (Nat × Value)) (i : Nat) (v : Value), sc_get lv i = some v → (i, v) ∈ lv := by
  intro lv i v
  induction lv with
  | nil => intro h; cases h
  | cons q t ih =>
    intro h
    unfold sc_get at h
    split at h
    next hb =>
      cases h
      have : q.1 = i := Nat.eq_of_beq_eq_true hb
      subst this
      exact List.mem_cons_self
    next hb => exact List.mem_cons_of_mem _ (ih h)
def sc_flt (i : Nat) (q : Nat × Value) : Bool := !(q.1 == i) && !(q.1 + 1 == i && q.2.category == 2)
def sc_del : List (Nat × Value) → Nat → Option (List (Nat × Value))
  | [], _ => some []
  | q :: t, i => match sc_del t i with
    | none => none
    | some t' => match sc_flt i q with
      | true => some (q :: t')
      | false => some t'
def sc_ins (q : Nat × Value) : List (Nat × Value) → Option (List (Nat × Value))
  | [] => some [q]
  | r :: t => match Nat.ble q.1 r.1 with
    | true => some (q :: r :: t)
    | false => match sc_ins q t with
      | none => none
      | some t' => some (r :: t')
def sc_set (lv : List (Nat × Value)) (i : Nat) (v : Value) : Option (List (Nat × Value)) := match sc_del lv i with
  | none => none
  | some t => sc_ins (i, v) t
theorem sc_del_mem : ∀ (lv : List (Nat × Value)) (i : Nat) (t : List (Nat × Value)), sc_del lv i = some t → ∀ q ∈ t, q ∈ lv.filter (sc_flt i) := by
  intro lv i
  induction lv with
  | nil => intro t h q hq; cases h; cases hq
  | cons r u ih =>
    intro t h q hq
    unfold sc_del at h
    split at h
    next => cases h
    next t' ht' =>
      split at h
      next hb =>
        cases h
        rcases List.mem_cons.mp hq with e | e
        · subst e
          exact List.mem_filter.mpr ⟨List.mem_cons_self, hb⟩
        · have := List.mem_filter.mp (ih t' ht' q e)
          exact List.mem_filter.mpr ⟨List.mem_cons_of_mem _ this.1, this.2⟩
      next hb =>
        rw [← Option.some.inj h] at hq
        have := List.mem_filter.mp (ih t' ht' q hq)
        exact List.mem_filter.mpr ⟨List.mem_cons_of_mem _ this.1, this.2⟩
theorem sc_ins_mem : ∀ (x : Nat × Value) (lv t : List (Nat × Value)), sc_ins x lv = some t → ∀ q ∈ t, q = x ∨ q ∈ lv := by
  intro x lv
  induction lv with
  | nil => intro t h q hq; cases h; exact Or.inl (List.mem_singleton.mp hq)
  | cons r u ih =>
    intro t h q hq
    unfold sc_ins at h
    split at h
    next => cases h; exact List.mem_cons.mp hq
    next =>
      split at h
      next => cases h
      next t' ht' =>
        cases h
        rcases List.mem_cons.mp hq with e | e
        · exact Or.inr (by rw [e]; exact List.mem_cons_self)
        · rcases ih t' ht' q e with e | e
          · exact Or.inl e
          · exact Or.inr (List.mem_cons_of_mem _ e)
theorem sc_at {ls : Array Slot} {nL i : Nat} {lv : List (Nat × Value)} {v : Value} (h : lv_has ls nL lv) (hg : sc_get lv i = some v) : ls[i]? = some (.val v) := h.2.2 (i, v) (sc_get_mem lv i v hg)
theorem sc_has_set {ls : Array Slot} {nL i : Nat} {lv lv' : List (Nat × Value)} {v : Value} (h : lv_has ls nL ((i, v) :: lv.filter (fun q => !(q.1 == i) && !(q.1 + 1 == i && q.2.category == 2)))) (hs : sc_set lv i v = some lv') : lv_has ls nL lv' := by
  refine ⟨h.1, h.2.1, fun q hq => h.2.2 q ?_⟩
  unfold sc_set at hs
  split at hs
  next => cases hs
  next t ht =>
    rcases sc_ins_mem _ _ _ hs q hq with e | e
    · rw [e]; exact List.mem_cons_self
    · exact List.mem_cons_of_mem _ (sc_del_mem _ _ _ ht q e)
abbrev sc_K : Type := Program × Launch × Env × Room × State × MethodId × Array Value × List Frame × Method × Code × (Nat → Prop) × va_G × Nat × Nat × Nat × (State → Prop)
def sc_W (K : sc_K) (ws : va_W) (pc : Nat) (lv : List (Nat × Value)) (st : List Value) : Prop :=
  match K with
  | (p, l, e, R, s, m, args, below, meth, c, A, D, nL, cells, slots, Q) => ∀ (H : Heap) (locs : List Loc) (ls : Array Slot), va_P D vwCl ws H → va_D A ws → va_S A s.heap H locs → lv_has ls nL lv → W p l e R s m args below meth c H locs cells slots Q (F0 m pc ls st)
/-- what holds all through a method's run: its code cc, its class own, the int arrays' class d, its locals nl, its level dp (frames dp, locals 30 dp are left) -/
def sc_C (K : sc_K) (cc : ByteArray) (own : String) (d : ClassId) (nl dp : Nat) : Prop :=
  match K with
  | (p, _, _, R, s, m, args, _, _, c, A, D, nL, cells, slots, _) => p.tables.exec = Jvm.exec ∧ c.code = cc ∧ c.maxLocals = nL ∧ s.vm.findClass own = some m.cls ∧ (∀ w ∈ lw_all, w.before args s = true) ∧ va_K D vwCl [(d, .int)] s ∧ (∀ q : Nat, s.heap.size ≤ q → A q) ∧ nL = nl ∧ (dp ≤ R.frames ∧ 30 * dp ≤ R.locals ∧ cells ≤ R.cells ∧ slots ≤ R.slots)
section SCB
variable {K : sc_K} {cc : ByteArray} {own : String} {d : ClassId} {nl dp : Nat} {ws : va_W} {pc : Nat} {lv lv' : List (Nat × Value)} {st : List Value}
/-- fewer locals -/
theorem sc_less (h : ∀ q ∈ lv', sc_get lv q.1 = some q.2) (kk : sc_W K ws pc lv' st) : sc_W K ws pc lv st := by
  obtain ⟨p, l, e, R, s, m, args, below, meth, c, A, D, nL, cells, slots, Q⟩ := K
  intro H locs ls hP hD hS hl
  exact kk H locs ls hP hD hS ⟨hl.1, hl.2.1, fun q hq => sc_at hl (h q hq)⟩
theorem sc_top {x y : Int32} (h : x = y) (kk : sc_W K ws pc lv (.int y :: st)) : sc_W K ws pc lv (.int x :: st) := by rw [h]; exact kk

theorem sc_iconst (hC : sc_C K cc own d nl dp) {n : Int} {v : Int32} (hd : decode cc pc = .ok (.iconst n, 1)) (hv : Int32.ofInt n = v) (kk : sc_W K ws (pc + 1) lv (.int v :: st)) : sc_W K ws pc lv (st) := by
  obtain ⟨p, l, e, R, s, m, args, below, meth, c, A, D, nL, cells, slots, Q⟩ := K
  obtain ⟨hx, hb, hml, ho, hts, hK, hA, hnl, hR⟩ := hC
  intro H locs ls hP hD hS hl
  exact lv_iconst hx hb hd hv (kk H locs ls hP hD hS hl)
theorem sc_bipush (hC : sc_C K cc own d nl dp) {n : Int} {v : Int32} (hd : decode cc pc = .ok (.bipush n, 2)) (hv : (Int8.ofInt n).toInt32 = v) (kk : sc_W K ws (pc + 2) lv (.int v :: st)) : sc_W K ws pc lv (st) := by
  obtain ⟨p, l, e, R, s, m, args, below, meth, c, A, D, nL, cells, slots, Q⟩ := K
  obtain ⟨hx, hb, hml, ho, hts, hK, hA, hnl, hR⟩ := hC
  intro H locs ls hP hD hS hl
  exact lv_bipush hx hb hd hv (kk H locs ls hP hD hS hl)
theorem sc_sipush (hC : sc_C K cc own d nl dp) {n : Int} {v : Int32} (hd : decode cc pc = .ok (.sipush n, 3)) (hv : (Int16.ofInt n).toInt32 = v) (kk : sc_W K ws (pc + 3) lv (.int v :: st)) : sc_W K ws pc lv (st) := by
  obtain ⟨p, l, e, R, s, m, args, below, meth, c, A, D, nL, cells, slots, Q⟩ := K
  obtain ⟨hx, hb, hml, ho, hts, hK, hA, hnl, hR⟩ := hC
  intro H locs ls hP hD hS hl
  exact lv_sipush hx hb hd hv (kk H locs ls hP hD hS hl)
theorem sc_ldc (hC : sc_C K cc own d nl dp) {ix : Nat} {v : Int32} (hw : Cond.constant own ix v ∈ lw_all) (hd : decode cc pc = .ok (.ldc ix, 2)) (kk : sc_W K ws (pc + 2) lv (.int v :: st)) : sc_W K ws pc lv (st) := by
  obtain ⟨p, l, e, R, s, m, args, below, meth, c, A, D, nL, cells, slots, Q⟩ := K
  obtain ⟨hx, hb, hml, ho, hts, hK, hA, hnl, hR⟩ := hC
  intro H locs ls hP hD hS hl
  exact lv_ldc hx hb ho (hts _ hw) hd (kk H locs ls hP hD hS hl)
theorem sc_iload_n (hC : sc_C K cc own d nl dp) {k : Fin 4} {v : Int32} (hd : decode cc pc = .ok (.iload_n k, 1)) (hg : sc_get lv k = some (.int v)) (kk : sc_W K ws (pc + 1) lv (.int v :: st)) : sc_W K ws pc lv (st) := by
  obtain ⟨p, l, e, R, s, m, args, below, meth, c, A, D, nL, cells, slots, Q⟩ := K
  obtain ⟨hx, hb, hml, ho, hts, hK, hA, hnl, hR⟩ := hC
  intro H locs ls hP hD hS hl
  exact lv_iload_n hx hb hd rfl (sc_at hl hg) (kk H locs ls hP hD hS hl)
theorem sc_iload (hC : sc_C K cc own d nl dp) {k : Nat} {v : Int32} (hd : decode cc pc = .ok (.iload k, 2)) (hg : sc_get lv k = some (.int v)) (kk : sc_W K ws (pc + 2) lv (.int v :: st)) : sc_W K ws pc lv (st) := by
  obtain ⟨p, l, e, R, s, m, args, below, meth, c, A, D, nL, cells, slots, Q⟩ := K
  obtain ⟨hx, hb, hml, ho, hts, hK, hA, hnl, hR⟩ := hC
  intro H locs ls hP hD hS hl
  exact lv_iload hx hb hd (sc_at hl hg) (kk H locs ls hP hD hS hl)
theorem sc_aload_n (hC : sc_C K cc own d nl dp) {k : Fin 4} {v : Nat} (hd : decode cc pc = .ok (.aload_n k, 1)) (hg : sc_get lv k = some (.ref v)) (kk : sc_W K ws (pc + 1) lv (.ref v :: st)) : sc_W K ws pc lv (st) := by
  obtain ⟨p, l, e, R, s, m, args, below, meth, c, A, D, nL, cells, slots, Q⟩ := K
  obtain ⟨hx, hb, hml, ho, hts, hK, hA, hnl, hR⟩ := hC
  intro H locs ls hP hD hS hl
  exact lv_aload_n hx hb hd rfl (sc_at hl hg) (kk H locs ls hP hD hS hl)
theorem sc_istore_n (hC : sc_C K cc own d nl dp) {k : Fin 4} {x : Int32} (hd : decode cc pc = .ok (.istore_n k, 1)) (hs : sc_set lv k (.int x) = some lv') (hn : (k : Nat) < nl) (kk : sc_W K ws (pc + 1) lv' (st)) : sc_W K ws pc lv (.int x :: st) := by
  obtain ⟨p, l, e, R, s, m, args, below, meth, c, A, D, nL, cells, slots, Q⟩ := K
  obtain ⟨hx, hb, hml, ho, hts, hK, hA, hnl, hR⟩ := hC
  intro H locs ls hP hD hS hl
  exact lv_istore_n hx hb hd rfl hl (by rw [hnl]; exact hn) rfl (fun ls2 hl2 => kk H locs ls2 hP hD hS (sc_has_set hl2 hs))
theorem sc_istore (hC : sc_C K cc own d nl dp) {k : Nat} {x : Int32} (hd : decode cc pc = .ok (.istore k, 2)) (hs : sc_set lv k (.int x) = some lv') (hn : k < nl) (kk : sc_W K ws (pc + 2) lv' (st)) : sc_W K ws pc lv (.int x :: st) := by
  obtain ⟨p, l, e, R, s, m, args, below, meth, c, A, D, nL, cells, slots, Q⟩ := K
  obtain ⟨hx, hb, hml, ho, hts, hK, hA, hnl, hR⟩ := hC
  intro H locs ls hP hD hS hl
  exact lv_istore hx hb hd hl (by rw [hnl]; exact hn) rfl (fun ls2 hl2 => kk H locs ls2 hP hD hS (sc_has_set hl2 hs))
theorem sc_astore_n (hC : sc_C K cc own d nl dp) {k : Fin 4} {x : Nat} (hd : decode cc pc = .ok (.astore_n k, 1)) (hs : sc_set lv k (.ref x) = some lv') (hn : (k : Nat) < nl) (kk : sc_W K ws (pc + 1) lv' (st)) : sc_W K ws pc lv (.ref x :: st) := by
  obtain ⟨p, l, e, R, s, m, args, below, meth, c, A, D, nL, cells, slots, Q⟩ := K
  obtain ⟨hx, hb, hml, ho, hts, hK, hA, hnl, hR⟩ := hC
  intro H locs ls hP hD hS hl
  exact lv_astore_n hx hb hd rfl hl (by rw [hnl]; exact hn) rfl (fun ls2 hl2 => kk H locs ls2 hP hD hS (sc_has_set hl2 hs))
theorem sc_iinc (hC : sc_C K cc own d nl dp) {k : Nat} {n : Int} {x v : Int32} (hd : decode cc pc = .ok (.iinc k n, 3)) (hv : Int32.ofInt n = v) (hg : sc_get lv k = some (.int x)) (hs : sc_set lv k (.int (x + v)) = some lv') (hn : k < nl) (kk : sc_W K ws (pc + 3) lv' st) : sc_W K ws pc lv st := by
  obtain ⟨p, l, e, R, s, m, args, below, meth, c, A, D, nL, cells, slots, Q⟩ := K
  obtain ⟨hx, hb, hml, ho, hts, hK, hA, hnl, hR⟩ := hC
  intro H locs ls hP hD hS hl
  obtain ⟨j, hj⟩ := List.getElem?_of_mem (sc_get_mem lv k _ hg)
  exact lv_iinc hx hb hd hl hj (by rw [hv]) (by rw [hnl]; exact hn) rfl (fun ls2 hl2 => kk H locs ls2 hP hD hS (sc_has_set hl2 hs))
theorem sc_iadd (hC : sc_C K cc own d nl dp) {x y : Int32} (hd : decode cc pc = .ok (.iadd, 1)) (kk : sc_W K ws (pc + 1) lv (.int (x + y) :: st)) : sc_W K ws pc lv (.int y :: .int x :: st) := by
  obtain ⟨p, l, e, R, s, m, args, below, meth, c, A, D, nL, cells, slots, Q⟩ := K
  obtain ⟨hx, hb, hml, ho, hts, hK, hA, hnl, hR⟩ := hC
  intro H locs ls hP hD hS hl
  exact lv_iadd hx hb hd (kk H locs ls hP hD hS hl)
theorem sc_isub (hC : sc_C K cc own d nl dp) {x y : Int32} (hd : decode cc pc = .ok (.isub, 1)) (kk : sc_W K ws (pc + 1) lv (.int (x - y) :: st)) : sc_W K ws pc lv (.int y :: .int x :: st) := by
  obtain ⟨p, l, e, R, s, m, args, below, meth, c, A, D, nL, cells, slots, Q⟩ := K
  obtain ⟨hx, hb, hml, ho, hts, hK, hA, hnl, hR⟩ := hC
  intro H locs ls hP hD hS hl
  exact lv_isub hx hb hd (kk H locs ls hP hD hS hl)
theorem sc_imul (hC : sc_C K cc own d nl dp) {x y : Int32} (hd : decode cc pc = .ok (.imul, 1)) (kk : sc_W K ws (pc + 1) lv (.int (x * y) :: st)) : sc_W K ws pc lv (.int y :: .int x :: st) := by
  obtain ⟨p, l, e, R, s, m, args, below, meth, c, A, D, nL, cells, slots, Q⟩ := K
  obtain ⟨hx, hb, hml, ho, hts, hK, hA, hnl, hR⟩ := hC
  intro H locs ls hP hD hS hl
  exact lv_imul hx hb hd (kk H locs ls hP hD hS hl)
theorem sc_iand (hC : sc_C K cc own d nl dp) {x y : Int32} (hd : decode cc pc = .ok (.iand, 1)) (kk : sc_W K ws (pc + 1) lv (.int (x &&& y) :: st)) : sc_W K ws pc lv (.int y :: .int x :: st) := by
  obtain ⟨p, l, e, R, s, m, args, below, meth, c, A, D, nL, cells, slots, Q⟩ := K
  obtain ⟨hx, hb, hml, ho, hts, hK, hA, hnl, hR⟩ := hC
  intro H locs ls hP hD hS hl
  exact lv_iand hx hb hd (kk H locs ls hP hD hS hl)
theorem sc_ior (hC : sc_C K cc own d nl dp) {x y : Int32} (hd : decode cc pc = .ok (.ior, 1)) (kk : sc_W K ws (pc + 1) lv (.int (x ||| y) :: st)) : sc_W K ws pc lv (.int y :: .int x :: st) := by
  obtain ⟨p, l, e, R, s, m, args, below, meth, c, A, D, nL, cells, slots, Q⟩ := K
  obtain ⟨hx, hb, hml, ho, hts, hK, hA, hnl, hR⟩ := hC
  intro H locs ls hP hD hS hl
  exact lv_ior hx hb hd (kk H locs ls hP hD hS hl)
theorem sc_ixor (hC : sc_C K cc own d nl dp) {x y : Int32} (hd : decode cc pc = .ok (.ixor, 1)) (kk : sc_W K ws (pc + 1) lv (.int (x ^^^ y) :: st)) : sc_W K ws pc lv (.int y :: .int x :: st) := by
  obtain ⟨p, l, e, R, s, m, args, below, meth, c, A, D, nL, cells, slots, Q⟩ := K
  obtain ⟨hx, hb, hml, ho, hts, hK, hA, hnl, hR⟩ := hC
  intro H locs ls hP hD hS hl
  exact lv_ixor hx hb hd (kk H locs ls hP hD hS hl)
theorem sc_ishl (hC : sc_C K cc own d nl dp) {x y : Int32} (hd : decode cc pc = .ok (.ishl, 1)) (kk : sc_W K ws (pc + 1) lv (.int (x <<< (y &&& 31)) :: st)) : sc_W K ws pc lv (.int y :: .int x :: st) := by
  obtain ⟨p, l, e, R, s, m, args, below, meth, c, A, D, nL, cells, slots, Q⟩ := K
  obtain ⟨hx, hb, hml, ho, hts, hK, hA, hnl, hR⟩ := hC
  intro H locs ls hP hD hS hl
  exact lv_ishl hx hb hd (kk H locs ls hP hD hS hl)
theorem sc_ishr (hC : sc_C K cc own d nl dp) {x y : Int32} (hd : decode cc pc = .ok (.ishr, 1)) (kk : sc_W K ws (pc + 1) lv (.int (x >>> (y &&& 31)) :: st)) : sc_W K ws pc lv (.int y :: .int x :: st) := by
  obtain ⟨p, l, e, R, s, m, args, below, meth, c, A, D, nL, cells, slots, Q⟩ := K
  obtain ⟨hx, hb, hml, ho, hts, hK, hA, hnl, hR⟩ := hC
  intro H locs ls hP hD hS hl
  exact lv_ishr hx hb hd (kk H locs ls hP hD hS hl)
theorem sc_ineg (hC : sc_C K cc own d nl dp) {x : Int32} (hd : decode cc pc = .ok (.ineg, 1)) (kk : sc_W K ws (pc + 1) lv (.int (-x) :: st)) : sc_W K ws pc lv (.int x :: st) := by
  obtain ⟨p, l, e, R, s, m, args, below, meth, c, A, D, nL, cells, slots, Q⟩ := K
  obtain ⟨hx, hb, hml, ho, hts, hK, hA, hnl, hR⟩ := hC
  intro H locs ls hP hD hS hl
  exact lv_ineg hx hb hd (kk H locs ls hP hD hS hl)
theorem sc_irem (hC : sc_C K cc own d nl dp) {x y : Int32} (hd : decode cc pc = .ok (.irem, 1)) (hne : ¬ y = 0) (kk : sc_W K ws (pc + 1) lv (.int (x - x / y * y) :: st)) : sc_W K ws pc lv (.int y :: .int x :: st) := by
  obtain ⟨p, l, e, R, s, m, args, below, meth, c, A, D, nL, cells, slots, Q⟩ := K
  obtain ⟨hx, hb, hml, ho, hts, hK, hA, hnl, hR⟩ := hC
  intro H locs ls hP hD hS hl
  exact lv_irem hx hb hd hne (kk H locs ls hP hD hS hl)
theorem sc_dup (hC : sc_C K cc own d nl dp) {v : Value} (hd : decode cc pc = .ok (.dup, 1)) (hv : v.category = 1) (kk : sc_W K ws (pc + 1) lv (v :: v :: st)) : sc_W K ws pc lv (v :: st) := by
  obtain ⟨p, l, e, R, s, m, args, below, meth, c, A, D, nL, cells, slots, Q⟩ := K
  obtain ⟨hx, hb, hml, ho, hts, hK, hA, hnl, hR⟩ := hC
  intro H locs ls hP hD hS hl
  exact lv_dup hx hb hd hv (kk H locs ls hP hD hS hl)
theorem sc_pop (hC : sc_C K cc own d nl dp) {v : Value} (hd : decode cc pc = .ok (.pop, 1)) (hv : v.category = 1) (kk : sc_W K ws (pc + 1) lv (st)) : sc_W K ws pc lv (v :: st) := by
  obtain ⟨p, l, e, R, s, m, args, below, meth, c, A, D, nL, cells, slots, Q⟩ := K
  obtain ⟨hx, hb, hml, ho, hts, hK, hA, hnl, hR⟩ := hC
  intro H locs ls hP hD hS hl
  exact lv_pop hx hb hd hv (kk H locs ls hP hD hS hl)
theorem sc_goto (hC : sc_C K cc own d nl dp) {off : Int} {tgt : Nat} (hd : decode cc pc = .ok (.goto off, 3)) (ht : (pc : Int) + off = (tgt : Int)) (kk : sc_W K ws tgt lv st) : sc_W K ws pc lv st := by
  obtain ⟨p, l, e, R, s, m, args, below, meth, c, A, D, nL, cells, slots, Q⟩ := K
  obtain ⟨hx, hb, hml, ho, hts, hK, hA, hnl, hR⟩ := hC
  intro H locs ls hP hD hS hl
  exact lv_goto hx hb hd ht (kk H locs ls hP hD hS hl)
theorem sc_if_eq (hC : sc_C K cc own d nl dp) {x : Int32} {off : Int} {tgt : Nat} (hd : decode cc pc = .ok (.ifCond .eq off, 3)) (ht : (pc : Int) + off = (tgt : Int)) (kt : x = 0 → sc_W K ws tgt lv st) (kf : ¬ x = 0 → sc_W K ws (pc + 3) lv st) : sc_W K ws pc lv (.int x :: st) := by
  obtain ⟨p, l, e, R, s, m, args, below, meth, c, A, D, nL, cells, slots, Q⟩ := K
  obtain ⟨hx, hb, hml, ho, hts, hK, hA, hnl, hR⟩ := hC
  intro H locs ls hP hD hS hl
  exact lv_if_eq hx hb hd ht (fun q => kt q H locs ls hP hD hS hl) (fun q => kf q H locs ls hP hD hS hl)
theorem sc_if_ne (hC : sc_C K cc own d nl dp) {x : Int32} {off : Int} {tgt : Nat} (hd : decode cc pc = .ok (.ifCond .ne off, 3)) (ht : (pc : Int) + off = (tgt : Int)) (kt : ¬ x = 0 → sc_W K ws tgt lv st) (kf : x = 0 → sc_W K ws (pc + 3) lv st) : sc_W K ws pc lv (.int x :: st) := by
  obtain ⟨p, l, e, R, s, m, args, below, meth, c, A, D, nL, cells, slots, Q⟩ := K
  obtain ⟨hx, hb, hml, ho, hts, hK, hA, hnl, hR⟩ := hC
  intro H locs ls hP hD hS hl
  exact lv_if_ne hx hb hd ht (fun q => kt q H locs ls hP hD hS hl) (fun q => kf q H locs ls hP hD hS hl)
theorem sc_if_lt (hC : sc_C K cc own d nl dp) {x : Int32} {off : Int} {tgt : Nat} (hd : decode cc pc = .ok (.ifCond .lt off, 3)) (ht : (pc : Int) + off = (tgt : Int)) (kt : x < 0 → sc_W K ws tgt lv st) (kf : ¬ x < 0 → sc_W K ws (pc + 3) lv st) : sc_W K ws pc lv (.int x :: st) := by
  obtain ⟨p, l, e, R, s, m, args, below, meth, c, A, D, nL, cells, slots, Q⟩ := K
  obtain ⟨hx, hb, hml, ho, hts, hK, hA, hnl, hR⟩ := hC
  intro H locs ls hP hD hS hl
  exact lv_if_lt hx hb hd ht (fun q => kt q H locs ls hP hD hS hl) (fun q => kf q H locs ls hP hD hS hl)
theorem sc_if_ge (hC : sc_C K cc own d nl dp) {x : Int32} {off : Int} {tgt : Nat} (hd : decode cc pc = .ok (.ifCond .ge off, 3)) (ht : (pc : Int) + off = (tgt : Int)) (kt : 0 ≤ x → sc_W K ws tgt lv st) (kf : ¬ 0 ≤ x → sc_W K ws (pc + 3) lv st) : sc_W K ws pc lv (.int x :: st) := by
  obtain ⟨p, l, e, R, s, m, args, below, meth, c, A, D, nL, cells, slots, Q⟩ := K
  obtain ⟨hx, hb, hml, ho, hts, hK, hA, hnl, hR⟩ := hC
  intro H locs ls hP hD hS hl
  exact lv_if_ge hx hb hd ht (fun q => kt q H locs ls hP hD hS hl) (fun q => kf q H locs ls hP hD hS hl)
theorem sc_if_gt (hC : sc_C K cc own d nl dp) {x : Int32} {off : Int} {tgt : Nat} (hd : decode cc pc = .ok (.ifCond .gt off, 3)) (ht : (pc : Int) + off = (tgt : Int)) (kt : 0 < x → sc_W K ws tgt lv st) (kf : ¬ 0 < x → sc_W K ws (pc + 3) lv st) : sc_W K ws pc lv (.int x :: st) := by
  obtain ⟨p, l, e, R, s, m, args, below, meth, c, A, D, nL, cells, slots, Q⟩ := K
  obtain ⟨hx, hb, hml, ho, hts, hK, hA, hnl, hR⟩ := hC
  intro H locs ls hP hD hS hl
  exact lv_if_gt hx hb hd ht (fun q => kt q H locs ls hP hD hS hl) (fun q => kf q H locs ls hP hD hS hl)
theorem sc_if_le (hC : sc_C K cc own d nl dp) {x : Int32} {off : Int} {tgt : Nat} (hd : decode cc pc = .ok (.ifCond .le off, 3)) (ht : (pc : Int) + off = (tgt : Int)) (kt : x ≤ 0 → sc_W K ws tgt lv st) (kf : ¬ x ≤ 0 → sc_W K ws (pc + 3) lv st) : sc_W K ws pc lv (.int x :: st) := by
  obtain ⟨p, l, e, R, s, m, args, below, meth, c, A, D, nL, cells, slots, Q⟩ := K
  obtain ⟨hx, hb, hml, ho, hts, hK, hA, hnl, hR⟩ := hC
  intro H locs ls hP hD hS hl
  exact lv_if_le hx hb hd ht (fun q => kt q H locs ls hP hD hS hl) (fun q => kf q H locs ls hP hD hS hl)
theorem sc_icmp_eq (hC : sc_C K cc own d nl dp) {x y : Int32} {off : Int} {tgt : Nat} (hd : decode cc pc = .ok (.if_icmp .eq off, 3)) (ht : (pc : Int) + off = (tgt : Int)) (kt : x = y → sc_W K ws tgt lv st) (kf : ¬ x = y → sc_W K ws (pc + 3) lv st) : sc_W K ws pc lv (.int y :: .int x :: st) := by
  obtain ⟨p, l, e, R, s, m, args, below, meth, c, A, D, nL, cells, slots, Q⟩ := K
  obtain ⟨hx, hb, hml, ho, hts, hK, hA, hnl, hR⟩ := hC
  intro H locs ls hP hD hS hl
  exact lv_icmp_eq hx hb hd ht (fun q => kt q H locs ls hP hD hS hl) (fun q => kf q H locs ls hP hD hS hl)
theorem sc_icmp_ne (hC : sc_C K cc own d nl dp) {x y : Int32} {off : Int} {tgt : Nat} (hd : decode cc pc = .ok (.if_icmp .ne off, 3)) (ht : (pc : Int) + off = (tgt : Int)) (kt : ¬ x = y → sc_W K ws tgt lv st) (kf : x = y → sc_W K ws (pc + 3) lv st) : sc_W K ws pc lv (.int y :: .int x :: st) := by
  obtain ⟨p, l, e, R, s, m, args, below, meth, c, A, D, nL, cells, slots, Q⟩ := K
  obtain ⟨hx, hb, hml, ho, hts, hK, hA, hnl, hR⟩ := hC
  intro H locs ls hP hD hS hl
  exact lv_icmp_ne hx hb hd ht (fun q => kt q H locs ls hP hD hS hl) (fun q => kf q H locs ls hP hD hS hl)
theorem sc_icmp_lt (hC : sc_C K cc own d nl dp) {x y : Int32} {off : Int} {tgt : Nat} (hd : decode cc pc = .ok (.if_icmp .lt off, 3)) (ht : (pc : Int) + off = (tgt : Int)) (kt : x < y → sc_W K ws tgt lv st) (kf : ¬ x < y → sc_W K ws (pc + 3) lv st) : sc_W K ws pc lv (.int y :: .int x :: st) := by
  obtain ⟨p, l, e, R, s, m, args, below, meth, c, A, D, nL, cells, slots, Q⟩ := K
  obtain ⟨hx, hb, hml, ho, hts, hK, hA, hnl, hR⟩ := hC
  intro H locs ls hP hD hS hl
  exact lv_icmp_lt hx hb hd ht (fun q => kt q H locs ls hP hD hS hl) (fun q => kf q H locs ls hP hD hS hl)
theorem sc_icmp_ge (hC : sc_C K cc own d nl dp) {x y : Int32} {off : Int} {tgt : Nat} (hd : decode cc pc = .ok (.if_icmp .ge off, 3)) (ht : (pc : Int) + off = (tgt : Int)) (kt : y ≤ x → sc_W K ws tgt lv st) (kf : ¬ y ≤ x → sc_W K ws (pc + 3) lv st) : sc_W K ws pc lv (.int y :: .int x :: st) := by
  obtain ⟨p, l, e, R, s, m, args, below, meth, c, A, D, nL, cells, slots, Q⟩ := K
  obtain ⟨hx, hb, hml, ho, hts, hK, hA, hnl, hR⟩ := hC
  intro H locs ls hP hD hS hl
  exact lv_icmp_ge hx hb hd ht (fun q => kt q H locs ls hP hD hS hl) (fun q => kf q H locs ls hP hD hS hl)
theorem sc_icmp_gt (hC : sc_C K cc own d nl dp) {x y : Int32} {off : Int} {tgt : Nat} (hd : decode cc pc = .ok (.if_icmp .gt off, 3)) (ht : (pc : Int) + off = (tgt : Int)) (kt : y < x → sc_W K ws tgt lv st) (kf : ¬ y < x → sc_W K ws (pc + 3) lv st) : sc_W K ws pc lv (.int y :: .int x :: st) := by
  obtain ⟨p, l, e, R, s, m, args, below, meth, c, A, D, nL, cells, slots, Q⟩ := K
  obtain ⟨hx, hb, hml, ho, hts, hK, hA, hnl, hR⟩ := hC
  intro H locs ls hP hD hS hl
  exact lv_icmp_gt hx hb hd ht (fun q => kt q H locs ls hP hD hS hl) (fun q => kf q H locs ls hP hD hS hl)
theorem sc_icmp_le (hC : sc_C K cc own d nl dp) {x y : Int32} {off : Int} {tgt : Nat} (hd : decode cc pc = .ok (.if_icmp .le off, 3)) (ht : (pc : Int) + off = (tgt : Int)) (kt : x ≤ y → sc_W K ws tgt lv st) (kf : ¬ x ≤ y → sc_W K ws (pc + 3) lv st) : sc_W K ws pc lv (.int y :: .int x :: st) := by
  obtain ⟨p, l, e, R, s, m, args, below, meth, c, A, D, nL, cells, slots, Q⟩ := K
  obtain ⟨hx, hb, hml, ho, hts, hK, hA, hnl, hR⟩ := hC
  intro H locs ls hP hD hS hl
  exact lv_icmp_le hx hb hd ht (fun q => kt q H locs ls hP hD hS hl) (fun q => kf q H locs ls hP hD hS hl)
theorem sc_ald (hC : sc_C K cc own d nl dp) {q0 a n : Nat} {f : Nat → Int32} (ha : ws[q0]? = some (a, .inl (d, n, .inl f))) (hn : n < 2 ^ 31) (j : Nat) {i : Int32} (hi : i = nI j) (hj : j < n) (hd : decode cc pc = .ok (.iaload, 1)) (kk : sc_W K ws (pc + 1) lv (.int (f j) :: st)) : sc_W K ws pc lv (.int i :: .ref a :: st) := by
  obtain ⟨p, l, e, R, s, m, args, below, meth, c, A, D, nL, cells, slots, Q⟩ := K
  obtain ⟨hx, hb, hml, ho, hts, hK, hA, hnl, hR⟩ := hC
  intro H locs ls hP hD hS hl
  subst hi
  have hcl : (nI j).toNatClampNeg = j := nI_clamp (by omega)
  refine va_iald hx hb hK hP q0 0 ha rfl (vp_in_nI hj hn) hd ?_
  rw [hcl]
  exact (kk H locs ls hP hD hS hl)
theorem sc_ast (hC : sc_C K cc own d nl dp) {q0 a n : Nat} {f : Nat → Int32} (ha : ws[q0]? = some (a, .inl (d, n, .inl f))) (hn : n < 2 ^ 31) (j : Nat) {i x : Int32} (hi : i = nI j) (hj : j < n) (hd : decode cc pc = .ok (.iastore, 1)) (kk : sc_W K (ws.set q0 (a, .inl (d, n, .inl (upd f j x)))) (pc + 1) lv st) : sc_W K ws pc lv (.int x :: .int i :: .ref a :: st) := by
  obtain ⟨p, l, e, R, s, m, args, below, meth, c, A, D, nL, cells, slots, Q⟩ := K
  obtain ⟨hx, hb, hml, ho, hts, hK, hA, hnl, hR⟩ := hC
  intro H locs ls hP hD hS hl
  subst hi
  have hcl : (nI j).toNatClampNeg = j := nI_clamp (by omega)
  refine va_iast hx hb hK hP hD hS q0 0 ha rfl (vp_in_nI hj hn) hd (fun H1 locs1 hP1 hD1 hS1 => ?_)
  rw [hcl] at hP1 hD1
  exact kk H1 locs1 ls hP1 hD1 hS1 hl
end SCB
def sc_ua (a : Nat → Nat → Int32) (k j : Nat) (x : Int32) : Nat → Nat → Int32 := fun i => if i = k then upd (a k) j x else a i
theorem sc_ua_s (a : Nat → Nat → Int32) (k j : Nat) (x : Int32) : sc_ua a k j x k = upd (a k) j x := by simp [sc_ua]
theorem sc_ua_n (a : Nat → Nat → Int32) {k i : Nat} (j : Nat) (x : Int32) (h : i ≠ k) : sc_ua a k j x i = a i := by simp [sc_ua, h]
end
section
/-! ===== the layer of SeriesCodec: f: its int fields, a: its arrays, h: their addresses (h 20: the object) ===== -/
def xw0 (h : Nat → Nat) (d : ClassId) (f : Nat → Int32) (a : Nat → Nat → Int32) : va_W := [(h 20, .inr (0, [.int (f 0), .ref (h 1), .ref (h 2), .ref (h 3), .ref (h 4), .ref (h 5), .ref (h 6), .ref (h 7), .int (f 8), .int (f 9), .int (f 10), .int (f 11), .int (f 12), .int (f 13), .ref (h 14), .ref (h 15), .int (f 16), .int (f 17), .int (f 18), .int (f 19)])), (h 1, .inl (d, 96, .inl (a 1))), (h 2, .inl (d, 4, .inl (a 2))), (h 3, .inl (d, 4, .inl (a 3))), (h 4, .inl (d, 4, .inl (a 4))), (h 5, .inl (d, 4, .inl (a 5))), (h 6, .inl (d, 4, .inl (a 6))), (h 7, .inl (d, 4, .inl (a 7))), (h 14, .inl (d, 16, .inl (a 14))), (h 15, .inl (d, 16, .inl (a 15)))]
def xA0 (h : Nat → Nat) (sz : Nat) : Nat → Prop := fun q => q ∈ ([h 20, h 1, h 2, h 3, h 4, h 5, h 6, h 7, h 14, h 15] : List Nat) ∨ sz ≤ q
theorem xA0_eq {h : Nat → Nat} {d : ClassId} {f : Nat → Int32} {a : Nat → Nat → Int32} {sz : Nat} : va_A (xw0 h d f a) sz = xA0 h sz := by
  funext q
  apply propext
  constructor
  · intro hq
    rcases hq with ⟨k, e, hk⟩ | hq
    · refine Or.inl ?_
      show q ∈ (xw0 h d f a).map Prod.fst
      exact List.mem_map.mpr ⟨(q, e), List.mem_of_getElem? hk, rfl⟩
    · exact Or.inr hq
  · intro hq
    rcases hq with hq | hq
    · obtain ⟨⟨q', e⟩, hm, rfl⟩ := List.mem_map.mp (show q ∈ (xw0 h d f a).map Prod.fst from hq)
      obtain ⟨k, hk⟩ := List.getElem?_of_mem hm
      exact Or.inl ⟨k, e, hk⟩
    · exact Or.inr hq
section SC0
variable {K : sc_K} {cc : ByteArray} {d : ClassId} {nl dp : Nat} {h : Nat → Nat} {f : Nat → Int32} {a : Nat → Nat → Int32} {pc : Nat} {lv : List (Nat × Value)} {st : List Value}
theorem x0_g0 (hC : sc_C K cc RX0 d nl dp) (hd : decode cc pc = .ok (.getfield 61, 3)) (kk : sc_W K (xw0 h d f a) (pc + 3) lv (.int (f 0) :: st)) : sc_W K (xw0 h d f a) pc lv (.ref (h 20) :: st) := by
  obtain ⟨p, l, e, R, s, m, args, below, meth, c, A, D, nL, cells, slots, Q⟩ := K
  obtain ⟨hx, hb, hml, ho, hts, hK, hA, hnl, hR⟩ := hC
  intro H locs ls hP hD hS hl
  exact va_get (D := D) (ci := 0) (v := .int (f 0)) (C := RX0) (T := TX0) (N := 20) hx hb hts in_X0 ho hK hP 0 rfl rfl 0 (by decide) (hts _ q38) (fun _ h9 => h9) rfl hd (kk H locs ls hP hD hS hl)
theorem x0_p0 (hC : sc_C K cc RX0 d nl dp) {x : Int32} (hd : decode cc pc = .ok (.putfield 61, 3)) (kk : sc_W K (xw0 h d (upd f 0 x) a) (pc + 3) lv st) : sc_W K (xw0 h d f a) pc lv (.int x :: .ref (h 20) :: st) := by
  obtain ⟨p, l, e, R, s, m, args, below, meth, c, A, D, nL, cells, slots, Q⟩ := K
  obtain ⟨hx, hb, hml, ho, hts, hK, hA, hnl, hR⟩ := hC
  intro H locs ls hP hD hS hl
  exact va_put (D := D) (ci := 0) (v := .int x) (ty := .int) (C := RX0) (T := TX0) (N := 20) hx hb hts in_X0 tyX0 tyX0_ok nmX0 ho hK hP hD hS 0 rfl rfl 0 (by decide) (hts _ q38) (fun _ h9 => h9) rfl (by decide +kernel) rfl rfl (Nat.le_of_ble_eq_true rfl) hd (fun H1 locs1 hP1 hD1 hS1 => kk H1 locs1 ls hP1 hD1 hS1 hl)
theorem x0_g1 (hC : sc_C K cc RX0 d nl dp) (hd : decode cc pc = .ok (.getfield 7, 3)) (kk : sc_W K (xw0 h d f a) (pc + 3) lv (.ref (h 1) :: st)) : sc_W K (xw0 h d f a) pc lv (.ref (h 20) :: st) := by
  obtain ⟨p, l, e, R, s, m, args, below, meth, c, A, D, nL, cells, slots, Q⟩ := K
  obtain ⟨hx, hb, hml, ho, hts, hK, hA, hnl, hR⟩ := hC
  intro H locs ls hP hD hS hl
  exact va_get (D := D) (ci := 0) (v := .ref (h 1)) (C := RX0) (T := TX0) (N := 20) hx hb hts in_X0 ho hK hP 0 rfl rfl 1 (by decide) (hts _ q39) (fun _ h9 => h9) rfl hd (kk H locs ls hP hD hS hl)
theorem x0_ald1 (hC : sc_C K cc RX0 d nl dp) (j : Nat) {i : Int32} (hi : i = nI j) (hj : j < 96) (hd : decode cc pc = .ok (.iaload, 1)) (kk : sc_W K (xw0 h d f a) (pc + 1) lv (.int (a 1 j) :: st)) : sc_W K (xw0 h d f a) pc lv (.int i :: .ref (h 1) :: st) := sc_ald hC (q0 := 1) (ws := xw0 h d f a) rfl (by decide) j hi hj hd kk
theorem x0_ast1 (hC : sc_C K cc RX0 d nl dp) (j : Nat) {i x : Int32} (hi : i = nI j) (hj : j < 96) (hd : decode cc pc = .ok (.iastore, 1)) (kk : sc_W K (xw0 h d f (sc_ua a 1 j x)) (pc + 1) lv st) : sc_W K (xw0 h d f a) pc lv (.int x :: .int i :: .ref (h 1) :: st) := sc_ast hC (q0 := 1) (ws := xw0 h d f a) rfl (by decide) j hi hj hd kk
theorem x0_g2 (hC : sc_C K cc RX0 d nl dp) (hd : decode cc pc = .ok (.getfield 13, 3)) (kk : sc_W K (xw0 h d f a) (pc + 3) lv (.ref (h 2) :: st)) : sc_W K (xw0 h d f a) pc lv (.ref (h 20) :: st) := by
  obtain ⟨p, l, e, R, s, m, args, below, meth, c, A, D, nL, cells, slots, Q⟩ := K
  obtain ⟨hx, hb, hml, ho, hts, hK, hA, hnl, hR⟩ := hC
  intro H locs ls hP hD hS hl
  exact va_get (D := D) (ci := 0) (v := .ref (h 2)) (C := RX0) (T := TX0) (N := 20) hx hb hts in_X0 ho hK hP 0 rfl rfl 2 (by decide) (hts _ q40) (fun _ h9 => h9) rfl hd (kk H locs ls hP hD hS hl)
theorem x0_ald2 (hC : sc_C K cc RX0 d nl dp) (j : Nat) {i : Int32} (hi : i = nI j) (hj : j < 4) (hd : decode cc pc = .ok (.iaload, 1)) (kk : sc_W K (xw0 h d f a) (pc + 1) lv (.int (a 2 j) :: st)) : sc_W K (xw0 h d f a) pc lv (.int i :: .ref (h 2) :: st) := sc_ald hC (q0 := 2) (ws := xw0 h d f a) rfl (by decide) j hi hj hd kk
theorem x0_ast2 (hC : sc_C K cc RX0 d nl dp) (j : Nat) {i x : Int32} (hi : i = nI j) (hj : j < 4) (hd : decode cc pc = .ok (.iastore, 1)) (kk : sc_W K (xw0 h d f (sc_ua a 2 j x)) (pc + 1) lv st) : sc_W K (xw0 h d f a) pc lv (.int x :: .int i :: .ref (h 2) :: st) := sc_ast hC (q0 := 2) (ws := xw0 h d f a) rfl (by decide) j hi hj hd kk
theorem x0_g3 (hC : sc_C K cc RX0 d nl dp) (hd : decode cc pc = .ok (.getfield 16, 3)) (kk : sc_W K (xw0 h d f a) (pc + 3) lv (.ref (h 3) :: st)) : sc_W K (xw0 h d f a) pc lv (.ref (h 20) :: st) := by
  obtain ⟨p, l, e, R, s, m, args, below, meth, c, A, D, nL, cells, slots, Q⟩ := K
  obtain ⟨hx, hb, hml, ho, hts, hK, hA, hnl, hR⟩ := hC
  intro H locs ls hP hD hS hl
  exact va_get (D := D) (ci := 0) (v := .ref (h 3)) (C := RX0) (T := TX0) (N := 20) hx hb hts in_X0 ho hK hP 0 rfl rfl 3 (by decide) (hts _ q41) (fun _ h9 => h9) rfl hd (kk H locs ls hP hD hS hl)
theorem x0_ald3 (hC : sc_C K cc RX0 d nl dp) (j : Nat) {i : Int32} (hi : i = nI j) (hj : j < 4) (hd : decode cc pc = .ok (.iaload, 1)) (kk : sc_W K (xw0 h d f a) (pc + 1) lv (.int (a 3 j) :: st)) : sc_W K (xw0 h d f a) pc lv (.int i :: .ref (h 3) :: st) := sc_ald hC (q0 := 3) (ws := xw0 h d f a) rfl (by decide) j hi hj hd kk
theorem x0_ast3 (hC : sc_C K cc RX0 d nl dp) (j : Nat) {i x : Int32} (hi : i = nI j) (hj : j < 4) (hd : decode cc pc = .ok (.iastore, 1)) (kk : sc_W K (xw0 h d f (sc_ua a 3 j x)) (pc + 1) lv st) : sc_W K (xw0 h d f a) pc lv (.int x :: .int i :: .ref (h 3) :: st) := sc_ast hC (q0 := 3) (ws := xw0 h d f a) rfl (by decide) j hi hj hd kk
theorem x0_g4 (hC : sc_C K cc RX0 d nl dp) (hd : decode cc pc = .ok (.getfield 19, 3)) (kk : sc_W K (xw0 h d f a) (pc + 3) lv (.ref (h 4) :: st)) : sc_W K (xw0 h d f a) pc lv (.ref (h 20) :: st) := by
  obtain ⟨p, l, e, R, s, m, args, below, meth, c, A, D, nL, cells, slots, Q⟩ := K
  obtain ⟨hx, hb, hml, ho, hts, hK, hA, hnl, hR⟩ := hC
  intro H locs ls hP hD hS hl
  exact va_get (D := D) (ci := 0) (v := .ref (h 4)) (C := RX0) (T := TX0) (N := 20) hx hb hts in_X0 ho hK hP 0 rfl rfl 4 (by decide) (hts _ q42) (fun _ h9 => h9) rfl hd (kk H locs ls hP hD hS hl)
theorem x0_ald4 (hC : sc_C K cc RX0 d nl dp) (j : Nat) {i : Int32} (hi : i = nI j) (hj : j < 4) (hd : decode cc pc = .ok (.iaload, 1)) (kk : sc_W K (xw0 h d f a) (pc + 1) lv (.int (a 4 j) :: st)) : sc_W K (xw0 h d f a) pc lv (.int i :: .ref (h 4) :: st) := sc_ald hC (q0 := 4) (ws := xw0 h d f a) rfl (by decide) j hi hj hd kk
theorem x0_ast4 (hC : sc_C K cc RX0 d nl dp) (j : Nat) {i x : Int32} (hi : i = nI j) (hj : j < 4) (hd : decode cc pc = .ok (.iastore, 1)) (kk : sc_W K (xw0 h d f (sc_ua a 4 j x)) (pc + 1) lv st) : sc_W K (xw0 h d f a) pc lv (.int x :: .int i :: .ref (h 4) :: st) := sc_ast hC (q0 := 4) (ws := xw0 h d f a) rfl (by decide) j hi hj hd kk
theorem x0_g5 (hC : sc_C K cc RX0 d nl dp) (hd : decode cc pc = .ok (.getfield 22, 3)) (kk : sc_W K (xw0 h d f a) (pc + 3) lv (.ref (h 5) :: st)) : sc_W K (xw0 h d f a) pc lv (.ref (h 20) :: st) := by
  obtain ⟨p, l, e, R, s, m, args, below, meth, c, A, D, nL, cells, slots, Q⟩ := K
  obtain ⟨hx, hb, hml, ho, hts, hK, hA, hnl, hR⟩ := hC
  intro H locs ls hP hD hS hl
  exact va_get (D := D) (ci := 0) (v := .ref (h 5)) (C := RX0) (T := TX0) (N := 20) hx hb hts in_X0 ho hK hP 0 rfl rfl 5 (by decide) (hts _ q43) (fun _ h9 => h9) rfl hd (kk H locs ls hP hD hS hl)
theorem x0_ald5 (hC : sc_C K cc RX0 d nl dp) (j : Nat) {i : Int32} (hi : i = nI j) (hj : j < 4) (hd : decode cc pc = .ok (.iaload, 1)) (kk : sc_W K (xw0 h d f a) (pc + 1) lv (.int (a 5 j) :: st)) : sc_W K (xw0 h d f a) pc lv (.int i :: .ref (h 5) :: st) := sc_ald hC (q0 := 5) (ws := xw0 h d f a) rfl (by decide) j hi hj hd kk
theorem x0_ast5 (hC : sc_C K cc RX0 d nl dp) (j : Nat) {i x : Int32} (hi : i = nI j) (hj : j < 4) (hd : decode cc pc = .ok (.iastore, 1)) (kk : sc_W K (xw0 h d f (sc_ua a 5 j x)) (pc + 1) lv st) : sc_W K (xw0 h d f a) pc lv (.int x :: .int i :: .ref (h 5) :: st) := sc_ast hC (q0 := 5) (ws := xw0 h d f a) rfl (by decide) j hi hj hd kk
theorem x0_g6 (hC : sc_C K cc RX0 d nl dp) (hd : decode cc pc = .ok (.getfield 25, 3)) (kk : sc_W K (xw0 h d f a) (pc + 3) lv (.ref (h 6) :: st)) : sc_W K (xw0 h d f a) pc lv (.ref (h 20) :: st) := by
  obtain ⟨p, l, e, R, s, m, args, below, meth, c, A, D, nL, cells, slots, Q⟩ := K
  obtain ⟨hx, hb, hml, ho, hts, hK, hA, hnl, hR⟩ := hC
  intro H locs ls hP hD hS hl
  exact va_get (D := D) (ci := 0) (v := .ref (h 6)) (C := RX0) (T := TX0) (N := 20) hx hb hts in_X0 ho hK hP 0 rfl rfl 6 (by decide) (hts _ q44) (fun _ h9 => h9) rfl hd (kk H locs ls hP hD hS hl)
theorem x0_ald6 (hC : sc_C K cc RX0 d nl dp) (j : Nat) {i : Int32} (hi : i = nI j) (hj : j < 4) (hd : decode cc pc = .ok (.iaload, 1)) (kk : sc_W K (xw0 h d f a) (pc + 1) lv (.int (a 6 j) :: st)) : sc_W K (xw0 h d f a) pc lv (.int i :: .ref (h 6) :: st) := sc_ald hC (q0 := 6) (ws := xw0 h d f a) rfl (by decide) j hi hj hd kk
theorem x0_ast6 (hC : sc_C K cc RX0 d nl dp) (j : Nat) {i x : Int32} (hi : i = nI j) (hj : j < 4) (hd : decode cc pc = .ok (.iastore, 1)) (kk : sc_W K (xw0 h d f (sc_ua a 6 j x)) (pc + 1) lv st) : sc_W K (xw0 h d f a) pc lv (.int x :: .int i :: .ref (h 6) :: st) := sc_ast hC (q0 := 6) (ws := xw0 h d f a) rfl (by decide) j hi hj hd kk
theorem x0_g7 (hC : sc_C K cc RX0 d nl dp) (hd : decode cc pc = .ok (.getfield 28, 3)) (kk : sc_W K (xw0 h d f a) (pc + 3) lv (.ref (h 7) :: st)) : sc_W K (xw0 h d f a) pc lv (.ref (h 20) :: st) := by
  obtain ⟨p, l, e, R, s, m, args, below, meth, c, A, D, nL, cells, slots, Q⟩ := K
  obtain ⟨hx, hb, hml, ho, hts, hK, hA, hnl, hR⟩ := hC
  intro H locs ls hP hD hS hl
  exact va_get (D := D) (ci := 0) (v := .ref (h 7)) (C := RX0) (T := TX0) (N := 20) hx hb hts in_X0 ho hK hP 0 rfl rfl 7 (by decide) (hts _ q45) (fun _ h9 => h9) rfl hd (kk H locs ls hP hD hS hl)
theorem x0_ald7 (hC : sc_C K cc RX0 d nl dp) (j : Nat) {i : Int32} (hi : i = nI j) (hj : j < 4) (hd : decode cc pc = .ok (.iaload, 1)) (kk : sc_W K (xw0 h d f a) (pc + 1) lv (.int (a 7 j) :: st)) : sc_W K (xw0 h d f a) pc lv (.int i :: .ref (h 7) :: st) := sc_ald hC (q0 := 7) (ws := xw0 h d f a) rfl (by decide) j hi hj hd kk
theorem x0_ast7 (hC : sc_C K cc RX0 d nl dp) (j : Nat) {i x : Int32} (hi : i = nI j) (hj : j < 4) (hd : decode cc pc = .ok (.iastore, 1)) (kk : sc_W K (xw0 h d f (sc_ua a 7 j x)) (pc + 1) lv st) : sc_W K (xw0 h d f a) pc lv (.int x :: .int i :: .ref (h 7) :: st) := sc_ast hC (q0 := 7) (ws := xw0 h d f a) rfl (by decide) j hi hj hd kk
theorem x0_g8 (hC : sc_C K cc RX0 d nl dp) (hd : decode cc pc = .ok (.getfield 69, 3)) (kk : sc_W K (xw0 h d f a) (pc + 3) lv (.int (f 8) :: st)) : sc_W K (xw0 h d f a) pc lv (.ref (h 20) :: st) := by
  obtain ⟨p, l, e, R, s, m, args, below, meth, c, A, D, nL, cells, slots, Q⟩ := K
  obtain ⟨hx, hb, hml, ho, hts, hK, hA, hnl, hR⟩ := hC
  intro H locs ls hP hD hS hl
  exact va_get (D := D) (ci := 0) (v := .int (f 8)) (C := RX0) (T := TX0) (N := 20) hx hb hts in_X0 ho hK hP 0 rfl rfl 8 (by decide) (hts _ q46) (fun _ h9 => h9) rfl hd (kk H locs ls hP hD hS hl)
theorem x0_p8 (hC : sc_C K cc RX0 d nl dp) {x : Int32} (hd : decode cc pc = .ok (.putfield 69, 3)) (kk : sc_W K (xw0 h d (upd f 8 x) a) (pc + 3) lv st) : sc_W K (xw0 h d f a) pc lv (.int x :: .ref (h 20) :: st) := by
  obtain ⟨p, l, e, R, s, m, args, below, meth, c, A, D, nL, cells, slots, Q⟩ := K
  obtain ⟨hx, hb, hml, ho, hts, hK, hA, hnl, hR⟩ := hC
  intro H locs ls hP hD hS hl
  exact va_put (D := D) (ci := 0) (v := .int x) (ty := .int) (C := RX0) (T := TX0) (N := 20) hx hb hts in_X0 tyX0 tyX0_ok nmX0 ho hK hP hD hS 0 rfl rfl 8 (by decide) (hts _ q46) (fun _ h9 => h9) rfl (by decide +kernel) rfl rfl (Nat.le_of_ble_eq_true rfl) hd (fun H1 locs1 hP1 hD1 hS1 => kk H1 locs1 ls hP1 hD1 hS1 hl)
theorem x0_g9 (hC : sc_C K cc RX0 d nl dp) (hd : decode cc pc = .ok (.getfield 76, 3)) (kk : sc_W K (xw0 h d f a) (pc + 3) lv (.int (f 9) :: st)) : sc_W K (xw0 h d f a) pc lv (.ref (h 20) :: st) := by
  obtain ⟨p, l, e, R, s, m, args, below, meth, c, A, D, nL, cells, slots, Q⟩ := K
  obtain ⟨hx, hb, hml, ho, hts, hK, hA, hnl, hR⟩ := hC
  intro H locs ls hP hD hS hl
  exact va_get (D := D) (ci := 0) (v := .int (f 9)) (C := RX0) (T := TX0) (N := 20) hx hb hts in_X0 ho hK hP 0 rfl rfl 9 (by decide) (hts _ q47) (fun _ h9 => h9) rfl hd (kk H locs ls hP hD hS hl)
theorem x0_p9 (hC : sc_C K cc RX0 d nl dp) {x : Int32} (hd : decode cc pc = .ok (.putfield 76, 3)) (kk : sc_W K (xw0 h d (upd f 9 x) a) (pc + 3) lv st) : sc_W K (xw0 h d f a) pc lv (.int x :: .ref (h 20) :: st) := by
  obtain ⟨p, l, e, R, s, m, args, below, meth, c, A, D, nL, cells, slots, Q⟩ := K
  obtain ⟨hx, hb, hml, ho, hts, hK, hA, hnl, hR⟩ := hC
  intro H locs ls hP hD hS hl
  exact va_put (D := D) (ci := 0) (v := .int x) (ty := .int) (C := RX0) (T := TX0) (N := 20) hx hb hts in_X0 tyX0 tyX0_ok nmX0 ho hK hP hD hS 0 rfl rfl 9 (by decide) (hts _ q47) (fun _ h9 => h9) rfl (by decide +kernel) rfl rfl (Nat.le_of_ble_eq_true rfl) hd (fun H1 locs1 hP1 hD1 hS1 => kk H1 locs1 ls hP1 hD1 hS1 hl)
theorem x0_g10 (hC : sc_C K cc RX0 d nl dp) (hd : decode cc pc = .ok (.getfield 37, 3)) (kk : sc_W K (xw0 h d f a) (pc + 3) lv (.int (f 10) :: st)) : sc_W K (xw0 h d f a) pc lv (.ref (h 20) :: st) := by
  obtain ⟨p, l, e, R, s, m, args, below, meth, c, A, D, nL, cells, slots, Q⟩ := K
  obtain ⟨hx, hb, hml, ho, hts, hK, hA, hnl, hR⟩ := hC
  intro H locs ls hP hD hS hl
  exact va_get (D := D) (ci := 0) (v := .int (f 10)) (C := RX0) (T := TX0) (N := 20) hx hb hts in_X0 ho hK hP 0 rfl rfl 10 (by decide) (hts _ q48) (fun _ h9 => h9) rfl hd (kk H locs ls hP hD hS hl)
theorem x0_p10 (hC : sc_C K cc RX0 d nl dp) {x : Int32} (hd : decode cc pc = .ok (.putfield 37, 3)) (kk : sc_W K (xw0 h d (upd f 10 x) a) (pc + 3) lv st) : sc_W K (xw0 h d f a) pc lv (.int x :: .ref (h 20) :: st) := by
  obtain ⟨p, l, e, R, s, m, args, below, meth, c, A, D, nL, cells, slots, Q⟩ := K
  obtain ⟨hx, hb, hml, ho, hts, hK, hA, hnl, hR⟩ := hC
  intro H locs ls hP hD hS hl
  exact va_put (D := D) (ci := 0) (v := .int x) (ty := .int) (C := RX0) (T := TX0) (N := 20) hx hb hts in_X0 tyX0 tyX0_ok nmX0 ho hK hP hD hS 0 rfl rfl 10 (by decide) (hts _ q48) (fun _ h9 => h9) rfl (by decide +kernel) rfl rfl (Nat.le_of_ble_eq_true rfl) hd (fun H1 locs1 hP1 hD1 hS1 => kk H1 locs1 ls hP1 hD1 hS1 hl)
theorem x0_g11 (hC : sc_C K cc RX0 d nl dp) (hd : decode cc pc = .ok (.getfield 58, 3)) (kk : sc_W K (xw0 h d f a) (pc + 3) lv (.int (f 11) :: st)) : sc_W K (xw0 h d f a) pc lv (.ref (h 20) :: st) := by
  obtain ⟨p, l, e, R, s, m, args, below, meth, c, A, D, nL, cells, slots, Q⟩ := K
  obtain ⟨hx, hb, hml, ho, hts, hK, hA, hnl, hR⟩ := hC
  intro H locs ls hP hD hS hl
  exact va_get (D := D) (ci := 0) (v := .int (f 11)) (C := RX0) (T := TX0) (N := 20) hx hb hts in_X0 ho hK hP 0 rfl rfl 11 (by decide) (hts _ q49) (fun _ h9 => h9) rfl hd (kk H locs ls hP hD hS hl)
theorem x0_p11 (hC : sc_C K cc RX0 d nl dp) {x : Int32} (hd : decode cc pc = .ok (.putfield 58, 3)) (kk : sc_W K (xw0 h d (upd f 11 x) a) (pc + 3) lv st) : sc_W K (xw0 h d f a) pc lv (.int x :: .ref (h 20) :: st) := by
  obtain ⟨p, l, e, R, s, m, args, below, meth, c, A, D, nL, cells, slots, Q⟩ := K
  obtain ⟨hx, hb, hml, ho, hts, hK, hA, hnl, hR⟩ := hC
  intro H locs ls hP hD hS hl
  exact va_put (D := D) (ci := 0) (v := .int x) (ty := .int) (C := RX0) (T := TX0) (N := 20) hx hb hts in_X0 tyX0 tyX0_ok nmX0 ho hK hP hD hS 0 rfl rfl 11 (by decide) (hts _ q49) (fun _ h9 => h9) rfl (by decide +kernel) rfl rfl (Nat.le_of_ble_eq_true rfl) hd (fun H1 locs1 hP1 hD1 hS1 => kk H1 locs1 ls hP1 hD1 hS1 hl)
theorem x0_g12 (hC : sc_C K cc RX0 d nl dp) (hd : decode cc pc = .ok (.getfield 41, 3)) (kk : sc_W K (xw0 h d f a) (pc + 3) lv (.int (f 12) :: st)) : sc_W K (xw0 h d f a) pc lv (.ref (h 20) :: st) := by
  obtain ⟨p, l, e, R, s, m, args, below, meth, c, A, D, nL, cells, slots, Q⟩ := K
  obtain ⟨hx, hb, hml, ho, hts, hK, hA, hnl, hR⟩ := hC
  intro H locs ls hP hD hS hl
  exact va_get (D := D) (ci := 0) (v := .int (f 12)) (C := RX0) (T := TX0) (N := 20) hx hb hts in_X0 ho hK hP 0 rfl rfl 12 (by decide) (hts _ q50) (fun _ h9 => h9) rfl hd (kk H locs ls hP hD hS hl)
theorem x0_p12 (hC : sc_C K cc RX0 d nl dp) {x : Int32} (hd : decode cc pc = .ok (.putfield 41, 3)) (kk : sc_W K (xw0 h d (upd f 12 x) a) (pc + 3) lv st) : sc_W K (xw0 h d f a) pc lv (.int x :: .ref (h 20) :: st) := by
  obtain ⟨p, l, e, R, s, m, args, below, meth, c, A, D, nL, cells, slots, Q⟩ := K
  obtain ⟨hx, hb, hml, ho, hts, hK, hA, hnl, hR⟩ := hC
  intro H locs ls hP hD hS hl
  exact va_put (D := D) (ci := 0) (v := .int x) (ty := .int) (C := RX0) (T := TX0) (N := 20) hx hb hts in_X0 tyX0 tyX0_ok nmX0 ho hK hP hD hS 0 rfl rfl 12 (by decide) (hts _ q50) (fun _ h9 => h9) rfl (by decide +kernel) rfl rfl (Nat.le_of_ble_eq_true rfl) hd (fun H1 locs1 hP1 hD1 hS1 => kk H1 locs1 ls hP1 hD1 hS1 hl)
theorem x0_g13 (hC : sc_C K cc RX0 d nl dp) (hd : decode cc pc = .ok (.getfield 44, 3)) (kk : sc_W K (xw0 h d f a) (pc + 3) lv (.int (f 13) :: st)) : sc_W K (xw0 h d f a) pc lv (.ref (h 20) :: st) := by
  obtain ⟨p, l, e, R, s, m, args, below, meth, c, A, D, nL, cells, slots, Q⟩ := K
  obtain ⟨hx, hb, hml, ho, hts, hK, hA, hnl, hR⟩ := hC
  intro H locs ls hP hD hS hl
  exact va_get (D := D) (ci := 0) (v := .int (f 13)) (C := RX0) (T := TX0) (N := 20) hx hb hts in_X0 ho hK hP 0 rfl rfl 13 (by decide) (hts _ q51) (fun _ h9 => h9) rfl hd (kk H locs ls hP hD hS hl)
theorem x0_p13 (hC : sc_C K cc RX0 d nl dp) {x : Int32} (hd : decode cc pc = .ok (.putfield 44, 3)) (kk : sc_W K (xw0 h d (upd f 13 x) a) (pc + 3) lv st) : sc_W K (xw0 h d f a) pc lv (.int x :: .ref (h 20) :: st) := by
  obtain ⟨p, l, e, R, s, m, args, below, meth, c, A, D, nL, cells, slots, Q⟩ := K
  obtain ⟨hx, hb, hml, ho, hts, hK, hA, hnl, hR⟩ := hC
  intro H locs ls hP hD hS hl
  exact va_put (D := D) (ci := 0) (v := .int x) (ty := .int) (C := RX0) (T := TX0) (N := 20) hx hb hts in_X0 tyX0 tyX0_ok nmX0 ho hK hP hD hS 0 rfl rfl 13 (by decide) (hts _ q51) (fun _ h9 => h9) rfl (by decide +kernel) rfl rfl (Nat.le_of_ble_eq_true rfl) hd (fun H1 locs1 hP1 hD1 hS1 => kk H1 locs1 ls hP1 hD1 hS1 hl)
theorem x0_g14 (hC : sc_C K cc RX0 d nl dp) (hd : decode cc pc = .ok (.getfield 31, 3)) (kk : sc_W K (xw0 h d f a) (pc + 3) lv (.ref (h 14) :: st)) : sc_W K (xw0 h d f a) pc lv (.ref (h 20) :: st) := by
  obtain ⟨p, l, e, R, s, m, args, below, meth, c, A, D, nL, cells, slots, Q⟩ := K
  obtain ⟨hx, hb, hml, ho, hts, hK, hA, hnl, hR⟩ := hC
  intro H locs ls hP hD hS hl
  exact va_get (D := D) (ci := 0) (v := .ref (h 14)) (C := RX0) (T := TX0) (N := 20) hx hb hts in_X0 ho hK hP 0 rfl rfl 14 (by decide) (hts _ q52) (fun _ h9 => h9) rfl hd (kk H locs ls hP hD hS hl)
theorem x0_ald14 (hC : sc_C K cc RX0 d nl dp) (j : Nat) {i : Int32} (hi : i = nI j) (hj : j < 16) (hd : decode cc pc = .ok (.iaload, 1)) (kk : sc_W K (xw0 h d f a) (pc + 1) lv (.int (a 14 j) :: st)) : sc_W K (xw0 h d f a) pc lv (.int i :: .ref (h 14) :: st) := sc_ald hC (q0 := 8) (ws := xw0 h d f a) rfl (by decide) j hi hj hd kk
theorem x0_ast14 (hC : sc_C K cc RX0 d nl dp) (j : Nat) {i x : Int32} (hi : i = nI j) (hj : j < 16) (hd : decode cc pc = .ok (.iastore, 1)) (kk : sc_W K (xw0 h d f (sc_ua a 14 j x)) (pc + 1) lv st) : sc_W K (xw0 h d f a) pc lv (.int x :: .int i :: .ref (h 14) :: st) := sc_ast hC (q0 := 8) (ws := xw0 h d f a) rfl (by decide) j hi hj hd kk
theorem x0_g15 (hC : sc_C K cc RX0 d nl dp) (hd : decode cc pc = .ok (.getfield 34, 3)) (kk : sc_W K (xw0 h d f a) (pc + 3) lv (.ref (h 15) :: st)) : sc_W K (xw0 h d f a) pc lv (.ref (h 20) :: st) := by
  obtain ⟨p, l, e, R, s, m, args, below, meth, c, A, D, nL, cells, slots, Q⟩ := K
  obtain ⟨hx, hb, hml, ho, hts, hK, hA, hnl, hR⟩ := hC
  intro H locs ls hP hD hS hl
  exact va_get (D := D) (ci := 0) (v := .ref (h 15)) (C := RX0) (T := TX0) (N := 20) hx hb hts in_X0 ho hK hP 0 rfl rfl 15 (by decide) (hts _ q53) (fun _ h9 => h9) rfl hd (kk H locs ls hP hD hS hl)
theorem x0_ald15 (hC : sc_C K cc RX0 d nl dp) (j : Nat) {i : Int32} (hi : i = nI j) (hj : j < 16) (hd : decode cc pc = .ok (.iaload, 1)) (kk : sc_W K (xw0 h d f a) (pc + 1) lv (.int (a 15 j) :: st)) : sc_W K (xw0 h d f a) pc lv (.int i :: .ref (h 15) :: st) := sc_ald hC (q0 := 9) (ws := xw0 h d f a) rfl (by decide) j hi hj hd kk
theorem x0_ast15 (hC : sc_C K cc RX0 d nl dp) (j : Nat) {i x : Int32} (hi : i = nI j) (hj : j < 16) (hd : decode cc pc = .ok (.iastore, 1)) (kk : sc_W K (xw0 h d f (sc_ua a 15 j x)) (pc + 1) lv st) : sc_W K (xw0 h d f a) pc lv (.int x :: .int i :: .ref (h 15) :: st) := sc_ast hC (q0 := 9) (ws := xw0 h d f a) rfl (by decide) j hi hj hd kk
theorem x0_g16 (hC : sc_C K cc RX0 d nl dp) (hd : decode cc pc = .ok (.getfield 116, 3)) (kk : sc_W K (xw0 h d f a) (pc + 3) lv (.int (f 16) :: st)) : sc_W K (xw0 h d f a) pc lv (.ref (h 20) :: st) := by
  obtain ⟨p, l, e, R, s, m, args, below, meth, c, A, D, nL, cells, slots, Q⟩ := K
  obtain ⟨hx, hb, hml, ho, hts, hK, hA, hnl, hR⟩ := hC
  intro H locs ls hP hD hS hl
  exact va_get (D := D) (ci := 0) (v := .int (f 16)) (C := RX0) (T := TX0) (N := 20) hx hb hts in_X0 ho hK hP 0 rfl rfl 16 (by decide) (hts _ q54) (fun _ h9 => h9) rfl hd (kk H locs ls hP hD hS hl)
theorem x0_p16 (hC : sc_C K cc RX0 d nl dp) {x : Int32} (hd : decode cc pc = .ok (.putfield 116, 3)) (kk : sc_W K (xw0 h d (upd f 16 x) a) (pc + 3) lv st) : sc_W K (xw0 h d f a) pc lv (.int x :: .ref (h 20) :: st) := by
  obtain ⟨p, l, e, R, s, m, args, below, meth, c, A, D, nL, cells, slots, Q⟩ := K
  obtain ⟨hx, hb, hml, ho, hts, hK, hA, hnl, hR⟩ := hC
  intro H locs ls hP hD hS hl
  exact va_put (D := D) (ci := 0) (v := .int x) (ty := .int) (C := RX0) (T := TX0) (N := 20) hx hb hts in_X0 tyX0 tyX0_ok nmX0 ho hK hP hD hS 0 rfl rfl 16 (by decide) (hts _ q54) (fun _ h9 => h9) rfl (by decide +kernel) rfl rfl (Nat.le_of_ble_eq_true rfl) hd (fun H1 locs1 hP1 hD1 hS1 => kk H1 locs1 ls hP1 hD1 hS1 hl)
theorem x0_g17 (hC : sc_C K cc RX0 d nl dp) (hd : decode cc pc = .ok (.getfield 119, 3)) (kk : sc_W K (xw0 h d f a) (pc + 3) lv (.int (f 17) :: st)) : sc_W K (xw0 h d f a) pc lv (.ref (h 20) :: st) := by
  obtain ⟨p, l, e, R, s, m, args, below, meth, c, A, D, nL, cells, slots, Q⟩ := K
  obtain ⟨hx, hb, hml, ho, hts, hK, hA, hnl, hR⟩ := hC
  intro H locs ls hP hD hS hl
  exact va_get (D := D) (ci := 0) (v := .int (f 17)) (C := RX0) (T := TX0) (N := 20) hx hb hts in_X0 ho hK hP 0 rfl rfl 17 (by decide) (hts _ q55) (fun _ h9 => h9) rfl hd (kk H locs ls hP hD hS hl)
theorem x0_p17 (hC : sc_C K cc RX0 d nl dp) {x : Int32} (hd : decode cc pc = .ok (.putfield 119, 3)) (kk : sc_W K (xw0 h d (upd f 17 x) a) (pc + 3) lv st) : sc_W K (xw0 h d f a) pc lv (.int x :: .ref (h 20) :: st) := by
  obtain ⟨p, l, e, R, s, m, args, below, meth, c, A, D, nL, cells, slots, Q⟩ := K
  obtain ⟨hx, hb, hml, ho, hts, hK, hA, hnl, hR⟩ := hC
  intro H locs ls hP hD hS hl
  exact va_put (D := D) (ci := 0) (v := .int x) (ty := .int) (C := RX0) (T := TX0) (N := 20) hx hb hts in_X0 tyX0 tyX0_ok nmX0 ho hK hP hD hS 0 rfl rfl 17 (by decide) (hts _ q55) (fun _ h9 => h9) rfl (by decide +kernel) rfl rfl (Nat.le_of_ble_eq_true rfl) hd (fun H1 locs1 hP1 hD1 hS1 => kk H1 locs1 ls hP1 hD1 hS1 hl)
theorem x0_g18 (hC : sc_C K cc RX0 d nl dp) (hd : decode cc pc = .ok (.getfield 122, 3)) (kk : sc_W K (xw0 h d f a) (pc + 3) lv (.int (f 18) :: st)) : sc_W K (xw0 h d f a) pc lv (.ref (h 20) :: st) := by
  obtain ⟨p, l, e, R, s, m, args, below, meth, c, A, D, nL, cells, slots, Q⟩ := K
  obtain ⟨hx, hb, hml, ho, hts, hK, hA, hnl, hR⟩ := hC
  intro H locs ls hP hD hS hl
  exact va_get (D := D) (ci := 0) (v := .int (f 18)) (C := RX0) (T := TX0) (N := 20) hx hb hts in_X0 ho hK hP 0 rfl rfl 18 (by decide) (hts _ q56) (fun _ h9 => h9) rfl hd (kk H locs ls hP hD hS hl)
theorem x0_p18 (hC : sc_C K cc RX0 d nl dp) {x : Int32} (hd : decode cc pc = .ok (.putfield 122, 3)) (kk : sc_W K (xw0 h d (upd f 18 x) a) (pc + 3) lv st) : sc_W K (xw0 h d f a) pc lv (.int x :: .ref (h 20) :: st) := by
  obtain ⟨p, l, e, R, s, m, args, below, meth, c, A, D, nL, cells, slots, Q⟩ := K
  obtain ⟨hx, hb, hml, ho, hts, hK, hA, hnl, hR⟩ := hC
  intro H locs ls hP hD hS hl
  exact va_put (D := D) (ci := 0) (v := .int x) (ty := .int) (C := RX0) (T := TX0) (N := 20) hx hb hts in_X0 tyX0 tyX0_ok nmX0 ho hK hP hD hS 0 rfl rfl 18 (by decide) (hts _ q56) (fun _ h9 => h9) rfl (by decide +kernel) rfl rfl (Nat.le_of_ble_eq_true rfl) hd (fun H1 locs1 hP1 hD1 hS1 => kk H1 locs1 ls hP1 hD1 hS1 hl)
theorem x0_g19 (hC : sc_C K cc RX0 d nl dp) (hd : decode cc pc = .ok (.getfield 125, 3)) (kk : sc_W K (xw0 h d f a) (pc + 3) lv (.int (f 19) :: st)) : sc_W K (xw0 h d f a) pc lv (.ref (h 20) :: st) := by
  obtain ⟨p, l, e, R, s, m, args, below, meth, c, A, D, nL, cells, slots, Q⟩ := K
  obtain ⟨hx, hb, hml, ho, hts, hK, hA, hnl, hR⟩ := hC
  intro H locs ls hP hD hS hl
  exact va_get (D := D) (ci := 0) (v := .int (f 19)) (C := RX0) (T := TX0) (N := 20) hx hb hts in_X0 ho hK hP 0 rfl rfl 19 (by decide) (hts _ q57) (fun _ h9 => h9) rfl hd (kk H locs ls hP hD hS hl)
theorem x0_p19 (hC : sc_C K cc RX0 d nl dp) {x : Int32} (hd : decode cc pc = .ok (.putfield 125, 3)) (kk : sc_W K (xw0 h d (upd f 19 x) a) (pc + 3) lv st) : sc_W K (xw0 h d f a) pc lv (.int x :: .ref (h 20) :: st) := by
  obtain ⟨p, l, e, R, s, m, args, below, meth, c, A, D, nL, cells, slots, Q⟩ := K
  obtain ⟨hx, hb, hml, ho, hts, hK, hA, hnl, hR⟩ := hC
  intro H locs ls hP hD hS hl
  exact va_put (D := D) (ci := 0) (v := .int x) (ty := .int) (C := RX0) (T := TX0) (N := 20) hx hb hts in_X0 tyX0 tyX0_ok nmX0 ho hK hP hD hS 0 rfl rfl 19 (by decide) (hts _ q57) (fun _ h9 => h9) rfl (by decide +kernel) rfl rfl (Nat.le_of_ble_eq_true rfl) hd (fun H1 locs1 hP1 hD1 hS1 => kk H1 locs1 ls hP1 hD1 hS1 hl)
/-- a contract of SeriesCodec: from fields f and arrays a, with arguments As, the method answers r and leaves f', a' with post r f' a' -/
def sc_I0 (y : MethodName) (bytes : ByteArray) (maxL : Nat) (ret : Option FieldType) (dp : Nat) (As : List Value) (f : Nat → Int32) (a : Nat → Nat → Int32) (post : Int32 → (Nat → Int32) → (Nat → Nat → Int32) → Prop) : Prop := ∀ (l : Launch) (D : va_G) (d : ClassId) (h : Nat → Nat) (sz : Nat), Met l y (ws_ y bytes maxL ret) ({ frames := dp, cells := 0, slots := 0, locals := 30 * dp }) (va_Pc (.ref (h 20) :: As) (fun U => U.heap.size = sz ∧ va_P D vwCl (xw0 h d f a) U.heap ∧ va_K D vwCl [(d, .int)] U ∧ va_D (fun _ => True) (xw0 h d f a))) (va_Qi (fun (r : Int32) (u : (Nat → Int32) × (Nat → Nat → Int32)) => post r u.1 u.2) (fun u t => va_P D vwCl (xw0 h d u.1 u.2) t.heap ∧ va_K D vwCl [(d, .int)] t ∧ va_D (xA0 h sz) (xw0 h d u.1 u.2)) (xA0 h sz)) 0 0 (xA0 h sz)
def sc_V0 (y : MethodName) (bytes : ByteArray) (maxL dp : Nat) (As : List Value) (f : Nat → Int32) (a : Nat → Nat → Int32) (post : (Nat → Int32) → (Nat → Nat → Int32) → Prop) : Prop := ∀ (l : Launch) (D : va_G) (d : ClassId) (h : Nat → Nat) (sz : Nat), Met l y (ws_ y bytes maxL none) ({ frames := dp, cells := 0, slots := 0, locals := 30 * dp }) (va_Pc (.ref (h 20) :: As) (fun U => U.heap.size = sz ∧ va_P D vwCl (xw0 h d f a) U.heap ∧ va_K D vwCl [(d, .int)] U ∧ va_D (fun _ => True) (xw0 h d f a))) (va_Qv (fun (u : (Nat → Int32) × (Nat → Nat → Int32)) => post u.1 u.2) (fun u t => va_P D vwCl (xw0 h d u.1 u.2) t.heap ∧ va_K D vwCl [(d, .int)] t ∧ va_D (xA0 h sz) (xw0 h d u.1 u.2)) (xA0 h sz)) 0 0 (xA0 h sz)
theorem x0_callI {y : MethodName} {bytes : ByteArray} {maxL dq ix n : Nat} {ret : Option FieldType} {As : List Value} {post : Int32 → (Nat → Int32) → (Nat → Nat → Int32) → Prop} {stk : List Value} (hC : sc_C K cc RX0 d nl dp) (hM : sc_I0 y bytes maxL ret dq As f a post) (hw : GoodIn lw_all (wsV RX0 ix RX0 y (ws_ y bytes maxL ret)) ∧ (y.cls = RX0 ∧ y.cls ≠ "java/lang/invoke/MethodHandle" ∧ y.cls ≠ "java/lang/invoke/VarHandle" ∧ (parseMethodDescriptor y.desc).map (fun d => d.parameters.length) = some n)) (hn : As.length = n) (hdq : dq < dp) (hmx : maxL ≤ 11) (hd : decode cc pc = .ok (.invokevirtual ix, 3)) (hst : stk = As.reverse ++ .ref (h 20) :: st) (hcat : (st.map fun v => v.category).sum ≤ 8) (kk : ∀ (r : Int32) (f' : Nat → Int32) (a' : Nat → Nat → Int32), post r f' a' → sc_W K (xw0 h d f' a') (pc + 3) lv (.int r :: st)) : sc_W K (xw0 h d f a) pc lv stk := by
  subst hst
  obtain ⟨p, l, e, R, s, m, args, below, meth, c, A, D, nL, cells, slots, Q⟩ := K
  obtain ⟨hx, hb, hml, ho, hts, hK, hA, hnl, hR⟩ := hC
  intro H locs ls hP hD hS hl
  obtain ⟨hR1, hR2, hR3, hR4⟩ := hR
  have hFc : ∀ q, xA0 h H.size q → A q := by
    intro q hq
    rw [← xA0_eq (d := d) (f := f) (a := a)] at hq
    rcases hq with ⟨k, e, hk⟩ | hq
    · exact hD.2 k (q, e) hk
    · exact hA q (Nat.le_trans hS.1 hq)
  refine va_calli (va_runV (As := As) (rest := st) ⟨hx, hb, hml, ho, hts⟩ (hM l D d h H.size) (cwV n hts hw.1 rfl rfl rfl hw.2 ⟨by show dq + 1 ≤ R.frames; omega, by show 8 + (maxL + 11) + 30 * dq ≤ R.locals; omega⟩) ⟨fun a U g mk q => by obtain ⟨q0, q1, qP, qK, qD⟩ := q; exact ⟨q0, q1, qP, va_K.moved (u := U) (U := U.calling g mk a) (Vm.Alike.refl U.vm) qK, qD⟩, va_recv hK hP (ci := 0) (q0 := 0) rfl rfl, fun U hU hW => ⟨rfl, by rw [hU], by rw [hU]; exact hP, va_K.moved hW.alike hK, hD.weaken (fun _ _ _ _ => trivial)⟩⟩ rfl hn hl.1 rfl (lv_room hcat) hd ⟨hR3, hR4⟩) hS (fun q _ hq => hFc q hq) hFc (fun r u t H1 locs1 ht hvm hw1 hB hz1 hk1 hS1 => ?_)
  obtain ⟨hP1, hK1, hD1⟩ := hB
  rw [ht] at hP1
  exact kk r u.1 u.2 hw1 H1 locs1 ls hP1 (hD1.weaken (fun _ q _ hq => hFc q.1 hq)) hS1 hl
theorem x0_callV {y : MethodName} {bytes : ByteArray} {maxL dq ix n : Nat} {As : List Value} {post : (Nat → Int32) → (Nat → Nat → Int32) → Prop} {stk : List Value} (hC : sc_C K cc RX0 d nl dp) (hM : sc_V0 y bytes maxL dq As f a post) (hw : GoodIn lw_all (wsV RX0 ix RX0 y (ws_ y bytes maxL none)) ∧ (y.cls = RX0 ∧ y.cls ≠ "java/lang/invoke/MethodHandle" ∧ y.cls ≠ "java/lang/invoke/VarHandle" ∧ (parseMethodDescriptor y.desc).map (fun d => d.parameters.length) = some n)) (hn : As.length = n) (hdq : dq < dp) (hmx : maxL ≤ 11) (hd : decode cc pc = .ok (.invokevirtual ix, 3)) (hst : stk = As.reverse ++ .ref (h 20) :: st) (hcat : (st.map fun v => v.category).sum ≤ 8) (kk : ∀ (f' : Nat → Int32) (a' : Nat → Nat → Int32), post f' a' → sc_W K (xw0 h d f' a') (pc + 3) lv st) : sc_W K (xw0 h d f a) pc lv stk := by
  subst hst
  obtain ⟨p, l, e, R, s, m, args, below, meth, c, A, D, nL, cells, slots, Q⟩ := K
  obtain ⟨hx, hb, hml, ho, hts, hK, hA, hnl, hR⟩ := hC
  intro H locs ls hP hD hS hl
  obtain ⟨hR1, hR2, hR3, hR4⟩ := hR
  have hFc : ∀ q, xA0 h H.size q → A q := by
    intro q hq
    rw [← xA0_eq (d := d) (f := f) (a := a)] at hq
    rcases hq with ⟨k, e, hk⟩ | hq
    · exact hD.2 k (q, e) hk
    · exact hA q (Nat.le_trans hS.1 hq)
  refine va_callv (va_runV (As := As) (rest := st) ⟨hx, hb, hml, ho, hts⟩ (hM l D d h H.size) (cwV n hts hw.1 rfl rfl rfl hw.2 ⟨by show dq + 1 ≤ R.frames; omega, by show 8 + (maxL + 11) + 30 * dq ≤ R.locals; omega⟩) ⟨fun a U g mk q => by obtain ⟨q0, q1, qP, qK, qD⟩ := q; exact ⟨q0, q1, qP, va_K.moved (u := U) (U := U.calling g mk a) (Vm.Alike.refl U.vm) qK, qD⟩, va_recv hK hP (ci := 0) (q0 := 0) rfl rfl, fun U hU hW => ⟨rfl, by rw [hU], by rw [hU]; exact hP, va_K.moved hW.alike hK, hD.weaken (fun _ _ _ _ => trivial)⟩⟩ rfl hn hl.1 rfl (lv_room hcat) hd ⟨hR3, hR4⟩) hS (fun q _ hq => hFc q hq) hFc (fun u t H1 locs1 ht hvm hw1 hB hz1 hk1 hS1 => ?_)
  obtain ⟨hP1, hK1, hD1⟩ := hB
  rw [ht] at hP1
  exact kk u.1 u.2 hw1 H1 locs1 ls hP1 (hD1.weaken (fun _ q _ hq => hFc q.1 hq)) hS1 hl
theorem x0_ofI {y : MethodName} {bytes : ByteArray} {maxL dp : Nat} {As : List Value} {f : Nat → Int32} {a : Nat → Nat → Int32} {post : Int32 → (Nat → Int32) → (Nat → Nat → Int32) → Prop} (hy : plainName y.cls = true ∧ y.cls = RX0) (hlen : ∀ z : Nat, (lg_sl (.ref z :: As)).length ≤ maxL) (body : ∀ (K : sc_K) (d : ClassId) (h : Nat → Nat), sc_C K bytes RX0 d maxL dp → (∀ (v : Int32) (f' : Nat → Int32) (a' : Nat → Nat → Int32) (pc : Nat) (lv : List (Nat × Value)), decode bytes pc = .ok (.ireturn, 1) → post v f' a' → sc_W K (xw0 h d f' a') pc lv [.int v]) → sc_W K (xw0 h d f a) 0 (lv_args 0 (.ref (h 20) :: As)) []) : sc_I0 y bytes maxL (some .int) dp As f a post := by
  intro l D d h sz
  refine Met.ofW (cc := bytes) (maxL := maxL) (ret := (some .int)) hy.1 rfl ?_
  intro p e s m args below meth c s₁ B hml hv
  obtain ⟨rfl, hsz, hP, hK, hD0⟩ := hv
  have hts := atoms_spec (ws := ws_ y bytes maxL (some .int)) B.pre
  have hts : ∀ w ∈ lw_all, w.before _ s = true := fun w h => hts w (List.mem_cons_of_mem _ h)
  have hown : s.vm.findClass RX0 = some m.cls := by rw [← hy.2]; exact findClass_of_methodNamed B.named
  subst hsz
  have hD : va_D (xA0 h s.heap.size) (xw0 h d f a) := by rw [← xA0_eq (d := d) (f := f) (a := a)]; exact hD0.self
  rw [lg_entry_eq]
  have hl := lv_entry (.ref (h 20) :: As) (n := maxL) (hlen _)
  refine body (p, l, e, _, s, m, _, below, meth, c, xA0 h s.heap.size, D, maxL, 0, 0, _) d h ?_ ?_ s.heap [] _ hP hD va_S.rf hl
  · exact ⟨B.exec, B.bytes, hml, hown, hts, hK, fun q hq => Or.inr hq, rfl, Nat.le_refl _, Nat.le_refl _, Nat.le_refl _, Nat.le_refl _⟩
  ·
    intro v f' a' pc lv hd hp H locs ls hP hD hS hl
    exact W.iret B.exec B.bytes B.returns (fun t ht hW => ⟨⟨v, (f', a'), rfl, hp, by rw [ht]; exact hP, va_K.moved hW.alike hK, hD⟩, hS.F ht⟩) hS.2.2 hd B.notSynchronized
theorem x0_ofZ {y : MethodName} {bytes : ByteArray} {maxL dp : Nat} {As : List Value} {f : Nat → Int32} {a : Nat → Nat → Int32} {post : Int32 → (Nat → Int32) → (Nat → Nat → Int32) → Prop} (hy : plainName y.cls = true ∧ y.cls = RX0) (hlen : ∀ z : Nat, (lg_sl (.ref z :: As)).length ≤ maxL) (body : ∀ (K : sc_K) (d : ClassId) (h : Nat → Nat), sc_C K bytes RX0 d maxL dp → (∀ (v : Int32) (f' : Nat → Int32) (a' : Nat → Nat → Int32) (pc : Nat) (lv : List (Nat × Value)), decode bytes pc = .ok (.ireturn, 1) → (v = 0 ∨ v = 1) → post v f' a' → sc_W K (xw0 h d f' a') pc lv [.int v]) → sc_W K (xw0 h d f a) 0 (lv_args 0 (.ref (h 20) :: As)) []) : sc_I0 y bytes maxL (some .boolean) dp As f a post := by
  intro l D d h sz
  refine Met.ofW (cc := bytes) (maxL := maxL) (ret := (some .boolean)) hy.1 rfl ?_
  intro p e s m args below meth c s₁ B hml hv
  obtain ⟨rfl, hsz, hP, hK, hD0⟩ := hv
  have hts := atoms_spec (ws := ws_ y bytes maxL (some .boolean)) B.pre
  have hts : ∀ w ∈ lw_all, w.before _ s = true := fun w h => hts w (List.mem_cons_of_mem _ h)
  have hown : s.vm.findClass RX0 = some m.cls := by rw [← hy.2]; exact findClass_of_methodNamed B.named
  subst hsz
  have hD : va_D (xA0 h s.heap.size) (xw0 h d f a) := by rw [← xA0_eq (d := d) (f := f) (a := a)]; exact hD0.self
  rw [lg_entry_eq]
  have hl := lv_entry (.ref (h 20) :: As) (n := maxL) (hlen _)
  refine body (p, l, e, _, s, m, _, below, meth, c, xA0 h s.heap.size, D, maxL, 0, 0, _) d h ?_ ?_ s.heap [] _ hP hD va_S.rf hl
  · exact ⟨B.exec, B.bytes, hml, hown, hts, hK, fun q hq => Or.inr hq, rfl, Nat.le_refl _, Nat.le_refl _, Nat.le_refl _, Nat.le_refl _⟩
  ·
    intro v f' a' pc lv hd hv hp H locs ls hP hD hS hl
    exact W.zret B.exec B.bytes B.returns (by rcases hv with rfl | rfl <;> rfl) (fun t ht hW => ⟨⟨v, (f', a'), rfl, hp, by rw [ht]; exact hP, va_K.moved hW.alike hK, hD⟩, hS.F ht⟩) hS.2.2 hd B.notSynchronized
theorem x0_ofV {y : MethodName} {bytes : ByteArray} {maxL dp : Nat} {As : List Value} {f : Nat → Int32} {a : Nat → Nat → Int32} {post : (Nat → Int32) → (Nat → Nat → Int32) → Prop} (hy : plainName y.cls = true ∧ y.cls = RX0) (hlen : ∀ z : Nat, (lg_sl (.ref z :: As)).length ≤ maxL) (body : ∀ (K : sc_K) (d : ClassId) (h : Nat → Nat), sc_C K bytes RX0 d maxL dp → (∀ (f' : Nat → Int32) (a' : Nat → Nat → Int32) (pc : Nat) (lv : List (Nat × Value)), decode bytes pc = .ok (.return_, 1) → post f' a' → sc_W K (xw0 h d f' a') pc lv []) → sc_W K (xw0 h d f a) 0 (lv_args 0 (.ref (h 20) :: As)) []) : sc_V0 y bytes maxL dp As f a post := by
  intro l D d h sz
  refine Met.ofW (cc := bytes) (maxL := maxL) (ret := none) hy.1 rfl ?_
  intro p e s m args below meth c s₁ B hml hv
  obtain ⟨rfl, hsz, hP, hK, hD0⟩ := hv
  have hts := atoms_spec (ws := ws_ y bytes maxL none) B.pre
  have hts : ∀ w ∈ lw_all, w.before _ s = true := fun w h => hts w (List.mem_cons_of_mem _ h)
  have hown : s.vm.findClass RX0 = some m.cls := by rw [← hy.2]; exact findClass_of_methodNamed B.named
  subst hsz
  have hD : va_D (xA0 h s.heap.size) (xw0 h d f a) := by rw [← xA0_eq (d := d) (f := f) (a := a)]; exact hD0.self
  rw [lg_entry_eq]
  have hl := lv_entry (.ref (h 20) :: As) (n := maxL) (hlen _)
  refine body (p, l, e, _, s, m, _, below, meth, c, xA0 h s.heap.size, D, maxL, 0, 0, _) d h ?_ ?_ s.heap [] _ hP hD va_S.rf hl
  · exact ⟨B.exec, B.bytes, hml, hown, hts, hK, fun q hq => Or.inr hq, rfl, Nat.le_refl _, Nat.le_refl _, Nat.le_refl _, Nat.le_refl _⟩
  ·
    intro f' a' pc lv hd hp H locs ls hP hD hS hl
    exact W.vret B.exec B.bytes B.returns (fun t ht hW => ⟨⟨(f', a'), rfl, hp, by rw [ht]; exact hP, va_K.moved hW.alike hK, hD⟩, hS.F ht⟩) hS.2.2 hd B.notSynchronized
end SC0
theorem k0_timeNow : GoodIn lw_all (wsV RX0 64 RX0 yX0_timeNow (ws_ yX0_timeNow cX0_timeNow 1 (some .int))) ∧ (yX0_timeNow.cls = RX0 ∧ yX0_timeNow.cls ≠ "java/lang/invoke/MethodHandle" ∧ yX0_timeNow.cls ≠ "java/lang/invoke/VarHandle" ∧ (parseMethodDescriptor yX0_timeNow.desc).map (fun d => d.parameters.length) = some 0) := ⟨lw_V q105 q107 qs0 q28 q108, by decide +kernel⟩
theorem k0_resume : GoodIn lw_all (wsV RX0 102 RX0 yX0_resume (ws_ yX0_resume cX0_resume 1 none)) ∧ (yX0_resume.cls = RX0 ∧ yX0_resume.cls ≠ "java/lang/invoke/MethodHandle" ∧ yX0_resume.cls ≠ "java/lang/invoke/VarHandle" ∧ (parseMethodDescriptor yX0_resume.desc).map (fun d => d.parameters.length) = some 0) := ⟨lw_V q110 q112 qs1 q28 q113, by decide +kernel⟩
theorem k0_unpack : GoodIn lw_all (wsV RX0 97 RX0 yX0_unpack (ws_ yX0_unpack cX0_unpack 6 none)) ∧ (yX0_unpack.cls = RX0 ∧ yX0_unpack.cls ≠ "java/lang/invoke/MethodHandle" ∧ yX0_unpack.cls ≠ "java/lang/invoke/VarHandle" ∧ (parseMethodDescriptor yX0_unpack.desc).map (fun d => d.parameters.length) = some 1) := ⟨lw_V q114 q116 qs2 q28 q117, by decide +kernel⟩
theorem k0_get : GoodIn lw_all (wsV RX0 85 RX0 yX0_get (ws_ yX0_get cX0_get 5 (some .int))) ∧ (yX0_get.cls = RX0 ∧ yX0_get.cls ≠ "java/lang/invoke/MethodHandle" ∧ yX0_get.cls ≠ "java/lang/invoke/VarHandle" ∧ (parseMethodDescriptor yX0_get.desc).map (fun d => d.parameters.length) = some 1) := ⟨lw_V q118 q120 qs3 q28 q121, by decide +kernel⟩
theorem k0_inChunk : GoodIn lw_all (wsV RX0 88 RX0 yX0_inChunk (ws_ yX0_inChunk cX0_inChunk 3 (some .int))) ∧ (yX0_inChunk.cls = RX0 ∧ yX0_inChunk.cls ≠ "java/lang/invoke/MethodHandle" ∧ yX0_inChunk.cls ≠ "java/lang/invoke/VarHandle" ∧ (parseMethodDescriptor yX0_inChunk.desc).map (fun d => d.parameters.length) = some 1) := ⟨lw_V q122 q124 qs4 q28 q125, by decide +kernel⟩
theorem k0_readGapChange : GoodIn lw_all (wsV RX0 91 RX0 yX0_readGapChange (ws_ yX0_readGapChange cX0_readGapChange 3 (some .int))) ∧ (yX0_readGapChange.cls = RX0 ∧ yX0_readGapChange.cls ≠ "java/lang/invoke/MethodHandle" ∧ yX0_readGapChange.cls ≠ "java/lang/invoke/VarHandle" ∧ (parseMethodDescriptor yX0_readGapChange.desc).map (fun d => d.parameters.length) = some 0) := ⟨lw_V q126 q128 qs5 q28 q129, by decide +kernel⟩
theorem k0_readChange : GoodIn lw_all (wsV RX0 94 RX0 yX0_readChange (ws_ yX0_readChange cX0_readChange 3 (some .int))) ∧ (yX0_readChange.cls = RX0 ∧ yX0_readChange.cls ≠ "java/lang/invoke/MethodHandle" ∧ yX0_readChange.cls ≠ "java/lang/invoke/VarHandle" ∧ (parseMethodDescriptor yX0_readChange.desc).map (fun d => d.parameters.length) = some 0) := ⟨lw_V q130 q132 qs6 q28 q133, by decide +kernel⟩
theorem k0_write : GoodIn lw_all (wsV RX0 105 RX0 yX0_write (ws_ yX0_write cX0_write 5 none)) ∧ (yX0_write.cls = RX0 ∧ yX0_write.cls ≠ "java/lang/invoke/MethodHandle" ∧ yX0_write.cls ≠ "java/lang/invoke/VarHandle" ∧ (parseMethodDescriptor yX0_write.desc).map (fun d => d.parameters.length) = some 2) := ⟨lw_V q134 q136 qs7 q28 q137, by decide +kernel⟩
theorem k0_put : GoodIn lw_all (wsV RX0 47 RX0 yX0_put (ws_ yX0_put cX0_put 7 none)) ∧ (yX0_put.cls = RX0 ∧ yX0_put.cls ≠ "java/lang/invoke/MethodHandle" ∧ yX0_put.cls ≠ "java/lang/invoke/VarHandle" ∧ (parseMethodDescriptor yX0_put.desc).map (fun d => d.parameters.length) = some 3) := ⟨lw_V q138 q140 qs8 q28 q141, by decide +kernel⟩
theorem k0_writeGapChange : GoodIn lw_all (wsV RX0 72 RX0 yX0_writeGapChange (ws_ yX0_writeGapChange cX0_writeGapChange 3 none)) ∧ (yX0_writeGapChange.cls = RX0 ∧ yX0_writeGapChange.cls ≠ "java/lang/invoke/MethodHandle" ∧ yX0_writeGapChange.cls ≠ "java/lang/invoke/VarHandle" ∧ (parseMethodDescriptor yX0_writeGapChange.desc).map (fun d => d.parameters.length) = some 2) := ⟨lw_V q142 q144 qs9 q28 q145, by decide +kernel⟩
theorem k0_writeChange : GoodIn lw_all (wsV RX0 79 RX0 yX0_writeChange (ws_ yX0_writeChange cX0_writeChange 5 none)) ∧ (yX0_writeChange.cls = RX0 ∧ yX0_writeChange.cls ≠ "java/lang/invoke/MethodHandle" ∧ yX0_writeChange.cls ≠ "java/lang/invoke/VarHandle" ∧ (parseMethodDescriptor yX0_writeChange.desc).map (fun d => d.parameters.length) = some 2) := ⟨lw_V q146 q148 qs10 q28 q149, by decide +kernel⟩
theorem k0_zerosBefore : GoodIn lw_all (wsV RX0 51 RX0 yX0_zerosBefore (ws_ yX0_zerosBefore cX0_zerosBefore 4 (some .int))) ∧ (yX0_zerosBefore.cls = RX0 ∧ yX0_zerosBefore.cls ≠ "java/lang/invoke/MethodHandle" ∧ yX0_zerosBefore.cls ≠ "java/lang/invoke/VarHandle" ∧ (parseMethodDescriptor yX0_zerosBefore.desc).map (fun d => d.parameters.length) = some 1) := ⟨lw_V q150 q152 qs11 q28 q153, by decide +kernel⟩
theorem k0_zerosBehind : GoodIn lw_all (wsV RX0 55 RX0 yX0_zerosBehind (ws_ yX0_zerosBehind cX0_zerosBehind 4 (some .int))) ∧ (yX0_zerosBehind.cls = RX0 ∧ yX0_zerosBehind.cls ≠ "java/lang/invoke/MethodHandle" ∧ yX0_zerosBehind.cls ≠ "java/lang/invoke/VarHandle" ∧ (parseMethodDescriptor yX0_zerosBehind.desc).map (fun d => d.parameters.length) = some 1) := ⟨lw_V q154 q156 qs12 q28 q157, by decide +kernel⟩
theorem k0_enter : GoodIn lw_all (wsV RX0 82 RX0 yX0_enter (ws_ yX0_enter cX0_enter 4 none)) ∧ (yX0_enter.cls = RX0 ∧ yX0_enter.cls ≠ "java/lang/invoke/MethodHandle" ∧ yX0_enter.cls ≠ "java/lang/invoke/VarHandle" ∧ (parseMethodDescriptor yX0_enter.desc).map (fun d => d.parameters.length) = some 3) := ⟨lw_V q158 q160 qs13 q28 q161, by decide +kernel⟩
theorem k0_noPoint : GoodIn lw_all (wsV RX0 109 RX0 yX0_noPoint (ws_ yX0_noPoint cX0_noPoint 2 (some .boolean))) ∧ (yX0_noPoint.cls = RX0 ∧ yX0_noPoint.cls ≠ "java/lang/invoke/MethodHandle" ∧ yX0_noPoint.cls ≠ "java/lang/invoke/VarHandle" ∧ (parseMethodDescriptor yX0_noPoint.desc).map (fun d => d.parameters.length) = some 1) := ⟨lw_V q183 q185 qs14 q28 q186, by decide +kernel⟩
theorem k0_chunks : GoodIn lw_all (wsV RX0 113 RX0 yX0_chunks (ws_ yX0_chunks cX0_chunks 1 (some .int))) ∧ (yX0_chunks.cls = RX0 ∧ yX0_chunks.cls ≠ "java/lang/invoke/MethodHandle" ∧ yX0_chunks.cls ≠ "java/lang/invoke/VarHandle" ∧ (parseMethodDescriptor yX0_chunks.desc).map (fun d => d.parameters.length) = some 0) := ⟨lw_V q195 q197 qs15 q28 q198, by decide +kernel⟩
theorem k0_badSpan : GoodIn lw_all (wsV RX0 136 RX0 yX0_badSpan (ws_ yX0_badSpan cX0_badSpan 3 (some .boolean))) ∧ (yX0_badSpan.cls = RX0 ∧ yX0_badSpan.cls ≠ "java/lang/invoke/MethodHandle" ∧ yX0_badSpan.cls ≠ "java/lang/invoke/VarHandle" ∧ (parseMethodDescriptor yX0_badSpan.desc).map (fun d => d.parameters.length) = some 2) := ⟨lw_V q211 q213 qs16 q28 q214, by decide +kernel⟩
theorem k0_search : GoodIn lw_all (wsV RX0 140 RX0 yX0_search (ws_ yX0_search cX0_search 6 none)) ∧ (yX0_search.cls = RX0 ∧ yX0_search.cls ≠ "java/lang/invoke/MethodHandle" ∧ yX0_search.cls ≠ "java/lang/invoke/VarHandle" ∧ (parseMethodDescriptor yX0_search.desc).map (fun d => d.parameters.length) = some 2) := ⟨lw_V q215 q217 qs17 q28 q218, by decide +kernel⟩
theorem k0_note : GoodIn lw_all (wsV RX0 128 RX0 yX0_note (ws_ yX0_note cX0_note 5 none)) ∧ (yX0_note.cls = RX0 ∧ yX0_note.cls ≠ "java/lang/invoke/MethodHandle" ∧ yX0_note.cls ≠ "java/lang/invoke/VarHandle" ∧ (parseMethodDescriptor yX0_note.desc).map (fun d => d.parameters.length) = some 4) := ⟨lw_V q220 q222 qs18 q28 q223, by decide +kernel⟩
theorem k0_cut : GoodIn lw_all (wsV RX0 133 RX0 yX0_cut (ws_ yX0_cut cX0_cut 6 none)) ∧ (yX0_cut.cls = RX0 ∧ yX0_cut.cls ≠ "java/lang/invoke/MethodHandle" ∧ yX0_cut.cls ≠ "java/lang/invoke/VarHandle" ∧ (parseMethodDescriptor yX0_cut.desc).map (fun d => d.parameters.length) = some 3) := ⟨lw_V q224 q226 qs19 q28 q227, by decide +kernel⟩
theorem pn0_append : plainName yX0_append.cls = true ∧ yX0_append.cls = RX0 := ⟨by decide, rfl⟩
theorem pn0_timeNow : plainName yX0_timeNow.cls = true ∧ yX0_timeNow.cls = RX0 := ⟨by decide, rfl⟩
theorem pn0_resume : plainName yX0_resume.cls = true ∧ yX0_resume.cls = RX0 := ⟨by decide, rfl⟩
theorem pn0_unpack : plainName yX0_unpack.cls = true ∧ yX0_unpack.cls = RX0 := ⟨by decide, rfl⟩
theorem pn0_get : plainName yX0_get.cls = true ∧ yX0_get.cls = RX0 := ⟨by decide, rfl⟩
theorem pn0_inChunk : plainName yX0_inChunk.cls = true ∧ yX0_inChunk.cls = RX0 := ⟨by decide, rfl⟩
theorem pn0_readGapChange : plainName yX0_readGapChange.cls = true ∧ yX0_readGapChange.cls = RX0 := ⟨by decide, rfl⟩
theorem pn0_readChange : plainName yX0_readChange.cls = true ∧ yX0_readChange.cls = RX0 := ⟨by decide, rfl⟩
theorem pn0_write : plainName yX0_write.cls = true ∧ yX0_write.cls = RX0 := ⟨by decide, rfl⟩
theorem pn0_put : plainName yX0_put.cls = true ∧ yX0_put.cls = RX0 := ⟨by decide, rfl⟩
theorem pn0_writeGapChange : plainName yX0_writeGapChange.cls = true ∧ yX0_writeGapChange.cls = RX0 := ⟨by decide, rfl⟩
theorem pn0_writeChange : plainName yX0_writeChange.cls = true ∧ yX0_writeChange.cls = RX0 := ⟨by decide, rfl⟩
theorem pn0_zerosBefore : plainName yX0_zerosBefore.cls = true ∧ yX0_zerosBefore.cls = RX0 := ⟨by decide, rfl⟩
theorem pn0_zerosBehind : plainName yX0_zerosBehind.cls = true ∧ yX0_zerosBehind.cls = RX0 := ⟨by decide, rfl⟩
theorem pn0_enter : plainName yX0_enter.cls = true ∧ yX0_enter.cls = RX0 := ⟨by decide, rfl⟩
theorem pn0_steady : plainName yX0_steady.cls = true ∧ yX0_steady.cls = RX0 := ⟨by decide, rfl⟩
theorem pn0_dropOldest : plainName yX0_dropOldest.cls = true ∧ yX0_dropOldest.cls = RX0 := ⟨by decide, rfl⟩
theorem pn0_unappend : plainName yX0_unappend.cls = true ∧ yX0_unappend.cls = RX0 := ⟨by decide, rfl⟩
theorem pn0_points : plainName yX0_points.cls = true ∧ yX0_points.cls = RX0 := ⟨by decide, rfl⟩
theorem pn0_time : plainName yX0_time.cls = true ∧ yX0_time.cls = RX0 := ⟨by decide, rfl⟩
theorem pn0_noPoint : plainName yX0_noPoint.cls = true ∧ yX0_noPoint.cls = RX0 := ⟨by decide, rfl⟩
theorem pn0_value : plainName yX0_value.cls = true ∧ yX0_value.cls = RX0 := ⟨by decide, rfl⟩
theorem pn0_size : plainName yX0_size.cls = true ∧ yX0_size.cls = RX0 := ⟨by decide, rfl⟩
theorem pn0_chunks : plainName yX0_chunks.cls = true ∧ yX0_chunks.cls = RX0 := ⟨by decide, rfl⟩
theorem pn0_packed : plainName yX0_packed.cls = true ∧ yX0_packed.cls = RX0 := ⟨by decide, rfl⟩
theorem pn0_firstFrom : plainName yX0_firstFrom.cls = true ∧ yX0_firstFrom.cls = RX0 := ⟨by decide, rfl⟩
theorem pn0_count : plainName yX0_count.cls = true ∧ yX0_count.cls = RX0 := ⟨by decide, rfl⟩
theorem pn0_badSpan : plainName yX0_badSpan.cls = true ∧ yX0_badSpan.cls = RX0 := ⟨by decide, rfl⟩
theorem pn0_search : plainName yX0_search.cls = true ∧ yX0_search.cls = RX0 := ⟨by decide, rfl⟩
theorem pn0_note : plainName yX0_note.cls = true ∧ yX0_note.cls = RX0 := ⟨by decide, rfl⟩
theorem pn0_cut : plainName yX0_cut.cls = true ∧ yX0_cut.cls = RX0 := ⟨by decide, rfl⟩
theorem pn0_sum : plainName yX0_sum.cls = true ∧ yX0_sum.cls = RX0 := ⟨by decide, rfl⟩
theorem pn0_greatest : plainName yX0_greatest.cls = true ∧ yX0_greatest.cls = RX0 := ⟨by decide, rfl⟩
theorem pn0_least : plainName yX0_least.cls = true ∧ yX0_least.cls = RX0 := ⟨by decide, rfl⟩
theorem pn0_valueAt : plainName yX0_valueAt.cls = true ∧ yX0_valueAt.cls = RX0 := ⟨by decide, rfl⟩
theorem pn0_rises : plainName yX0_rises.cls = true ∧ yX0_rises.cls = RX0 := ⟨by decide, rfl⟩
theorem pn0_widestGap : plainName yX0_widestGap.cls = true ∧ yX0_widestGap.cls = RX0 := ⟨by decide, rfl⟩
/-! ===== the layer of SeriesCodecModel: f: its int fields, a: its arrays, h: their addresses (h 5: the object) ===== -/
def xw1 (h : Nat → Nat) (d : ClassId) (f : Nat → Int32) (a : Nat → Nat → Int32) : va_W := [(h 5, .inr (1, [.ref (h 0), .ref (h 1), .int (f 2), .int (f 3), .int (f 4)])), (h 0, .inl (d, 64, .inl (a 0))), (h 1, .inl (d, 64, .inl (a 1)))]
def xA1 (h : Nat → Nat) (sz : Nat) : Nat → Prop := fun q => q ∈ ([h 5, h 0, h 1] : List Nat) ∨ sz ≤ q
theorem xA1_eq {h : Nat → Nat} {d : ClassId} {f : Nat → Int32} {a : Nat → Nat → Int32} {sz : Nat} : va_A (xw1 h d f a) sz = xA1 h sz := by
  funext q
  apply propext
  constructor
  · intro hq
    rcases hq with ⟨k, e, hk⟩ | hq
    · refine Or.inl ?_
      show q ∈ (xw1 h d f a).map Prod.fst
      exact List.mem_map.mpr ⟨(q, e), List.mem_of_getElem? hk, rfl⟩
    · exact Or.inr hq
  · intro hq
    rcases hq with hq | hq
    · obtain ⟨⟨q', e⟩, hm, rfl⟩ := List.mem_map.mp (show q ∈ (xw1 h d f a).map Prod.fst from hq)
      obtain ⟨k, hk⟩ := List.getElem?_of_mem hm
      exact Or.inl ⟨k, e, hk⟩
    · exact Or.inr hq
section SC1
variable {K : sc_K} {cc : ByteArray} {d : ClassId} {nl dp : Nat} {h : Nat → Nat} {f : Nat → Int32} {a : Nat → Nat → Int32} {pc : Nat} {lv : List (Nat × Value)} {st : List Value}
theorem x1_g0 (hC : sc_C K cc RX1 d nl dp) (hd : decode cc pc = .ok (.getfield 7, 3)) (kk : sc_W K (xw1 h d f a) (pc + 3) lv (.ref (h 0) :: st)) : sc_W K (xw1 h d f a) pc lv (.ref (h 5) :: st) := by
  obtain ⟨p, l, e, R, s, m, args, below, meth, c, A, D, nL, cells, slots, Q⟩ := K
  obtain ⟨hx, hb, hml, ho, hts, hK, hA, hnl, hR⟩ := hC
  intro H locs ls hP hD hS hl
  exact va_get (D := D) (ci := 1) (v := .ref (h 0)) (C := RX1) (T := TX1) (N := 5) hx hb hts in_X1 ho hK hP 0 rfl rfl 0 (by decide) (hts _ q258) (fun _ h9 => h9) rfl hd (kk H locs ls hP hD hS hl)
theorem x1_ald0 (hC : sc_C K cc RX1 d nl dp) (j : Nat) {i : Int32} (hi : i = nI j) (hj : j < 64) (hd : decode cc pc = .ok (.iaload, 1)) (kk : sc_W K (xw1 h d f a) (pc + 1) lv (.int (a 0 j) :: st)) : sc_W K (xw1 h d f a) pc lv (.int i :: .ref (h 0) :: st) := sc_ald hC (q0 := 1) (ws := xw1 h d f a) rfl (by decide) j hi hj hd kk
theorem x1_ast0 (hC : sc_C K cc RX1 d nl dp) (j : Nat) {i x : Int32} (hi : i = nI j) (hj : j < 64) (hd : decode cc pc = .ok (.iastore, 1)) (kk : sc_W K (xw1 h d f (sc_ua a 0 j x)) (pc + 1) lv st) : sc_W K (xw1 h d f a) pc lv (.int x :: .int i :: .ref (h 0) :: st) := sc_ast hC (q0 := 1) (ws := xw1 h d f a) rfl (by decide) j hi hj hd kk
theorem x1_g1 (hC : sc_C K cc RX1 d nl dp) (hd : decode cc pc = .ok (.getfield 13, 3)) (kk : sc_W K (xw1 h d f a) (pc + 3) lv (.ref (h 1) :: st)) : sc_W K (xw1 h d f a) pc lv (.ref (h 5) :: st) := by
  obtain ⟨p, l, e, R, s, m, args, below, meth, c, A, D, nL, cells, slots, Q⟩ := K
  obtain ⟨hx, hb, hml, ho, hts, hK, hA, hnl, hR⟩ := hC
  intro H locs ls hP hD hS hl
  exact va_get (D := D) (ci := 1) (v := .ref (h 1)) (C := RX1) (T := TX1) (N := 5) hx hb hts in_X1 ho hK hP 0 rfl rfl 1 (by decide) (hts _ q259) (fun _ h9 => h9) rfl hd (kk H locs ls hP hD hS hl)
theorem x1_ald1 (hC : sc_C K cc RX1 d nl dp) (j : Nat) {i : Int32} (hi : i = nI j) (hj : j < 64) (hd : decode cc pc = .ok (.iaload, 1)) (kk : sc_W K (xw1 h d f a) (pc + 1) lv (.int (a 1 j) :: st)) : sc_W K (xw1 h d f a) pc lv (.int i :: .ref (h 1) :: st) := sc_ald hC (q0 := 2) (ws := xw1 h d f a) rfl (by decide) j hi hj hd kk
theorem x1_ast1 (hC : sc_C K cc RX1 d nl dp) (j : Nat) {i x : Int32} (hi : i = nI j) (hj : j < 64) (hd : decode cc pc = .ok (.iastore, 1)) (kk : sc_W K (xw1 h d f (sc_ua a 1 j x)) (pc + 1) lv st) : sc_W K (xw1 h d f a) pc lv (.int x :: .int i :: .ref (h 1) :: st) := sc_ast hC (q0 := 2) (ws := xw1 h d f a) rfl (by decide) j hi hj hd kk
theorem x1_g2 (hC : sc_C K cc RX1 d nl dp) (hd : decode cc pc = .ok (.getfield 16, 3)) (kk : sc_W K (xw1 h d f a) (pc + 3) lv (.int (f 2) :: st)) : sc_W K (xw1 h d f a) pc lv (.ref (h 5) :: st) := by
  obtain ⟨p, l, e, R, s, m, args, below, meth, c, A, D, nL, cells, slots, Q⟩ := K
  obtain ⟨hx, hb, hml, ho, hts, hK, hA, hnl, hR⟩ := hC
  intro H locs ls hP hD hS hl
  exact va_get (D := D) (ci := 1) (v := .int (f 2)) (C := RX1) (T := TX1) (N := 5) hx hb hts in_X1 ho hK hP 0 rfl rfl 2 (by decide) (hts _ q260) (fun _ h9 => h9) rfl hd (kk H locs ls hP hD hS hl)
theorem x1_p2 (hC : sc_C K cc RX1 d nl dp) {x : Int32} (hd : decode cc pc = .ok (.putfield 16, 3)) (kk : sc_W K (xw1 h d (upd f 2 x) a) (pc + 3) lv st) : sc_W K (xw1 h d f a) pc lv (.int x :: .ref (h 5) :: st) := by
  obtain ⟨p, l, e, R, s, m, args, below, meth, c, A, D, nL, cells, slots, Q⟩ := K
  obtain ⟨hx, hb, hml, ho, hts, hK, hA, hnl, hR⟩ := hC
  intro H locs ls hP hD hS hl
  exact va_put (D := D) (ci := 1) (v := .int x) (ty := .int) (C := RX1) (T := TX1) (N := 5) hx hb hts in_X1 tyX1 tyX1_ok nmX1 ho hK hP hD hS 0 rfl rfl 2 (by decide) (hts _ q260) (fun _ h9 => h9) rfl (by decide +kernel) rfl rfl (Nat.le_of_ble_eq_true rfl) hd (fun H1 locs1 hP1 hD1 hS1 => kk H1 locs1 ls hP1 hD1 hS1 hl)
theorem x1_g3 (hC : sc_C K cc RX1 d nl dp) (hd : decode cc pc = .ok (.getfield 38, 3)) (kk : sc_W K (xw1 h d f a) (pc + 3) lv (.int (f 3) :: st)) : sc_W K (xw1 h d f a) pc lv (.ref (h 5) :: st) := by
  obtain ⟨p, l, e, R, s, m, args, below, meth, c, A, D, nL, cells, slots, Q⟩ := K
  obtain ⟨hx, hb, hml, ho, hts, hK, hA, hnl, hR⟩ := hC
  intro H locs ls hP hD hS hl
  exact va_get (D := D) (ci := 1) (v := .int (f 3)) (C := RX1) (T := TX1) (N := 5) hx hb hts in_X1 ho hK hP 0 rfl rfl 3 (by decide) (hts _ q261) (fun _ h9 => h9) rfl hd (kk H locs ls hP hD hS hl)
theorem x1_p3 (hC : sc_C K cc RX1 d nl dp) {x : Int32} (hd : decode cc pc = .ok (.putfield 38, 3)) (kk : sc_W K (xw1 h d (upd f 3 x) a) (pc + 3) lv st) : sc_W K (xw1 h d f a) pc lv (.int x :: .ref (h 5) :: st) := by
  obtain ⟨p, l, e, R, s, m, args, below, meth, c, A, D, nL, cells, slots, Q⟩ := K
  obtain ⟨hx, hb, hml, ho, hts, hK, hA, hnl, hR⟩ := hC
  intro H locs ls hP hD hS hl
  exact va_put (D := D) (ci := 1) (v := .int x) (ty := .int) (C := RX1) (T := TX1) (N := 5) hx hb hts in_X1 tyX1 tyX1_ok nmX1 ho hK hP hD hS 0 rfl rfl 3 (by decide) (hts _ q261) (fun _ h9 => h9) rfl (by decide +kernel) rfl rfl (Nat.le_of_ble_eq_true rfl) hd (fun H1 locs1 hP1 hD1 hS1 => kk H1 locs1 ls hP1 hD1 hS1 hl)
theorem x1_g4 (hC : sc_C K cc RX1 d nl dp) (hd : decode cc pc = .ok (.getfield 41, 3)) (kk : sc_W K (xw1 h d f a) (pc + 3) lv (.int (f 4) :: st)) : sc_W K (xw1 h d f a) pc lv (.ref (h 5) :: st) := by
  obtain ⟨p, l, e, R, s, m, args, below, meth, c, A, D, nL, cells, slots, Q⟩ := K
  obtain ⟨hx, hb, hml, ho, hts, hK, hA, hnl, hR⟩ := hC
  intro H locs ls hP hD hS hl
  exact va_get (D := D) (ci := 1) (v := .int (f 4)) (C := RX1) (T := TX1) (N := 5) hx hb hts in_X1 ho hK hP 0 rfl rfl 4 (by decide) (hts _ q262) (fun _ h9 => h9) rfl hd (kk H locs ls hP hD hS hl)
theorem x1_p4 (hC : sc_C K cc RX1 d nl dp) {x : Int32} (hd : decode cc pc = .ok (.putfield 41, 3)) (kk : sc_W K (xw1 h d (upd f 4 x) a) (pc + 3) lv st) : sc_W K (xw1 h d f a) pc lv (.int x :: .ref (h 5) :: st) := by
  obtain ⟨p, l, e, R, s, m, args, below, meth, c, A, D, nL, cells, slots, Q⟩ := K
  obtain ⟨hx, hb, hml, ho, hts, hK, hA, hnl, hR⟩ := hC
  intro H locs ls hP hD hS hl
  exact va_put (D := D) (ci := 1) (v := .int x) (ty := .int) (C := RX1) (T := TX1) (N := 5) hx hb hts in_X1 tyX1 tyX1_ok nmX1 ho hK hP hD hS 0 rfl rfl 4 (by decide) (hts _ q262) (fun _ h9 => h9) rfl (by decide +kernel) rfl rfl (Nat.le_of_ble_eq_true rfl) hd (fun H1 locs1 hP1 hD1 hS1 => kk H1 locs1 ls hP1 hD1 hS1 hl)
/-- a contract of SeriesCodecModel: from fields f and arrays a, with arguments As, the method answers r and leaves f', a' with post r f' a' -/
def sc_I1 (y : MethodName) (bytes : ByteArray) (maxL : Nat) (ret : Option FieldType) (dp : Nat) (As : List Value) (f : Nat → Int32) (a : Nat → Nat → Int32) (post : Int32 → (Nat → Int32) → (Nat → Nat → Int32) → Prop) : Prop := ∀ (l : Launch) (D : va_G) (d : ClassId) (h : Nat → Nat) (sz : Nat), Met l y (ws_ y bytes maxL ret) ({ frames := dp, cells := 0, slots := 0, locals := 30 * dp }) (va_Pc (.ref (h 5) :: As) (fun U => U.heap.size = sz ∧ va_P D vwCl (xw1 h d f a) U.heap ∧ va_K D vwCl [(d, .int)] U ∧ va_D (fun _ => True) (xw1 h d f a))) (va_Qi (fun (r : Int32) (u : (Nat → Int32) × (Nat → Nat → Int32)) => post r u.1 u.2) (fun u t => va_P D vwCl (xw1 h d u.1 u.2) t.heap ∧ va_K D vwCl [(d, .int)] t ∧ va_D (xA1 h sz) (xw1 h d u.1 u.2)) (xA1 h sz)) 0 0 (xA1 h sz)
def sc_V1 (y : MethodName) (bytes : ByteArray) (maxL dp : Nat) (As : List Value) (f : Nat → Int32) (a : Nat → Nat → Int32) (post : (Nat → Int32) → (Nat → Nat → Int32) → Prop) : Prop := ∀ (l : Launch) (D : va_G) (d : ClassId) (h : Nat → Nat) (sz : Nat), Met l y (ws_ y bytes maxL none) ({ frames := dp, cells := 0, slots := 0, locals := 30 * dp }) (va_Pc (.ref (h 5) :: As) (fun U => U.heap.size = sz ∧ va_P D vwCl (xw1 h d f a) U.heap ∧ va_K D vwCl [(d, .int)] U ∧ va_D (fun _ => True) (xw1 h d f a))) (va_Qv (fun (u : (Nat → Int32) × (Nat → Nat → Int32)) => post u.1 u.2) (fun u t => va_P D vwCl (xw1 h d u.1 u.2) t.heap ∧ va_K D vwCl [(d, .int)] t ∧ va_D (xA1 h sz) (xw1 h d u.1 u.2)) (xA1 h sz)) 0 0 (xA1 h sz)
theorem x1_callI {y : MethodName} {bytes : ByteArray} {maxL dq ix n : Nat} {ret : Option FieldType} {As : List Value} {post : Int32 → (Nat → Int32) → (Nat → Nat → Int32) → Prop} {stk : List Value} (hC : sc_C K cc RX1 d nl dp) (hM : sc_I1 y bytes maxL ret dq As f a post) (hw : GoodIn lw_all (wsV RX1 ix RX1 y (ws_ y bytes maxL ret)) ∧ (y.cls = RX1 ∧ y.cls ≠ "java/lang/invoke/MethodHandle" ∧ y.cls ≠ "java/lang/invoke/VarHandle" ∧ (parseMethodDescriptor y.desc).map (fun d => d.parameters.length) = some n)) (hn : As.length = n) (hdq : dq < dp) (hmx : maxL ≤ 11) (hd : decode cc pc = .ok (.invokevirtual ix, 3)) (hst : stk = As.reverse ++ .ref (h 5) :: st) (hcat : (st.map fun v => v.category).sum ≤ 8) (kk : ∀ (r : Int32) (f' : Nat → Int32) (a' : Nat → Nat → Int32), post r f' a' → sc_W K (xw1 h d f' a') (pc + 3) lv (.int r :: st)) : sc_W K (xw1 h d f a) pc lv stk := by
  subst hst
  obtain ⟨p, l, e, R, s, m, args, below, meth, c, A, D, nL, cells, slots, Q⟩ := K
  obtain ⟨hx, hb, hml, ho, hts, hK, hA, hnl, hR⟩ := hC
  intro H locs ls hP hD hS hl
  obtain ⟨hR1, hR2, hR3, hR4⟩ := hR
  have hFc : ∀ q, xA1 h H.size q → A q := by
    intro q hq
    rw [← xA1_eq (d := d) (f := f) (a := a)] at hq
    rcases hq with ⟨k, e, hk⟩ | hq
    · exact hD.2 k (q, e) hk
    · exact hA q (Nat.le_trans hS.1 hq)
  refine va_calli (va_runV (As := As) (rest := st) ⟨hx, hb, hml, ho, hts⟩ (hM l D d h H.size) (cwV n hts hw.1 rfl rfl rfl hw.2 ⟨by show dq + 1 ≤ R.frames; omega, by show 8 + (maxL + 11) + 30 * dq ≤ R.locals; omega⟩) ⟨fun a U g mk q => by obtain ⟨q0, q1, qP, qK, qD⟩ := q; exact ⟨q0, q1, qP, va_K.moved (u := U) (U := U.calling g mk a) (Vm.Alike.refl U.vm) qK, qD⟩, va_recv hK hP (ci := 1) (q0 := 0) rfl rfl, fun U hU hW => ⟨rfl, by rw [hU], by rw [hU]; exact hP, va_K.moved hW.alike hK, hD.weaken (fun _ _ _ _ => trivial)⟩⟩ rfl hn hl.1 rfl (lv_room hcat) hd ⟨hR3, hR4⟩) hS (fun q _ hq => hFc q hq) hFc (fun r u t H1 locs1 ht hvm hw1 hB hz1 hk1 hS1 => ?_)
  obtain ⟨hP1, hK1, hD1⟩ := hB
  rw [ht] at hP1
  exact kk r u.1 u.2 hw1 H1 locs1 ls hP1 (hD1.weaken (fun _ q _ hq => hFc q.1 hq)) hS1 hl
theorem x1_callV {y : MethodName} {bytes : ByteArray} {maxL dq ix n : Nat} {As : List Value} {post : (Nat → Int32) → (Nat → Nat → Int32) → Prop} {stk : List Value} (hC : sc_C K cc RX1 d nl dp) (hM : sc_V1 y bytes maxL dq As f a post) (hw : GoodIn lw_all (wsV RX1 ix RX1 y (ws_ y bytes maxL none)) ∧ (y.cls = RX1 ∧ y.cls ≠ "java/lang/invoke/MethodHandle" ∧ y.cls ≠ "java/lang/invoke/VarHandle" ∧ (parseMethodDescriptor y.desc).map (fun d => d.parameters.length) = some n)) (hn : As.length = n) (hdq : dq < dp) (hmx : maxL ≤ 11) (hd : decode cc pc = .ok (.invokevirtual ix, 3)) (hst : stk = As.reverse ++ .ref (h 5) :: st) (hcat : (st.map fun v => v.category).sum ≤ 8) (kk : ∀ (f' : Nat → Int32) (a' : Nat → Nat → Int32), post f' a' → sc_W K (xw1 h d f' a') (pc + 3) lv st) : sc_W K (xw1 h d f a) pc lv stk := by
  subst hst
  obtain ⟨p, l, e, R, s, m, args, below, meth, c, A, D, nL, cells, slots, Q⟩ := K
  obtain ⟨hx, hb, hml, ho, hts, hK, hA, hnl, hR⟩ := hC
  intro H locs ls hP hD hS hl
  obtain ⟨hR1, hR2, hR3, hR4⟩ := hR
  have hFc : ∀ q, xA1 h H.size q → A q := by
    intro q hq
    rw [← xA1_eq (d := d) (f := f) (a := a)] at hq
    rcases hq with ⟨k, e, hk⟩ | hq
    · exact hD.2 k (q, e) hk
    · exact hA q (Nat.le_trans hS.1 hq)
  refine va_callv (va_runV (As := As) (rest := st) ⟨hx, hb, hml, ho, hts⟩ (hM l D d h H.size) (cwV n hts hw.1 rfl rfl rfl hw.2 ⟨by show dq + 1 ≤ R.frames; omega, by show 8 + (maxL + 11) + 30 * dq ≤ R.locals; omega⟩) ⟨fun a U g mk q => by obtain ⟨q0, q1, qP, qK, qD⟩ := q; exact ⟨q0, q1, qP, va_K.moved (u := U) (U := U.calling g mk a) (Vm.Alike.refl U.vm) qK, qD⟩, va_recv hK hP (ci := 1) (q0 := 0) rfl rfl, fun U hU hW => ⟨rfl, by rw [hU], by rw [hU]; exact hP, va_K.moved hW.alike hK, hD.weaken (fun _ _ _ _ => trivial)⟩⟩ rfl hn hl.1 rfl (lv_room hcat) hd ⟨hR3, hR4⟩) hS (fun q _ hq => hFc q hq) hFc (fun u t H1 locs1 ht hvm hw1 hB hz1 hk1 hS1 => ?_)
  obtain ⟨hP1, hK1, hD1⟩ := hB
  rw [ht] at hP1
  exact kk u.1 u.2 hw1 H1 locs1 ls hP1 (hD1.weaken (fun _ q _ hq => hFc q.1 hq)) hS1 hl
theorem x1_ofI {y : MethodName} {bytes : ByteArray} {maxL dp : Nat} {As : List Value} {f : Nat → Int32} {a : Nat → Nat → Int32} {post : Int32 → (Nat → Int32) → (Nat → Nat → Int32) → Prop} (hy : plainName y.cls = true ∧ y.cls = RX1) (hlen : ∀ z : Nat, (lg_sl (.ref z :: As)).length ≤ maxL) (body : ∀ (K : sc_K) (d : ClassId) (h : Nat → Nat), sc_C K bytes RX1 d maxL dp → (∀ (v : Int32) (f' : Nat → Int32) (a' : Nat → Nat → Int32) (pc : Nat) (lv : List (Nat × Value)), decode bytes pc = .ok (.ireturn, 1) → post v f' a' → sc_W K (xw1 h d f' a') pc lv [.int v]) → sc_W K (xw1 h d f a) 0 (lv_args 0 (.ref (h 5) :: As)) []) : sc_I1 y bytes maxL (some .int) dp As f a post := by
  intro l D d h sz
  refine Met.ofW (cc := bytes) (maxL := maxL) (ret := (some .int)) hy.1 rfl ?_
  intro p e s m args below meth c s₁ B hml hv
  obtain ⟨rfl, hsz, hP, hK, hD0⟩ := hv
  have hts := atoms_spec (ws := ws_ y bytes maxL (some .int)) B.pre
  have hts : ∀ w ∈ lw_all, w.before _ s = true := fun w h => hts w (List.mem_cons_of_mem _ h)
  have hown : s.vm.findClass RX1 = some m.cls := by rw [← hy.2]; exact findClass_of_methodNamed B.named
  subst hsz
  have hD : va_D (xA1 h s.heap.size) (xw1 h d f a) := by rw [← xA1_eq (d := d) (f := f) (a := a)]; exact hD0.self
  rw [lg_entry_eq]
  have hl := lv_entry (.ref (h 5) :: As) (n := maxL) (hlen _)
  refine body (p, l, e, _, s, m, _, below, meth, c, xA1 h s.heap.size, D, maxL, 0, 0, _) d h ?_ ?_ s.heap [] _ hP hD va_S.rf hl
  · exact ⟨B.exec, B.bytes, hml, hown, hts, hK, fun q hq => Or.inr hq, rfl, Nat.le_refl _, Nat.le_refl _, Nat.le_refl _, Nat.le_refl _⟩
  ·
    intro v f' a' pc lv hd hp H locs ls hP hD hS hl
    exact W.iret B.exec B.bytes B.returns (fun t ht hW => ⟨⟨v, (f', a'), rfl, hp, by rw [ht]; exact hP, va_K.moved hW.alike hK, hD⟩, hS.F ht⟩) hS.2.2 hd B.notSynchronized
theorem x1_ofZ {y : MethodName} {bytes : ByteArray} {maxL dp : Nat} {As : List Value} {f : Nat → Int32} {a : Nat → Nat → Int32} {post : Int32 → (Nat → Int32) → (Nat → Nat → Int32) → Prop} (hy : plainName y.cls = true ∧ y.cls = RX1) (hlen : ∀ z : Nat, (lg_sl (.ref z :: As)).length ≤ maxL) (body : ∀ (K : sc_K) (d : ClassId) (h : Nat → Nat), sc_C K bytes RX1 d maxL dp → (∀ (v : Int32) (f' : Nat → Int32) (a' : Nat → Nat → Int32) (pc : Nat) (lv : List (Nat × Value)), decode bytes pc = .ok (.ireturn, 1) → (v = 0 ∨ v = 1) → post v f' a' → sc_W K (xw1 h d f' a') pc lv [.int v]) → sc_W K (xw1 h d f a) 0 (lv_args 0 (.ref (h 5) :: As)) []) : sc_I1 y bytes maxL (some .boolean) dp As f a post := by
  intro l D d h sz
  refine Met.ofW (cc := bytes) (maxL := maxL) (ret := (some .boolean)) hy.1 rfl ?_
  intro p e s m args below meth c s₁ B hml hv
  obtain ⟨rfl, hsz, hP, hK, hD0⟩ := hv
  have hts := atoms_spec (ws := ws_ y bytes maxL (some .boolean)) B.pre
  have hts : ∀ w ∈ lw_all, w.before _ s = true := fun w h => hts w (List.mem_cons_of_mem _ h)
  have hown : s.vm.findClass RX1 = some m.cls := by rw [← hy.2]; exact findClass_of_methodNamed B.named
  subst hsz
  have hD : va_D (xA1 h s.heap.size) (xw1 h d f a) := by rw [← xA1_eq (d := d) (f := f) (a := a)]; exact hD0.self
  rw [lg_entry_eq]
  have hl := lv_entry (.ref (h 5) :: As) (n := maxL) (hlen _)
  refine body (p, l, e, _, s, m, _, below, meth, c, xA1 h s.heap.size, D, maxL, 0, 0, _) d h ?_ ?_ s.heap [] _ hP hD va_S.rf hl
  · exact ⟨B.exec, B.bytes, hml, hown, hts, hK, fun q hq => Or.inr hq, rfl, Nat.le_refl _, Nat.le_refl _, Nat.le_refl _, Nat.le_refl _⟩
  ·
    intro v f' a' pc lv hd hv hp H locs ls hP hD hS hl
    exact W.zret B.exec B.bytes B.returns (by rcases hv with rfl | rfl <;> rfl) (fun t ht hW => ⟨⟨v, (f', a'), rfl, hp, by rw [ht]; exact hP, va_K.moved hW.alike hK, hD⟩, hS.F ht⟩) hS.2.2 hd B.notSynchronized
theorem x1_ofV {y : MethodName} {bytes : ByteArray} {maxL dp : Nat} {As : List Value} {f : Nat → Int32} {a : Nat → Nat → Int32} {post : (Nat → Int32) → (Nat → Nat → Int32) → Prop} (hy : plainName y.cls = true ∧ y.cls = RX1) (hlen : ∀ z : Nat, (lg_sl (.ref z :: As)).length ≤ maxL) (body : ∀ (K : sc_K) (d : ClassId) (h : Nat → Nat), sc_C K bytes RX1 d maxL dp → (∀ (f' : Nat → Int32) (a' : Nat → Nat → Int32) (pc : Nat) (lv : List (Nat × Value)), decode bytes pc = .ok (.return_, 1) → post f' a' → sc_W K (xw1 h d f' a') pc lv []) → sc_W K (xw1 h d f a) 0 (lv_args 0 (.ref (h 5) :: As)) []) : sc_V1 y bytes maxL dp As f a post := by
  intro l D d h sz
  refine Met.ofW (cc := bytes) (maxL := maxL) (ret := none) hy.1 rfl ?_
  intro p e s m args below meth c s₁ B hml hv
  obtain ⟨rfl, hsz, hP, hK, hD0⟩ := hv
  have hts := atoms_spec (ws := ws_ y bytes maxL none) B.pre
  have hts : ∀ w ∈ lw_all, w.before _ s = true := fun w h => hts w (List.mem_cons_of_mem _ h)
  have hown : s.vm.findClass RX1 = some m.cls := by rw [← hy.2]; exact findClass_of_methodNamed B.named
  subst hsz
  have hD : va_D (xA1 h s.heap.size) (xw1 h d f a) := by rw [← xA1_eq (d := d) (f := f) (a := a)]; exact hD0.self
  rw [lg_entry_eq]
  have hl := lv_entry (.ref (h 5) :: As) (n := maxL) (hlen _)
  refine body (p, l, e, _, s, m, _, below, meth, c, xA1 h s.heap.size, D, maxL, 0, 0, _) d h ?_ ?_ s.heap [] _ hP hD va_S.rf hl
  · exact ⟨B.exec, B.bytes, hml, hown, hts, hK, fun q hq => Or.inr hq, rfl, Nat.le_refl _, Nat.le_refl _, Nat.le_refl _, Nat.le_refl _⟩
  ·
    intro f' a' pc lv hd hp H locs ls hP hD hS hl
    exact W.vret B.exec B.bytes B.returns (fun t ht hW => ⟨⟨(f', a'), rfl, hp, by rw [ht]; exact hP, va_K.moved hW.alike hK, hD⟩, hS.F ht⟩) hS.2.2 hd B.notSynchronized
end SC1
theorem k1_lastTime : GoodIn lw_all (wsV RX1 22 RX1 yX1_lastTime (ws_ yX1_lastTime cX1_lastTime 1 (some .int))) ∧ (yX1_lastTime.cls = RX1 ∧ yX1_lastTime.cls ≠ "java/lang/invoke/MethodHandle" ∧ yX1_lastTime.cls ≠ "java/lang/invoke/VarHandle" ∧ (parseMethodDescriptor yX1_lastTime.desc).map (fun d => d.parameters.length) = some 0) := ⟨lw_V q279 q281 qs20 q29 q282, by decide +kernel⟩
theorem k1_isValue : GoodIn lw_all (wsV RX1 26 RX1 yX1_isValue (ws_ yX1_isValue cX1_isValue 2 (some .boolean))) ∧ (yX1_isValue.cls = RX1 ∧ yX1_isValue.cls ≠ "java/lang/invoke/MethodHandle" ∧ yX1_isValue.cls ≠ "java/lang/invoke/VarHandle" ∧ (parseMethodDescriptor yX1_isValue.desc).map (fun d => d.parameters.length) = some 1) := ⟨lw_V q283 q285 qs21 q29 q286, by decide +kernel⟩
theorem k1_append : GoodIn lw_all (wsV RX1 31 RX1 yX1_append (ws_ yX1_append cX1_append 3 (some .int))) ∧ (yX1_append.cls = RX1 ∧ yX1_append.cls ≠ "java/lang/invoke/MethodHandle" ∧ yX1_append.cls ≠ "java/lang/invoke/VarHandle" ∧ (parseMethodDescriptor yX1_append.desc).map (fun d => d.parameters.length) = some 2) := ⟨lw_V q293 q275 q276 q29 q277, by decide +kernel⟩
theorem k1_isPoint : GoodIn lw_all (wsV RX1 35 RX1 yX1_isPoint (ws_ yX1_isPoint cX1_isPoint 2 (some .boolean))) ∧ (yX1_isPoint.cls = RX1 ∧ yX1_isPoint.cls ≠ "java/lang/invoke/MethodHandle" ∧ yX1_isPoint.cls ≠ "java/lang/invoke/VarHandle" ∧ (parseMethodDescriptor yX1_isPoint.desc).map (fun d => d.parameters.length) = some 1) := ⟨lw_V q310 q312 qs22 q29 q313, by decide +kernel⟩
theorem k1_timeSize : GoodIn lw_all (wsV RX1 44 RX1 yX1_timeSize (ws_ yX1_timeSize cX1_timeSize 4 (some .int))) ∧ (yX1_timeSize.cls = RX1 ∧ yX1_timeSize.cls ≠ "java/lang/invoke/MethodHandle" ∧ yX1_timeSize.cls ≠ "java/lang/invoke/VarHandle" ∧ (parseMethodDescriptor yX1_timeSize.desc).map (fun d => d.parameters.length) = some 1) := ⟨lw_V q322 q324 qs23 q29 q325, by decide +kernel⟩
theorem k1_valueSize : GoodIn lw_all (wsV RX1 48 RX1 yX1_valueSize (ws_ yX1_valueSize cX1_valueSize 5 (some .int))) ∧ (yX1_valueSize.cls = RX1 ∧ yX1_valueSize.cls ≠ "java/lang/invoke/MethodHandle" ∧ yX1_valueSize.cls ≠ "java/lang/invoke/VarHandle" ∧ (parseMethodDescriptor yX1_valueSize.desc).map (fun d => d.parameters.length) = some 1) := ⟨lw_V q326 q328 qs24 q29 q329, by decide +kernel⟩
theorem k1_size : GoodIn lw_all (wsV RX1 51 RX1 yX1_size (ws_ yX1_size cX1_size 4 (some .int))) ∧ (yX1_size.cls = RX1 ∧ yX1_size.cls ≠ "java/lang/invoke/MethodHandle" ∧ yX1_size.cls ≠ "java/lang/invoke/VarHandle" ∧ (parseMethodDescriptor yX1_size.desc).map (fun d => d.parameters.length) = some 1) := ⟨lw_V q334 q319 q320 q29 q321, by decide +kernel⟩
theorem k1_isSpan : GoodIn lw_all (wsV RX1 54 RX1 yX1_isSpan (ws_ yX1_isSpan cX1_isSpan 3 (some .boolean))) ∧ (yX1_isSpan.cls = RX1 ∧ yX1_isSpan.cls ≠ "java/lang/invoke/MethodHandle" ∧ yX1_isSpan.cls ≠ "java/lang/invoke/VarHandle" ∧ (parseMethodDescriptor yX1_isSpan.desc).map (fun d => d.parameters.length) = some 2) := ⟨lw_V q343 q345 qs25 q29 q346, by decide +kernel⟩
theorem k1_isIn : GoodIn lw_all (wsV RX1 58 RX1 yX1_isIn (ws_ yX1_isIn cX1_isIn 4 (some .boolean))) ∧ (yX1_isIn.cls = RX1 ∧ yX1_isIn.cls ≠ "java/lang/invoke/MethodHandle" ∧ yX1_isIn.cls ≠ "java/lang/invoke/VarHandle" ∧ (parseMethodDescriptor yX1_isIn.desc).map (fun d => d.parameters.length) = some 3) := ⟨lw_V q347 q349 qs26 q29 q350, by decide +kernel⟩
theorem pn1_append : plainName yX1_append.cls = true ∧ yX1_append.cls = RX1 := ⟨by decide, rfl⟩
theorem pn1_lastTime : plainName yX1_lastTime.cls = true ∧ yX1_lastTime.cls = RX1 := ⟨by decide, rfl⟩
theorem pn1_isValue : plainName yX1_isValue.cls = true ∧ yX1_isValue.cls = RX1 := ⟨by decide, rfl⟩
theorem pn1_steady : plainName yX1_steady.cls = true ∧ yX1_steady.cls = RX1 := ⟨by decide, rfl⟩
theorem pn1_dropOldest : plainName yX1_dropOldest.cls = true ∧ yX1_dropOldest.cls = RX1 := ⟨by decide, rfl⟩
theorem pn1_unappend : plainName yX1_unappend.cls = true ∧ yX1_unappend.cls = RX1 := ⟨by decide, rfl⟩
theorem pn1_points : plainName yX1_points.cls = true ∧ yX1_points.cls = RX1 := ⟨by decide, rfl⟩
theorem pn1_time : plainName yX1_time.cls = true ∧ yX1_time.cls = RX1 := ⟨by decide, rfl⟩
theorem pn1_isPoint : plainName yX1_isPoint.cls = true ∧ yX1_isPoint.cls = RX1 := ⟨by decide, rfl⟩
theorem pn1_value : plainName yX1_value.cls = true ∧ yX1_value.cls = RX1 := ⟨by decide, rfl⟩
theorem pn1_size : plainName yX1_size.cls = true ∧ yX1_size.cls = RX1 := ⟨by decide, rfl⟩
theorem pn1_timeSize : plainName yX1_timeSize.cls = true ∧ yX1_timeSize.cls = RX1 := ⟨by decide, rfl⟩
theorem pn1_valueSize : plainName yX1_valueSize.cls = true ∧ yX1_valueSize.cls = RX1 := ⟨by decide, rfl⟩
theorem pn1_packed : plainName yX1_packed.cls = true ∧ yX1_packed.cls = RX1 := ⟨by decide, rfl⟩
theorem pn1_firstFrom : plainName yX1_firstFrom.cls = true ∧ yX1_firstFrom.cls = RX1 := ⟨by decide, rfl⟩
theorem pn1_count : plainName yX1_count.cls = true ∧ yX1_count.cls = RX1 := ⟨by decide, rfl⟩
theorem pn1_isSpan : plainName yX1_isSpan.cls = true ∧ yX1_isSpan.cls = RX1 := ⟨by decide, rfl⟩
theorem pn1_isIn : plainName yX1_isIn.cls = true ∧ yX1_isIn.cls = RX1 := ⟨by decide, rfl⟩
theorem pn1_sum : plainName yX1_sum.cls = true ∧ yX1_sum.cls = RX1 := ⟨by decide, rfl⟩
theorem pn1_greatest : plainName yX1_greatest.cls = true ∧ yX1_greatest.cls = RX1 := ⟨by decide, rfl⟩
theorem pn1_least : plainName yX1_least.cls = true ∧ yX1_least.cls = RX1 := ⟨by decide, rfl⟩
theorem pn1_valueAt : plainName yX1_valueAt.cls = true ∧ yX1_valueAt.cls = RX1 := ⟨by decide, rfl⟩
theorem pn1_rises : plainName yX1_rises.cls = true ∧ yX1_rises.cls = RX1 := ⟨by decide, rfl⟩
theorem pn1_widestGap : plainName yX1_widestGap.cls = true ∧ yX1_widestGap.cls = RX1 := ⟨by decide, rfl⟩
end
section
/-! bits of ints: the first rows are of the kit's BITS.to-paste -/
def bt (x : Int32) (i : Nat) : Bool := x.toBitVec.getLsbD i
theorem b_ext {x y : Int32} (h : ∀ i, i < 32 → bt x i = bt y i) : x = y := Int32.toBitVec_inj.mp (BitVec.eq_of_getLsbD_eq (fun i hi => h i hi))
theorem b_or (x y : Int32) (i : Nat) : bt (x ||| y) i = (bt x i || bt y i) := by unfold bt; rw [Int32.toBitVec_or, BitVec.getLsbD_or]
theorem b_and (x y : Int32) (i : Nat) : bt (x &&& y) i = (bt x i && bt y i) := by unfold bt; rw [Int32.toBitVec_and, BitVec.getLsbD_and]
theorem b_xor (x y : Int32) (i : Nat) : bt (x ^^^ y) i = (bt x i ^^ bt y i) := by unfold bt; rw [Int32.toBitVec_xor, BitVec.getLsbD_xor]
theorem b_big {x : Int32} {i : Nat} (h : 32 ≤ i) : bt x i = false := BitVec.getLsbD_of_ge _ _ h
theorem b_m1 : ∀ i, i < 32 → bt (-1) i = true := by decide +kernel
theorem b_0 (i : Nat) : bt 0 i = false := BitVec.getLsbD_zero
theorem s_l : ∀ n, n < 32 → ((nI n &&& 31).toBitVec.smod 32).toNat = n := by decide +kernel
theorem b_shl (n : Nat) (hn : n < 32) (x : Int32) {i : Nat} (hi : i < 32) : bt (x <<< (nI n &&& 31)) i = (decide (n ≤ i) && bt x (i - n)) := by
  unfold bt
  rw [Int32.toBitVec_shiftLeft]
  show (x.toBitVec <<< ((nI n &&& 31).toBitVec.smod 32).toNat).getLsbD i = _
  rw [s_l n hn, BitVec.getLsbD_shiftLeft]
  rcases Nat.lt_or_ge i n with h | h
  · simp [h, Nat.not_le.mpr h]
  · simp [hi, h, Nat.not_lt.mpr h]
theorem b_sshr (n : Nat) (hn : n < 32) (x : Int32) {i : Nat} (hi : i < 32) : bt (x >>> (nI n &&& 31)) i = if n + i < 32 then bt x (n + i) else bt x 31 := by
  unfold bt
  rw [Int32.toBitVec_shiftRight]
  show (x.toBitVec.sshiftRight ((nI n &&& 31).toBitVec.smod 32).toNat).getLsbD i = _
  rw [s_l n hn, BitVec.getLsbD_sshiftRight, BitVec.msb_eq_getLsbD_last]
  simp [hi]
theorem nx_and (a b : Nat) : nI a &&& nI b = nI (a &&& b) := by
  apply Int32.toBitVec_inj.1
  show BitVec.ofNat 32 a &&& BitVec.ofNat 32 b = BitVec.ofNat 32 (a &&& b)
  apply BitVec.eq_of_getLsbD_eq
  intro i hi
  simp [hi]
theorem nx_xor (a b : Nat) : nI a ^^^ nI b = nI (a ^^^ b) := by
  apply Int32.toBitVec_inj.1
  show BitVec.ofNat 32 a ^^^ BitVec.ofNat 32 b = BitVec.ofNat 32 (a ^^^ b)
  apply BitVec.eq_of_getLsbD_eq
  intro i hi
  simp [hi]
theorem pu_one (l i : Nat) (hl : l < 32) (hi : i < 32) : bt ((1 : Int32) <<< (nI l &&& 31)) i = decide (i = l) := (by decide +kernel : ∀ l, l < 32 → ∀ i, i < 32 → bt ((1 : Int32) <<< (nI l &&& 31)) i = decide (i = l)) l hl i hi
def pu_bit (b : Nat → Int32) (p : Nat) : Bool := bt (b (p / 32)) (p % 32)
def pu_w1 (w : Int32) (k : Nat) (x : Bool) : Int32 := if x = true then w ||| ((1 : Int32) <<< (nI k &&& 31)) else w &&& (((1 : Int32) <<< (nI k &&& 31)) ^^^ (-1))
def pu_setb (b : Nat → Int32) (p : Nat) (x : Bool) : Nat → Int32 := upd b (p / 32) (pu_w1 (b (p / 32)) (p % 32) x)
theorem pu_w1_bt (w : Int32) (k i : Nat) (x : Bool) (hk : k < 32) (hi : i < 32) : bt (pu_w1 w k x) i = if i = k then x else bt w i := by
  unfold pu_w1
  cases x
  · simp only [Bool.false_eq_true, if_false]
    rw [b_and, b_xor, pu_one k i hk hi, b_m1 i hi]
    by_cases h : i = k <;> simp [h]
  · simp only [if_true]
    rw [b_or, pu_one k i hk hi]
    by_cases h : i = k <;> simp [h]
theorem pu_bit_set (b : Nat → Int32) (p q : Nat) (x : Bool) : pu_bit (pu_setb b p x) q = if q = p then x else pu_bit b q := by
  unfold pu_bit pu_setb
  have hp : p % 32 < 32 := Nat.mod_lt _ (by decide)
  have hq : q % 32 < 32 := Nat.mod_lt _ (by decide)
  by_cases hw : q / 32 = p / 32
  · rw [hw, pk_us, pu_w1_bt _ _ _ _ hp hq]
    by_cases he : q = p
    · rw [if_pos he, if_pos (by rw [he])]
    · rw [if_neg he, if_neg (by omega)]
  · rw [pk_un hw, if_neg (fun e => hw (by rw [e]))]
theorem pu_rd1 (w : Int32) (k : Nat) (hk : k < 32) : ((w >>> (nI k &&& 31)) &&& 1) = nI (bt w k).toNat := by
  apply b_ext
  intro i hi
  rw [b_and, b_sshr k hk w hi]
  by_cases h0 : i = 0
  · subst h0
    simp only [Nat.add_zero, hk, if_true]
    cases bt w k <;> decide
  · have h1 : bt 1 i = false := (by decide +kernel : ∀ i, i < 32 → ¬ i = 0 → bt 1 i = false) i hi h0
    rw [h1, Bool.and_false]
    cases bt w k
    · exact ((by decide +kernel : ∀ i, i < 32 → bt (nI (Bool.toNat false)) i = false) i hi).symm
    · exact ((by decide +kernel : ∀ i, i < 32 → ¬ i = 0 → bt (nI (Bool.toNat true)) i = false) i hi h0).symm
theorem pu_bt_nI (n i : Nat) (hi : i < 32) : bt (nI n) i = n.testBit i := by
  unfold bt
  show (BitVec.ofNat 32 n).getLsbD i = _
  rw [BitVec.getLsbD_ofNat, decide_eq_true hi, Bool.true_and]
/-- one bit of a number -/
theorem pu_tb {n k : Nat} (hk : k < 32) : ((nI n >>> (nI k &&& 31)) &&& 1) = nI (n.testBit k).toNat := by
  rw [pu_rd1 _ k hk, pu_bt_nI n k hk]
/-- the n low bits of w, the high one first -/
def pu_bits : Nat → Nat → List Bool
  | 0, _ => []
  | n + 1, w => w.testBit n :: pu_bits n w
def pu_put : (Nat → Int32) → Nat → List Bool → (Nat → Int32)
  | b, _, [] => b
  | b, p, x :: l => pu_put (pu_setb b p x) (p + 1) l
def pu_at (b : Nat → Int32) : Nat → List Bool → Prop
  | _, [] => True
  | p, x :: l => pu_bit b p = x ∧ pu_at b (p + 1) l
def pu_val : Nat → List Bool → Nat
  | v, [] => v
  | v, x :: l => pu_val (v * 2 + x.toNat) l
theorem pu_bits_len : ∀ (n w : Nat), (pu_bits n w).length = n
  | 0, _ => rfl
  | n + 1, w => by simp [pu_bits, pu_bits_len n w]
theorem pu_at_app (b : Nat → Int32) : ∀ (l1 l2 : List Bool) (p : Nat), pu_at b p (l1 ++ l2) ↔ pu_at b p l1 ∧ pu_at b (p + l1.length) l2
  | [], l2, p => by simp [pu_at]
  | x :: l1, l2, p => by
    simp only [List.cons_append, pu_at, List.length_cons]
    rw [pu_at_app b l1 l2 (p + 1), show p + 1 + l1.length = p + (l1.length + 1) by omega, and_assoc]
theorem pu_put_app : ∀ (l1 l2 : List Bool) (b : Nat → Int32) (p : Nat), pu_put b p (l1 ++ l2) = pu_put (pu_put b p l1) (p + l1.length) l2
  | [], l2, b, p => by simp [pu_put]
  | x :: l1, l2, b, p => by
    simp only [List.cons_append, pu_put, List.length_cons]
    rw [pu_put_app l1 l2, show p + 1 + l1.length = p + (l1.length + 1) by omega]
theorem pu_bit_put : ∀ (l : List Bool) (b : Nat → Int32) (p q : Nat), (q < p ∨ p + l.length ≤ q) → pu_bit (pu_put b p l) q = pu_bit b q
  | [], b, p, q, _ => rfl
  | x :: l, b, p, q, h => by
    simp only [pu_put, List.length_cons] at h ⊢
    rw [pu_bit_put l _ _ _ (by omega), pu_bit_set, if_neg (by omega)]
theorem pu_at_keep (b b' : Nat → Int32) : ∀ (l : List Bool) (p : Nat), (∀ q, p ≤ q → q < p + l.length → pu_bit b' q = pu_bit b q) → pu_at b p l → pu_at b' p l
  | [], _, _, _ => trivial
  | x :: l, p, h, hat => by
    simp only [List.length_cons] at h
    exact ⟨(h p (Nat.le_refl _) (by omega)).trans hat.1, pu_at_keep b b' l (p + 1) (fun q h1 h2 => h q (by omega) (by omega)) hat.2⟩
theorem pu_at_put : ∀ (l : List Bool) (b : Nat → Int32) (p : Nat), pu_at (pu_put b p l) p l
  | [], _, _ => trivial
  | x :: l, b, p => by
    refine ⟨?_, pu_at_put l _ _⟩
    show pu_bit (pu_put (pu_setb b p x) (p + 1) l) p = x
    rw [pu_bit_put l _ _ _ (by omega), pu_bit_set, if_pos rfl]
theorem pu_at_put_app {b : Nat → Int32} {p : Nat} {l1 l2 : List Bool} (h : pu_at b p l1) : pu_at (pu_put b (p + l1.length) l2) p (l1 ++ l2) :=
  (pu_at_app _ l1 l2 p).mpr ⟨pu_at_keep b _ l1 p (fun q _ h2 => pu_bit_put _ _ _ _ (by omega)) h, pu_at_put _ _ _⟩
theorem pu_at_put_far {b : Nat → Int32} {p p2 : Nat} {l1 l2 : List Bool} (hd : p + l1.length ≤ p2 ∨ p2 + l2.length ≤ p) (h : pu_at b p l1) : pu_at (pu_put b p2 l2) p l1 :=
  pu_at_keep b _ l1 p (fun q h1 h2 => pu_bit_put _ _ _ _ (by omega)) h
theorem pu_val_bits : ∀ (n v w : Nat), pu_val v (pu_bits n w) = v * 2 ^ n + w % 2 ^ n
  | 0, v, w => by simp [pu_val, pu_bits, Nat.mod_one]
  | n + 1, v, w => by
    simp only [pu_bits, pu_val]
    rw [pu_val_bits n, Nat.mod_pow_succ, Nat.testBit_eq_decide_div_mod_eq]
    have h2 : w / 2 ^ n % 2 < 2 := Nat.mod_lt _ (by decide)
    have h3 : (decide (w / 2 ^ n % 2 = 1)).toNat = w / 2 ^ n % 2 := by
      rcases (show w / 2 ^ n % 2 = 0 ∨ w / 2 ^ n % 2 = 1 by omega) with e | e <;> rw [e] <;> rfl
    rw [h3, Nat.pow_succ, Nat.add_mul, Nat.mul_comm (2 ^ n) (w / 2 ^ n % 2), Nat.mul_assoc, Nat.mul_comm 2 (2 ^ n)]
    omega
theorem pu_val_w {n w : Nat} (h : w < 2 ^ n) : pu_val 0 (pu_bits n w) = w := by
  rw [pu_val_bits, Nat.zero_mul, Nat.zero_add, Nat.mod_eq_of_lt h]
/-- zeros ahead of the highest bit (of k), behind the lowest -/
def pu_lz : Nat → Nat → Nat
  | 0, _ => 0
  | k + 1, x => if x.testBit k = true then 0 else pu_lz k x + 1
def pu_tz : Nat → Nat → Nat → Nat
  | 0, _, _ => 0
  | k + 1, i, x => if x.testBit i = true then 0 else pu_tz k (i + 1) x + 1
theorem pu_lt_half {x k : Nat} (h : x < 2 ^ (k + 1)) (hb : ¬ x.testBit k = true) : x < 2 ^ k := by
  rw [Nat.testBit_eq_decide_div_mod_eq, decide_eq_true_iff] at hb
  have h1 : x / 2 ^ k < 2 := by
    rw [Nat.div_lt_iff_lt_mul (Nat.two_pow_pos k)]
    rw [Nat.pow_succ] at h
    omega
  have h2 : x / 2 ^ k = 0 := by
    generalize x / 2 ^ k = q at hb h1
    omega
  rcases (Nat.div_eq_zero_iff).mp h2 with h3 | h3
  · exact absurd h3 (Nat.ne_of_gt (Nat.two_pow_pos k))
  · exact h3
theorem pu_lz_le : ∀ (k x : Nat), pu_lz k x ≤ k
  | 0, _ => Nat.le_refl _
  | k + 1, x => by
    unfold pu_lz
    split
    · omega
    · have := pu_lz_le k x; omega
theorem pu_lz_lt : ∀ (k x : Nat), x < 2 ^ k → x < 2 ^ (k - pu_lz k x)
  | 0, x, h => h
  | k + 1, x, h => by
    unfold pu_lz
    split
    · exact h
    next hb =>
      have h1 := pu_lz_lt k x (pu_lt_half h hb)
      rw [show k + 1 - (pu_lz k x + 1) = k - pu_lz k x by omega]
      exact h1
theorem pu_tz_low : ∀ (k i x : Nat), (∀ j, j < i → x.testBit j = false) → ∀ j, j < i + pu_tz k i x → x.testBit j = false
  | 0, i, x, h, j, hj => h j hj
  | k + 1, i, x, h, j, hj => by
    unfold pu_tz at hj
    split at hj
    · exact h j hj
    next hb =>
      refine pu_tz_low k (i + 1) x (fun j hj => ?_) j (by omega)
      rcases Nat.lt_or_ge j i with h1 | h1
      · exact h j h1
      · have : j = i := by omega
        subst this
        exact Bool.eq_false_iff.mpr hb
theorem pu_tz_hit : ∀ (k i x : Nat), pu_tz k i x < k → x.testBit (i + pu_tz k i x) = true
  | 0, i, x, h => absurd h (Nat.not_lt_zero _)
  | k + 1, i, x, h => by
    unfold pu_tz at h ⊢
    split
    next hb => exact hb
    next hb =>
      rw [if_neg hb] at h
      have h1 := pu_tz_hit k (i + 1) x (by omega)
      rw [show i + (pu_tz k (i + 1) x + 1) = i + 1 + pu_tz k (i + 1) x by omega]
      exact h1
theorem pu_tz_le : ∀ (k i x : Nat), pu_tz k i x ≤ k
  | 0, _, _ => Nat.le_refl _
  | k + 1, i, x => by
    unfold pu_tz
    split
    · omega
    · have := pu_tz_le k (i + 1) x; omega
theorem pu_low_mod {x r : Nat} (h : ∀ j, j < r → x.testBit j = false) : x % 2 ^ r = 0 := by
  apply Nat.eq_of_testBit_eq
  intro j
  rw [Nat.testBit_mod_two_pow, Nat.zero_testBit]
  by_cases hj : j < r
  · rw [h j hj, Bool.and_false]
  · simp [hj]
abbrev pu_L (x : Nat) : Nat := pu_lz 16 x
abbrev pu_R (x : Nat) : Nat := pu_tz 16 0 x
theorem pu_R_lt {x : Nat} (h0 : x ≠ 0) (h : x < 65536) : pu_R x < 16 := by
  rcases Nat.lt_or_ge (pu_R x) 16 with h1 | h1
  · exact h1
  · exfalso
    have h2 : x % 2 ^ 16 = 0 := pu_low_mod (fun j hj => pu_tz_low 16 0 x (fun _ q => absurd q (Nat.not_lt_zero _)) j (by show j < 0 + pu_R x; omega))
    rw [Nat.mod_eq_of_lt (by omega)] at h2
    exact h0 h2
theorem pu_LR {x : Nat} (h0 : x ≠ 0) (h : x < 65536) : pu_L x + pu_R x ≤ 15 := by
  have h1 := pu_R_lt h0 h
  have h2 := pu_tz_hit 16 0 x h1
  rw [Nat.zero_add] at h2
  have h3 : 2 ^ pu_R x ≤ x := Nat.ge_two_pow_of_testBit h2
  have h4 : x < 2 ^ (16 - pu_L x) := pu_lz_lt 16 x h
  have h5 : pu_R x < 16 - pu_L x := (Nat.pow_lt_pow_iff_right (by decide)).mp (Nat.lt_of_le_of_lt h3 h4)
  omega
/-- what stands in a window of l and r zeros comes back -/
theorem pu_win {x l r : Nat} (h : x < 65536) (hl : l ≤ pu_L x) (hr : r ≤ pu_R x) : x / 2 ^ r < 2 ^ (16 - l - r) ∧ x / 2 ^ r * 2 ^ r = x := by
  constructor
  · rw [Nat.div_lt_iff_lt_mul (Nat.two_pow_pos r), ← Nat.pow_add]
    have h4 : x < 2 ^ (16 - pu_L x) := pu_lz_lt 16 x h
    exact Nat.lt_of_lt_of_le h4 (Nat.pow_le_pow_right (by decide) (by omega))
  · have h2 : x % 2 ^ r = 0 := pu_low_mod (fun j hj => pu_tz_low 16 0 x (fun _ q => absurd q (Nat.not_lt_zero _)) j (by show j < 0 + pu_R x; omega))
    exact Nat.div_mul_cancel (Nat.dvd_of_mod_eq_zero h2)
end
section
set_option maxRecDepth 100000
/-! SeriesCodec.get, put, zerosBefore, zerosBehind -/
def sc_keep (lv : List (Nat × Value)) : List Nat → Option (List (Nat × Value))
  | [] => some []
  | k :: ks => match sc_get lv k with
    | none => none
    | some v => match sc_keep lv ks with
      | none => none
      | some t => some ((k, v) :: t)
theorem sc_keep_get {lv : List (Nat × Value)} : ∀ {ks : List Nat} {lv' : List (Nat × Value)}, sc_keep lv ks = some lv' → ∀ q ∈ lv', sc_get lv q.1 = some q.2 := by
  intro ks
  induction ks with
  | nil => intro lv' h q hq; cases h; cases hq
  | cons k ks ih =>
    intro lv' h q hq
    unfold sc_keep at h
    split at h
    next => cases h
    next v hv =>
      split at h
      next => cases h
      next t ht =>
        cases h
        rcases List.mem_cons.mp hq with e | e
        · rw [e]; exact hv
        · exact ih ht q e
/-- keep these locals alone -/
theorem sc_kp {K : sc_K} {ws : va_W} {pc : Nat} {lv lv' : List (Nat × Value)} {st : List Value} (ks : List Nat) (h : sc_keep lv ks = some lv') (kk : sc_W K ws pc lv' st) : sc_W K ws pc lv st := sc_less (sc_keep_get h) kk
theorem pu_uself {f : Nat → Int32} {k : Nat} {x : Int32} (h : f k = x) : upd f k x = f := by
  funext j
  unfold upd
  split
  next e => rw [e, h]
  next => rfl
theorem pu_uu (f : Nat → Int32) (k : Nat) (x y : Int32) : upd (upd f k x) k y = upd f k y := by
  funext j
  unfold upd
  split <;> rfl
theorem pu_sub1 (x : Int32) : x + (-1) = x - 1 := (Int32.sub_eq_add_neg x 1).symm
theorem pu_cell {c k : Nat} (hk : k < 2 ^ 31) : nI c * 24 + nI k >>> ((5 : Int32) &&& 31) = nI ((768 * c + k) / 32) := by
  rw [pk_shrN hk _ 5 (by decide), show (24 : Int32) = nI 24 from rfl, pk_mul, nI_add]
  congr 1
  omega
theorem pu_m31 {k : Nat} (hk : k < 2 ^ 31) (c : Nat) : nI k &&& 31 = nI ((768 * c + k) % 32) := by
  rw [pk_andN (by omega) 5 (by decide)]
  congr 1
  omega
theorem pu_v2 (v x : Nat) : nI v * 2 + nI x = nI (v * 2 + x) := by
  rw [show (2 : Int32) = nI 2 from rfl, pk_mul, nI_add]
theorem pu_gbit {b : Nat → Int32} {p : Nat} {x : Bool} (h : pu_bit b p = x) : ((b (p / 32) >>> (nI (p % 32) &&& 31)) &&& 1) = nI x.toNat := by
  rw [pu_rd1 _ _ (Nat.mod_lt _ (by decide)), ← h]
  rfl
section GET
variable {K : sc_K} {d : ClassId} {h : Nat → Nat}
theorem get_loop (hC : sc_C K cX0_get RX0 d 5 0) (n c : Nat) (a : Nat → Nat → Int32) (hn : n ≤ 768) (hc : c < 4) (P : Int32 → (Nat → Int32) → Prop) (hret : ∀ (v : Int32) (f' : Nat → Int32) (lv : List (Nat × Value)), P v f' → sc_W K (xw0 h d f' a) 64 lv [.int v]) :
    ∀ (l : List Bool) (f : Nat → Int32) (k i v : Nat), k + l.length ≤ 768 → i + l.length = n → f 12 = nI c → f 13 = nI k → pu_at (a 1) (768 * c + k) l → P (nI (pu_val v l)) (upd f 13 (nI (k + l.length))) → sc_W K (xw0 h d f a) 4 [(0, .ref (h 20)), (1, .int (nI n)), (2, .int (nI v)), (3, .int (nI i))] [] := by
  intro l
  induction l with
  | nil =>
    intro f k i v hk hi hch hcu hat hP
    refine sc_iload_n hC dX0_get_4 rfl ?_
    refine sc_iload_n hC dX0_get_5 rfl ?_
    refine sc_icmp_ge (tgt := 63) hC dX0_get_6 (by decide) (fun c1 => ?_) (fun c1 => ?_)
    · refine sc_iload_n hC dX0_get_63 rfl ?_
      refine hret _ _ _ ?_
      rw [show f = upd f 13 (nI (k + ([] : List Bool).length)) from (pu_uself hcu).symm]
      exact hP
    · exact absurd (by rw [show i = n from hi]; exact nI_le (Nat.le_refl _) (by omega)) c1
  | cons x l ih =>
    intro f k i v hk hi hch hcu hat hP
    simp only [List.length_cons] at hk hi
    refine sc_iload_n hC dX0_get_4 rfl ?_
    refine sc_iload_n hC dX0_get_5 rfl ?_
    refine sc_icmp_ge (tgt := 63) hC dX0_get_6 (by decide) (fun c1 => ?_) (fun c1 => ?_)
    · exact absurd c1 (nI_ge (by omega) (by omega))
    · refine sc_aload_n hC dX0_get_9 rfl ?_
      refine x0_g12 hC dX0_get_10 ?_
      refine sc_top (hch) ?_
      refine sc_bipush (v := 24) hC dX0_get_13 (by decide) ?_
      refine sc_imul hC dX0_get_15 ?_
      refine sc_aload_n hC dX0_get_16 rfl ?_
      refine x0_g13 hC dX0_get_17 ?_
      refine sc_top (hcu) ?_
      refine sc_iconst (v := 5) hC dX0_get_20 (by decide) ?_
      refine sc_ishr hC dX0_get_21 ?_
      refine sc_iadd hC dX0_get_22 ?_
      refine sc_top (pu_cell (by omega)) ?_
      refine sc_istore hC dX0_get_23 rfl (by decide) ?_
      refine sc_iload_n hC dX0_get_25 rfl ?_
      refine sc_iconst (v := 2) hC dX0_get_26 (by decide) ?_
      refine sc_imul hC dX0_get_27 ?_
      refine sc_aload_n hC dX0_get_28 rfl ?_
      refine x0_g1 hC dX0_get_29 ?_
      refine sc_iload hC dX0_get_32 rfl ?_
      refine x0_ald1 hC ((768 * c + k) / 32) (rfl) (by omega) dX0_get_34 ?_
      refine sc_aload_n hC dX0_get_35 rfl ?_
      refine x0_g13 hC dX0_get_36 ?_
      refine sc_top (hcu) ?_
      refine sc_bipush (v := 31) hC dX0_get_39 (by decide) ?_
      refine sc_iand hC dX0_get_41 ?_
      refine sc_top (pu_m31 (by omega) c) ?_
      refine sc_ishr hC dX0_get_42 ?_
      refine sc_iconst (v := 1) hC dX0_get_43 (by decide) ?_
      refine sc_iand hC dX0_get_44 ?_
      refine sc_top (pu_gbit hat.1) ?_
      refine sc_iadd hC dX0_get_45 ?_
      refine sc_top (pu_v2 v x.toNat) ?_
      refine sc_istore_n hC dX0_get_46 rfl (by decide) ?_
      refine sc_aload_n hC dX0_get_47 rfl ?_
      refine sc_dup hC dX0_get_48 rfl ?_
      refine x0_g13 hC dX0_get_49 ?_
      refine sc_top (hcu) ?_
      refine sc_iconst (v := 1) hC dX0_get_52 (by decide) ?_
      refine sc_iadd hC dX0_get_53 ?_
      refine sc_top (nI_1 k) ?_
      refine x0_p13 hC dX0_get_54 ?_
      refine sc_iinc (v := 1) hC dX0_get_57 (by decide) rfl rfl (by decide) ?_
      refine sc_goto (tgt := 4) hC dX0_get_60 (by decide) ?_
      refine sc_kp [0, 1, 2, 3] rfl ?_
      rw [nI_1 i]
      refine ih (upd f 13 (nI (k + 1))) (k + 1) (i + 1) (v * 2 + x.toNat) (by omega) (by omega) hch rfl hat.2 ?_
      rw [pu_uu, show k + 1 + l.length = k + (x :: l).length by rw [List.length_cons]; omega]
      exact hP
end GET
theorem c0_get (l : List Bool) (c k : Nat) (f : Nat → Int32) (a : Nat → Nat → Int32) (hc : c < 4) (hk : k + l.length ≤ 768) (hch : f 12 = nI c) (hcu : f 13 = nI k) (hat : pu_at (a 1) (768 * c + k) l) :
    sc_I0 yX0_get cX0_get 5 (some .int) 0 [.int (nI l.length)] f a (fun r f' a' => r = nI (pu_val 0 l) ∧ f' = upd f 13 (nI (k + l.length)) ∧ a' = a) := by
  refine x0_ofI pn0_get (fun _ => Nat.le_of_ble_eq_true rfl) (fun K d h hC hret => ?_)
  show sc_W K (xw0 h d f a) 0 [(0, .ref (h 20)), (1, .int (nI l.length))] []
  refine sc_iconst (v := 0) hC dX0_get_0 (by decide) ?_
  refine sc_istore_n hC dX0_get_1 rfl (by decide) ?_
  refine sc_iconst (v := 0) hC dX0_get_2 (by decide) ?_
  refine sc_istore_n hC dX0_get_3 rfl (by decide) ?_
  exact get_loop hC l.length c a (by omega) hc (fun r f' => r = nI (pu_val 0 l) ∧ f' = upd f 13 (nI (k + l.length))) (fun v f' lv hp => hret v f' a 64 lv dX0_get_64 ⟨hp.1, hp.2, rfl⟩) l f k 0 0 hk (by omega) hch hcu hat ⟨rfl, rfl⟩
/-- the arrays behind a put of the bits l into chunk c, of which u are used -/
def pu_pa (a : Nat → Nat → Int32) (c u : Nat) (l : List Bool) : Nat → Nat → Int32 := fun k => if k = 1 then pu_put (a 1) (768 * c + u) l else if k = 2 then upd (a 2) c (nI (u + l.length)) else a k
theorem pu_pa_nil {a : Nat → Nat → Int32} {c u : Nat} (h : a 2 c = nI u) : pu_pa a c u [] = a := by
  funext k
  unfold pu_pa
  split
  next e => rw [e]; rfl
  next =>
    split
    next e => rw [e]; exact pu_uself h
    next => rfl
theorem pu_pa_cons (a : Nat → Nat → Int32) (c u : Nat) (x : Bool) (l : List Bool) : pu_pa (sc_ua (sc_ua a 1 ((768 * c + u) / 32) (pu_w1 (a 1 ((768 * c + u) / 32)) ((768 * c + u) % 32) x)) 2 c (nI (u + 1))) c (u + 1) l = pu_pa a c u (x :: l) := by
  funext k
  unfold pu_pa
  by_cases h1 : k = 1
  · simp only [h1, if_true]
    rw [sc_ua_n _ _ _ (by decide), sc_ua_s]
    rfl
  · by_cases h2 : k = 2
    · simp only [h2, if_true]
      rw [if_neg (by decide), if_neg (by decide), sc_ua_s, sc_ua_n _ _ _ (by decide), pu_uu, List.length_cons]
      congr 2
      omega
    · simp only [h1, h2, if_false]
      rw [sc_ua_n _ _ _ h2, sc_ua_n _ _ _ h1]
section PUT
variable {K : sc_K} {d : ClassId} {h : Nat → Nat}
theorem put_loop (hC : sc_C K cX0_put RX0 d 7 0) (X2 : Int32) (w c : Nat) (f : Nat → Int32) (hc : c < 4) (P : (Nat → Nat → Int32) → Prop) (hret : ∀ (a' : Nat → Nat → Int32) (lv : List (Nat × Value)), P a' → sc_W K (xw0 h d f a') 107 lv []) :
    ∀ (j : Nat) (a : Nat → Nat → Int32) (u : Nat), j ≤ 32 → u + j ≤ 768 → a 2 c = nI u → P (pu_pa a c u (pu_bits j w)) → sc_W K (xw0 h d f a) 5 [(0, .ref (h 20)), (1, .int (nI c)), (2, .int X2), (3, .int (nI w)), (4, .int (nI j - 1))] [] := by
  intro j
  induction j with
  | zero =>
    intro a u hj hu hus hP
    refine sc_iload hC dX0_put_5 rfl ?_
    refine sc_if_lt (tgt := 107) hC dX0_put_7 (by decide) (fun c1 => ?_) (fun c1 => ?_)
    · refine hret _ _ ?_
      rw [show pu_bits 0 w = [] from rfl, pu_pa_nil hus] at hP
      exact hP
    · exact absurd (by decide) c1
  | succ j ih =>
    intro a u hj hu hus hP
    rw [nI_pred j]
    refine sc_iload hC dX0_put_5 rfl ?_
    refine sc_if_lt (tgt := 107) hC dX0_put_7 (by decide) (fun c1 => ?_) (fun c1 => ?_)
    · exact absurd c1 (nI_pos (by omega))
    · refine sc_iload_n hC dX0_put_10 rfl ?_
      refine sc_bipush (v := 24) hC dX0_put_11 (by decide) ?_
      refine sc_imul hC dX0_put_13 ?_
      refine sc_aload_n hC dX0_put_14 rfl ?_
      refine x0_g2 hC dX0_put_15 ?_
      refine sc_iload_n hC dX0_put_18 rfl ?_
      refine x0_ald2 hC (c) (rfl) (hc) dX0_put_19 ?_
      refine sc_top (hus) ?_
      refine sc_iconst (v := 5) hC dX0_put_20 (by decide) ?_
      refine sc_ishr hC dX0_put_21 ?_
      refine sc_iadd hC dX0_put_22 ?_
      refine sc_top (pu_cell (by omega)) ?_
      refine sc_istore hC dX0_put_23 rfl (by decide) ?_
      refine sc_iconst (v := 1) hC dX0_put_25 (by decide) ?_
      refine sc_aload_n hC dX0_put_26 rfl ?_
      refine x0_g2 hC dX0_put_27 ?_
      refine sc_iload_n hC dX0_put_30 rfl ?_
      refine x0_ald2 hC (c) (rfl) (hc) dX0_put_31 ?_
      refine sc_top (hus) ?_
      refine sc_bipush (v := 31) hC dX0_put_32 (by decide) ?_
      refine sc_iand hC dX0_put_34 ?_
      refine sc_top (pu_m31 (by omega) c) ?_
      refine sc_ishl hC dX0_put_35 ?_
      refine sc_istore hC dX0_put_36 rfl (by decide) ?_
      refine sc_iload_n hC dX0_put_38 rfl ?_
      refine sc_iload hC dX0_put_39 rfl ?_
      refine sc_ishr hC dX0_put_41 ?_
      refine sc_iconst (v := 1) hC dX0_put_42 (by decide) ?_
      refine sc_iand hC dX0_put_43 ?_
      refine sc_top (pu_tb (by omega)) ?_
      have k87 : ∀ x : Bool, w.testBit j = x → sc_W K (xw0 h d f (sc_ua a 1 ((768 * c + u) / 32) (pu_w1 (a 1 ((768 * c + u) / 32)) ((768 * c + u) % 32) x))) 87 [(0, .ref (h 20)), (1, .int (nI c)), (2, .int X2), (3, .int (nI w)), (4, .int (nI j)), (5, .int (nI ((768 * c + u) / 32))), (6, .int (1 <<< (nI ((768 * c + u) % 32) &&& 31)))] [] := by
        intro x hx
        refine sc_aload_n hC dX0_put_87 rfl ?_
        refine x0_g2 hC dX0_put_88 ?_
        refine sc_iload_n hC dX0_put_91 rfl ?_
        refine sc_aload_n hC dX0_put_92 rfl ?_
        refine x0_g2 hC dX0_put_93 ?_
        refine sc_iload_n hC dX0_put_96 rfl ?_
        refine x0_ald2 hC (c) (rfl) (hc) dX0_put_97 ?_
        rw [sc_ua_n a _ _ (by decide : (2 : Nat) ≠ 1)]
        refine sc_top (hus) ?_
        refine sc_iconst (v := 1) hC dX0_put_98 (by decide) ?_
        refine sc_iadd hC dX0_put_99 ?_
        refine sc_top (nI_1 u) ?_
        refine x0_ast2 hC (c) (rfl) (hc) dX0_put_100 ?_
        refine sc_iinc (v := -1) hC dX0_put_101 (by decide) rfl rfl (by decide) ?_
        refine sc_goto (tgt := 5) hC dX0_put_104 (by decide) ?_
        refine sc_kp [0, 1, 2, 3, 4] rfl ?_
        rw [pu_sub1]
        refine ih _ (u + 1) (by omega) (by omega) (by rw [sc_ua_s, pk_us]) ?_
        rw [pu_pa_cons, ← hx]
        exact hP
      cases hb : w.testBit j with
      | true =>
        refine sc_iconst (v := 1) hC dX0_put_44 (by decide) ?_
        refine sc_icmp_ne (tgt := 68) hC dX0_put_45 (by decide) (fun c2 => ?_) (fun c2 => ?_)
        · exact absurd rfl c2
        · refine sc_aload_n hC dX0_put_48 rfl ?_
          refine x0_g1 hC dX0_put_49 ?_
          refine sc_iload hC dX0_put_52 rfl ?_
          refine sc_aload_n hC dX0_put_54 rfl ?_
          refine x0_g1 hC dX0_put_55 ?_
          refine sc_iload hC dX0_put_58 rfl ?_
          refine x0_ald1 hC ((768 * c + u) / 32) (rfl) (by omega) dX0_put_60 ?_
          refine sc_iload hC dX0_put_61 rfl ?_
          refine sc_ior hC dX0_put_63 ?_
          refine x0_ast1 hC ((768 * c + u) / 32) (rfl) (by omega) dX0_put_64 ?_
          refine sc_goto (tgt := 87) hC dX0_put_65 (by decide) ?_
          exact k87 true hb
      | false =>
        refine sc_iconst (v := 1) hC dX0_put_44 (by decide) ?_
        refine sc_icmp_ne (tgt := 68) hC dX0_put_45 (by decide) (fun c2 => ?_) (fun c2 => ?_)
        · refine sc_aload_n hC dX0_put_68 rfl ?_
          refine x0_g1 hC dX0_put_69 ?_
          refine sc_iload hC dX0_put_72 rfl ?_
          refine sc_aload_n hC dX0_put_74 rfl ?_
          refine x0_g1 hC dX0_put_75 ?_
          refine sc_iload hC dX0_put_78 rfl ?_
          refine x0_ald1 hC ((768 * c + u) / 32) (rfl) (by omega) dX0_put_80 ?_
          refine sc_iload hC dX0_put_81 rfl ?_
          refine sc_iconst (v := -1) hC dX0_put_83 (by decide) ?_
          refine sc_ixor hC dX0_put_84 ?_
          refine sc_iand hC dX0_put_85 ?_
          refine x0_ast1 hC ((768 * c + u) / 32) (rfl) (by omega) dX0_put_86 ?_
          exact k87 false hb
        · exact absurd c2 (by decide)
end PUT
theorem c0_put (n w c u : Nat) (f : Nat → Int32) (a : Nat → Nat → Int32) (hn : n ≤ 32) (hc : c < 4) (hu : u + n ≤ 768) (hus : a 2 c = nI u) :
    sc_V0 yX0_put cX0_put 7 0 [.int (nI c), .int (nI n), .int (nI w)] f a (fun f' a' => f' = f ∧ a' = pu_pa a c u (pu_bits n w)) := by
  refine x0_ofV pn0_put (fun _ => Nat.le_of_ble_eq_true rfl) (fun K d h hC hret => ?_)
  show sc_W K (xw0 h d f a) 0 [(0, .ref (h 20)), (1, .int (nI c)), (2, .int (nI n)), (3, .int (nI w))] []
  refine sc_iload_n hC dX0_put_0 rfl ?_
  refine sc_iconst (v := 1) hC dX0_put_1 (by decide) ?_
  refine sc_isub hC dX0_put_2 ?_
  refine sc_istore hC dX0_put_3 rfl (by decide) ?_
  exact put_loop hC (nI n) w c f hc (fun a' => a' = pu_pa a c u (pu_bits n w)) (fun a' lv hp => hret f a' 107 lv dX0_put_107 ⟨rfl, hp⟩) n a u hn hu hus rfl
end
section
set_option maxRecDepth 100000
/-! the codec as plain mathematics: codes of gap changes and value changes, a chunk's stream of bits, the chunk's header -/
theorem pu_ti_add {x y : Int32} (h1 : -2147483648 ≤ x.toInt + y.toInt) (h2 : x.toInt + y.toInt < 2147483648) : (x + y).toInt = x.toInt + y.toInt := by
  rw [Int32.toInt_add]
  exact Int.bmod_eq_of_le (by omega) (by omega)
theorem pu_ti_sub {x y : Int32} (h1 : -2147483648 ≤ x.toInt - y.toInt) (h2 : x.toInt - y.toInt < 2147483648) : (x - y).toInt = x.toInt - y.toInt := by
  rw [Int32.toInt_sub]
  exact Int.bmod_eq_of_le (by omega) (by omega)
theorem pu_ti_mul {x y : Int32} (h1 : -2147483648 ≤ x.toInt * y.toInt) (h2 : x.toInt * y.toInt < 2147483648) : (x * y).toInt = x.toInt * y.toInt := by
  rw [Int32.toInt_mul]
  exact Int.bmod_eq_of_le (by omega) (by omega)
theorem pu_ti_neg {x : Int32} (h1 : -2147483648 < x.toInt) (h2 : x.toInt < 2147483648) : (-x).toInt = -x.toInt := by
  rw [Int32.toInt_neg]
  exact Int.bmod_eq_of_le (by omega) (by omega)
theorem pu_nI_of {x : Int32} {n : Nat} (h : x.toInt = (n : Int)) : x = nI n := by
  have hx := Int32.toInt_lt x
  exact Int32.toInt_inj.mp (by rw [h, nI_toInt (by omega)])
def pu_tc (z : Int) : List Bool :=
  if z = 0 then [false]
  else if -7 ≤ z ∧ z ≤ 8 then [true, false] ++ pu_bits 4 (z + 7).toNat
  else if -63 ≤ z ∧ z ≤ 64 then [true, true, false] ++ pu_bits 7 (z + 63).toNat
  else [true, true, true] ++ [decide (z < 0)] ++ pu_bits 17 z.natAbs
def pu_fit (w : Option (Nat × Nat)) (x : Nat) : Bool := match w with
  | none => false
  | some (l, r) => decide (l ≤ pu_L x ∧ r ≤ pu_R x)
def pu_old (w : Option (Nat × Nat)) (x : Nat) : List Bool := match w with
  | none => []
  | some (l, r) => [true, false] ++ pu_bits (16 - l - r) (x / 2 ^ r)
def pu_new (x : Nat) : List Bool := [true, true] ++ pu_bits 4 (pu_L x) ++ pu_bits 4 (pu_R x) ++ pu_bits (16 - pu_L x - pu_R x) (x / 2 ^ pu_R x)
def pu_vc (w : Option (Nat × Nat)) (x : Nat) : List Bool := if x = 0 then [false] else if pu_fit w x = true then pu_old w x else pu_new x
def pu_nx (w : Option (Nat × Nat)) (x : Nat) : Option (Nat × Nat) := if x = 0 then w else if pu_fit w x = true then w else some (pu_L x, pu_R x)
/-- a window is sound -/
def pu_wok (w : Option (Nat × Nat)) : Prop := match w with
  | none => True
  | some (l, r) => l + r ≤ 15
theorem pu_nx_ok {w : Option (Nat × Nat)} {x : Nat} (hw : pu_wok w) (hx : x < 65536) : pu_wok (pu_nx w x) := by
  unfold pu_nx
  split
  · exact hw
  next h0 =>
    split
    · exact hw
    · exact pu_LR h0 hx
theorem pu_tc_len (z : Int) : (pu_tc z).length ≤ 21 := by
  unfold pu_tc
  split
  · simp
  · split
    · simp [pu_bits_len]
    · split
      · simp [pu_bits_len]
      · simp [pu_bits_len]
theorem pu_vc_len (w : Option (Nat × Nat)) (x : Nat) : (pu_vc w x).length ≤ 26 := by
  unfold pu_vc
  split
  · simp
  · split
    · unfold pu_old
      split
      · simp
      · simp [pu_bits_len]; omega
    · simp [pu_new, pu_bits_len]; omega
def pu_gb (T : Nat → Nat) (k : Nat) : Nat := if k ≤ 1 then 0 else T (k - 1) - T (k - 2)
def pu_dd (T : Nat → Nat) (k : Nat) : Int := ((T k - T (k - 1) : Nat) : Int) - (pu_gb T k : Int)
def pu_wn (V : Nat → Nat) : Nat → Option (Nat × Nat)
  | 0 => none
  | k + 1 => if k = 0 then none else pu_nx (pu_wn V k) (V k ^^^ V (k - 1))
def pu_pc (T V : Nat → Nat) (k : Nat) : List Bool := if k = 0 then pu_bits 16 (T 0) ++ pu_bits 16 (V 0) else pu_tc (pu_dd T k) ++ pu_vc (pu_wn V k) (V k ^^^ V (k - 1))
def pu_st (T V : Nat → Nat) : Nat → List Bool
  | 0 => []
  | m + 1 => pu_st T V m ++ pu_pc T V m
theorem pu_pc_len (T V : Nat → Nat) (k : Nat) : (pu_pc T V k).length ≤ 47 := by
  unfold pu_pc
  split
  · simp [pu_bits_len]
  · have h1 := pu_tc_len (pu_dd T k)
    have h2 := pu_vc_len (pu_wn V k) (V k ^^^ V (k - 1))
    simp
    omega
theorem pu_st_len (T V : Nat → Nat) : ∀ m : Nat, (pu_st T V (m + 1)).length ≤ 32 + 47 * m
  | 0 => by simp [pu_st, pu_pc, pu_bits_len]
  | m + 1 => by
    have h1 := pu_st_len T V m
    have h2 := pu_pc_len T V (m + 1)
    rw [pu_st, List.length_append]
    omega
theorem pu_st_len' (T V : Nat → Nat) (m : Nat) (h : m ≤ 16) : (pu_st T V m).length ≤ 737 := by
  cases m with
  | zero => simp [pu_st]
  | succ m =>
    have := pu_st_len T V m
    omega
theorem pu_st_pre (T V : Nat → Nat) {b : Nat → Int32} {p : Nat} : ∀ {m i : Nat}, i ≤ m → pu_at b p (pu_st T V m) → pu_at b p (pu_st T V i) := by
  intro m
  induction m with
  | zero =>
    intro i hi h
    rw [show i = 0 by omega]
    exact h
  | succ m ih =>
    intro i hi h
    rcases Nat.lt_or_ge i (m + 1) with h1 | h1
    · exact ih (by omega) ((pu_at_app b _ _ p).mp h).1
    · rw [show i = m + 1 by omega]
      exact h
theorem pu_st_lpre (T V : Nat → Nat) : ∀ {m i : Nat}, i ≤ m → (pu_st T V i).length ≤ (pu_st T V m).length := by
  intro m
  induction m with
  | zero =>
    intro i hi
    rw [show i = 0 by omega]
    exact Nat.le_refl _
  | succ m ih =>
    intro i hi
    rcases Nat.lt_or_ge i (m + 1) with h1 | h1
    · have := ih (i := i) (by omega)
      rw [pu_st, List.length_append]
      omega
    · rw [show i = m + 1 by omega]
      exact Nat.le_refl _
/-- point i of a stream of m stands behind the i ahead of it -/
theorem pu_st_at (T V : Nat → Nat) {b : Nat → Int32} {p m i : Nat} (hi : i < m) (h : pu_at b p (pu_st T V m)) : pu_at b (p + (pu_st T V i).length) (pu_pc T V i) := by
  have h1 : pu_at b p (pu_st T V (i + 1)) := pu_st_pre T V hi h
  exact ((pu_at_app b _ _ p).mp h1).2
theorem pu_wn_congr {V V' : Nat → Nat} : ∀ {m : Nat}, (∀ i, i < m → V i = V' i) → pu_wn V m = pu_wn V' m := by
  intro m
  induction m with
  | zero => intro _; rfl
  | succ m ih =>
    intro h
    unfold pu_wn
    rw [ih (fun i hi => h i (by omega)), h m (by omega), h (m - 1) (by omega)]
theorem pu_pc_congr {T T' V V' : Nat → Nat} {k : Nat} (hT : ∀ i, i ≤ k → T i = T' i) (hV : ∀ i, i ≤ k → V i = V' i) : pu_pc T V k = pu_pc T' V' k := by
  unfold pu_pc pu_dd pu_gb
  rw [hT 0 (by omega), hV 0 (by omega), hT k (by omega), hT (k - 1) (by omega), hT (k - 2) (by omega), hV k (by omega), hV (k - 1) (by omega), pu_wn_congr (fun i hi => hV i (by omega))]
theorem pu_st_congr {T T' V V' : Nat → Nat} : ∀ {m : Nat}, (∀ i, i < m → T i = T' i) → (∀ i, i < m → V i = V' i) → pu_st T V m = pu_st T' V' m := by
  intro m
  induction m with
  | zero => intro _ _; rfl
  | succ m ih =>
    intro h1 h2
    unfold pu_st
    rw [ih (fun i hi => h1 i (by omega)) (fun i hi => h2 i (by omega)), pu_pc_congr (fun i hi => h1 i (by omega)) (fun i hi => h2 i (by omega))]
def pu_sum (V : Nat → Nat) : Nat → Nat
  | 0 => 0
  | m + 1 => pu_sum V m + V m
def pu_min (V : Nat → Nat) : Nat → Nat
  | 0 => 65535
  | m + 1 => if V m < pu_min V m then V m else pu_min V m
def pu_max (V : Nat → Nat) : Nat → Nat
  | 0 => 0
  | m + 1 => if pu_max V m < V m then V m else pu_max V m
theorem pu_sum_congr {V V' : Nat → Nat} : ∀ {m : Nat}, (∀ i, i < m → V i = V' i) → pu_sum V m = pu_sum V' m ∧ pu_min V m = pu_min V' m ∧ pu_max V m = pu_max V' m := by
  intro m
  induction m with
  | zero => intro _; exact ⟨rfl, rfl, rfl⟩
  | succ m ih =>
    intro h
    obtain ⟨h1, h2, h3⟩ := ih (fun i hi => h i (by omega))
    unfold pu_sum pu_min pu_max
    rw [h1, h2, h3, h m (by omega)]
    exact ⟨rfl, rfl, rfl⟩
/-- chunk c holds the m points T, V -/
def pu_CH (T V : Nat → Nat) (m c : Nat) (a : Nat → Nat → Int32) : Prop := a 2 c = nI (pu_st T V m).length ∧ pu_at (a 1) (768 * c) (pu_st T V m) ∧ a 3 c = nI (T 0) ∧ a 4 c = nI (T (m - 1)) ∧ a 5 c = nI (pu_sum V m) ∧ a 6 c = nI (pu_min V m) ∧ a 7 c = nI (pu_max V m)
def pu_sh (t : Nat → Nat) (c : Nat) : Nat → Nat := fun i => t (16 * c + i)
def pu_m (n c : Nat) : Nat := if n - 16 * c < 16 then n - 16 * c else 16
/-- the codec holds the n points t, v -/
def pu_CI (n : Nat) (t v : Nat → Nat) (f : Nat → Int32) (a : Nat → Nat → Int32) : Prop := f 0 = nI n ∧ ∀ c, 16 * c < n → pu_CH (pu_sh t c) (pu_sh v c) (pu_m n c) c a
def pu_PI (n : Nat) (t v : Nat → Nat) : Prop := n ≤ 64 ∧ (∀ i, i < n → t i ≤ 60000) ∧ (∀ i, i < n → v i ≤ 65535) ∧ ∀ i, i + 1 < n → t i ≤ t (i + 1)
def pu_WIN (w : Option (Nat × Nat)) (f : Nat → Int32) : Prop := match w with
  | none => f 10 = -1
  | some (l, r) => f 10 = nI l ∧ f 11 = nI r
/-- the writer's state behind n points -/
def pu_WS (n : Nat) (t v : Nat → Nat) (f : Nat → Int32) : Prop := n % 16 ≠ 0 → f 8 = nI (pu_gb (pu_sh t (n / 16)) (n % 16)) ∧ f 9 = nI (v (n - 1)) ∧ pu_WIN (pu_wn (pu_sh v (n / 16)) (n % 16)) f
theorem pu_CH_congr {T T' V V' : Nat → Nat} {m c : Nat} {a : Nat → Nat → Int32} (hm : 0 < m) (hT : ∀ i, i < m → T i = T' i) (hV : ∀ i, i < m → V i = V' i) (h : pu_CH T V m c a) : pu_CH T' V' m c a := by
  obtain ⟨h1, h2, h3, h4, h5, h6, h7⟩ := h
  obtain ⟨e1, e2, e3⟩ := pu_sum_congr hV
  unfold pu_CH
  rw [← pu_st_congr hT hV, ← hT 0 hm, ← hT (m - 1) (by omega), ← e1, ← e2, ← e3]
  exact ⟨h1, h2, h3, h4, h5, h6, h7⟩
theorem pu_m_le (n c : Nat) : pu_m n c ≤ 16 ∧ pu_m n c ≤ n - 16 * c ∧ (16 * c < n → 0 < pu_m n c) := by
  unfold pu_m
  split <;> omega
theorem pu_CI_congr {n : Nat} {t t' v v' : Nat → Nat} {f : Nat → Int32} {a : Nat → Nat → Int32} (ht : ∀ i, i < n → t i = t' i) (hv : ∀ i, i < n → v i = v' i) (h : pu_CI n t v f a) : pu_CI n t' v' f a := by
  refine ⟨h.1, fun c hc => ?_⟩
  have hm := pu_m_le n c
  exact pu_CH_congr (hm.2.2 hc) (fun i hi => ht _ (by omega)) (fun i hi => hv _ (by omega)) (h.2 c hc)
/-- what a chunk says rests on its own cells alone -/
theorem pu_CH_keep {T V : Nat → Nat} {m c : Nat} {a a' : Nat → Nat → Int32} (hb : ∀ q, 768 * c ≤ q → q < 768 * c + 768 → pu_bit (a' 1) q = pu_bit (a 1) q) (hm : m ≤ 16) (hk : ∀ k, 2 ≤ k → k ≤ 7 → a' k c = a k c) (h : pu_CH T V m c a) : pu_CH T V m c a' := by
  obtain ⟨h1, h2, h3, h4, h5, h6, h7⟩ := h
  have hlen := pu_st_len' T V m hm
  unfold pu_CH
  rw [hk 2 (by omega) (by omega), hk 3 (by omega) (by omega), hk 4 (by omega) (by omega), hk 5 (by omega) (by omega), hk 6 (by omega) (by omega), hk 7 (by omega) (by omega)]
  exact ⟨h1, pu_at_keep (a 1) (a' 1) _ _ (fun q q1 q2 => hb q q1 (by omega)) h2, h3, h4, h5, h6, h7⟩
theorem pu_wn_ok {V : Nat → Nat} : ∀ {m : Nat}, (∀ i, i < m → V i < 65536) → pu_wok (pu_wn V m) := by
  intro m
  induction m with
  | zero => intro _; trivial
  | succ m ih =>
    intro h
    unfold pu_wn
    split
    · trivial
    · exact pu_nx_ok (ih (fun i hi => h i (by omega))) (Nat.xor_lt_two_pow (n := 16) (h m (by omega)) (h (m - 1) (by omega)))
theorem pu_dd_le {T : Nat → Nat} {k : Nat} (hT : ∀ i, i ≤ k → T i ≤ 60000) : -60000 ≤ pu_dd T k ∧ pu_dd T k ≤ 60000 := by
  unfold pu_dd pu_gb
  have h1 := hT k (by omega)
  have h2 := hT (k - 1) (by omega)
  have h3 := hT (k - 2) (by omega)
  split <;> omega
end
section
set_option maxRecDepth 100000
/-! SeriesCodec.zerosBefore, zerosBehind, writeGapChange, writeChange -/
theorem pu_lt {x y : Int32} {i j : Int} (hx : x.toInt = i) (hy : y.toInt = j) : x < y ↔ i < j := by rw [Int32.lt_iff_toInt_lt, hx, hy]
theorem pu_le {x y : Int32} {i j : Int} (hx : x.toInt = i) (hy : y.toInt = j) : x ≤ y ↔ i ≤ j := by rw [Int32.le_iff_toInt_le, hx, hy]
theorem pu_eq {x y : Int32} {i j : Int} (hx : x.toInt = i) (hy : y.toInt = j) : x = y ↔ i = j := by rw [← Int32.toInt_inj, hx, hy]
theorem pu_nadd {x y : Int32} {i j : Int} (hx : x.toInt = i) (hy : y.toInt = j) (h0 : 0 ≤ i + j) (h1 : i + j < 2147483648) : x + y = nI (i + j).toNat := by
  refine pu_nI_of ?_
  rw [pu_ti_add (by omega) (by omega), hx, hy]
  omega
theorem pu_nneg {x : Int32} {i : Int} (hx : x.toInt = i) (h0 : i ≤ 0) (h1 : -2147483648 < i) : -x = nI i.natAbs := by
  refine pu_nI_of ?_
  rw [pu_ti_neg (by omega) (by omega), hx]
  omega
theorem pu_npos {x : Int32} {i : Int} (hx : x.toInt = i) (h0 : 0 ≤ i) : x = nI i.natAbs := by
  refine pu_nI_of ?_
  rw [hx]
  omega
theorem pu_n0 {n : Nat} (hn : n < 2 ^ 31) : nI n = 0 ↔ n = 0 := nI_eq (b := 0) hn (by decide)
section ZB
variable {K : sc_K} {d : ClassId} {h : Nat → Nat}
theorem zb_loop (hC : sc_C K cX0_zerosBefore RX0 d 4 0) (w : Nat) (f : Nat → Int32) (a : Nat → Nat → Int32) (P : Int32 → Prop) (hret : ∀ (v : Int32) (lv : List (Nat × Value)), P v → sc_W K (xw0 h d f a) 27 lv [.int v]) :
    ∀ (j n : Nat), j ≤ 16 → P (nI (n + pu_lz j w)) → sc_W K (xw0 h d f a) 5 [(0, .ref (h 20)), (1, .int (nI w)), (2, .int (nI n)), (3, .int (nI j - 1))] [] := by
  intro j
  induction j with
  | zero =>
    intro n hj hP
    refine sc_iload_n hC dX0_zerosBefore_5 rfl ?_
    refine sc_if_lt (tgt := 26) hC dX0_zerosBefore_6 (by decide) (fun c1 => ?_) (fun c1 => ?_)
    · refine sc_iload_n hC dX0_zerosBefore_26 rfl ?_
      exact hret _ _ hP
    · exact absurd (by decide) c1
  | succ j ih =>
    intro n hj hP
    rw [nI_pred j]
    refine sc_iload_n hC dX0_zerosBefore_5 rfl ?_
    refine sc_if_lt (tgt := 26) hC dX0_zerosBefore_6 (by decide) (fun c1 => ?_) (fun c1 => ?_)
    · exact absurd c1 (nI_pos (by omega))
    · refine sc_iload_n hC dX0_zerosBefore_9 rfl ?_
      refine sc_iload_n hC dX0_zerosBefore_10 rfl ?_
      refine sc_ishr hC dX0_zerosBefore_11 ?_
      refine sc_iconst (v := 1) hC dX0_zerosBefore_12 (by decide) ?_
      refine sc_iand hC dX0_zerosBefore_13 ?_
      refine sc_top (pu_tb (by omega)) ?_
      cases hb : w.testBit j with
      | true =>
        refine sc_if_ne (tgt := 26) hC dX0_zerosBefore_14 (by decide) (fun c2 => ?_) (fun c2 => ?_)
        · refine sc_iload_n hC dX0_zerosBefore_26 rfl ?_
          refine hret _ _ ?_
          unfold pu_lz at hP
          rw [if_pos hb] at hP
          exact hP
        · exact absurd c2 (by decide)
      | false =>
        refine sc_if_ne (tgt := 26) hC dX0_zerosBefore_14 (by decide) (fun c2 => ?_) (fun c2 => ?_)
        · exact absurd rfl c2
        · refine sc_iinc (v := 1) hC dX0_zerosBefore_17 (by decide) rfl rfl (by decide) ?_
          refine sc_iinc (v := -1) hC dX0_zerosBefore_20 (by decide) rfl rfl (by decide) ?_
          refine sc_goto (tgt := 5) hC dX0_zerosBefore_23 (by decide) ?_
          rw [nI_1, pu_sub1]
          refine ih (n + 1) (by omega) ?_
          unfold pu_lz at hP
          rw [if_neg (by rw [hb]; decide)] at hP
          rw [show n + 1 + pu_lz j w = n + (pu_lz j w + 1) by omega]
          exact hP
theorem zh_loop (hC : sc_C K cX0_zerosBehind RX0 d 4 0) (w : Nat) (f : Nat → Int32) (a : Nat → Nat → Int32) (P : Int32 → Prop) (hret : ∀ (v : Int32) (lv : List (Nat × Value)), P v → sc_W K (xw0 h d f a) 28 lv [.int v]) :
    ∀ (j i n : Nat), i + j = 16 → P (nI (n + pu_tz j i w)) → sc_W K (xw0 h d f a) 4 [(0, .ref (h 20)), (1, .int (nI w)), (2, .int (nI n)), (3, .int (nI i))] [] := by
  intro j
  induction j with
  | zero =>
    intro i n hj hP
    refine sc_iload_n hC dX0_zerosBehind_4 rfl ?_
    refine sc_bipush (v := 16) hC dX0_zerosBehind_5 (by decide) ?_
    refine sc_icmp_ge (tgt := 27) hC dX0_zerosBehind_7 (by decide) (fun c1 => ?_) (fun c1 => ?_)
    · refine sc_iload_n hC dX0_zerosBehind_27 rfl ?_
      exact hret _ _ hP
    · exact absurd (nI_le (a := 16) (b := i) (by omega) (by omega)) c1
  | succ j ih =>
    intro i n hj hP
    refine sc_iload_n hC dX0_zerosBehind_4 rfl ?_
    refine sc_bipush (v := 16) hC dX0_zerosBehind_5 (by decide) ?_
    refine sc_icmp_ge (tgt := 27) hC dX0_zerosBehind_7 (by decide) (fun c1 => ?_) (fun c1 => ?_)
    · exact absurd c1 (nI_ge (a := i) (b := 16) (by omega) (by decide))
    · refine sc_iload_n hC dX0_zerosBehind_10 rfl ?_
      refine sc_iload_n hC dX0_zerosBehind_11 rfl ?_
      refine sc_ishr hC dX0_zerosBehind_12 ?_
      refine sc_iconst (v := 1) hC dX0_zerosBehind_13 (by decide) ?_
      refine sc_iand hC dX0_zerosBehind_14 ?_
      refine sc_top (pu_tb (by omega)) ?_
      cases hb : w.testBit i with
      | true =>
        refine sc_if_ne (tgt := 27) hC dX0_zerosBehind_15 (by decide) (fun c2 => ?_) (fun c2 => ?_)
        · refine sc_iload_n hC dX0_zerosBehind_27 rfl ?_
          refine hret _ _ ?_
          unfold pu_tz at hP
          rw [if_pos hb] at hP
          exact hP
        · exact absurd c2 (by decide)
      | false =>
        refine sc_if_ne (tgt := 27) hC dX0_zerosBehind_15 (by decide) (fun c2 => ?_) (fun c2 => ?_)
        · exact absurd rfl c2
        · refine sc_iinc (v := 1) hC dX0_zerosBehind_18 (by decide) rfl rfl (by decide) ?_
          refine sc_iinc (v := 1) hC dX0_zerosBehind_21 (by decide) rfl rfl (by decide) ?_
          refine sc_goto (tgt := 4) hC dX0_zerosBehind_24 (by decide) ?_
          rw [nI_1, nI_1]
          refine ih (i + 1) (n + 1) (by omega) ?_
          unfold pu_tz at hP
          rw [if_neg (by rw [hb]; decide)] at hP
          rw [show n + 1 + pu_tz j (i + 1) w = n + (pu_tz j (i + 1) w + 1) by omega]
          exact hP
end ZB
theorem c0_zb (w : Nat) (f : Nat → Int32) (a : Nat → Nat → Int32) : sc_I0 yX0_zerosBefore cX0_zerosBefore 4 (some .int) 0 [.int (nI w)] f a (fun r f' a' => r = nI (pu_L w) ∧ f' = f ∧ a' = a) := by
  refine x0_ofI pn0_zerosBefore (fun _ => Nat.le_of_ble_eq_true rfl) (fun K d h hC hret => ?_)
  show sc_W K (xw0 h d f a) 0 [(0, .ref (h 20)), (1, .int (nI w))] []
  refine sc_iconst (v := 0) hC dX0_zerosBefore_0 (by decide) ?_
  refine sc_istore_n hC dX0_zerosBefore_1 rfl (by decide) ?_
  refine sc_bipush (v := 15) hC dX0_zerosBefore_2 (by decide) ?_
  refine sc_istore_n hC dX0_zerosBefore_4 rfl (by decide) ?_
  rw [show (15 : Int32) = nI 16 - 1 from by decide]
  exact zb_loop hC w f a (fun r => r = nI (pu_L w)) (fun v lv hp => hret v f a 27 lv dX0_zerosBefore_27 ⟨hp, rfl, rfl⟩) 16 0 (by omega) (by rw [Nat.zero_add])
theorem c0_zh (w : Nat) (f : Nat → Int32) (a : Nat → Nat → Int32) : sc_I0 yX0_zerosBehind cX0_zerosBehind 4 (some .int) 0 [.int (nI w)] f a (fun r f' a' => r = nI (pu_R w) ∧ f' = f ∧ a' = a) := by
  refine x0_ofI pn0_zerosBehind (fun _ => Nat.le_of_ble_eq_true rfl) (fun K d h hC hret => ?_)
  show sc_W K (xw0 h d f a) 0 [(0, .ref (h 20)), (1, .int (nI w))] []
  refine sc_iconst (v := 0) hC dX0_zerosBehind_0 (by decide) ?_
  refine sc_istore_n hC dX0_zerosBehind_1 rfl (by decide) ?_
  refine sc_iconst (v := 0) hC dX0_zerosBehind_2 (by decide) ?_
  refine sc_istore_n hC dX0_zerosBehind_3 rfl (by decide) ?_
  exact zh_loop hC w f a (fun r => r = nI (pu_R w)) (fun v lv hp => hret v f a 28 lv dX0_zerosBehind_28 ⟨hp, rfl, rfl⟩) 16 0 0 (by omega) (by rw [Nat.zero_add])
theorem pu_pa_2 (a : Nat → Nat → Int32) (c u : Nat) (l : List Bool) : pu_pa a c u l 2 c = nI (u + l.length) := by
  unfold pu_pa
  rw [if_neg (by decide), if_pos rfl, pk_us]
theorem pu_pa_app (a : Nat → Nat → Int32) (c u : Nat) (l1 l2 : List Bool) : pu_pa (pu_pa a c u l1) c (u + l1.length) l2 = pu_pa a c u (l1 ++ l2) := by
  funext k
  unfold pu_pa
  by_cases h1 : k = 1
  · simp only [h1, if_true]
    rw [pu_put_app, Nat.add_assoc]
  · by_cases h2 : k = 2
    · simp only [h2, if_true]
      rw [if_neg (by decide), if_neg (by decide), if_neg (by decide), pu_uu, List.length_append, Nat.add_assoc]
    · simp only [h1, h2, if_false]
theorem c0_wg (c u : Nat) (D : Int32) (z : Int) (f : Nat → Int32) (a : Nat → Nat → Int32) (hc : c < 4) (hu : u + 21 ≤ 768) (hus : a 2 c = nI u) (hD : D.toInt = z) (h1 : -60000 ≤ z) (h2 : z ≤ 60000) :
    sc_V0 yX0_writeGapChange cX0_writeGapChange 3 1 [.int (nI c), .int D] f a (fun f' a' => f' = f ∧ a' = pu_pa a c u (pu_tc z)) := by
  refine x0_ofV pn0_writeGapChange (fun _ => Nat.le_of_ble_eq_true rfl) (fun K d h hC hret => ?_)
  show sc_W K (xw0 h d f a) 0 [(0, .ref (h 20)), (1, .int (nI c)), (2, .int D)] []
  have k80 : ¬ z = 0 → ¬ (-7 ≤ z ∧ z ≤ 8) → ¬ (-63 ≤ z ∧ z ≤ 64) → sc_W K (xw0 h d f a) 80 [(0, .ref (h 20)), (1, .int (nI c)), (2, .int D)] [] := by
    intro n0 n7 n63
    have e : pu_pa a c u (pu_tc z) = pu_pa (pu_pa (pu_pa a c u (pu_bits 3 7)) c (u + (pu_bits 3 7).length) (pu_bits 1 (if z < 0 then 1 else 0))) c (u + (pu_bits 3 7).length + (pu_bits 1 (if z < 0 then 1 else 0)).length) (pu_bits 17 z.natAbs) := by
      rw [Nat.add_assoc, ← List.length_append, pu_pa_app, pu_pa_app]
      unfold pu_tc
      rw [if_neg n0, if_neg n7, if_neg n63]
      by_cases hz : z < 0
      · rw [if_pos hz, decide_eq_true hz]; rfl
      · rw [if_neg hz, decide_eq_false hz]; rfl
    rw [e] at hret
    refine sc_aload_n hC dX0_writeGapChange_80 rfl ?_
    refine sc_iload_n hC dX0_writeGapChange_81 rfl ?_
    refine sc_iconst (v := 3) hC dX0_writeGapChange_82 (by decide) ?_
    refine sc_bipush (v := 7) hC dX0_writeGapChange_83 (by decide) ?_
    refine x0_callV hC (c0_put 3 7 c u f a (by decide) hc (by omega) hus) k0_put rfl (by decide) (by decide) dX0_writeGapChange_85 rfl (Nat.le_of_ble_eq_true rfl) (fun f1 a1 hp => ?_)
    obtain ⟨rfl, rfl⟩ := hp
    by_cases hz : z < 0
    · rw [if_pos hz] at hret
      refine sc_aload_n hC dX0_writeGapChange_88 rfl ?_
      refine sc_iload_n hC dX0_writeGapChange_89 rfl ?_
      refine sc_iconst (v := 1) hC dX0_writeGapChange_90 (by decide) ?_
      refine sc_iload_n hC dX0_writeGapChange_91 rfl ?_
      refine sc_if_ge (tgt := 99) hC dX0_writeGapChange_92 (by decide) (fun c1 => ?_) (fun c1 => ?_)
      · exact absurd ((pu_le (i := 0) (by decide) hD).mp c1) (by omega)
      · refine sc_iconst (v := 1) hC dX0_writeGapChange_95 (by decide) ?_
        refine sc_goto (tgt := 100) hC dX0_writeGapChange_96 (by decide) ?_
        refine x0_callV hC (c0_put 1 1 c (u + (pu_bits 3 7).length) f1 _ (by decide) hc (by simp only [pu_bits_len]; omega) (pu_pa_2 _ _ _ _)) k0_put rfl (by decide) (by decide) dX0_writeGapChange_100 rfl (Nat.le_of_ble_eq_true rfl) (fun f1 a1 hp => ?_)
        obtain ⟨rfl, rfl⟩ := hp
        refine sc_aload_n hC dX0_writeGapChange_103 rfl ?_
        refine sc_iload_n hC dX0_writeGapChange_104 rfl ?_
        refine sc_bipush (v := 17) hC dX0_writeGapChange_105 (by decide) ?_
        refine sc_iload_n hC dX0_writeGapChange_107 rfl ?_
        refine sc_if_ge (tgt := 116) hC dX0_writeGapChange_108 (by decide) (fun c1 => ?_) (fun c1 => ?_)
        · exact absurd ((pu_le (i := 0) (by decide) hD).mp c1) (by omega)
        · refine sc_iload_n hC dX0_writeGapChange_111 rfl ?_
          refine sc_ineg hC dX0_writeGapChange_112 ?_
          refine sc_top (pu_nneg hD (by omega) (by omega)) ?_
          refine sc_goto (tgt := 117) hC dX0_writeGapChange_113 (by decide) ?_
          refine x0_callV hC (c0_put 17 z.natAbs c (u + (pu_bits 3 7).length + (pu_bits 1 1).length) _ _ (by decide) hc (by simp only [pu_bits_len]; omega) (pu_pa_2 _ _ _ _)) k0_put rfl (by decide) (by decide) dX0_writeGapChange_117 rfl (Nat.le_of_ble_eq_true rfl) (fun f1 a1 hp => ?_)
          obtain ⟨rfl, rfl⟩ := hp
          exact hret _ _ _ _ dX0_writeGapChange_120 ⟨rfl, rfl⟩
    · rw [if_neg hz] at hret
      refine sc_aload_n hC dX0_writeGapChange_88 rfl ?_
      refine sc_iload_n hC dX0_writeGapChange_89 rfl ?_
      refine sc_iconst (v := 1) hC dX0_writeGapChange_90 (by decide) ?_
      refine sc_iload_n hC dX0_writeGapChange_91 rfl ?_
      refine sc_if_ge (tgt := 99) hC dX0_writeGapChange_92 (by decide) (fun c1 => ?_) (fun c1 => ?_)
      · refine sc_iconst (v := 0) hC dX0_writeGapChange_99 (by decide) ?_
        refine x0_callV hC (c0_put 1 0 c (u + (pu_bits 3 7).length) f1 _ (by decide) hc (by simp only [pu_bits_len]; omega) (pu_pa_2 _ _ _ _)) k0_put rfl (by decide) (by decide) dX0_writeGapChange_100 rfl (Nat.le_of_ble_eq_true rfl) (fun f1 a1 hp => ?_)
        obtain ⟨rfl, rfl⟩ := hp
        refine sc_aload_n hC dX0_writeGapChange_103 rfl ?_
        refine sc_iload_n hC dX0_writeGapChange_104 rfl ?_
        refine sc_bipush (v := 17) hC dX0_writeGapChange_105 (by decide) ?_
        refine sc_iload_n hC dX0_writeGapChange_107 rfl ?_
        refine sc_if_ge (tgt := 116) hC dX0_writeGapChange_108 (by decide) (fun c1 => ?_) (fun c1 => ?_)
        · refine sc_iload_n hC dX0_writeGapChange_116 rfl ?_
          refine sc_top (pu_npos hD (by omega)) ?_
          refine x0_callV hC (c0_put 17 z.natAbs c (u + (pu_bits 3 7).length + (pu_bits 1 0).length) _ _ (by decide) hc (by simp only [pu_bits_len]; omega) (pu_pa_2 _ _ _ _)) k0_put rfl (by decide) (by decide) dX0_writeGapChange_117 rfl (Nat.le_of_ble_eq_true rfl) (fun f1 a1 hp => ?_)
          obtain ⟨rfl, rfl⟩ := hp
          exact hret _ _ _ _ dX0_writeGapChange_120 ⟨rfl, rfl⟩
        · exact absurd ((pu_le (i := 0) (by decide) hD).mpr (by omega)) c1
      · exact absurd ((pu_le (i := 0) (by decide) hD).mpr (by omega)) c1
  have k46 : ¬ z = 0 → ¬ (-7 ≤ z ∧ z ≤ 8) → sc_W K (xw0 h d f a) 46 [(0, .ref (h 20)), (1, .int (nI c)), (2, .int D)] [] := by
    intro n0 n7
    refine sc_iload_n hC dX0_writeGapChange_46 rfl ?_
    refine sc_bipush (v := -63) hC dX0_writeGapChange_47 (by decide) ?_
    refine sc_icmp_lt (tgt := 80) hC dX0_writeGapChange_49 (by decide) (fun c1 => ?_) (fun c1 => ?_)
    · exact k80 n0 n7 (fun q => absurd ((pu_lt hD (j := -63) (by decide)).mp c1) (by omega))
    · refine sc_iload_n hC dX0_writeGapChange_52 rfl ?_
      refine sc_bipush (v := 64) hC dX0_writeGapChange_53 (by decide) ?_
      refine sc_icmp_gt (tgt := 80) hC dX0_writeGapChange_55 (by decide) (fun c2 => ?_) (fun c2 => ?_)
      · exact k80 n0 n7 (fun q => absurd ((pu_lt (i := 64) (by decide) hD).mp c2) (by omega))
      · have r1 : ¬ z < -63 := fun q => c1 ((pu_lt hD (j := -63) (by decide)).mpr q)
        have r2 : ¬ 64 < z := fun q => c2 ((pu_lt (i := 64) (by decide) hD).mpr q)
        refine sc_aload_n hC dX0_writeGapChange_58 rfl ?_
        refine sc_iload_n hC dX0_writeGapChange_59 rfl ?_
        refine sc_iconst (v := 3) hC dX0_writeGapChange_60 (by decide) ?_
        refine sc_bipush (v := 6) hC dX0_writeGapChange_61 (by decide) ?_
        refine x0_callV hC (c0_put 3 6 c u f a (by decide) hc (by omega) hus) k0_put rfl (by decide) (by decide) dX0_writeGapChange_63 rfl (Nat.le_of_ble_eq_true rfl) (fun f1 a1 hp => ?_)
        obtain ⟨rfl, rfl⟩ := hp
        refine sc_aload_n hC dX0_writeGapChange_66 rfl ?_
        refine sc_iload_n hC dX0_writeGapChange_67 rfl ?_
        refine sc_bipush (v := 7) hC dX0_writeGapChange_68 (by decide) ?_
        refine sc_iload_n hC dX0_writeGapChange_70 rfl ?_
        refine sc_bipush (v := 63) hC dX0_writeGapChange_71 (by decide) ?_
        refine sc_iadd hC dX0_writeGapChange_73 ?_
        refine sc_top (pu_nadd hD (j := 63) (by decide) (by omega) (by omega)) ?_
        refine x0_callV hC (c0_put 7 (z + 63).toNat c (u + (pu_bits 3 6).length) _ _ (by decide) hc (by simp only [pu_bits_len]; omega) (pu_pa_2 _ _ _ _)) k0_put rfl (by decide) (by decide) dX0_writeGapChange_74 rfl (Nat.le_of_ble_eq_true rfl) (fun f1 a1 hp => ?_)
        obtain ⟨rfl, rfl⟩ := hp
        refine sc_goto (tgt := 120) hC dX0_writeGapChange_77 (by decide) ?_
        refine hret _ _ _ _ dX0_writeGapChange_120 ⟨rfl, ?_⟩
        rw [pu_pa_app]
        unfold pu_tc
        rw [if_neg n0, if_neg n7, if_pos (by omega)]
        rfl
  refine sc_iload_n hC dX0_writeGapChange_0 rfl ?_
  refine sc_if_ne (tgt := 14) hC dX0_writeGapChange_1 (by decide) (fun c0 => ?_) (fun c0 => ?_)
  · have n0 : ¬ z = 0 := fun q => c0 ((pu_eq hD (j := 0) (by decide)).mpr q)
    refine sc_iload_n hC dX0_writeGapChange_14 rfl ?_
    refine sc_bipush (v := -7) hC dX0_writeGapChange_15 (by decide) ?_
    refine sc_icmp_lt (tgt := 46) hC dX0_writeGapChange_17 (by decide) (fun c1 => ?_) (fun c1 => ?_)
    · exact k46 n0 (fun q => absurd ((pu_lt hD (j := -7) (by decide)).mp c1) (by omega))
    · refine sc_iload_n hC dX0_writeGapChange_20 rfl ?_
      refine sc_bipush (v := 8) hC dX0_writeGapChange_21 (by decide) ?_
      refine sc_icmp_gt (tgt := 46) hC dX0_writeGapChange_23 (by decide) (fun c2 => ?_) (fun c2 => ?_)
      · exact k46 n0 (fun q => absurd ((pu_lt (i := 8) (by decide) hD).mp c2) (by omega))
      · have r1 : ¬ z < -7 := fun q => c1 ((pu_lt hD (j := -7) (by decide)).mpr q)
        have r2 : ¬ 8 < z := fun q => c2 ((pu_lt (i := 8) (by decide) hD).mpr q)
        refine sc_aload_n hC dX0_writeGapChange_26 rfl ?_
        refine sc_iload_n hC dX0_writeGapChange_27 rfl ?_
        refine sc_iconst (v := 2) hC dX0_writeGapChange_28 (by decide) ?_
        refine sc_iconst (v := 2) hC dX0_writeGapChange_29 (by decide) ?_
        refine x0_callV hC (c0_put 2 2 c u f a (by decide) hc (by omega) hus) k0_put rfl (by decide) (by decide) dX0_writeGapChange_30 rfl (Nat.le_of_ble_eq_true rfl) (fun f1 a1 hp => ?_)
        obtain ⟨rfl, rfl⟩ := hp
        refine sc_aload_n hC dX0_writeGapChange_33 rfl ?_
        refine sc_iload_n hC dX0_writeGapChange_34 rfl ?_
        refine sc_iconst (v := 4) hC dX0_writeGapChange_35 (by decide) ?_
        refine sc_iload_n hC dX0_writeGapChange_36 rfl ?_
        refine sc_bipush (v := 7) hC dX0_writeGapChange_37 (by decide) ?_
        refine sc_iadd hC dX0_writeGapChange_39 ?_
        refine sc_top (pu_nadd hD (j := 7) (by decide) (by omega) (by omega)) ?_
        refine x0_callV hC (c0_put 4 (z + 7).toNat c (u + (pu_bits 2 2).length) _ _ (by decide) hc (by simp only [pu_bits_len]; omega) (pu_pa_2 _ _ _ _)) k0_put rfl (by decide) (by decide) dX0_writeGapChange_40 rfl (Nat.le_of_ble_eq_true rfl) (fun f1 a1 hp => ?_)
        obtain ⟨rfl, rfl⟩ := hp
        refine sc_goto (tgt := 120) hC dX0_writeGapChange_43 (by decide) ?_
        refine hret _ _ _ _ dX0_writeGapChange_120 ⟨rfl, ?_⟩
        rw [pu_pa_app]
        unfold pu_tc
        rw [if_neg n0, if_pos (by omega)]
        rfl
  · have z0 : z = 0 := (pu_eq hD (j := 0) (by decide)).mp c0
    refine sc_aload_n hC dX0_writeGapChange_4 rfl ?_
    refine sc_iload_n hC dX0_writeGapChange_5 rfl ?_
    refine sc_iconst (v := 1) hC dX0_writeGapChange_6 (by decide) ?_
    refine sc_iconst (v := 0) hC dX0_writeGapChange_7 (by decide) ?_
    refine x0_callV hC (c0_put 1 0 c u f a (by decide) hc (by omega) hus) k0_put rfl (by decide) (by decide) dX0_writeGapChange_8 rfl (Nat.le_of_ble_eq_true rfl) (fun f1 a1 hp => ?_)
    obtain ⟨rfl, rfl⟩ := hp
    refine sc_goto (tgt := 120) hC dX0_writeGapChange_11 (by decide) ?_
    refine hret _ _ _ _ dX0_writeGapChange_120 ⟨rfl, ?_⟩
    unfold pu_tc
    rw [if_pos z0]
    rfl
theorem c0_wc (c u x : Nat) (w : Option (Nat × Nat)) (f : Nat → Int32) (a : Nat → Nat → Int32) (hc : c < 4) (hu : u + 26 ≤ 768) (hus : a 2 c = nI u) (hx : x < 65536) (hW : pu_WIN w f) (hok : pu_wok w) :
    sc_V0 yX0_writeChange cX0_writeChange 5 1 [.int (nI c), .int (nI x)] f a (fun f' a' => a' = pu_pa a c u (pu_vc w x) ∧ pu_WIN (pu_nx w x) f' ∧ ∀ k, k ≠ 10 → k ≠ 11 → f' k = f k) := by
  refine x0_ofV pn0_writeChange (fun _ => Nat.le_of_ble_eq_true rfl) (fun K d h hC hret => ?_)
  show sc_W K (xw0 h d f a) 0 [(0, .ref (h 20)), (1, .int (nI c)), (2, .int (nI x))] []
  have hL : pu_L x ≤ 16 := pu_lz_le 16 x
  have hR : pu_R x ≤ 16 := pu_tz_le 16 0 x
  have k82 : ¬ x = 0 → pu_fit w x = false → sc_W K (xw0 h d f a) 82 [(0, .ref (h 20)), (1, .int (nI c)), (2, .int (nI x)), (3, .int (nI (pu_L x))), (4, .int (nI (pu_R x)))] [] := by
    intro n0 hf
    have hLR := pu_LR n0 hx
    refine sc_aload_n hC dX0_writeChange_82 rfl ?_
    refine sc_iload_n hC dX0_writeChange_83 rfl ?_
    refine sc_iconst (v := 2) hC dX0_writeChange_84 (by decide) ?_
    refine sc_iconst (v := 3) hC dX0_writeChange_85 (by decide) ?_
    refine x0_callV hC (c0_put 2 3 c u f a (by decide) hc (by omega) hus) k0_put rfl (by decide) (by decide) dX0_writeChange_86 rfl (Nat.le_of_ble_eq_true rfl) (fun f1 a1 hp => ?_)
    obtain ⟨rfl, rfl⟩ := hp
    refine sc_aload_n hC dX0_writeChange_89 rfl ?_
    refine sc_iload_n hC dX0_writeChange_90 rfl ?_
    refine sc_iconst (v := 4) hC dX0_writeChange_91 (by decide) ?_
    refine sc_iload_n hC dX0_writeChange_92 rfl ?_
    refine x0_callV hC (c0_put 4 (pu_L x) c (u + (pu_bits 2 3).length) _ _ (by decide) hc (by simp only [pu_bits_len]; omega) (pu_pa_2 _ _ _ _)) k0_put rfl (by decide) (by decide) dX0_writeChange_93 rfl (Nat.le_of_ble_eq_true rfl) (fun f1 a1 hp => ?_)
    obtain ⟨rfl, rfl⟩ := hp
    refine sc_aload_n hC dX0_writeChange_96 rfl ?_
    refine sc_iload_n hC dX0_writeChange_97 rfl ?_
    refine sc_iconst (v := 4) hC dX0_writeChange_98 (by decide) ?_
    refine sc_iload hC dX0_writeChange_99 rfl ?_
    refine x0_callV hC (c0_put 4 (pu_R x) c (u + (pu_bits 2 3).length + (pu_bits 4 (pu_L x)).length) _ _ (by decide) hc (by simp only [pu_bits_len]; omega) (pu_pa_2 _ _ _ _)) k0_put rfl (by decide) (by decide) dX0_writeChange_101 rfl (Nat.le_of_ble_eq_true rfl) (fun f1 a1 hp => ?_)
    obtain ⟨rfl, rfl⟩ := hp
    refine sc_aload_n hC dX0_writeChange_104 rfl ?_
    refine sc_iload_n hC dX0_writeChange_105 rfl ?_
    refine sc_bipush (v := 16) hC dX0_writeChange_106 (by decide) ?_
    refine sc_iload_n hC dX0_writeChange_108 rfl ?_
    refine sc_isub hC dX0_writeChange_109 ?_
    refine sc_top ((pk_sub (a := 16) (by omega) : (16 : Int32) - nI (pu_L x) = nI (16 - pu_L x))) ?_
    refine sc_iload hC dX0_writeChange_110 rfl ?_
    refine sc_isub hC dX0_writeChange_112 ?_
    refine sc_top (pk_sub (by omega)) ?_
    refine sc_iload_n hC dX0_writeChange_113 rfl ?_
    refine sc_iload hC dX0_writeChange_114 rfl ?_
    refine sc_ishr hC dX0_writeChange_116 ?_
    refine sc_top (pk_shrN (by omega) _ (pu_R x) (s_l _ (by omega))) ?_
    refine x0_callV hC (c0_put (16 - pu_L x - pu_R x) (x / 2 ^ pu_R x) c (u + (pu_bits 2 3).length + (pu_bits 4 (pu_L x)).length + (pu_bits 4 (pu_R x)).length) _ _ (by omega) hc (by simp only [pu_bits_len]; omega) (pu_pa_2 _ _ _ _)) k0_put rfl (by decide) (by decide) dX0_writeChange_117 rfl (Nat.le_of_ble_eq_true rfl) (fun f1 a1 hp => ?_)
    obtain ⟨rfl, rfl⟩ := hp
    refine sc_aload_n hC dX0_writeChange_120 rfl ?_
    refine sc_iload_n hC dX0_writeChange_121 rfl ?_
    refine x0_p10 hC dX0_writeChange_122 ?_
    refine sc_aload_n hC dX0_writeChange_125 rfl ?_
    refine sc_iload hC dX0_writeChange_126 rfl ?_
    refine x0_p11 hC dX0_writeChange_128 ?_
    refine hret _ _ _ _ dX0_writeChange_131 ⟨?_, ?_, ?_⟩
    · rw [pu_pa_app, pu_pa_app, pu_pa_app]
      unfold pu_vc
      rw [if_neg n0, if_neg (by rw [hf]; decide)]
      show _ = pu_pa a c u ([true, true] ++ pu_bits 4 (pu_L x) ++ pu_bits 4 (pu_R x) ++ pu_bits (16 - pu_L x - pu_R x) (x / 2 ^ pu_R x))
      simp only [List.append_assoc]
      rfl
    · unfold pu_nx
      rw [if_neg n0, if_neg (by rw [hf]; decide)]
      exact ⟨rfl, rfl⟩
    · intro k h1 h2
      rw [pk_un h2, pk_un h1]
  refine sc_iload_n hC dX0_writeChange_0 rfl ?_
  refine sc_if_ne (tgt := 12) hC dX0_writeChange_1 (by decide) (fun c0 => ?_) (fun c0 => ?_)
  · have n0 : ¬ x = 0 := fun q => c0 ((pu_n0 (by omega)).mpr q)
    refine sc_aload_n hC dX0_writeChange_12 rfl ?_
    refine sc_iload_n hC dX0_writeChange_13 rfl ?_
    refine x0_callI hC (c0_zb x f a) k0_zerosBefore rfl (by decide) (by decide) dX0_writeChange_14 rfl (Nat.le_of_ble_eq_true rfl) (fun r f1 a1 hp => ?_)
    obtain ⟨rfl, rfl, rfl⟩ := hp
    refine sc_istore_n hC dX0_writeChange_17 rfl (by decide) ?_
    refine sc_aload_n hC dX0_writeChange_18 rfl ?_
    refine sc_iload_n hC dX0_writeChange_19 rfl ?_
    refine x0_callI hC (c0_zh x _ _) k0_zerosBehind rfl (by decide) (by decide) dX0_writeChange_20 rfl (Nat.le_of_ble_eq_true rfl) (fun r f1 a1 hp => ?_)
    obtain ⟨rfl, rfl, rfl⟩ := hp
    refine sc_istore hC dX0_writeChange_23 rfl (by decide) ?_
    refine sc_aload_n hC dX0_writeChange_25 rfl ?_
    refine x0_g10 hC dX0_writeChange_26 ?_
    match w, hW, hok, k82, hret with
    | none, hW, hok, k82, hret =>
      refine sc_top (hW) ?_
      refine sc_if_lt (tgt := 82) hC dX0_writeChange_29 (by decide) (fun c1 => ?_) (fun c1 => ?_)
      · exact k82 n0 rfl
      · exact absurd (by decide) c1
    | some (l, r), hW, hok, k82, hret =>
      have hok : l + r ≤ 15 := hok
      refine sc_top (hW.1) ?_
      refine sc_if_lt (tgt := 82) hC dX0_writeChange_29 (by decide) (fun c1 => ?_) (fun c1 => ?_)
      · exact absurd c1 (nI_pos (by omega))
      · refine sc_iload_n hC dX0_writeChange_32 rfl ?_
        refine sc_aload_n hC dX0_writeChange_33 rfl ?_
        refine x0_g10 hC dX0_writeChange_34 ?_
        refine sc_top (hW.1) ?_
        refine sc_icmp_lt (tgt := 82) hC dX0_writeChange_37 (by decide) (fun c2 => ?_) (fun c2 => ?_)
        · refine k82 n0 (decide_eq_false (fun q => ?_))
          exact absurd ((nI_ltI (by omega) (by omega)).mp c2) (by omega)
        · refine sc_iload hC dX0_writeChange_40 rfl ?_
          refine sc_aload_n hC dX0_writeChange_42 rfl ?_
          refine x0_g11 hC dX0_writeChange_43 ?_
          refine sc_top (hW.2) ?_
          refine sc_icmp_lt (tgt := 82) hC dX0_writeChange_46 (by decide) (fun c3 => ?_) (fun c3 => ?_)
          · refine k82 n0 (decide_eq_false (fun q => ?_))
            exact absurd ((nI_ltI (by omega) (by omega)).mp c3) (by omega)
          · have hl : l ≤ pu_L x := Nat.not_lt.mp (fun q => c2 ((nI_ltI (by omega) (by omega)).mpr q))
            have hr : r ≤ pu_R x := Nat.not_lt.mp (fun q => c3 ((nI_ltI (by omega) (by omega)).mpr q))
            have hf : pu_fit (some (l, r)) x = true := decide_eq_true ⟨hl, hr⟩
            refine sc_aload_n hC dX0_writeChange_49 rfl ?_
            refine sc_iload_n hC dX0_writeChange_50 rfl ?_
            refine sc_iconst (v := 2) hC dX0_writeChange_51 (by decide) ?_
            refine sc_iconst (v := 2) hC dX0_writeChange_52 (by decide) ?_
            refine x0_callV hC (c0_put 2 2 c u _ _ (by decide) hc (by omega) hus) k0_put rfl (by decide) (by decide) dX0_writeChange_53 rfl (Nat.le_of_ble_eq_true rfl) (fun f1 a1 hp => ?_)
            obtain ⟨rfl, rfl⟩ := hp
            refine sc_aload_n hC dX0_writeChange_56 rfl ?_
            refine sc_iload_n hC dX0_writeChange_57 rfl ?_
            refine sc_bipush (v := 16) hC dX0_writeChange_58 (by decide) ?_
            refine sc_aload_n hC dX0_writeChange_60 rfl ?_
            refine x0_g10 hC dX0_writeChange_61 ?_
            refine sc_top (hW.1) ?_
            refine sc_isub hC dX0_writeChange_64 ?_
            refine sc_top ((pk_sub (a := 16) (by omega) : (16 : Int32) - nI l = nI (16 - l))) ?_
            refine sc_aload_n hC dX0_writeChange_65 rfl ?_
            refine x0_g11 hC dX0_writeChange_66 ?_
            refine sc_top (hW.2) ?_
            refine sc_isub hC dX0_writeChange_69 ?_
            refine sc_top (pk_sub (by omega)) ?_
            refine sc_iload_n hC dX0_writeChange_70 rfl ?_
            refine sc_aload_n hC dX0_writeChange_71 rfl ?_
            refine x0_g11 hC dX0_writeChange_72 ?_
            refine sc_top (hW.2) ?_
            refine sc_ishr hC dX0_writeChange_75 ?_
            refine sc_top (pk_shrN (by omega) _ r (s_l _ (by omega))) ?_
            refine x0_callV hC (c0_put (16 - l - r) (x / 2 ^ r) c (u + (pu_bits 2 2).length) _ _ (by omega) hc (by simp only [pu_bits_len]; omega) (pu_pa_2 _ _ _ _)) k0_put rfl (by decide) (by decide) dX0_writeChange_76 rfl (Nat.le_of_ble_eq_true rfl) (fun f1 a1 hp => ?_)
            obtain ⟨rfl, rfl⟩ := hp
            refine sc_goto (tgt := 131) hC dX0_writeChange_79 (by decide) ?_
            refine hret _ _ _ _ dX0_writeChange_131 ⟨?_, ?_, fun _ _ _ => rfl⟩
            · rw [pu_pa_app]
              unfold pu_vc
              rw [if_neg n0, if_pos hf]
              rfl
            · unfold pu_nx
              rw [if_neg n0, if_pos hf]
              exact hW
  · have z0 : x = 0 := (pu_n0 (by omega)).mp c0
    refine sc_aload_n hC dX0_writeChange_4 rfl ?_
    refine sc_iload_n hC dX0_writeChange_5 rfl ?_
    refine sc_iconst (v := 1) hC dX0_writeChange_6 (by decide) ?_
    refine sc_iconst (v := 0) hC dX0_writeChange_7 (by decide) ?_
    refine x0_callV hC (c0_put 1 0 c u f a (by decide) hc (by omega) hus) k0_put rfl (by decide) (by decide) dX0_writeChange_8 rfl (Nat.le_of_ble_eq_true rfl) (fun f1 a1 hp => ?_)
    obtain ⟨rfl, rfl⟩ := hp
    refine hret _ _ _ _ dX0_writeChange_11 ⟨?_, ?_, fun _ _ _ => rfl⟩
    · unfold pu_vc
      rw [if_pos z0]
      rfl
    · unfold pu_nx
      rw [if_pos z0]
      exact hW
end
section
set_option maxRecDepth 100000
/-! SeriesCodec.timeNow, enter, write -/
theorem c0_tn (n tl : Nat) (f : Nat → Int32) (a : Nat → Nat → Int32) (hn : n ≤ 64) (hf : f 0 = nI n) (h0 : n = 0 → tl = 0) (h1 : 0 < n → a 4 ((n - 1) / 16) = nI tl) :
    sc_I0 yX0_timeNow cX0_timeNow 1 (some .int) 0 [] f a (fun r f' a' => r = nI tl ∧ f' = f ∧ a' = a) := by
  refine x0_ofI pn0_timeNow (fun _ => Nat.le_of_ble_eq_true rfl) (fun K d h hC hret => ?_)
  show sc_W K (xw0 h d f a) 0 [(0, .ref (h 20))] []
  refine sc_aload_n hC dX0_timeNow_0 rfl ?_
  refine x0_g0 hC dX0_timeNow_1 ?_
  refine sc_top (hf) ?_
  refine sc_if_ne (tgt := 11) hC dX0_timeNow_4 (by decide) (fun c1 => ?_) (fun c1 => ?_)
  · have n0 : ¬ n = 0 := fun q => c1 ((pu_n0 (by omega)).mpr q)
    refine sc_aload_n hC dX0_timeNow_11 rfl ?_
    refine x0_g4 hC dX0_timeNow_12 ?_
    refine sc_aload_n hC dX0_timeNow_15 rfl ?_
    refine x0_g0 hC dX0_timeNow_16 ?_
    refine sc_top (hf) ?_
    refine sc_iconst (v := 1) hC dX0_timeNow_19 (by decide) ?_
    refine sc_isub hC dX0_timeNow_20 ?_
    refine sc_top ((pk_sub (b := 1) (by omega) : nI n - 1 = nI (n - 1))) ?_
    refine sc_iconst (v := 4) hC dX0_timeNow_21 (by decide) ?_
    refine sc_ishr hC dX0_timeNow_22 ?_
    refine sc_top ((pk_shrN (by omega) _ 4 (by decide) : nI (n - 1) >>> ((4 : Int32) &&& 31) = nI ((n - 1) / 16))) ?_
    refine x0_ald4 hC ((n - 1) / 16) (rfl) (by omega) dX0_timeNow_23 ?_
    exact hret _ _ _ _ _ dX0_timeNow_24 ⟨h1 (by omega), rfl, rfl⟩
  · have n0 : n = 0 := (pu_n0 (by omega)).mp c1
    refine sc_iconst (v := 0) hC dX0_timeNow_7 (by decide) ?_
    refine sc_goto (tgt := 24) hC dX0_timeNow_8 (by decide) ?_
    exact hret _ _ _ _ _ dX0_timeNow_24 ⟨by rw [h0 n0]; rfl, rfl, rfl⟩
theorem c0_en (c T V s lo hi : Nat) (f : Nat → Int32) (a : Nat → Nat → Int32) (hc : c < 4) (hV : V < 2 ^ 31) (hlo : lo < 2 ^ 31) (hhi : hi < 2 ^ 31) (h5 : a 5 c = nI s) (h6 : a 6 c = nI lo) (h7 : a 7 c = nI hi) :
    sc_V0 yX0_enter cX0_enter 4 0 [.int (nI c), .int (nI T), .int (nI V)] f a (fun f' a' => f' = f ∧ a' = sc_ua (sc_ua (sc_ua (sc_ua a 4 c (nI T)) 5 c (nI (s + V))) 6 c (nI (if V < lo then V else lo))) 7 c (nI (if hi < V then V else hi))) := by
  refine x0_ofV pn0_enter (fun _ => Nat.le_of_ble_eq_true rfl) (fun K d h hC hret => ?_)
  show sc_W K (xw0 h d f a) 0 [(0, .ref (h 20)), (1, .int (nI c)), (2, .int (nI T)), (3, .int (nI V))] []
  have k72 : sc_W K (xw0 h d f (sc_ua (sc_ua (sc_ua a 4 c (nI T)) 5 c (nI (s + V))) 6 c (nI (if V < lo then V else lo)))) 72 [(0, .ref (h 20)), (1, .int (nI c)), (2, .int (nI T)), (3, .int (nI V))] [.int (nI (if hi < V then V else hi)), .int (nI c), .ref (h 7)] := by
    refine x0_ast7 hC (c) (rfl) (hc) dX0_enter_72 ?_
    exact hret _ _ _ _ dX0_enter_73 ⟨rfl, rfl⟩
  have e7 : (sc_ua (sc_ua (sc_ua a 4 c (nI T)) 5 c (nI (s + V))) 6 c (nI (if V < lo then V else lo))) 7 c = nI hi := by
    rw [sc_ua_n _ _ _ (by decide), sc_ua_n _ _ _ (by decide), sc_ua_n _ _ _ (by decide)]
    exact h7
  have k46 : sc_W K (xw0 h d f (sc_ua (sc_ua a 4 c (nI T)) 5 c (nI (s + V)))) 46 [(0, .ref (h 20)), (1, .int (nI c)), (2, .int (nI T)), (3, .int (nI V))] [.int (nI (if V < lo then V else lo)), .int (nI c), .ref (h 6)] := by
    refine x0_ast6 hC (c) (rfl) (hc) dX0_enter_46 ?_
    refine sc_aload_n hC dX0_enter_47 rfl ?_
    refine x0_g7 hC dX0_enter_48 ?_
    refine sc_iload_n hC dX0_enter_51 rfl ?_
    refine sc_iload_n hC dX0_enter_52 rfl ?_
    refine sc_aload_n hC dX0_enter_53 rfl ?_
    refine x0_g7 hC dX0_enter_54 ?_
    refine sc_iload_n hC dX0_enter_57 rfl ?_
    refine x0_ald7 hC (c) (rfl) (hc) dX0_enter_58 ?_
    refine sc_top (e7) ?_
    refine sc_icmp_le (tgt := 66) hC dX0_enter_59 (by decide) (fun c1 => ?_) (fun c1 => ?_)
    · have hle := (nI_leI hV hhi).mp c1
      refine sc_aload_n hC dX0_enter_66 rfl ?_
      refine x0_g7 hC dX0_enter_67 ?_
      refine sc_iload_n hC dX0_enter_70 rfl ?_
      refine x0_ald7 hC (c) (rfl) (hc) dX0_enter_71 ?_
      refine sc_top (e7) ?_
      rw [if_neg (show ¬ hi < V by omega)] at k72
      exact k72
    · have hle : ¬ V ≤ hi := fun q => c1 ((nI_leI hV hhi).mpr q)
      refine sc_iload_n hC dX0_enter_62 rfl ?_
      refine sc_goto (tgt := 72) hC dX0_enter_63 (by decide) ?_
      rw [if_pos (show hi < V by omega)] at k72
      exact k72
  have e6 : (sc_ua (sc_ua a 4 c (nI T)) 5 c (nI (s + V))) 6 c = nI lo := by
    rw [sc_ua_n _ _ _ (by decide), sc_ua_n _ _ _ (by decide)]
    exact h6
  refine sc_aload_n hC dX0_enter_0 rfl ?_
  refine x0_g4 hC dX0_enter_1 ?_
  refine sc_iload_n hC dX0_enter_4 rfl ?_
  refine sc_iload_n hC dX0_enter_5 rfl ?_
  refine x0_ast4 hC (c) (rfl) (hc) dX0_enter_6 ?_
  refine sc_aload_n hC dX0_enter_7 rfl ?_
  refine x0_g5 hC dX0_enter_8 ?_
  refine sc_iload_n hC dX0_enter_11 rfl ?_
  refine sc_aload_n hC dX0_enter_12 rfl ?_
  refine x0_g5 hC dX0_enter_13 ?_
  refine sc_iload_n hC dX0_enter_16 rfl ?_
  refine x0_ald5 hC (c) (rfl) (hc) dX0_enter_17 ?_
  refine sc_top ((show sc_ua a 4 c (nI T) 5 c = nI s by rw [sc_ua_n _ _ _ (by decide)]; exact h5)) ?_
  refine sc_iload_n hC dX0_enter_18 rfl ?_
  refine sc_iadd hC dX0_enter_19 ?_
  refine sc_top (nI_add s V) ?_
  refine x0_ast5 hC (c) (rfl) (hc) dX0_enter_20 ?_
  refine sc_aload_n hC dX0_enter_21 rfl ?_
  refine x0_g6 hC dX0_enter_22 ?_
  refine sc_iload_n hC dX0_enter_25 rfl ?_
  refine sc_iload_n hC dX0_enter_26 rfl ?_
  refine sc_aload_n hC dX0_enter_27 rfl ?_
  refine x0_g6 hC dX0_enter_28 ?_
  refine sc_iload_n hC dX0_enter_31 rfl ?_
  refine x0_ald6 hC (c) (rfl) (hc) dX0_enter_32 ?_
  refine sc_top (e6) ?_
  refine sc_icmp_ge (tgt := 40) hC dX0_enter_33 (by decide) (fun c1 => ?_) (fun c1 => ?_)
  · have hle := (nI_leI hlo hV).mp c1
    refine sc_aload_n hC dX0_enter_40 rfl ?_
    refine x0_g6 hC dX0_enter_41 ?_
    refine sc_iload_n hC dX0_enter_44 rfl ?_
    refine x0_ald6 hC (c) (rfl) (hc) dX0_enter_45 ?_
    refine sc_top (e6) ?_
    rw [if_neg (by omega)] at k46
    exact k46
  · have hle : ¬ lo ≤ V := fun q => c1 ((nI_leI hlo hV).mpr q)
    refine sc_iload_n hC dX0_enter_36 rfl ?_
    refine sc_goto (tgt := 46) hC dX0_enter_37 (by decide) ?_
    rw [if_pos (by omega)] at k46
    exact k46
theorem pu_st_succ (T V : Nat → Nat) (m : Nat) : pu_st T V (m + 1) = pu_st T V m ++ pu_pc T V m := rfl
def pu_last (n : Nat) (t : Nat → Nat) : Nat := if n = 0 then 0 else t (n - 1)
theorem pu_CI_last {n : Nat} {t v : Nat → Nat} {f : Nat → Int32} {a : Nat → Nat → Int32} (h : pu_CI n t v f a) (hn : 0 < n) : a 4 ((n - 1) / 16) = nI (pu_last n t) := by
  obtain ⟨-, -, -, h4, -⟩ := h.2 ((n - 1) / 16) (by omega)
  have e : 16 * ((n - 1) / 16) + (pu_m n ((n - 1) / 16) - 1) = n - 1 := by unfold pu_m; split <;> omega
  rw [h4]
  unfold pu_last pu_sh
  rw [if_neg (by omega), e]
theorem c0_tnI {n : Nat} {t v : Nat → Nat} {f : Nat → Int32} {a : Nat → Nat → Int32} (h : pu_CI n t v f a) (hn : n ≤ 64) : sc_I0 yX0_timeNow cX0_timeNow 1 (some .int) 0 [] f a (fun r f' a' => r = nI (pu_last n t) ∧ f' = f ∧ a' = a) :=
  c0_tn n (pu_last n t) f a hn h.1 (fun q => by unfold pu_last; rw [if_pos q]) (fun q => pu_CI_last h q)
theorem pu_WIN_congr {w : Option (Nat × Nat)} {f f' : Nat → Int32} (h0 : f' 10 = f 10) (h1 : f' 11 = f 11) (h : pu_WIN w f) : pu_WIN w f' := by
  unfold pu_WIN at *
  split at h
  · rw [h0]; exact h
  · rw [h0, h1]; exact h
theorem pu_min_lt {V : Nat → Nat} : ∀ {m : Nat}, pu_min V m < 2 ^ 31 := by
  intro m
  induction m with
  | zero => show 65535 < 2 ^ 31; decide
  | succ m ih => unfold pu_min; split <;> omega
theorem pu_max_lt {V : Nat → Nat} : ∀ {m : Nat}, (∀ i, i < m → V i ≤ 65535) → pu_max V m < 2 ^ 31 := by
  intro m
  induction m with
  | zero => intro _; show 0 < 2 ^ 31; decide
  | succ m ih =>
    intro h
    have h1 := ih (fun i hi => h i (by omega))
    have h2 := h m (by omega)
    unfold pu_max
    split <;> omega
theorem c0_wr {n g : Nat} {t v : Nat → Nat} {f : Nat → Int32} {a : Nat → Nat → Int32} (hn : n < 64) (hP : pu_PI (n + 1) t v) (hI : pu_CI n t v f a) (hS : pu_WS n t v f) (hg : t n = pu_last n t + g) :
    sc_V0 yX0_write cX0_write 5 2 [.int (nI g), .int (nI (v n))] f a (fun f' a' => pu_CI (n + 1) t v f' a' ∧ pu_WS (n + 1) t v f' ∧ (∀ k, k ≠ 0 → k ≠ 8 → k ≠ 9 → k ≠ 10 → k ≠ 11 → f' k = f k) ∧ a' 14 = a 14 ∧ a' 15 = a 15) := by
  obtain ⟨hP1, hP2, hP3, hP4⟩ := hP
  have hcm : 16 * (n / 16) + n % 16 = n := by omega
  have hc4 : n / 16 < 4 := by omega
  have hTm : pu_sh t (n / 16) (n % 16) = t n := by unfold pu_sh; rw [hcm]
  have hVm : pu_sh v (n / 16) (n % 16) = v n := by unfold pu_sh; rw [hcm]
  have hVi : ∀ i, i ≤ n % 16 → pu_sh v (n / 16) i ≤ 65535 := fun i hi => hP3 _ (by omega)
  have hTi : ∀ i, i ≤ n % 16 → pu_sh t (n / 16) i ≤ 60000 := fun i hi => hP2 _ (by omega)
  have htn := hP2 n (by omega)
  have hvn := hP3 n (by omega)
  refine x0_ofV pn0_write (fun _ => Nat.le_of_ble_eq_true rfl) (fun K d h hC hret => ?_)
  show sc_W K (xw0 h d f a) 0 [(0, .ref (h 20)), (1, .int (nI g)), (2, .int (nI (v n)))] []
  have k126 : ∀ (f1 : Nat → Int32) (a1 : Nat → Nat → Int32), f1 0 = nI n → f1 8 = nI (pu_gb (pu_sh t (n / 16)) (n % 16 + 1)) → pu_WIN (pu_wn (pu_sh v (n / 16)) (n % 16 + 1)) f1 → (∀ k, k ≠ 0 → k ≠ 8 → k ≠ 9 → k ≠ 10 → k ≠ 11 → f1 k = f k) →
      a1 2 (n / 16) = nI (pu_st (pu_sh t (n / 16)) (pu_sh v (n / 16)) (n % 16 + 1)).length → pu_at (a1 1) (768 * (n / 16)) (pu_st (pu_sh t (n / 16)) (pu_sh v (n / 16)) (n % 16 + 1)) → a1 3 (n / 16) = nI (pu_sh t (n / 16) 0) → a1 5 (n / 16) = nI (pu_sum (pu_sh v (n / 16)) (n % 16)) → a1 6 (n / 16) = nI (pu_min (pu_sh v (n / 16)) (n % 16)) → a1 7 (n / 16) = nI (pu_max (pu_sh v (n / 16)) (n % 16)) →
      (∀ q, q < 768 * (n / 16) → pu_bit (a1 1) q = pu_bit (a 1) q) → (∀ k c, 2 ≤ k → k ≤ 7 → c ≠ n / 16 → a1 k c = a k c) → a1 14 = a 14 → a1 15 = a 15 →
      sc_W K (xw0 h d f1 a1) 126 [(0, .ref (h 20)), (1, .int (nI g)), (2, .int (nI (v n))), (3, .int (nI (t n))), (4, .int (nI (n / 16)))] [] := by
    intro f1 a1 e0 e8 eW eF b2 b1 b3 b5 b6 b7 bo bk b14 b15
    refine sc_aload_n hC dX0_write_126 rfl ?_
    refine sc_iload_n hC dX0_write_127 rfl ?_
    refine x0_p9 hC dX0_write_128 ?_
    refine sc_aload_n hC dX0_write_131 rfl ?_
    refine sc_iload hC dX0_write_132 rfl ?_
    refine sc_iload_n hC dX0_write_134 rfl ?_
    refine sc_iload_n hC dX0_write_135 rfl ?_
    refine x0_callV hC (c0_en (n / 16) (t n) (v n) _ _ _ _ a1 hc4 (by omega) pu_min_lt (pu_max_lt (fun i hi => hVi i (by omega))) b5 b6 b7) k0_enter rfl (by decide) (by decide) dX0_write_136 rfl (Nat.le_of_ble_eq_true rfl) (fun f2 a2 hp => ?_)
    obtain ⟨rfl, rfl⟩ := hp
    refine sc_aload_n hC dX0_write_139 rfl ?_
    refine sc_dup hC dX0_write_140 rfl ?_
    refine x0_g0 hC dX0_write_141 ?_
    refine sc_top (e0) ?_
    refine sc_iconst (v := 1) hC dX0_write_144 (by decide) ?_
    refine sc_iadd hC dX0_write_145 ?_
    refine sc_top (nI_1 n) ?_
    refine x0_p0 hC dX0_write_146 ?_
    refine hret _ _ _ _ dX0_write_149 ⟨⟨rfl, fun c hc => ?_⟩, fun hm => ?_, fun k k0 k8 k9 k10 k11 => ?_, b14, b15⟩
    · by_cases hcc : c = n / 16
      · subst hcc
        have em : pu_m (n + 1) (n / 16) = n % 16 + 1 := by unfold pu_m; split <;> omega
        rw [em]
        refine ⟨b2, b1, b3, ?_, ?_, ?_, ?_⟩
        · show upd _ _ _ _ = _
          rw [pk_us, Nat.add_sub_cancel, hTm]
        · show upd _ _ _ _ = _
          rw [pk_us]
          show _ = nI (pu_sum _ _ + pu_sh v _ _)
          rw [hVm]
        · show upd _ _ _ _ = _
          rw [pk_us]
          show _ = nI (if _ < _ then _ else _)
          rw [hVm]
        · show upd _ _ _ _ = _
          rw [pk_us]
          show _ = nI (if _ < _ then _ else _)
          rw [hVm]
      · have hcl : c < n / 16 := by omega
        have em : pu_m (n + 1) c = pu_m n c := by unfold pu_m; split <;> split <;> omega
        rw [em]
        refine pu_CH_keep (fun q q1 q2 => ?_) (pu_m_le n c).1 (fun k k1 k2 => ?_) (hI.2 c (by omega))
        · exact bo q (by omega)
        · rw [← bk k c k1 k2 hcc]
          unfold sc_ua
          rcases (show k = 2 ∨ k = 3 ∨ k = 4 ∨ k = 5 ∨ k = 6 ∨ k = 7 by omega) with rfl | rfl | rfl | rfl | rfl | rfl <;> first | rfl | exact pk_un hcc
    · have e1 : (n + 1) / 16 = n / 16 := by omega
      have e2 : (n + 1) % 16 = n % 16 + 1 := by omega
      rw [e1, e2, Nat.add_sub_cancel]
      exact ⟨e8, rfl, pu_WIN_congr rfl rfl eW⟩
    · rw [pk_un k0, pk_un k9]
      exact eF k k0 k8 k9 k10 k11
  refine sc_aload_n hC dX0_write_0 rfl ?_
  refine x0_callI hC (c0_tnI hI (by omega)) k0_timeNow rfl (by decide) (by decide) dX0_write_1 rfl (Nat.le_of_ble_eq_true rfl) (fun r f1 a1 hp => ?_)
  obtain ⟨rfl, rfl, rfl⟩ := hp
  refine sc_iload_n hC dX0_write_4 rfl ?_
  refine sc_iadd hC dX0_write_5 ?_
  refine sc_top ((by rw [nI_add, ← hg] : nI (pu_last n t) + nI g = nI (t n))) ?_
  refine sc_istore_n hC dX0_write_6 rfl (by decide) ?_
  refine sc_aload_n hC dX0_write_7 rfl ?_
  refine x0_g0 hC dX0_write_8 ?_
  refine sc_top (hI.1) ?_
  refine sc_iconst (v := 4) hC dX0_write_11 (by decide) ?_
  refine sc_ishr hC dX0_write_12 ?_
  refine sc_top ((pk_shrN (by omega) _ 4 (by decide) : nI n >>> ((4 : Int32) &&& 31) = nI (n / 16))) ?_
  refine sc_istore hC dX0_write_13 rfl (by decide) ?_
  refine sc_aload_n hC dX0_write_15 rfl ?_
  refine x0_g0 hC dX0_write_16 ?_
  refine sc_top (hI.1) ?_
  refine sc_bipush (v := 15) hC dX0_write_19 (by decide) ?_
  refine sc_iand hC dX0_write_21 ?_
  refine sc_top ((pk_andN (by omega) 4 (by decide) : nI n &&& 15 = nI (n % 16))) ?_
  refine sc_if_ne (tgt := 97) hC dX0_write_22 (by decide) (fun c1 => ?_) (fun c1 => ?_)
  · have hm : ¬ n % 16 = 0 := fun q => c1 ((pu_n0 (by omega)).mpr q)
    obtain ⟨s8, s9, sW⟩ := hS hm
    obtain ⟨i2, i1, i3, i4, i5, i6, i7⟩ := hI.2 (n / 16) (by omega)
    have em : pu_m n (n / 16) = n % 16 := by unfold pu_m; split <;> omega
    rw [em] at i2 i1 i4 i5 i6 i7
    have hlast : pu_last n t = pu_sh t (n / 16) (n % 16 - 1) := by
      unfold pu_last pu_sh
      rw [if_neg (by omega)]
      congr 1
      omega
    have hgap : pu_sh t (n / 16) (n % 16) - pu_sh t (n / 16) (n % 16 - 1) = g := by rw [hTm, ← hlast]; omega
    have hlen : (pu_st (pu_sh t (n / 16)) (pu_sh v (n / 16)) (n % 16)).length ≤ 690 := by
      have := pu_st_len (pu_sh t (n / 16)) (pu_sh v (n / 16)) (n % 16 - 1)
      rw [show n % 16 - 1 + 1 = n % 16 by omega] at this
      omega
    have hgb : pu_gb (pu_sh t (n / 16)) (n % 16) ≤ 60000 := by
      unfold pu_gb
      have := hTi (n % 16 - 1) (by omega)
      split <;> omega
    have hz : (nI g - nI (pu_gb (pu_sh t (n / 16)) (n % 16))).toInt = pu_dd (pu_sh t (n / 16)) (n % 16) := by
      rw [pk_sub_toInt (by omega) (by omega)]
      unfold pu_dd
      rw [hgap]
    have hzb := pu_dd_le hTi
    have htl := pu_tc_len (pu_dd (pu_sh t (n / 16)) (n % 16))
    have hv1 : v (n - 1) = pu_sh v (n / 16) (n % 16 - 1) := by
      unfold pu_sh
      congr 1
      omega
    have hx16 : pu_sh v (n / 16) (n % 16) ^^^ pu_sh v (n / 16) (n % 16 - 1) < 65536 := Nat.xor_lt_two_pow (n := 16) (by have := hVi (n % 16) (by omega); omega) (by have := hVi (n % 16 - 1) (by omega); omega)
    refine sc_aload_n hC dX0_write_97 rfl ?_
    refine sc_iload hC dX0_write_98 rfl ?_
    refine sc_iload_n hC dX0_write_100 rfl ?_
    refine sc_aload_n hC dX0_write_101 rfl ?_
    refine x0_g8 hC dX0_write_102 ?_
    refine sc_top (s8) ?_
    refine sc_isub hC dX0_write_105 ?_
    refine x0_callV hC (c0_wg (n / 16) _ _ _ f1 a1 hc4 (by omega) i2 hz hzb.1 hzb.2) k0_writeGapChange rfl (by decide) (by decide) dX0_write_106 rfl (Nat.le_of_ble_eq_true rfl) (fun f2 a2 hp => ?_)
    obtain ⟨rfl, rfl⟩ := hp
    refine sc_aload_n hC dX0_write_109 rfl ?_
    refine sc_iload hC dX0_write_110 rfl ?_
    refine sc_iload_n hC dX0_write_112 rfl ?_
    refine sc_aload_n hC dX0_write_113 rfl ?_
    refine x0_g9 hC dX0_write_114 ?_
    refine sc_top (s9) ?_
    refine sc_ixor hC dX0_write_117 ?_
    refine sc_top ((by rw [nx_xor, ← hVm, hv1] : nI (v n) ^^^ nI (v (n - 1)) = nI (pu_sh v (n / 16) (n % 16) ^^^ pu_sh v (n / 16) (n % 16 - 1)))) ?_
    refine x0_callV hC (c0_wc (n / 16) _ _ _ _ _ hc4 (by omega) (pu_pa_2 _ _ _ _) hx16 sW (pu_wn_ok (fun i hi => by have := hVi i (by omega); omega))) k0_writeChange rfl (by decide) (by decide) dX0_write_118 rfl (Nat.le_of_ble_eq_true rfl) (fun f2 a2 hp => ?_)
    obtain ⟨ha2, hW2, hF2⟩ := hp
    rw [pu_pa_app] at ha2
    have hpc : pu_tc (pu_dd (pu_sh t (n / 16)) (n % 16)) ++ pu_vc (pu_wn (pu_sh v (n / 16)) (n % 16)) (pu_sh v (n / 16) (n % 16) ^^^ pu_sh v (n / 16) (n % 16 - 1)) = pu_pc (pu_sh t (n / 16)) (pu_sh v (n / 16)) (n % 16) := by
      unfold pu_pc
      rw [if_neg hm]
    rw [hpc] at ha2
    have hpl := pu_pc_len (pu_sh t (n / 16)) (pu_sh v (n / 16)) (n % 16)
    subst ha2
    refine sc_aload_n hC dX0_write_121 rfl ?_
    refine sc_iload_n hC dX0_write_122 rfl ?_
    refine x0_p8 hC dX0_write_123 ?_
    refine k126 _ _ ?_ ?_ ?_ ?_ ?_ ?_ ?_ ?_ ?_ ?_ ?_ ?_ ?_ ?_
    · show f2 0 = _
      rw [hF2 0 (by decide) (by decide)]
      exact hI.1
    · show nI g = _
      unfold pu_gb
      rw [if_neg (by omega), show n % 16 + 1 - 1 = n % 16 by omega, show n % 16 + 1 - 2 = n % 16 - 1 by omega, hgap]
    · unfold pu_wn
      rw [if_neg hm]
      exact pu_WIN_congr rfl rfl hW2
    · intro k k0 k8 k9 k10 k11
      rw [pk_un k8]
      exact hF2 k k10 k11
    · rw [pu_pa_2, pu_st_succ, List.length_append]
    · rw [pu_st_succ]
      exact pu_at_put_app i1
    · exact i3
    · exact i5
    · exact i6
    · exact i7
    · intro q hq
      exact pu_bit_put _ _ _ _ (by omega)
    · intro k c k1 k2 hc
      unfold pu_pa
      rw [if_neg (by omega)]
      split
      next e => rw [e]; exact pk_un hc
      next => rfl
    · rfl
    · rfl
  · have hm : n % 16 = 0 := (pu_n0 (by omega)).mp c1
    rw [hm] at hTm hVm
    refine sc_aload_n hC dX0_write_25 rfl ?_
    refine x0_g2 hC dX0_write_26 ?_
    refine sc_iload hC dX0_write_29 rfl ?_
    refine sc_iconst (v := 0) hC dX0_write_31 (by decide) ?_
    refine x0_ast2 hC (n / 16) (rfl) (hc4) dX0_write_32 ?_
    refine sc_aload_n hC dX0_write_33 rfl ?_
    refine sc_iload hC dX0_write_34 rfl ?_
    refine sc_bipush (v := 16) hC dX0_write_36 (by decide) ?_
    refine sc_iload_n hC dX0_write_38 rfl ?_
    refine x0_callV hC (c0_put 16 (t n) (n / 16) 0 f1 _ (by decide) hc4 (by omega) (by rw [sc_ua_s, pk_us]; rfl)) k0_put rfl (by decide) (by decide) dX0_write_39 rfl (Nat.le_of_ble_eq_true rfl) (fun f2 a2 hp => ?_)
    obtain ⟨rfl, rfl⟩ := hp
    refine sc_aload_n hC dX0_write_42 rfl ?_
    refine sc_iload hC dX0_write_43 rfl ?_
    refine sc_bipush (v := 16) hC dX0_write_45 (by decide) ?_
    refine sc_iload_n hC dX0_write_47 rfl ?_
    refine x0_callV hC (c0_put 16 (v n) (n / 16) (0 + (pu_bits 16 (t n)).length) _ _ (by decide) hc4 (by simp only [pu_bits_len]; omega) (pu_pa_2 _ _ _ _)) k0_put rfl (by decide) (by decide) dX0_write_48 rfl (Nat.le_of_ble_eq_true rfl) (fun f2 a2 hp => ?_)
    obtain ⟨rfl, ha2⟩ := hp
    rw [pu_pa_app] at ha2
    have hpc : pu_bits 16 (t n) ++ pu_bits 16 (v n) = pu_st (pu_sh t (n / 16)) (pu_sh v (n / 16)) (n % 16 + 1) := by
      rw [hm]
      show _ = [] ++ pu_pc _ _ 0
      unfold pu_pc
      rw [if_pos rfl, hTm, hVm, List.nil_append]
    rw [hpc] at ha2
    subst ha2
    refine sc_aload_n hC dX0_write_51 rfl ?_
    refine x0_g3 hC dX0_write_52 ?_
    refine sc_iload hC dX0_write_55 rfl ?_
    refine sc_iload_n hC dX0_write_57 rfl ?_
    refine x0_ast3 hC (n / 16) (rfl) (hc4) dX0_write_58 ?_
    refine sc_aload_n hC dX0_write_59 rfl ?_
    refine x0_g5 hC dX0_write_60 ?_
    refine sc_iload hC dX0_write_63 rfl ?_
    refine sc_iconst (v := 0) hC dX0_write_65 (by decide) ?_
    refine x0_ast5 hC (n / 16) (rfl) (hc4) dX0_write_66 ?_
    refine sc_aload_n hC dX0_write_67 rfl ?_
    refine x0_g6 hC dX0_write_68 ?_
    refine sc_iload hC dX0_write_71 rfl ?_
    refine sc_ldc (v := 65535) hC q109 dX0_write_73 ?_
    refine x0_ast6 hC (n / 16) (rfl) (hc4) dX0_write_75 ?_
    refine sc_aload_n hC dX0_write_76 rfl ?_
    refine x0_g7 hC dX0_write_77 ?_
    refine sc_iload hC dX0_write_80 rfl ?_
    refine sc_iconst (v := 0) hC dX0_write_82 (by decide) ?_
    refine x0_ast7 hC (n / 16) (rfl) (hc4) dX0_write_83 ?_
    refine sc_aload_n hC dX0_write_84 rfl ?_
    refine sc_iconst (v := 0) hC dX0_write_85 (by decide) ?_
    refine x0_p8 hC dX0_write_86 ?_
    refine sc_aload_n hC dX0_write_89 rfl ?_
    refine sc_iconst (v := -1) hC dX0_write_90 (by decide) ?_
    refine x0_p10 hC dX0_write_91 ?_
    refine sc_goto (tgt := 126) hC dX0_write_94 (by decide) ?_
    refine k126 _ _ ?_ ?_ ?_ ?_ ?_ ?_ ?_ ?_ ?_ ?_ ?_ ?_ ?_ ?_
    · exact hI.1
    · unfold pu_gb
      rw [if_pos (by omega)]
      rfl
    · rw [hm]
      show pu_WIN none _
      rfl
    · intro k k0 k8 k9 k10 k11
      rw [pk_un k10, pk_un k8]
    · show pu_pa _ _ _ _ 2 _ = _
      rw [pu_pa_2, Nat.zero_add]
    · show pu_at (pu_put _ (768 * (n / 16) + 0) _) _ _
      exact pu_at_put _ _ _
    · show upd _ _ _ _ = _
      rw [pk_us, hTm]
    · show upd _ _ _ _ = _
      rw [pk_us, hm]
      rfl
    · show upd _ _ _ _ = _
      rw [pk_us, hm]
      rfl
    · show upd _ _ _ _ = _
      rw [pk_us, hm]
      rfl
    · intro q hq
      show pu_bit (pu_put _ _ _) _ = _
      rw [pu_bit_put _ _ _ _ (by omega)]
      rfl
    · intro k c k1 k2 hc
      rcases (show k = 2 ∨ k = 3 ∨ k = 4 ∨ k = 5 ∨ k = 6 ∨ k = 7 by omega) with rfl | rfl | rfl | rfl | rfl | rfl
      · show upd (upd (a1 2) _ _) _ _ _ = _
        rw [pk_un hc, pk_un hc]
      · exact pk_un hc
      · rfl
      · exact pk_un hc
      · exact pk_un hc
      · exact pk_un hc
    · rfl
    · rfl
end
section
set_option maxRecDepth 100000
/-! SeriesCodec.readGapChange, readChange, inChunk, unpack, resume -/
theorem pu_at_cut {b : Nat → Int32} {c k : Nat} {l1 l2 : List Bool} (h : pu_at b (768 * c + k) (l1 ++ l2)) : pu_at b (768 * c + k) l1 ∧ pu_at b (768 * c + (k + l1.length)) l2 := by
  rw [← Nat.add_assoc]
  exact (pu_at_app b l1 l2 _).mp h
theorem c0_rg (c k : Nat) (z : Int) (f : Nat → Int32) (a : Nat → Nat → Int32) (hc : c < 4) (h12 : f 12 = nI c) (h13 : f 13 = nI k) (hk : k + (pu_tc z).length ≤ 768) (hat : pu_at (a 1) (768 * c + k) (pu_tc z)) (h1 : -60000 ≤ z) (h2 : z ≤ 60000) :
    sc_I0 yX0_readGapChange cX0_readGapChange 3 (some .int) 1 [] f a (fun r f' a' => r.toInt = z ∧ f' = upd f 13 (nI (k + (pu_tc z).length)) ∧ a' = a) := by
  refine x0_ofI pn0_readGapChange (fun _ => Nat.le_of_ble_eq_true rfl) (fun K d h hC hret => ?_)
  show sc_W K (xw0 h d f a) 0 [(0, .ref (h 20))] []
  by_cases n0 : z = 0
  · have e : pu_tc z = [false] := by unfold pu_tc; rw [if_pos n0]
    rw [e] at hk hat hret
    refine sc_aload_n hC dX0_readGapChange_0 rfl ?_
    refine sc_iconst (v := 1) hC dX0_readGapChange_1 (by decide) ?_
    refine x0_callI hC (c0_get [false] c k f a hc hk h12 h13 hat) k0_get rfl (by decide) (by decide) dX0_readGapChange_2 rfl (Nat.le_of_ble_eq_true rfl) (fun r f1 a1 hp => ?_)
    obtain ⟨rfl, rfl, rfl⟩ := hp
    refine sc_if_ne (tgt := 10) hC dX0_readGapChange_5 (by decide) (fun c1 => ?_) (fun c1 => ?_)
    · exact absurd rfl c1
    · refine sc_iconst (v := 0) hC dX0_readGapChange_8 (by decide) ?_
      exact hret _ _ _ _ _ dX0_readGapChange_9 ⟨by rw [n0]; rfl, rfl, rfl⟩
  · by_cases n7 : -7 ≤ z ∧ z ≤ 8
    · have e : pu_tc z = [true] ++ ([false] ++ pu_bits 4 (z + 7).toNat) := by unfold pu_tc; rw [if_neg n0, if_pos n7]; rfl
      rw [e] at hk hat hret
      simp only [List.length_append, List.length_cons, List.length_nil, pu_bits_len] at hk
      obtain ⟨q1, q2⟩ := pu_at_cut hat
      obtain ⟨q2, q3⟩ := pu_at_cut q2
      refine sc_aload_n hC dX0_readGapChange_0 rfl ?_
      refine sc_iconst (v := 1) hC dX0_readGapChange_1 (by decide) ?_
      refine x0_callI hC (c0_get [true] c k f a hc (by simp; omega) h12 h13 q1) k0_get rfl (by decide) (by decide) dX0_readGapChange_2 rfl (Nat.le_of_ble_eq_true rfl) (fun r f1 a1 hp => ?_)
      obtain ⟨rfl, rfl, rfl⟩ := hp
      refine sc_if_ne (tgt := 10) hC dX0_readGapChange_5 (by decide) (fun c1 => ?_) (fun c1 => ?_)
      · refine sc_aload_n hC dX0_readGapChange_10 rfl ?_
        refine sc_iconst (v := 1) hC dX0_readGapChange_11 (by decide) ?_
        refine x0_callI hC (c0_get [false] c (k + [true].length) _ _ hc (by simp; omega) h12 rfl q2) k0_get rfl (by decide) (by decide) dX0_readGapChange_12 rfl (Nat.le_of_ble_eq_true rfl) (fun r f1 a1 hp => ?_)
        obtain ⟨rfl, rfl, rfl⟩ := hp
        refine sc_if_ne (tgt := 27) hC dX0_readGapChange_15 (by decide) (fun c2 => ?_) (fun c2 => ?_)
        · exact absurd rfl c2
        · refine sc_aload_n hC dX0_readGapChange_18 rfl ?_
          refine sc_iconst (v := 4) hC dX0_readGapChange_19 (by decide) ?_
          refine sc_top (show (4 : Int32) = nI (pu_bits 4 (z + 7).toNat).length by rw [pu_bits_len]; rfl) ?_
          refine x0_callI hC (c0_get (pu_bits 4 (z + 7).toNat) c (k + [true].length + [false].length) _ _ hc (by simp [pu_bits_len]; omega) h12 rfl q3) k0_get rfl (by decide) (by decide) dX0_readGapChange_20 rfl (Nat.le_of_ble_eq_true rfl) (fun r f1 a1 hp => ?_)
          obtain ⟨rfl, rfl, rfl⟩ := hp
          rw [pu_val_w (by omega)]
          refine sc_bipush (v := 7) hC dX0_readGapChange_23 (by decide) ?_
          refine sc_isub hC dX0_readGapChange_25 ?_
          refine hret _ _ _ _ _ dX0_readGapChange_26 ⟨?_, ?_, rfl⟩
          · rw [show (7 : Int32) = nI 7 from rfl, pk_sub_toInt (by omega) (by omega)]
            omega
          · rw [pu_uu, pu_uu]
            congr 2
      · exact absurd c1 (by decide)
    · by_cases n63 : -63 ≤ z ∧ z ≤ 64
      · have e : pu_tc z = [true] ++ ([true] ++ ([false] ++ pu_bits 7 (z + 63).toNat)) := by unfold pu_tc; rw [if_neg n0, if_neg n7, if_pos n63]; rfl
        rw [e] at hk hat hret
        simp only [List.length_append, List.length_cons, List.length_nil, pu_bits_len] at hk
        obtain ⟨q1, q2⟩ := pu_at_cut hat
        obtain ⟨q2, q3⟩ := pu_at_cut q2
        obtain ⟨q3, q4⟩ := pu_at_cut q3
        refine sc_aload_n hC dX0_readGapChange_0 rfl ?_
        refine sc_iconst (v := 1) hC dX0_readGapChange_1 (by decide) ?_
        refine x0_callI hC (c0_get [true] c k f a hc (by simp; omega) h12 h13 q1) k0_get rfl (by decide) (by decide) dX0_readGapChange_2 rfl (Nat.le_of_ble_eq_true rfl) (fun r f1 a1 hp => ?_)
        obtain ⟨rfl, rfl, rfl⟩ := hp
        refine sc_if_ne (tgt := 10) hC dX0_readGapChange_5 (by decide) (fun c1 => ?_) (fun c1 => ?_)
        · refine sc_aload_n hC dX0_readGapChange_10 rfl ?_
          refine sc_iconst (v := 1) hC dX0_readGapChange_11 (by decide) ?_
          refine x0_callI hC (c0_get [true] c (k + [true].length) _ _ hc (by simp; omega) h12 rfl q2) k0_get rfl (by decide) (by decide) dX0_readGapChange_12 rfl (Nat.le_of_ble_eq_true rfl) (fun r f1 a1 hp => ?_)
          obtain ⟨rfl, rfl, rfl⟩ := hp
          refine sc_if_ne (tgt := 27) hC dX0_readGapChange_15 (by decide) (fun c2 => ?_) (fun c2 => ?_)
          · refine sc_aload_n hC dX0_readGapChange_27 rfl ?_
            refine sc_iconst (v := 1) hC dX0_readGapChange_28 (by decide) ?_
            refine x0_callI hC (c0_get [false] c (k + [true].length + [true].length) _ _ hc (by simp; omega) h12 rfl q3) k0_get rfl (by decide) (by decide) dX0_readGapChange_29 rfl (Nat.le_of_ble_eq_true rfl) (fun r f1 a1 hp => ?_)
            obtain ⟨rfl, rfl, rfl⟩ := hp
            refine sc_if_ne (tgt := 45) hC dX0_readGapChange_32 (by decide) (fun c3 => ?_) (fun c3 => ?_)
            · exact absurd rfl c3
            · refine sc_aload_n hC dX0_readGapChange_35 rfl ?_
              refine sc_bipush (v := 7) hC dX0_readGapChange_36 (by decide) ?_
              refine sc_top (show (7 : Int32) = nI (pu_bits 7 (z + 63).toNat).length by rw [pu_bits_len]; rfl) ?_
              refine x0_callI hC (c0_get (pu_bits 7 (z + 63).toNat) c (k + [true].length + [true].length + [false].length) _ _ hc (by simp [pu_bits_len]; omega) h12 rfl q4) k0_get rfl (by decide) (by decide) dX0_readGapChange_38 rfl (Nat.le_of_ble_eq_true rfl) (fun r f1 a1 hp => ?_)
              obtain ⟨rfl, rfl, rfl⟩ := hp
              rw [pu_val_w (by omega)]
              refine sc_bipush (v := 63) hC dX0_readGapChange_41 (by decide) ?_
              refine sc_isub hC dX0_readGapChange_43 ?_
              refine hret _ _ _ _ _ dX0_readGapChange_44 ⟨?_, ?_, rfl⟩
              · rw [show (63 : Int32) = nI 63 from rfl, pk_sub_toInt (by omega) (by omega)]
                omega
              · rw [pu_uu, pu_uu, pu_uu]
                congr 2
          · exact absurd c2 (by decide)
        · exact absurd c1 (by decide)
      · have e : pu_tc z = [true] ++ ([true] ++ ([true] ++ ([decide (z < 0)] ++ pu_bits 17 z.natAbs))) := by unfold pu_tc; rw [if_neg n0, if_neg n7, if_neg n63]; rfl
        rw [e] at hk hat hret
        simp only [List.length_append, List.length_cons, List.length_nil, pu_bits_len] at hk
        obtain ⟨q1, q2⟩ := pu_at_cut hat
        obtain ⟨q2, q3⟩ := pu_at_cut q2
        obtain ⟨q3, q4⟩ := pu_at_cut q3
        obtain ⟨q4, q5⟩ := pu_at_cut q4
        refine sc_aload_n hC dX0_readGapChange_0 rfl ?_
        refine sc_iconst (v := 1) hC dX0_readGapChange_1 (by decide) ?_
        refine x0_callI hC (c0_get [true] c k f a hc (by simp; omega) h12 h13 q1) k0_get rfl (by decide) (by decide) dX0_readGapChange_2 rfl (Nat.le_of_ble_eq_true rfl) (fun r f1 a1 hp => ?_)
        obtain ⟨rfl, rfl, rfl⟩ := hp
        refine sc_if_ne (tgt := 10) hC dX0_readGapChange_5 (by decide) (fun c1 => ?_) (fun c1 => ?_)
        · refine sc_aload_n hC dX0_readGapChange_10 rfl ?_
          refine sc_iconst (v := 1) hC dX0_readGapChange_11 (by decide) ?_
          refine x0_callI hC (c0_get [true] c (k + [true].length) _ _ hc (by simp; omega) h12 rfl q2) k0_get rfl (by decide) (by decide) dX0_readGapChange_12 rfl (Nat.le_of_ble_eq_true rfl) (fun r f1 a1 hp => ?_)
          obtain ⟨rfl, rfl, rfl⟩ := hp
          refine sc_if_ne (tgt := 27) hC dX0_readGapChange_15 (by decide) (fun c2 => ?_) (fun c2 => ?_)
          · refine sc_aload_n hC dX0_readGapChange_27 rfl ?_
            refine sc_iconst (v := 1) hC dX0_readGapChange_28 (by decide) ?_
            refine x0_callI hC (c0_get [true] c (k + [true].length + [true].length) _ _ hc (by simp; omega) h12 rfl q3) k0_get rfl (by decide) (by decide) dX0_readGapChange_29 rfl (Nat.le_of_ble_eq_true rfl) (fun r f1 a1 hp => ?_)
            obtain ⟨rfl, rfl, rfl⟩ := hp
            refine sc_if_ne (tgt := 45) hC dX0_readGapChange_32 (by decide) (fun c3 => ?_) (fun c3 => ?_)
            · refine sc_aload_n hC dX0_readGapChange_45 rfl ?_
              refine sc_iconst (v := 1) hC dX0_readGapChange_46 (by decide) ?_
              refine x0_callI hC (c0_get [decide (z < 0)] c (k + [true].length + [true].length + [true].length) _ _ hc (by simp; omega) h12 rfl q4) k0_get rfl (by decide) (by decide) dX0_readGapChange_47 rfl (Nat.le_of_ble_eq_true rfl) (fun r f1 a1 hp => ?_)
              obtain ⟨rfl, rfl, rfl⟩ := hp
              refine sc_istore_n hC dX0_readGapChange_50 rfl (by decide) ?_
              refine sc_aload_n hC dX0_readGapChange_51 rfl ?_
              refine sc_bipush (v := 17) hC dX0_readGapChange_52 (by decide) ?_
              refine sc_top (show (17 : Int32) = nI (pu_bits 17 z.natAbs).length by rw [pu_bits_len]; rfl) ?_
              refine x0_callI hC (c0_get (pu_bits 17 z.natAbs) c (k + [true].length + [true].length + [true].length + [decide (z < 0)].length) _ _ hc (by simp [pu_bits_len]; omega) h12 rfl q5) k0_get rfl (by decide) (by decide) dX0_readGapChange_54 rfl (Nat.le_of_ble_eq_true rfl) (fun r f1 a1 hp => ?_)
              obtain ⟨rfl, rfl, rfl⟩ := hp
              rw [pu_val_w (by omega)]
              have ef : upd (upd (upd (upd (upd f 13 (nI (k + [true].length))) 13 (nI (k + [true].length + [true].length))) 13 (nI (k + [true].length + [true].length + [true].length))) 13 (nI (k + [true].length + [true].length + [true].length + [decide (z < 0)].length))) 13 (nI (k + [true].length + [true].length + [true].length + [decide (z < 0)].length + (pu_bits 17 z.natAbs).length)) = upd f 13 (nI (k + ([true] ++ ([true] ++ ([true] ++ ([decide (z < 0)] ++ pu_bits 17 z.natAbs)))).length)) := by
                rw [pu_uu, pu_uu, pu_uu, pu_uu]
                congr 2
              by_cases hz : z < 0
              · refine sc_istore_n hC dX0_readGapChange_57 rfl (by decide) ?_
                refine sc_iload_n hC dX0_readGapChange_58 rfl ?_
                refine sc_iconst (v := 1) hC dX0_readGapChange_59 (by decide) ?_
                refine sc_icmp_ne (tgt := 68) hC dX0_readGapChange_60 (by decide) (fun c4 => ?_) (fun c4 => ?_)
                · exact absurd (by rw [decide_eq_true hz]; rfl) c4
                · refine sc_iload_n hC dX0_readGapChange_63 rfl ?_
                  refine sc_ineg hC dX0_readGapChange_64 ?_
                  refine sc_goto (tgt := 69) hC dX0_readGapChange_65 (by decide) ?_
                  refine hret _ _ _ _ _ dX0_readGapChange_69 ⟨?_, ef, rfl⟩
                  rw [sb_negT (by omega)]
                  omega
              · refine sc_istore_n hC dX0_readGapChange_57 rfl (by decide) ?_
                refine sc_iload_n hC dX0_readGapChange_58 rfl ?_
                refine sc_iconst (v := 1) hC dX0_readGapChange_59 (by decide) ?_
                refine sc_icmp_ne (tgt := 68) hC dX0_readGapChange_60 (by decide) (fun c4 => ?_) (fun c4 => ?_)
                · refine sc_iload_n hC dX0_readGapChange_68 rfl ?_
                  refine hret _ _ _ _ _ dX0_readGapChange_69 ⟨?_, ef, rfl⟩
                  rw [nI_toInt (by omega)]
                  omega
                · exact absurd c4 (by rw [decide_eq_false hz]; decide)
            · exact absurd c3 (by decide)
          · exact absurd c2 (by decide)
        · exact absurd c1 (by decide)
theorem c0_rc (c k x : Nat) (w : Option (Nat × Nat)) (f : Nat → Int32) (a : Nat → Nat → Int32) (hc : c < 4) (h12 : f 12 = nI c) (h13 : f 13 = nI k) (hk : k + (pu_vc w x).length ≤ 768) (hat : pu_at (a 1) (768 * c + k) (pu_vc w x)) (hx : x < 65536) (hW : pu_WIN w f) (hok : pu_wok w) :
    sc_I0 yX0_readChange cX0_readChange 3 (some .int) 1 [] f a (fun r f' a' => r = nI x ∧ a' = a ∧ f' 13 = nI (k + (pu_vc w x).length) ∧ pu_WIN (pu_nx w x) f' ∧ ∀ j, j ≠ 10 → j ≠ 11 → j ≠ 13 → f' j = f j) := by
  refine x0_ofI pn0_readChange (fun _ => Nat.le_of_ble_eq_true rfl) (fun K d h hC hret => ?_)
  show sc_W K (xw0 h d f a) 0 [(0, .ref (h 20))] []
  by_cases n0 : x = 0
  · have e : pu_vc w x = [false] := by unfold pu_vc; rw [if_pos n0]
    have e2 : pu_nx w x = w := by unfold pu_nx; rw [if_pos n0]
    rw [e] at hk hat hret
    rw [e2] at hret
    refine sc_aload_n hC dX0_readChange_0 rfl ?_
    refine sc_iconst (v := 1) hC dX0_readChange_1 (by decide) ?_
    refine x0_callI hC (c0_get [false] c k f a hc hk h12 h13 hat) k0_get rfl (by decide) (by decide) dX0_readChange_2 rfl (Nat.le_of_ble_eq_true rfl) (fun r f1 a1 hp => ?_)
    obtain ⟨rfl, rfl, rfl⟩ := hp
    refine sc_if_ne (tgt := 10) hC dX0_readChange_5 (by decide) (fun c1 => ?_) (fun c1 => ?_)
    · exact absurd rfl c1
    · refine sc_iconst (v := 0) hC dX0_readChange_8 (by decide) ?_
      exact hret _ _ _ _ _ dX0_readChange_9 ⟨by rw [n0]; rfl, rfl, rfl, pu_WIN_congr rfl rfl hW, fun j _ _ j3 => pk_un j3⟩
  · have hLR := pu_LR n0 hx
    have k37 : ∀ (f1 : Nat → Int32) (l r k1 : Nat), f1 10 = nI l → f1 11 = nI r → l + r ≤ 15 → l ≤ pu_L x → r ≤ pu_R x → f1 12 = nI c → f1 13 = nI k1 → k1 + (16 - l - r) ≤ 768 → pu_at (a 1) (768 * c + k1) (pu_bits (16 - l - r) (x / 2 ^ r)) → nI (k1 + (16 - l - r)) = nI (k + (pu_vc w x).length) → pu_nx w x = some (l, r) → (∀ j, j ≠ 10 → j ≠ 11 → j ≠ 13 → f1 j = f j) → sc_W K (xw0 h d f1 a) 37 [(0, .ref (h 20))] [] := by
      intro f1 l r k1 e10 e11 hlr hl hr e12 e13 hk1 hat1 hlen hnx hF
      obtain ⟨w1, w2⟩ := pu_win hx hl hr
      refine sc_bipush (v := 16) hC dX0_readChange_37 (by decide) ?_
      refine sc_aload_n hC dX0_readChange_39 rfl ?_
      refine x0_g10 hC dX0_readChange_40 ?_
      refine sc_top (e10) ?_
      refine sc_isub hC dX0_readChange_43 ?_
      refine sc_top ((pk_sub (a := 16) (by omega) : (16 : Int32) - nI l = nI (16 - l))) ?_
      refine sc_aload_n hC dX0_readChange_44 rfl ?_
      refine x0_g11 hC dX0_readChange_45 ?_
      refine sc_top (e11) ?_
      refine sc_isub hC dX0_readChange_48 ?_
      refine sc_top (pk_sub (by omega)) ?_
      refine sc_istore_n hC dX0_readChange_49 rfl (by decide) ?_
      refine sc_aload_n hC dX0_readChange_50 rfl ?_
      refine sc_iload_n hC dX0_readChange_51 rfl ?_
      refine sc_top (show nI (16 - l - r) = nI (pu_bits (16 - l - r) (x / 2 ^ r)).length by rw [pu_bits_len]) ?_
      refine x0_callI hC (c0_get (pu_bits (16 - l - r) (x / 2 ^ r)) c k1 _ _ hc (by rw [pu_bits_len]; exact hk1) e12 e13 hat1) k0_get rfl (by decide) (by decide) dX0_readChange_52 rfl (Nat.le_of_ble_eq_true rfl) (fun r2 f2 a2 hp => ?_)
      obtain ⟨rfl, rfl, rfl⟩ := hp
      rw [pu_val_w w1]
      refine sc_istore_n hC dX0_readChange_55 rfl (by decide) ?_
      refine sc_iload_n hC dX0_readChange_56 rfl ?_
      refine sc_aload_n hC dX0_readChange_57 rfl ?_
      refine x0_g11 hC dX0_readChange_58 ?_
      refine sc_top (e11) ?_
      refine sc_ishl hC dX0_readChange_61 ?_
      refine sc_top (pk_shlN _ r (s_l _ (by omega)) (by rw [w2]; omega)) ?_
      rw [w2]
      refine hret _ _ _ _ _ dX0_readChange_62 ⟨rfl, rfl, ?_, ?_, ?_⟩
      · rw [pk_us, pu_bits_len, hlen]
      · rw [hnx]
        exact ⟨e10, e11⟩
      · intro j j1 j2 j3
        rw [pk_un j3]
        exact hF j j1 j2 j3
    by_cases hf : pu_fit w x = true
    · have e : pu_vc w x = pu_old w x := by unfold pu_vc; rw [if_neg n0, if_pos hf]
      have e2 : pu_nx w x = w := by unfold pu_nx; rw [if_neg n0, if_pos hf]
      rw [e2] at k37
      rw [e] at hk hat k37
      match w, hW, hok, hf, hk, hat, k37 with
      | none, hW, hok, hf, hk, hat, k37 => cases hf
      | some (l, r), hW, hok, hf, hk, hat, k37 =>
        have hok : l + r ≤ 15 := hok
        have hf : l ≤ pu_L x ∧ r ≤ pu_R x := of_decide_eq_true hf
        have e3 : pu_old (some (l, r)) x = [true] ++ ([false] ++ pu_bits (16 - l - r) (x / 2 ^ r)) := rfl
        rw [e3] at hk hat k37
        simp only [List.length_append, List.length_cons, List.length_nil, pu_bits_len] at hk
        obtain ⟨q1, q2⟩ := pu_at_cut hat
        obtain ⟨q2, q3⟩ := pu_at_cut q2
        refine sc_aload_n hC dX0_readChange_0 rfl ?_
        refine sc_iconst (v := 1) hC dX0_readChange_1 (by decide) ?_
        refine x0_callI hC (c0_get [true] c k f a hc (by simp; omega) h12 h13 q1) k0_get rfl (by decide) (by decide) dX0_readChange_2 rfl (Nat.le_of_ble_eq_true rfl) (fun r2 f2 a2 hp => ?_)
        obtain ⟨rfl, rfl, rfl⟩ := hp
        refine sc_if_ne (tgt := 10) hC dX0_readChange_5 (by decide) (fun c1 => ?_) (fun c1 => ?_)
        · refine sc_aload_n hC dX0_readChange_10 rfl ?_
          refine sc_iconst (v := 1) hC dX0_readChange_11 (by decide) ?_
          refine x0_callI hC (c0_get [false] c (k + [true].length) _ _ hc (by simp; omega) h12 rfl q2) k0_get rfl (by decide) (by decide) dX0_readChange_12 rfl (Nat.le_of_ble_eq_true rfl) (fun r2 f2 a2 hp => ?_)
          obtain ⟨rfl, rfl, rfl⟩ := hp
          refine sc_iconst (v := 1) hC dX0_readChange_15 (by decide) ?_
          refine sc_icmp_ne (tgt := 37) hC dX0_readChange_16 (by decide) (fun c2 => ?_) (fun c2 => ?_)
          · refine k37 _ l r (k + [true].length + [false].length) hW.1 hW.2 hok hf.1 hf.2 h12 rfl (by simp; omega) q3 ?_ rfl ?_
            · congr 1
              simp [pu_bits_len]
              omega
            · intro j _ _ j3
              rw [pk_un j3, pk_un j3]
          · exact absurd c2 (by decide)
        · exact absurd c1 (by decide)
    · have e : pu_vc w x = [true] ++ ([true] ++ (pu_bits 4 (pu_L x) ++ (pu_bits 4 (pu_R x) ++ pu_bits (16 - pu_L x - pu_R x) (x / 2 ^ pu_R x)))) := by
        unfold pu_vc
        rw [if_neg n0, if_neg hf]
        show [true, true] ++ _ ++ _ ++ _ = _
        simp only [List.append_assoc]
        rfl
      have e2 : pu_nx w x = some (pu_L x, pu_R x) := by unfold pu_nx; rw [if_neg n0, if_neg hf]
      rw [e2] at k37
      rw [e] at hk hat k37
      simp only [List.length_append, List.length_cons, List.length_nil, pu_bits_len] at hk
      obtain ⟨q1, q2⟩ := pu_at_cut hat
      obtain ⟨q2, q3⟩ := pu_at_cut q2
      obtain ⟨q3, q4⟩ := pu_at_cut q3
      obtain ⟨q4, q5⟩ := pu_at_cut q4
      refine sc_aload_n hC dX0_readChange_0 rfl ?_
      refine sc_iconst (v := 1) hC dX0_readChange_1 (by decide) ?_
      refine x0_callI hC (c0_get [true] c k f a hc (by simp; omega) h12 h13 q1) k0_get rfl (by decide) (by decide) dX0_readChange_2 rfl (Nat.le_of_ble_eq_true rfl) (fun r2 f2 a2 hp => ?_)
      obtain ⟨rfl, rfl, rfl⟩ := hp
      refine sc_if_ne (tgt := 10) hC dX0_readChange_5 (by decide) (fun c1 => ?_) (fun c1 => ?_)
      · refine sc_aload_n hC dX0_readChange_10 rfl ?_
        refine sc_iconst (v := 1) hC dX0_readChange_11 (by decide) ?_
        refine x0_callI hC (c0_get [true] c (k + [true].length) _ _ hc (by simp; omega) h12 rfl q2) k0_get rfl (by decide) (by decide) dX0_readChange_12 rfl (Nat.le_of_ble_eq_true rfl) (fun r2 f2 a2 hp => ?_)
        obtain ⟨rfl, rfl, rfl⟩ := hp
        refine sc_iconst (v := 1) hC dX0_readChange_15 (by decide) ?_
        refine sc_icmp_ne (tgt := 37) hC dX0_readChange_16 (by decide) (fun c2 => ?_) (fun c2 => ?_)
        · exact absurd rfl c2
        · refine sc_aload_n hC dX0_readChange_19 rfl ?_
          refine sc_aload_n hC dX0_readChange_20 rfl ?_
          refine sc_iconst (v := 4) hC dX0_readChange_21 (by decide) ?_
          refine sc_top (show (4 : Int32) = nI (pu_bits 4 (pu_L x)).length by rw [pu_bits_len]; rfl) ?_
          refine x0_callI hC (c0_get (pu_bits 4 (pu_L x)) c (k + [true].length + [true].length) _ _ hc (by simp [pu_bits_len]; omega) h12 rfl q3) k0_get rfl (by decide) (by decide) dX0_readChange_22 rfl (Nat.le_of_ble_eq_true rfl) (fun r2 f2 a2 hp => ?_)
          obtain ⟨rfl, rfl, rfl⟩ := hp
          rw [pu_val_w (by omega)]
          refine x0_p10 hC dX0_readChange_25 ?_
          refine sc_aload_n hC dX0_readChange_28 rfl ?_
          refine sc_aload_n hC dX0_readChange_29 rfl ?_
          refine sc_iconst (v := 4) hC dX0_readChange_30 (by decide) ?_
          refine sc_top (show (4 : Int32) = nI (pu_bits 4 (pu_R x)).length by rw [pu_bits_len]; rfl) ?_
          refine x0_callI hC (c0_get (pu_bits 4 (pu_R x)) c (k + [true].length + [true].length + (pu_bits 4 (pu_L x)).length) _ _ hc (by simp [pu_bits_len]; omega) h12 rfl q4) k0_get rfl (by decide) (by decide) dX0_readChange_31 rfl (Nat.le_of_ble_eq_true rfl) (fun r2 f2 a2 hp => ?_)
          obtain ⟨rfl, rfl, rfl⟩ := hp
          rw [pu_val_w (by omega)]
          refine x0_p11 hC dX0_readChange_34 ?_
          refine k37 _ (pu_L x) (pu_R x) (k + [true].length + [true].length + (pu_bits 4 (pu_L x)).length + (pu_bits 4 (pu_R x)).length) rfl rfl hLR (Nat.le_refl _) (Nat.le_refl _) h12 rfl (by simp [pu_bits_len]; omega) q5 ?_ rfl ?_
          · congr 1
            simp [pu_bits_len]
            omega
          · intro j j1 j2 j3
            rw [pk_un j2, pk_un j3, pk_un j1, pk_un j3, pk_un j3, pk_un j3]
      · exact absurd c1 (by decide)
theorem c0_ic (n c : Nat) (f : Nat → Int32) (a : Nat → Nat → Int32) (hn : n ≤ 64) (hc : 16 * c ≤ n) (h0 : f 0 = nI n) : sc_I0 yX0_inChunk cX0_inChunk 3 (some .int) 0 [.int (nI c)] f a (fun r f' a' => r = nI (pu_m n c) ∧ f' = f ∧ a' = a) := by
  refine x0_ofI pn0_inChunk (fun _ => Nat.le_of_ble_eq_true rfl) (fun K d h hC hret => ?_)
  show sc_W K (xw0 h d f a) 0 [(0, .ref (h 20)), (1, .int (nI c))] []
  have e : nI n - nI c * 16 = nI (n - 16 * c) := by
    rw [show (16 : Int32) = nI 16 from rfl, pk_mul, pk_sub (by omega), Nat.mul_comm c 16]
  refine sc_aload_n hC dX0_inChunk_0 rfl ?_
  refine x0_g0 hC dX0_inChunk_1 ?_
  refine sc_top (h0) ?_
  refine sc_iload_n hC dX0_inChunk_4 rfl ?_
  refine sc_bipush (v := 16) hC dX0_inChunk_5 (by decide) ?_
  refine sc_imul hC dX0_inChunk_7 ?_
  refine sc_isub hC dX0_inChunk_8 ?_
  refine sc_top (e) ?_
  refine sc_istore_n hC dX0_inChunk_9 rfl (by decide) ?_
  refine sc_iload_n hC dX0_inChunk_10 rfl ?_
  refine sc_bipush (v := 16) hC dX0_inChunk_11 (by decide) ?_
  refine sc_icmp_ge (tgt := 20) hC dX0_inChunk_13 (by decide) (fun c1 => ?_) (fun c1 => ?_)
  · have h16 := (nI_leI (a := 16) (by decide) (by omega)).mp c1
    refine sc_bipush (v := 16) hC dX0_inChunk_20 (by decide) ?_
    exact hret _ _ _ _ _ dX0_inChunk_22 ⟨by unfold pu_m; rw [if_neg (by omega)]; rfl, rfl, rfl⟩
  · have h16 : ¬ 16 ≤ n - 16 * c := fun q => c1 ((nI_leI (a := 16) (by decide) (by omega)).mpr q)
    refine sc_iload_n hC dX0_inChunk_16 rfl ?_
    refine sc_goto (tgt := 22) hC dX0_inChunk_17 (by decide) ?_
    exact hret _ _ _ _ _ dX0_inChunk_22 ⟨by unfold pu_m; rw [if_pos (by omega)], rfl, rfl⟩
theorem pu_CI_keep {n : Nat} {t v : Nat → Nat} {f f' : Nat → Int32} {a a' : Nat → Nat → Int32} (h0 : f' 0 = f 0) (ha : ∀ k, k ≠ 14 → k ≠ 15 → a' k = a k) (h : pu_CI n t v f a) : pu_CI n t v f' a' := by
  refine ⟨by rw [h0]; exact h.1, fun c hc => ?_⟩
  refine pu_CH_keep (fun q _ _ => by rw [ha 1 (by decide) (by decide)]) (pu_m_le n c).1 (fun k k1 k2 => by rw [ha k (by omega) (by omega)]) (h.2 c hc)
end
section
set_option maxRecDepth 100000
/-! SeriesCodec.unpack, resume -/
/-- the reader's arrays hold the first i points of a chunk -/
def pu_RD (T V : Nat → Nat) (i : Nat) (a : Nat → Nat → Int32) : Prop := ∀ j, j < i → a 14 j = nI (T j) ∧ a 15 j = nI (V j)
section UN
variable {K : sc_K} {d : ClassId} {h : Nat → Nat}
theorem un_loop (hC : sc_C K cX0_unpack RX0 d 6 2) (T V : Nat → Nat) (m c : Nat) (f : Nat → Int32) (a : Nat → Nat → Int32) (hc : c < 4) (hm : m ≤ 16) (hT : ∀ i, i < m → T i ≤ 60000) (hV : ∀ i, i < m → V i ≤ 65535) (hmon : ∀ i, i + 1 < m → T i ≤ T (i + 1)) (hat : pu_at (a 1) (768 * c) (pu_st T V m))
    (hk : ∀ (f1 : Nat → Int32) (a1 : Nat → Nat → Int32), f1 8 = nI (pu_gb T m) → pu_WIN (pu_wn V m) f1 → (∀ k, (k < 8 ∨ 13 < k) → f1 k = f k) → (∀ k, k ≠ 14 → k ≠ 15 → a1 k = a k) → pu_RD T V m a1 → sc_W K (xw0 h d f1 a1) 122 [(0, .ref (h 20)), (1, .int (nI c)), (2, .int (nI m)), (3, .int (nI m))] []) :
    ∀ (j i : Nat) (f1 : Nat → Int32) (a1 : Nat → Nat → Int32), i + j = m → 1 ≤ i → f1 12 = nI c → f1 13 = nI (pu_st T V i).length → f1 8 = nI (pu_gb T i) → pu_WIN (pu_wn V i) f1 → (∀ k, (k < 8 ∨ 13 < k) → f1 k = f k) → (∀ k, k ≠ 14 → k ≠ 15 → a1 k = a k) → pu_RD T V i a1 → sc_W K (xw0 h d f1 a1) 52 [(0, .ref (h 20)), (1, .int (nI c)), (2, .int (nI m)), (3, .int (nI i))] [] := by
  intro j
  induction j with
  | zero =>
    intro i f1 a1 hij hi e12 e13 e8 eW eF eA eR
    rw [Nat.add_zero] at hij
    subst hij
    refine sc_iload_n hC dX0_unpack_52 rfl ?_
    refine sc_iload_n hC dX0_unpack_53 rfl ?_
    refine sc_icmp_ge (tgt := 122) hC dX0_unpack_54 (by decide) (fun c1 => ?_) (fun c1 => ?_)
    · exact hk f1 a1 e8 eW eF eA eR
    · exact absurd (nI_le (Nat.le_refl _) (by omega)) c1
  | succ j ih =>
    intro i f1 a1 hij hi e12 e13 e8 eW eF eA eR
    have him : i < m := by omega
    have hpt := pu_st_at T V him hat
    have hpc : pu_pc T V i = pu_tc (pu_dd T i) ++ pu_vc (pu_wn V i) (V i ^^^ V (i - 1)) := by
      unfold pu_pc
      rw [if_neg (by omega)]
    have hlen : (pu_st T V (i + 1)).length ≤ 737 := pu_st_len' T V (i + 1) (by omega)
    rw [pu_st_succ, List.length_append, hpc, List.length_append] at hlen
    rw [hpc] at hpt
    obtain ⟨q1, q2⟩ := pu_at_cut hpt
    have hzb := pu_dd_le (T := T) (k := i) (fun q hq => hT q (by omega))
    have hTi := hT i him
    have hTi1 := hT (i - 1) (by omega)
    have hmi : T (i - 1) ≤ T i := by
      have := hmon (i - 1) (by omega)
      rw [show i - 1 + 1 = i by omega] at this
      exact this
    have hx16 : V i ^^^ V (i - 1) < 65536 := Nat.xor_lt_two_pow (n := 16) (by have := hV i him; omega) (by have := hV (i - 1) (by omega); omega)
    have hgb : pu_gb T i ≤ 60000 := by
      unfold pu_gb
      split <;> omega
    have hgb1 : pu_gb T (i + 1) = T i - T (i - 1) := by
      unfold pu_gb
      rw [if_neg (by omega), show i + 1 - 1 = i by omega, show i + 1 - 2 = i - 1 by omega]
    refine sc_iload_n hC dX0_unpack_52 rfl ?_
    refine sc_iload_n hC dX0_unpack_53 rfl ?_
    refine sc_icmp_ge (tgt := 122) hC dX0_unpack_54 (by decide) (fun c1 => ?_) (fun c1 => ?_)
    · exact absurd c1 (nI_ge him (by omega))
    · refine sc_aload_n hC dX0_unpack_57 rfl ?_
      refine x0_callI hC (c0_rg c (pu_st T V i).length (pu_dd T i) f1 a1 hc e12 e13 (by omega) (by rw [eA 1 (by decide) (by decide)]; exact q1) hzb.1 hzb.2) k0_readGapChange rfl (by decide) (by decide) dX0_unpack_58 rfl (Nat.le_of_ble_eq_true rfl) (fun D f2 a2 hp => ?_)
      obtain ⟨hD, rfl, rfl⟩ := hp
      refine sc_istore hC dX0_unpack_61 rfl (by decide) ?_
      refine sc_aload_n hC dX0_unpack_63 rfl ?_
      refine sc_aload_n hC dX0_unpack_64 rfl ?_
      refine x0_g8 hC dX0_unpack_65 ?_
      refine sc_top (e8) ?_
      refine sc_iload hC dX0_unpack_68 rfl ?_
      refine sc_iadd hC dX0_unpack_70 ?_
      refine sc_top ((show nI (pu_gb T i) + D = nI (pu_gb T (i + 1)) by rw [pu_nadd (nI_toInt (by omega)) hD (by unfold pu_dd; omega) (by omega), hgb1]; unfold pu_dd; congr 1; omega)) ?_
      refine x0_p8 hC dX0_unpack_71 ?_
      refine sc_aload_n hC dX0_unpack_74 rfl ?_
      refine x0_g14 hC dX0_unpack_75 ?_
      refine sc_iload_n hC dX0_unpack_78 rfl ?_
      refine sc_aload_n hC dX0_unpack_79 rfl ?_
      refine x0_g14 hC dX0_unpack_80 ?_
      refine sc_iload_n hC dX0_unpack_83 rfl ?_
      refine sc_iconst (v := 1) hC dX0_unpack_84 (by decide) ?_
      refine sc_isub hC dX0_unpack_85 ?_
      refine sc_top ((pk_sub (b := 1) (by omega) : nI i - 1 = nI (i - 1))) ?_
      refine x0_ald14 hC (i - 1) (rfl) (by omega) dX0_unpack_86 ?_
      refine sc_top ((eR (i - 1) (by omega)).1) ?_
      refine sc_aload_n hC dX0_unpack_87 rfl ?_
      refine x0_g8 hC dX0_unpack_88 ?_
      refine sc_iadd hC dX0_unpack_91 ?_
      refine sc_top ((show nI (T (i - 1)) + nI (pu_gb T (i + 1)) = nI (T i) by rw [nI_add, hgb1]; congr 1; omega)) ?_
      refine x0_ast14 hC (i) (rfl) (by omega) dX0_unpack_92 ?_
      refine sc_aload_n hC dX0_unpack_93 rfl ?_
      refine x0_callI hC (c0_rc c ((pu_st T V i).length + (pu_tc (pu_dd T i)).length) (V i ^^^ V (i - 1)) (pu_wn V i) _ _ hc e12 rfl (by omega) (by rw [sc_ua_n _ _ _ (by decide), eA 1 (by decide) (by decide)]; exact q2) hx16 (pu_WIN_congr rfl rfl eW) (pu_wn_ok (fun q hq => by have := hV q (by omega); omega))) k0_readChange rfl (by decide) (by decide) dX0_unpack_94 rfl (Nat.le_of_ble_eq_true rfl) (fun r2 f2 a2 hp => ?_)
      obtain ⟨rfl, rfl, h13, hW2, hF2⟩ := hp
      refine sc_istore hC dX0_unpack_97 rfl (by decide) ?_
      refine sc_aload_n hC dX0_unpack_99 rfl ?_
      refine x0_g15 hC dX0_unpack_100 ?_
      refine sc_iload_n hC dX0_unpack_103 rfl ?_
      refine sc_aload_n hC dX0_unpack_104 rfl ?_
      refine x0_g15 hC dX0_unpack_105 ?_
      refine sc_iload_n hC dX0_unpack_108 rfl ?_
      refine sc_iconst (v := 1) hC dX0_unpack_109 (by decide) ?_
      refine sc_isub hC dX0_unpack_110 ?_
      refine sc_top ((pk_sub (b := 1) (by omega) : nI i - 1 = nI (i - 1))) ?_
      refine x0_ald15 hC (i - 1) (rfl) (by omega) dX0_unpack_111 ?_
      refine sc_top ((eR (i - 1) (by omega)).2) ?_
      refine sc_iload hC dX0_unpack_112 rfl ?_
      refine sc_ixor hC dX0_unpack_114 ?_
      refine sc_top ((show nI (V (i - 1)) ^^^ nI (V i ^^^ V (i - 1)) = nI (V i) by rw [nx_xor, Nat.xor_comm (V i), ← Nat.xor_assoc, Nat.xor_self, Nat.zero_xor])) ?_
      refine x0_ast15 hC (i) (rfl) (by omega) dX0_unpack_115 ?_
      refine sc_iinc (v := 1) hC dX0_unpack_116 (by decide) rfl rfl (by decide) ?_
      refine sc_goto (tgt := 52) hC dX0_unpack_119 (by decide) ?_
      refine sc_kp [0, 1, 2, 3] rfl ?_
      rw [nI_1 i]
      refine ih (i + 1) f2 _ (by omega) (by omega) ?_ ?_ ?_ ?_ ?_ ?_ ?_
      · rw [hF2 12 (by decide) (by decide) (by decide)]
        exact e12
      · rw [h13, pu_st_succ, List.length_append, hpc, List.length_append, Nat.add_assoc]
      · rw [hF2 8 (by decide) (by decide) (by decide)]
        rfl
      · unfold pu_wn
        rw [if_neg (by omega)]
        exact hW2
      · intro k hk8
        rw [hF2 k (by omega) (by omega) (by omega), pk_un (by omega), pk_un (by omega)]
        exact eF k hk8
      · intro k k1 k2
        rw [sc_ua_n _ _ _ k2, sc_ua_n _ _ _ k1]
        exact eA k k1 k2
      · intro q hq
        rw [sc_ua_n _ _ _ (by decide), sc_ua_s, sc_ua_s, sc_ua_n _ _ _ (by decide)]
        by_cases hqi : q = i
        · rw [hqi, pk_us, pk_us]
          exact ⟨rfl, rfl⟩
        · rw [pk_un hqi, pk_un hqi]
          exact eR q (by omega)
end UN
theorem c0_un {n c : Nat} {t v : Nat → Nat} {f : Nat → Int32} {a : Nat → Nat → Int32} (hP : pu_PI n t v) (hI : pu_CI n t v f a) (hc : 16 * c < n) :
    sc_V0 yX0_unpack cX0_unpack 6 2 [.int (nI c)] f a (fun f' a' => (∀ k, (k < 8 ∨ 13 < k) → f' k = f k) ∧ (∀ k, k ≠ 14 → k ≠ 15 → a' k = a k) ∧ pu_RD (pu_sh t c) (pu_sh v c) (pu_m n c) a' ∧ f' 8 = nI (pu_gb (pu_sh t c) (pu_m n c)) ∧ f' 9 = nI (pu_sh v c (pu_m n c - 1)) ∧ pu_WIN (pu_wn (pu_sh v c) (pu_m n c)) f') := by
  obtain ⟨hP1, hP2, hP3, hP4⟩ := hP
  obtain ⟨i2, i1, -⟩ := hI.2 c hc
  have hml := pu_m_le n c
  have hm0 := hml.2.2 hc
  have hc4 : c < 4 := by omega
  have hT : ∀ i, i < pu_m n c → pu_sh t c i ≤ 60000 := fun i hi => hP2 _ (by omega)
  have hV : ∀ i, i < pu_m n c → pu_sh v c i ≤ 65535 := fun i hi => hP3 _ (by omega)
  have hmon : ∀ i, i + 1 < pu_m n c → pu_sh t c i ≤ pu_sh t c (i + 1) := fun i hi => hP4 (16 * c + i) (by omega)
  have hpt := pu_st_at (pu_sh t c) (pu_sh v c) hm0 i1
  have hpc : pu_pc (pu_sh t c) (pu_sh v c) 0 = pu_bits 16 (pu_sh t c 0) ++ pu_bits 16 (pu_sh v c 0) := rfl
  rw [hpc] at hpt
  have hpt : pu_at (a 1) (768 * c + 0) (pu_bits 16 (pu_sh t c 0) ++ pu_bits 16 (pu_sh v c 0)) := hpt
  obtain ⟨q1, q2⟩ := pu_at_cut hpt
  refine x0_ofV pn0_unpack (fun _ => Nat.le_of_ble_eq_true rfl) (fun K d h hC hret => ?_)
  show sc_W K (xw0 h d f a) 0 [(0, .ref (h 20)), (1, .int (nI c))] []
  refine sc_aload_n hC dX0_unpack_0 rfl ?_
  refine sc_iload_n hC dX0_unpack_1 rfl ?_
  refine x0_p12 hC dX0_unpack_2 ?_
  refine sc_aload_n hC dX0_unpack_5 rfl ?_
  refine sc_iconst (v := 0) hC dX0_unpack_6 (by decide) ?_
  refine x0_p13 hC dX0_unpack_7 ?_
  refine sc_aload_n hC dX0_unpack_10 rfl ?_
  refine sc_iconst (v := -1) hC dX0_unpack_11 (by decide) ?_
  refine x0_p10 hC dX0_unpack_12 ?_
  refine sc_aload_n hC dX0_unpack_15 rfl ?_
  refine sc_iconst (v := 0) hC dX0_unpack_16 (by decide) ?_
  refine x0_p8 hC dX0_unpack_17 ?_
  refine sc_aload_n hC dX0_unpack_20 rfl ?_
  refine x0_g14 hC dX0_unpack_21 ?_
  refine sc_iconst (v := 0) hC dX0_unpack_24 (by decide) ?_
  refine sc_aload_n hC dX0_unpack_25 rfl ?_
  refine sc_bipush (v := 16) hC dX0_unpack_26 (by decide) ?_
  refine sc_top (show (16 : Int32) = nI (pu_bits 16 (pu_sh t c 0)).length by rw [pu_bits_len]; rfl) ?_
  refine x0_callI hC (c0_get (pu_bits 16 (pu_sh t c 0)) c 0 _ _ hc4 (by rw [pu_bits_len]; omega) rfl rfl q1) k0_get rfl (by decide) (by decide) dX0_unpack_28 rfl (Nat.le_of_ble_eq_true rfl) (fun r f1 a1 hp => ?_)
  obtain ⟨rfl, rfl, rfl⟩ := hp
  rw [pu_val_w (by have := hT 0 hm0; omega)]
  refine x0_ast14 hC (0) (rfl) (by omega) dX0_unpack_31 ?_
  refine sc_aload_n hC dX0_unpack_32 rfl ?_
  refine x0_g15 hC dX0_unpack_33 ?_
  refine sc_iconst (v := 0) hC dX0_unpack_36 (by decide) ?_
  refine sc_aload_n hC dX0_unpack_37 rfl ?_
  refine sc_bipush (v := 16) hC dX0_unpack_38 (by decide) ?_
  refine sc_top (show (16 : Int32) = nI (pu_bits 16 (pu_sh v c 0)).length by rw [pu_bits_len]; rfl) ?_
  refine x0_callI hC (c0_get (pu_bits 16 (pu_sh v c 0)) c (0 + (pu_bits 16 (pu_sh t c 0)).length) _ _ hc4 (by rw [pu_bits_len, pu_bits_len]; omega) rfl rfl q2) k0_get rfl (by decide) (by decide) dX0_unpack_40 rfl (Nat.le_of_ble_eq_true rfl) (fun r f1 a2 hp => ?_)
  obtain ⟨rfl, rfl, rfl⟩ := hp
  rw [pu_val_w (by have := hV 0 hm0; omega)]
  refine x0_ast15 hC (0) (rfl) (by omega) dX0_unpack_43 ?_
  refine sc_aload_n hC dX0_unpack_44 rfl ?_
  refine sc_iload_n hC dX0_unpack_45 rfl ?_
  refine x0_callI hC (c0_ic n c _ _ hP1 (by omega) hI.1) k0_inChunk rfl (by decide) (by decide) dX0_unpack_46 rfl (Nat.le_of_ble_eq_true rfl) (fun r f1 a2 hp => ?_)
  obtain ⟨rfl, rfl, rfl⟩ := hp
  refine sc_istore_n hC dX0_unpack_49 rfl (by decide) ?_
  refine sc_iconst (v := 1) hC dX0_unpack_50 (by decide) ?_
  refine sc_istore_n hC dX0_unpack_51 rfl (by decide) ?_
  refine un_loop hC (pu_sh t c) (pu_sh v c) (pu_m n c) c f a1 hc4 hml.1 hT hV hmon i1 ?_ (pu_m n c - 1) 1 _ _ (by omega) (Nat.le_refl _) rfl ?_ rfl rfl ?_ ?_ ?_
  · intro f1 a2 e8 eW eF eA eR
    refine sc_aload_n hC dX0_unpack_122 rfl ?_
    refine sc_aload_n hC dX0_unpack_123 rfl ?_
    refine x0_g15 hC dX0_unpack_124 ?_
    refine sc_iload_n hC dX0_unpack_127 rfl ?_
    refine sc_iconst (v := 1) hC dX0_unpack_128 (by decide) ?_
    refine sc_isub hC dX0_unpack_129 ?_
    refine sc_top ((pk_sub (b := 1) (by omega) : nI (pu_m n c) - 1 = nI (pu_m n c - 1))) ?_
    refine x0_ald15 hC (pu_m n c - 1) (rfl) (by omega) dX0_unpack_130 ?_
    refine sc_top ((eR (pu_m n c - 1) (by omega)).2) ?_
    refine x0_p9 hC dX0_unpack_131 ?_
    refine hret _ _ _ _ dX0_unpack_134 ⟨fun k hk => ?_, eA, eR, e8, rfl, pu_WIN_congr rfl rfl eW⟩
    rw [pk_un (by omega)]
    exact eF k hk
  · show nI _ = nI _
    congr 1
  · intro k hk
    rw [pk_un (by omega), pk_un (by omega), pk_un (by omega), pk_un (by omega), pk_un (by omega), pk_un (by omega)]
  · intro k k1 k2
    rw [sc_ua_n _ _ _ k2, sc_ua_n _ _ _ k1]
  · intro q hq
    have hq0 : q = 0 := by omega
    subst hq0
    exact ⟨rfl, rfl⟩
theorem c0_re {n : Nat} {t v : Nat → Nat} {f : Nat → Int32} {a : Nat → Nat → Int32} (hP : pu_PI n t v) (hI : pu_CI n t v f a) :
    sc_V0 yX0_resume cX0_resume 1 3 [] f a (fun f' a' => pu_CI n t v f' a' ∧ pu_WS n t v f') := by
  have hn := hP.1
  refine x0_ofV pn0_resume (fun _ => Nat.le_of_ble_eq_true rfl) (fun K d h hC hret => ?_)
  show sc_W K (xw0 h d f a) 0 [(0, .ref (h 20))] []
  refine sc_aload_n hC dX0_resume_0 rfl ?_
  refine x0_g0 hC dX0_resume_1 ?_
  refine sc_top (hI.1) ?_
  refine sc_if_le (tgt := 19) hC dX0_resume_4 (by decide) (fun c1 => ?_) (fun c1 => ?_)
  · have n0 : n = 0 := by
      have := (nI_leI (b := 0) (by omega) (by decide)).mp c1
      omega
    refine hret _ _ _ _ dX0_resume_19 ⟨hI, fun q => absurd (by rw [n0]) q⟩
  · have n0 : ¬ n = 0 := fun q => c1 (by rw [q]; decide)
    refine sc_aload_n hC dX0_resume_7 rfl ?_
    refine sc_aload_n hC dX0_resume_8 rfl ?_
    refine x0_g0 hC dX0_resume_9 ?_
    refine sc_top (hI.1) ?_
    refine sc_iconst (v := 1) hC dX0_resume_12 (by decide) ?_
    refine sc_isub hC dX0_resume_13 ?_
    refine sc_top ((pk_sub (b := 1) (by omega) : nI n - 1 = nI (n - 1))) ?_
    refine sc_iconst (v := 4) hC dX0_resume_14 (by decide) ?_
    refine sc_ishr hC dX0_resume_15 ?_
    refine sc_top ((pk_shrN (by omega) _ 4 (by decide) : nI (n - 1) >>> ((4 : Int32) &&& 31) = nI ((n - 1) / 16))) ?_
    refine x0_callV hC (c0_un hP hI (show 16 * ((n - 1) / 16) < n by omega)) k0_unpack rfl (by decide) (by decide) dX0_resume_16 rfl (Nat.le_of_ble_eq_true rfl) (fun f1 a1 hp => ?_)
    obtain ⟨hF, hA, hR, h8, h9, hW⟩ := hp
    refine hret _ _ _ _ dX0_resume_19 ⟨pu_CI_keep (hF 0 (by omega)) hA hI, fun hm => ?_⟩
    have e1 : (n - 1) / 16 = n / 16 := by omega
    have e2 : pu_m n (n / 16) = n % 16 := by unfold pu_m; split <;> omega
    rw [e1, e2] at h8 h9 hW
    refine ⟨h8, ?_, hW⟩
    rw [h9]
    unfold pu_sh
    congr 2
    omega
end
section
set_option maxRecDepth 100000
/-! what the operations answer and leave, as plain functions of the state (n points, their times, their values) -/
abbrev pu_S : Type := Nat × (Nat → Nat) × (Nat → Nat)
def pu_PS (S : pu_S) : Prop := pu_PI S.1 S.2.1 S.2.2
def pu_CS (S : pu_S) (f : Nat → Int32) (a : Nat → Nat → Int32) : Prop := pu_CI S.1 S.2.1 S.2.2 f a
/-- the model holds the state -/
def pu_MS (S : pu_S) (f : Nat → Int32) (a : Nat → Nat → Int32) : Prop := f 2 = nI S.1 ∧ ∀ i, i < S.1 → a 0 i = nI (S.2.1 i) ∧ a 1 i = nI (S.2.2 i)
def pu_un (t : Nat → Nat) (n x : Nat) : Nat → Nat := fun i => if i = n then x else t i
theorem pu_un_s (t : Nat → Nat) (n x : Nat) : pu_un t n x n = x := by unfold pu_un; rw [if_pos rfl]
theorem pu_un_n (t : Nat → Nat) {n i : Nat} (x : Nat) (h : i ≠ n) : pu_un t n x i = t i := by unfold pu_un; rw [if_neg h]
abbrev pu_apB (S : pu_S) (x y : Int32) : Prop := x < 0 ∨ 60000 < x ∨ 60000 < nI (pu_last S.1 S.2.1) + x ∨ y < 0 ∨ 65535 < y
def pu_apA (S : pu_S) (x y : Int32) : Int32 := if pu_apB S x y then -1 else if S.1 = 64 then -2 else nI S.1
def pu_apN (S : pu_S) (x y : Int32) : pu_S := if pu_apB S x y ∨ S.1 = 64 then S else (S.1 + 1, pu_un S.2.1 S.1 (pu_last S.1 S.2.1 + x.toNatClampNeg), pu_un S.2.2 S.1 y.toNatClampNeg)
theorem pu_last_le {n : Nat} {t v : Nat → Nat} (hP : pu_PI n t v) : pu_last n t ≤ 60000 := by
  unfold pu_last
  split
  · omega
  · exact hP.2.1 _ (by omega)
theorem pu_last_congr {n : Nat} {t t' : Nat → Nat} (h : ∀ i, i < n → t i = t' i) : pu_last n t = pu_last n t' := by
  unfold pu_last
  split
  · rfl
  · exact h _ (by omega)
theorem pu_PI_mono {n n' : Nat} {t v : Nat → Nat} (h : n' ≤ n) (hP : pu_PI n t v) : pu_PI n' t v := ⟨Nat.le_trans h hP.1, fun i hi => hP.2.1 i (by omega), fun i hi => hP.2.2.1 i (by omega), fun i hi => hP.2.2.2 i (by omega)⟩
theorem pu_PI_le {n : Nat} {t v : Nat → Nat} (hP : pu_PI n t v) : ∀ (j i : Nat), i ≤ j → j < n → t i ≤ t j := by
  intro j
  induction j with
  | zero => intro i h1 h2; rw [show i = 0 by omega]; exact Nat.le_refl _
  | succ j ih =>
    intro i h1 h2
    rcases Nat.lt_or_ge i (j + 1) with h3 | h3
    · exact Nat.le_trans (ih i (by omega) (by omega)) (hP.2.2.2 j h2)
    · rw [show i = j + 1 by omega]; exact Nat.le_refl _
theorem pu_last_mon {n : Nat} {t v : Nat → Nat} (hP : pu_PI (n + 1) t v) : pu_last n t ≤ t n := by
  unfold pu_last
  split
  · omega
  · have := hP.2.2.2 (n - 1) (by omega)
    rw [show n - 1 + 1 = n by omega] at this
    exact this
theorem pu_gb_congr {T T' : Nat → Nat} {m : Nat} (h : ∀ i, i < m → T i = T' i) : pu_gb T m = pu_gb T' m := by
  unfold pu_gb
  split
  · rfl
  · rw [h _ (by omega), h _ (by omega)]
theorem pu_WS_congr {n : Nat} {t t' v v' : Nat → Nat} {f : Nat → Int32} (ht : ∀ i, i < n → t i = t' i) (hv : ∀ i, i < n → v i = v' i) (h : pu_WS n t v f) : pu_WS n t' v' f := by
  intro hm
  have h1 := h hm
  have e1 : ∀ i, i < n % 16 → pu_sh t (n / 16) i = pu_sh t' (n / 16) i := fun i hi => ht _ (by omega)
  have e2 : ∀ i, i < n % 16 → pu_sh v (n / 16) i = pu_sh v' (n / 16) i := fun i hi => hv _ (by omega)
  rw [pu_gb_congr e1, pu_wn_congr e2, hv (n - 1) (by omega)] at h1
  exact h1
/-- what the checks of append leave -/
theorem pu_ap_ok {n : Nat} {t v : Nat → Nat} {x y : Int32} (hP : pu_PI n t v) (hb : ¬ pu_apB (n, t, v) x y) : ∃ g w : Nat, x = nI g ∧ y = nI w ∧ pu_last n t + g ≤ 60000 ∧ w ≤ 65535 := by
  have hx0 : ¬ x < 0 := fun q => hb (Or.inl q)
  have hx1 : ¬ 60000 < x := fun q => hb (Or.inr (Or.inl q))
  have hx2 : ¬ 60000 < nI (pu_last n t) + x := fun q => hb (Or.inr (Or.inr (Or.inl q)))
  have hy0 : ¬ y < 0 := fun q => hb (Or.inr (Or.inr (Or.inr (Or.inl q))))
  have hy1 : ¬ 65535 < y := fun q => hb (Or.inr (Or.inr (Or.inr (Or.inr q))))
  obtain ⟨g, hg, rfl⟩ := nI_of2 (n := 60000) (M := 60000) (by decide) hx0 (Int32.not_lt.mp hx1)
  obtain ⟨w, hw, rfl⟩ := nI_of2 (n := 65535) (M := 65535) (by decide) hy0 (Int32.not_lt.mp hy1)
  have hl := pu_last_le hP
  refine ⟨g, w, rfl, rfl, ?_, hw⟩
  rw [nI_add] at hx2
  exact Nat.not_lt.mp (fun q => hx2 (nI_lt (a := 60000) q (by omega)))
theorem pu_PI_add {n T w : Nat} {t v : Nat → Nat} (hP : pu_PI n t v) (hn : n < 64) (h1 : pu_last n t ≤ T) (h2 : T ≤ 60000) (h3 : w ≤ 65535) : pu_PI (n + 1) (pu_un t n T) (pu_un v n w) := by
  refine ⟨by omega, fun i hi => ?_, fun i hi => ?_, fun i hi => ?_⟩
  · by_cases h : i = n
    · rw [h, pu_un_s]; exact h2
    · rw [pu_un_n _ _ h]; exact hP.2.1 i (by omega)
  · by_cases h : i = n
    · rw [h, pu_un_s]; exact h3
    · rw [pu_un_n _ _ h]; exact hP.2.2.1 i (by omega)
  · rw [pu_un_n _ _ (show i ≠ n by omega)]
    by_cases h : i + 1 = n
    · rw [h, pu_un_s]
      unfold pu_last at h1
      rw [if_neg (by omega), show n - 1 = i by omega] at h1
      exact h1
    · rw [pu_un_n _ _ h]; exact hP.2.2.2 i (by omega)
theorem pu_PS_ap {S : pu_S} {x y : Int32} (hP : pu_PS S) : pu_PS (pu_apN S x y) := by
  obtain ⟨n, t, v⟩ := S
  unfold pu_apN
  split
  · exact hP
  next hb =>
    have hb1 : ¬ pu_apB (n, t, v) x y := fun q => hb (Or.inl q)
    have hb2 : ¬ n = 64 := fun q => hb (Or.inr q)
    obtain ⟨g, w, rfl, rfl, h1, h2⟩ := pu_ap_ok hP hb1
    have hn : n ≤ 64 := hP.1
    rw [nI_clamp (by omega), nI_clamp (by omega)]
    exact pu_PI_add hP (by omega) (by omega) h1 h2
abbrev pu_syB (S : pu_S) (k x y z : Int32) : Prop := (k < 0 ∨ 64 < k ∨ x < 0 ∨ 60000 < x ∨ y < 0 ∨ 65535 < y) ∨ (60000 < nI (pu_last S.1 S.2.1) + k * x ∨ z < -65535 ∨ 65535 < z)
/-- the value of the point i of a steady run -/
def pu_sv (y z : Int32) (i : Nat) : Nat := (y + nI i * z).toBitVec.toNat % 65536
def pu_syA (S : pu_S) (k x y z : Int32) : Int32 := if pu_syB S k x y z then -1 else if 64 < nI S.1 + k then -2 else nI S.1 + k
def pu_syN (S : pu_S) (k x y z : Int32) : pu_S := if pu_syB S k x y z ∨ 64 < nI S.1 + k then S else (S.1 + k.toNatClampNeg, fun i => if i < S.1 then S.2.1 i else pu_last S.1 S.2.1 + (i - S.1 + 1) * x.toNatClampNeg, fun i => if i < S.1 then S.2.2 i else pu_sv y z (i - S.1))
theorem pu_sy_ok {n : Nat} {t v : Nat → Nat} {k x y z : Int32} (hP : pu_PI n t v) (hb : ¬ pu_syB (n, t, v) k x y z) : ∃ m g w : Nat, k = nI m ∧ x = nI g ∧ y = nI w ∧ m ≤ 64 ∧ pu_last n t + m * g ≤ 60000 ∧ w ≤ 65535 ∧ g ≤ 60000 := by
  have hk0 : ¬ k < 0 := fun q => hb (Or.inl (Or.inl q))
  have hk1 : ¬ 64 < k := fun q => hb (Or.inl (Or.inr (Or.inl q)))
  have hx0 : ¬ x < 0 := fun q => hb (Or.inl (Or.inr (Or.inr (Or.inl q))))
  have hx1 : ¬ 60000 < x := fun q => hb (Or.inl (Or.inr (Or.inr (Or.inr (Or.inl q)))))
  have hy0 : ¬ y < 0 := fun q => hb (Or.inl (Or.inr (Or.inr (Or.inr (Or.inr (Or.inl q))))))
  have hy1 : ¬ 65535 < y := fun q => hb (Or.inl (Or.inr (Or.inr (Or.inr (Or.inr (Or.inr q))))))
  have hs : ¬ 60000 < nI (pu_last n t) + k * x := fun q => hb (Or.inr (Or.inl q))
  obtain ⟨m, hm, rfl⟩ := nI_of2 (n := 64) (M := 64) (by decide) hk0 (Int32.not_lt.mp hk1)
  obtain ⟨g, hg, rfl⟩ := nI_of2 (n := 60000) (M := 60000) (by decide) hx0 (Int32.not_lt.mp hx1)
  obtain ⟨w, hw, rfl⟩ := nI_of2 (n := 65535) (M := 65535) (by decide) hy0 (Int32.not_lt.mp hy1)
  have hl := pu_last_le hP
  have hmg : m * g ≤ 64 * 60000 := Nat.mul_le_mul hm hg
  refine ⟨m, g, w, rfl, rfl, rfl, hm, ?_, hw, hg⟩
  rw [pk_mul, nI_add] at hs
  exact Nat.not_lt.mp (fun q => hs (nI_lt (a := 60000) q (by omega)))
theorem pu_PI_sy {n m g : Nat} {t v : Nat → Nat} {y z : Int32} (hP : pu_PI n t v) (hn : n + m ≤ 64) (h1 : pu_last n t + m * g ≤ 60000) : pu_PI (n + m) (fun i => if i < n then t i else pu_last n t + (i - n + 1) * g) (fun i => if i < n then v i else pu_sv y z (i - n)) := by
  refine ⟨hn, fun i hi => ?_, fun i hi => ?_, fun i hi => ?_⟩
  · dsimp only
    split
    next h => exact hP.2.1 i h
    next h =>
      have : (i - n + 1) * g ≤ m * g := Nat.mul_le_mul_right g (by omega)
      omega
  · dsimp only
    split
    next h => exact hP.2.2.1 i h
    next h =>
      unfold pu_sv
      have := Nat.mod_lt (y + nI (i - n) * z).toBitVec.toNat (show 0 < 65536 by decide)
      omega
  · dsimp only
    by_cases ha : i < n
    · rw [if_pos ha]
      by_cases hb : i + 1 < n
      · rw [if_pos hb]; exact hP.2.2.2 i hb
      · rw [if_neg hb]
        have e : pu_last n t = t i := by
          unfold pu_last
          rw [if_neg (by omega), show n - 1 = i by omega]
        omega
    · rw [if_neg ha, if_neg (by omega)]
      have : (i - n + 1) * g ≤ (i + 1 - n + 1) * g := Nat.mul_le_mul_right g (by omega)
      omega
theorem pu_PS_sy {S : pu_S} {k x y z : Int32} (hP : pu_PS S) : pu_PS (pu_syN S k x y z) := by
  obtain ⟨n, t, v⟩ := S
  unfold pu_syN
  split
  · exact hP
  next hb =>
    have hb1 : ¬ pu_syB (n, t, v) k x y z := fun q => hb (Or.inl q)
    have hb2 : ¬ 64 < nI n + k := fun q => hb (Or.inr q)
    obtain ⟨m, g, w, rfl, rfl, rfl, hm, h1, h2, h3⟩ := pu_sy_ok hP hb1
    have hn : n ≤ 64 := hP.1
    rw [nI_clamp (by omega), nI_clamp (by omega)]
    rw [nI_add] at hb2
    exact pu_PI_sy hP (Nat.not_lt.mp (fun q => hb2 (nI_lt (a := 64) q (by omega)))) h1
def pu_drA (S : pu_S) : Int32 := if S.1 < 16 then -4 else nI (S.1 - 16)
def pu_drN (S : pu_S) : pu_S := if S.1 < 16 then S else (S.1 - 16, fun i => S.2.1 (i + 16), fun i => S.2.2 (i + 16))
theorem pu_PS_dr {S : pu_S} (hP : pu_PS S) : pu_PS (pu_drN S) := by
  obtain ⟨n, t, v⟩ := S
  unfold pu_drN
  split
  · exact hP
  next h =>
    have h : ¬ n < 16 := h
    refine ⟨Nat.le_trans (Nat.sub_le _ _) hP.1, fun i hi => hP.2.1 _ ?_, fun i hi => hP.2.2.1 _ ?_, fun i hi => ?_⟩
    · have hi : i < n - 16 := hi
      show i + 16 < n
      omega
    · have hi : i < n - 16 := hi
      show i + 16 < n
      omega
    · have hi : i + 1 < n - 16 := hi
      have := hP.2.2.2 (i + 16) (show i + 16 + 1 < n by omega)
      rw [show i + 16 + 1 = i + 1 + 16 by omega] at this
      exact this
def pu_uaA (S : pu_S) : Int32 := if S.1 = 0 then -4 else nI (S.2.2 (S.1 - 1))
def pu_uaN (S : pu_S) : pu_S := (S.1 - 1, S.2.1, S.2.2)
theorem pu_PS_ua {S : pu_S} (hP : pu_PS S) : pu_PS (pu_uaN S) := pu_PI_mono (Nat.sub_le _ _) hP
def pu_tmA (S : pu_S) (x : Int32) : Int32 := if x < 0 ∨ nI S.1 ≤ x then -4 else nI (S.2.1 x.toNatClampNeg)
def pu_vlA (S : pu_S) (x : Int32) : Int32 := if x < 0 ∨ nI S.1 ≤ x then -4 else nI (S.2.2 x.toNatClampNeg)
def pu_sz (S : pu_S) (c : Nat) : Nat := (pu_st (pu_sh S.2.1 c) (pu_sh S.2.2 c) (pu_m S.1 c)).length
def pu_szA (S : pu_S) (x : Int32) : Int32 := if x < 0 ∨ nI ((S.1 + 15) / 16) ≤ x then -4 else nI (pu_sz S x.toNatClampNeg)
def pu_pkA (S : pu_S) : Int32 := nI (pu_sum (pu_sz S) ((S.1 + 15) / 16))
/-- the first point from i on, of k, that is not ahead of x -/
def pu_ffr (t : Nat → Nat) (x : Int32) : Nat → Nat → Int32
  | 0, _ => -4
  | k + 1, i => if x ≤ nI (t i) then nI i else pu_ffr t x k (i + 1)
def pu_ffA (S : pu_S) (x : Int32) : Int32 := pu_ffr S.2.1 x S.1 0
abbrev pu_in (x y : Int32) (T : Nat) : Prop := x ≤ nI T ∧ nI T ≤ y
abbrev pu_bsp (x y : Int32) : Prop := x < 0 ∨ y < x ∨ 60000 < y
def pu_cnt (t : Nat → Nat) (x y : Int32) : Nat → Nat
  | 0 => 0
  | k + 1 => if pu_in x y (t k) then pu_cnt t x y k + 1 else pu_cnt t x y k
def pu_smm (t v : Nat → Nat) (x y : Int32) : Nat → Nat
  | 0 => 0
  | k + 1 => if pu_in x y (t k) then pu_smm t v x y k + v k else pu_smm t v x y k
/-- the least and the greatest value found, or the start -/
def pu_lo (t v : Nat → Nat) (x y : Int32) : Nat → Nat
  | 0 => 65536
  | k + 1 => if pu_in x y (t k) ∧ v k < pu_lo t v x y k then v k else pu_lo t v x y k
def pu_hi (t v : Nat → Nat) (x y : Int32) : Nat → Nat
  | 0 => 0
  | k + 1 => if pu_in x y (t k) ∧ pu_hi t v x y k < v k + 1 then v k + 1 else pu_hi t v x y k
def pu_ctA (S : pu_S) (x y : Int32) : Int32 := if pu_bsp x y then -1 else nI (pu_cnt S.2.1 x y S.1)
def pu_smA (S : pu_S) (x y : Int32) : Int32 := if pu_bsp x y then -1 else nI (pu_smm S.2.1 S.2.2 x y S.1)
def pu_grA (S : pu_S) (x y : Int32) : Int32 := if pu_bsp x y then -1 else if pu_cnt S.2.1 x y S.1 = 0 then -4 else nI (pu_hi S.2.1 S.2.2 x y S.1) - 1
def pu_leA (S : pu_S) (x y : Int32) : Int32 := if pu_bsp x y then -1 else if pu_cnt S.2.1 x y S.1 = 0 then -4 else nI (pu_lo S.2.1 S.2.2 x y S.1)
def pu_va (t v : Nat → Nat) (x : Int32) : Nat → Int32
  | 0 => -4
  | k + 1 => if nI (t k) ≤ x then nI (v k) else pu_va t v x k
def pu_vaA (S : pu_S) (x : Int32) : Int32 := pu_va S.2.1 S.2.2 x S.1
def pu_rs (v : Nat → Nat) : Nat → Nat
  | 0 => 0
  | k + 1 => if 1 ≤ k ∧ v (k - 1) < v k then pu_rs v k + 1 else pu_rs v k
def pu_rsA (S : pu_S) : Int32 := nI (pu_rs S.2.2 S.1)
/-- one more than the widest gap, or 0 -/
def pu_wg (t : Nat → Nat) : Nat → Nat
  | 0 => 0
  | k + 1 => if 1 ≤ k ∧ pu_wg t k < t k - t (k - 1) + 1 then t k - t (k - 1) + 1 else pu_wg t k
def pu_wgA (S : pu_S) : Int32 := if pu_wg S.2.1 S.1 = 0 then -4 else nI (pu_wg S.2.1 S.1 - 1)
end
section
set_option maxRecDepth 100000
/-! SeriesCodec.append, steady, unappend, dropOldest -/
theorem pu_last_succ (k : Nat) (t : Nat → Nat) : pu_last (k + 1) t = t k := by
  unfold pu_last
  rw [if_neg (by omega), Nat.add_sub_cancel]
theorem c0_append {n : Nat} {t v : Nat → Nat} {f : Nat → Int32} {a : Nat → Nat → Int32} (hP : pu_PI n t v) (hI : pu_CI n t v f a) (x y : Int32) :
    sc_I0 yX0_append cX0_append 3 (some .int) 4 [.int x, .int y] f a (fun r f' a' => r = pu_apA (n, t, v) x y ∧ pu_CS (pu_apN (n, t, v) x y) f' a') := by
  have hn := hP.1
  refine x0_ofI pn0_append (fun _ => Nat.le_of_ble_eq_true rfl) (fun K d h hC hret => ?_)
  show sc_W K (xw0 h d f a) 0 [(0, .ref (h 20)), (1, .int x), (2, .int y)] []
  have k31 : pu_apB (n, t, v) x y → sc_W K (xw0 h d f a) 31 [(0, .ref (h 20)), (1, .int x), (2, .int y)] [] := by
    intro hb
    refine sc_iconst (v := -1) hC dX0_append_31 (by decide) ?_
    refine hret _ _ _ _ _ dX0_append_32 ⟨?_, ?_⟩
    · unfold pu_apA
      rw [if_pos hb]
    · unfold pu_apN
      rw [if_pos (Or.inl hb)]
      exact hI
  have k33 : ¬ pu_apB (n, t, v) x y → sc_W K (xw0 h d f a) 33 [(0, .ref (h 20)), (1, .int x), (2, .int y)] [] := by
    intro hb
    refine sc_aload_n hC dX0_append_33 rfl ?_
    refine x0_g0 hC dX0_append_34 ?_
    refine sc_top (hI.1) ?_
    refine sc_bipush (v := 64) hC dX0_append_37 (by decide) ?_
    refine sc_icmp_ne (tgt := 45) hC dX0_append_39 (by decide) (fun c1 => ?_) (fun c1 => ?_)
    · have n64 : ¬ n = 64 := fun q => c1 (by rw [q]; rfl)
      obtain ⟨g, w, rfl, rfl, h1, h2⟩ := pu_ap_ok hP hb
      have eN : pu_apN (n, t, v) (nI g) (nI w) = (n + 1, pu_un t n (pu_last n t + g), pu_un v n w) := by
        unfold pu_apN
        rw [if_neg (fun q => q.elim hb n64), nI_clamp (by omega), nI_clamp (by omega)]
      have e1 : ∀ i, i < n → t i = pu_un t n (pu_last n t + g) i := fun i hi => (pu_un_n _ _ (by omega)).symm
      have e2 : ∀ i, i < n → v i = pu_un v n w i := fun i hi => (pu_un_n _ _ (by omega)).symm
      refine sc_aload_n hC dX0_append_45 rfl ?_
      refine x0_callV hC (c0_re hP hI) k0_resume rfl (by decide) (by decide) dX0_append_46 rfl (Nat.le_of_ble_eq_true rfl) (fun f1 a1 hp => ?_)
      obtain ⟨hI1, hS1⟩ := hp
      refine sc_aload_n hC dX0_append_49 rfl ?_
      refine sc_iload_n hC dX0_append_50 rfl ?_
      refine sc_iload_n hC dX0_append_51 rfl ?_
      refine sc_top (show nI w = nI (pu_un v n w n) by rw [pu_un_s]) ?_
      refine x0_callV hC (c0_wr (g := g) (by omega) (pu_PI_add hP (by omega) (Nat.le_add_right _ g) h1 h2) (pu_CI_congr e1 e2 hI1) (pu_WS_congr e1 e2 hS1) (by rw [pu_un_s, ← pu_last_congr e1])) k0_write rfl (by decide) (by decide) dX0_append_52 rfl (Nat.le_of_ble_eq_true rfl) (fun f2 a2 hp => ?_)
      obtain ⟨hI2, -⟩ := hp
      refine sc_aload_n hC dX0_append_55 rfl ?_
      refine x0_g0 hC dX0_append_56 ?_
      refine sc_top (hI2.1) ?_
      refine sc_iconst (v := 1) hC dX0_append_59 (by decide) ?_
      refine sc_isub hC dX0_append_60 ?_
      refine sc_top (nI_pred n) ?_
      refine hret _ _ _ _ _ dX0_append_61 ⟨?_, ?_⟩
      · unfold pu_apA
        rw [if_neg hb, if_neg n64]
      · rw [eN]
        exact hI2
    · have n64 : n = 64 := (nI_eq (b := 64) (by omega) (by decide)).mp c1
      refine sc_bipush (v := -2) hC dX0_append_42 (by decide) ?_
      refine hret _ _ _ _ _ dX0_append_44 ⟨?_, ?_⟩
      · unfold pu_apA
        rw [if_neg hb, if_pos n64]
      · unfold pu_apN
        rw [if_pos (Or.inr n64)]
        exact hI
  refine sc_iload_n hC dX0_append_0 rfl ?_
  refine sc_if_lt (tgt := 31) hC dX0_append_1 (by decide) (fun c1 => ?_) (fun c1 => ?_)
  · exact k31 (Or.inl c1)
  · refine sc_iload_n hC dX0_append_4 rfl ?_
    refine sc_ldc (v := 60000) hC q104 dX0_append_5 ?_
    refine sc_icmp_gt (tgt := 31) hC dX0_append_7 (by decide) (fun c2 => ?_) (fun c2 => ?_)
    · exact k31 (Or.inr (Or.inl c2))
    · refine sc_aload_n hC dX0_append_10 rfl ?_
      refine x0_callI hC (c0_tnI hI hn) k0_timeNow rfl (by decide) (by decide) dX0_append_11 rfl (Nat.le_of_ble_eq_true rfl) (fun r f1 a1 hp => ?_)
      obtain ⟨rfl, rfl, rfl⟩ := hp
      refine sc_iload_n hC dX0_append_14 rfl ?_
      refine sc_iadd hC dX0_append_15 ?_
      refine sc_ldc (v := 60000) hC q104 dX0_append_16 ?_
      refine sc_icmp_gt (tgt := 31) hC dX0_append_18 (by decide) (fun c3 => ?_) (fun c3 => ?_)
      · exact k31 (Or.inr (Or.inr (Or.inl c3)))
      · refine sc_iload_n hC dX0_append_21 rfl ?_
        refine sc_if_lt (tgt := 31) hC dX0_append_22 (by decide) (fun c4 => ?_) (fun c4 => ?_)
        · exact k31 (Or.inr (Or.inr (Or.inr (Or.inl c4))))
        · refine sc_iload_n hC dX0_append_25 rfl ?_
          refine sc_ldc (v := 65535) hC q109 dX0_append_26 ?_
          refine sc_icmp_le (tgt := 33) hC dX0_append_28 (by decide) (fun c5 => ?_) (fun c5 => ?_)
          · refine k33 (fun q => ?_)
            rcases q with q | q | q | q | q
            · exact c1 q
            · exact c2 q
            · exact c3 q
            · exact c4 q
            · exact absurd c5 (Int32.not_le.mpr q)
          · exact k31 (Or.inr (Or.inr (Or.inr (Or.inr (Int32.not_le.mp c5)))))
section SY
variable {K : sc_K} {d : ClassId} {h : Nat → Nat}
theorem sy_loop (hC : sc_C K cX0_steady RX0 d 6 4) (n m g w : Nat) (z : Int32) (t v : Nat → Nat) (hn : n + m ≤ 64) (hP : pu_PI (n + m) t v) (hg : ∀ i, i < m → t (n + i) = pu_last (n + i) t + g) (hv : ∀ i, i < m → v (n + i) = pu_sv (nI w) z i)
    (hk : ∀ (f1 : Nat → Int32) (a1 : Nat → Nat → Int32), pu_CI (n + m) t v f1 a1 → ∀ lv, sc_W K (xw0 h d f1 a1) 113 lv [.int (nI (n + m))]) :
    ∀ (j i : Nat) (f1 : Nat → Int32) (a1 : Nat → Nat → Int32), i + j = m → pu_CI (n + i) t v f1 a1 → pu_WS (n + i) t v f1 → sc_W K (xw0 h d f1 a1) 82 [(0, .ref (h 20)), (1, .int (nI m)), (2, .int (nI g)), (3, .int (nI w)), (4, .int z), (5, .int (nI i))] [] := by
  intro j
  induction j with
  | zero =>
    intro i f1 a1 hij hI hS
    rw [Nat.add_zero] at hij
    subst hij
    refine sc_iload hC dX0_steady_82 rfl ?_
    refine sc_iload_n hC dX0_steady_84 rfl ?_
    refine sc_icmp_ge (tgt := 109) hC dX0_steady_85 (by decide) (fun c1 => ?_) (fun c1 => ?_)
    · refine sc_aload_n hC dX0_steady_109 rfl ?_
      refine x0_g0 hC dX0_steady_110 ?_
      refine sc_top (hI.1) ?_
      exact hk f1 a1 hI _
    · exact absurd (nI_le (Nat.le_refl _) (by omega)) c1
  | succ j ih =>
    intro i f1 a1 hij hI hS
    refine sc_iload hC dX0_steady_82 rfl ?_
    refine sc_iload_n hC dX0_steady_84 rfl ?_
    refine sc_icmp_ge (tgt := 109) hC dX0_steady_85 (by decide) (fun c1 => ?_) (fun c1 => ?_)
    · exact absurd c1 (nI_ge (by omega) (by omega))
    · refine sc_aload_n hC dX0_steady_88 rfl ?_
      refine sc_iload_n hC dX0_steady_89 rfl ?_
      refine sc_iload_n hC dX0_steady_90 rfl ?_
      refine sc_iload hC dX0_steady_91 rfl ?_
      refine sc_iload hC dX0_steady_93 rfl ?_
      refine sc_imul hC dX0_steady_95 ?_
      refine sc_iadd hC dX0_steady_96 ?_
      refine sc_ldc (v := 65535) hC q109 dX0_steady_97 ?_
      refine sc_iand hC dX0_steady_99 ?_
      refine sc_top ((show (nI w + nI i * z) &&& 65535 = nI (v (n + i)) by rw [hv i (by omega), pk_and _ 16 (by decide)]; rfl)) ?_
      refine x0_callV hC (c0_wr (g := g) (by omega) (pu_PI_mono (by omega) hP) hI hS (hg i (by omega))) k0_write rfl (by decide) (by decide) dX0_steady_100 rfl (Nat.le_of_ble_eq_true rfl) (fun f2 a2 hp => ?_)
      obtain ⟨hI2, hS2, -⟩ := hp
      refine sc_iinc (v := 1) hC dX0_steady_103 (by decide) rfl rfl (by decide) ?_
      refine sc_goto (tgt := 82) hC dX0_steady_106 (by decide) ?_
      rw [nI_1 i]
      exact ih (i + 1) f2 a2 (by omega) hI2 hS2
end SY
theorem c0_steady {n : Nat} {t v : Nat → Nat} {f : Nat → Int32} {a : Nat → Nat → Int32} (hP : pu_PI n t v) (hI : pu_CI n t v f a) (k x y z : Int32) :
    sc_I0 yX0_steady cX0_steady 6 (some .int) 4 [.int k, .int x, .int y, .int z] f a (fun r f' a' => r = pu_syA (n, t, v) k x y z ∧ pu_CS (pu_syN (n, t, v) k x y z) f' a') := by
  have hn := hP.1
  refine x0_ofI pn0_steady (fun _ => Nat.le_of_ble_eq_true rfl) (fun K d h hC hret => ?_)
  show sc_W K (xw0 h d f a) 0 [(0, .ref (h 20)), (1, .int k), (2, .int x), (3, .int y), (4, .int z)] []
  have kb : pu_syB (n, t, v) k x y z → ∀ (pc : Nat) (lv : List (Nat × Value)), decode cX0_steady pc = .ok (.ireturn, 1) → sc_W K (xw0 h d f a) pc lv [.int (-1)] := by
    intro hb pc lv hd
    refine hret _ _ _ _ _ hd ⟨?_, ?_⟩
    · unfold pu_syA
      rw [if_pos hb]
    · unfold pu_syN
      rw [if_pos (Or.inl hb)]
      exact hI
  have k30 : pu_syB (n, t, v) k x y z → sc_W K (xw0 h d f a) 30 [(0, .ref (h 20)), (1, .int k), (2, .int x), (3, .int y), (4, .int z)] [] := by
    intro hb
    refine sc_iconst (v := -1) hC dX0_steady_30 (by decide) ?_
    exact kb hb _ _ dX0_steady_31
  have k59 : pu_syB (n, t, v) k x y z → sc_W K (xw0 h d f a) 59 [(0, .ref (h 20)), (1, .int k), (2, .int x), (3, .int y), (4, .int z)] [] := by
    intro hb
    refine sc_iconst (v := -1) hC dX0_steady_59 (by decide) ?_
    exact kb hb _ _ dX0_steady_60
  have k61 : ¬ pu_syB (n, t, v) k x y z → sc_W K (xw0 h d f a) 61 [(0, .ref (h 20)), (1, .int k), (2, .int x), (3, .int y), (4, .int z)] [] := by
    intro hb
    refine sc_aload_n hC dX0_steady_61 rfl ?_
    refine x0_g0 hC dX0_steady_62 ?_
    refine sc_top (hI.1) ?_
    refine sc_iload_n hC dX0_steady_65 rfl ?_
    refine sc_iadd hC dX0_steady_66 ?_
    refine sc_bipush (v := 64) hC dX0_steady_67 (by decide) ?_
    refine sc_icmp_le (tgt := 75) hC dX0_steady_69 (by decide) (fun c1 => ?_) (fun c1 => ?_)
    · have n64 : ¬ 64 < nI n + k := fun q => absurd c1 (Int32.not_le.mpr q)
      obtain ⟨m, g, w, rfl, rfl, rfl, hm, h1, h2, h3⟩ := pu_sy_ok hP hb
      have hnm : n + m ≤ 64 := by
        rw [nI_add] at n64
        exact Nat.not_lt.mp (fun q => n64 (nI_lt (a := 64) q (by omega)))
      have eN : pu_syN (n, t, v) (nI m) (nI g) (nI w) z = (n + m, fun i => if i < n then t i else pu_last n t + (i - n + 1) * g, fun i => if i < n then v i else pu_sv (nI w) z (i - n)) := by
        unfold pu_syN
        rw [if_neg (fun q => q.elim hb n64), nI_clamp (by omega), nI_clamp (by omega)]
      have e1 : ∀ i, i < n → t i = (fun i => if i < n then t i else pu_last n t + (i - n + 1) * g) i := fun i hi => (if_pos hi).symm
      have e2 : ∀ i, i < n → v i = (fun i => if i < n then v i else pu_sv (nI w) z (i - n)) i := fun i hi => (if_pos hi).symm
      refine sc_aload_n hC dX0_steady_75 rfl ?_
      refine x0_callV hC (c0_re hP hI) k0_resume rfl (by decide) (by decide) dX0_steady_76 rfl (Nat.le_of_ble_eq_true rfl) (fun f1 a1 hp => ?_)
      obtain ⟨hI1, hS1⟩ := hp
      refine sc_iconst (v := 0) hC dX0_steady_79 (by decide) ?_
      refine sc_istore hC dX0_steady_80 rfl (by decide) ?_
      refine sy_loop hC n m g w z _ _ hnm (pu_PI_sy (y := nI w) (z := z) hP hnm h1) ?_ ?_ ?_ m 0 f1 a1 (by omega) (pu_CI_congr e1 e2 hI1) (pu_WS_congr e1 e2 hS1)
      · intro i hi
        rw [if_neg (by omega), show n + i - n + 1 = i + 1 by omega]
        cases i with
        | zero =>
          have e := pu_last_congr e1
          show pu_last n t + (0 + 1) * g = pu_last n _ + g
          rw [← e]
          omega
        | succ i =>
          rw [show n + (i + 1) = n + i + 1 from rfl, pu_last_succ]
          show pu_last n t + (i + 1 + 1) * g = (if n + i < n then t (n + i) else pu_last n t + (n + i - n + 1) * g) + g
          rw [if_neg (by omega), show n + i - n + 1 = i + 1 by omega, Nat.succ_mul (i + 1), ← Nat.add_assoc]
      · intro i hi
        rw [if_neg (by omega), show n + i - n = i by omega]
      · intro f2 a2 hI2 lv
        refine hret _ _ _ _ _ dX0_steady_113 ⟨?_, ?_⟩
        · unfold pu_syA
          rw [if_neg hb, if_neg n64, nI_add]
        · rw [eN]
          exact hI2
    · have n64 : 64 < nI n + k := Int32.not_le.mp c1
      refine sc_bipush (v := -2) hC dX0_steady_72 (by decide) ?_
      refine hret _ _ _ _ _ dX0_steady_74 ⟨?_, ?_⟩
      · unfold pu_syA
        rw [if_neg hb, if_pos n64]
      · unfold pu_syN
        rw [if_pos (Or.inr n64)]
        exact hI
  refine sc_iload_n hC dX0_steady_0 rfl ?_
  refine sc_if_lt (tgt := 30) hC dX0_steady_1 (by decide) (fun c1 => ?_) (fun c1 => ?_)
  · exact k30 (Or.inl (Or.inl c1))
  · refine sc_iload_n hC dX0_steady_4 rfl ?_
    refine sc_bipush (v := 64) hC dX0_steady_5 (by decide) ?_
    refine sc_icmp_gt (tgt := 30) hC dX0_steady_7 (by decide) (fun c2 => ?_) (fun c2 => ?_)
    · exact k30 (Or.inl (Or.inr (Or.inl c2)))
    · refine sc_iload_n hC dX0_steady_10 rfl ?_
      refine sc_if_lt (tgt := 30) hC dX0_steady_11 (by decide) (fun c3 => ?_) (fun c3 => ?_)
      · exact k30 (Or.inl (Or.inr (Or.inr (Or.inl c3))))
      · refine sc_iload_n hC dX0_steady_14 rfl ?_
        refine sc_ldc (v := 60000) hC q104 dX0_steady_15 ?_
        refine sc_icmp_gt (tgt := 30) hC dX0_steady_17 (by decide) (fun c4 => ?_) (fun c4 => ?_)
        · exact k30 (Or.inl (Or.inr (Or.inr (Or.inr (Or.inl c4)))))
        · refine sc_iload_n hC dX0_steady_20 rfl ?_
          refine sc_if_lt (tgt := 30) hC dX0_steady_21 (by decide) (fun c5 => ?_) (fun c5 => ?_)
          · exact k30 (Or.inl (Or.inr (Or.inr (Or.inr (Or.inr (Or.inl c5))))))
          · refine sc_iload_n hC dX0_steady_24 rfl ?_
            refine sc_ldc (v := 65535) hC q109 dX0_steady_25 ?_
            refine sc_icmp_le (tgt := 32) hC dX0_steady_27 (by decide) (fun c6 => ?_) (fun c6 => ?_)
            · refine sc_aload_n hC dX0_steady_32 rfl ?_
              refine x0_callI hC (c0_tnI hI hn) k0_timeNow rfl (by decide) (by decide) dX0_steady_33 rfl (Nat.le_of_ble_eq_true rfl) (fun r f1 a1 hp => ?_)
              obtain ⟨rfl, rfl, rfl⟩ := hp
              refine sc_iload_n hC dX0_steady_36 rfl ?_
              refine sc_iload_n hC dX0_steady_37 rfl ?_
              refine sc_imul hC dX0_steady_38 ?_
              refine sc_iadd hC dX0_steady_39 ?_
              refine sc_ldc (v := 60000) hC q104 dX0_steady_40 ?_
              refine sc_icmp_gt (tgt := 59) hC dX0_steady_42 (by decide) (fun c7 => ?_) (fun c7 => ?_)
              · exact k59 (Or.inr (Or.inl c7))
              · refine sc_iload hC dX0_steady_45 rfl ?_
                refine sc_ldc (v := -65535) hC q166 dX0_steady_47 ?_
                refine sc_icmp_lt (tgt := 59) hC dX0_steady_49 (by decide) (fun c8 => ?_) (fun c8 => ?_)
                · exact k59 (Or.inr (Or.inr (Or.inl c8)))
                · refine sc_iload hC dX0_steady_52 rfl ?_
                  refine sc_ldc (v := 65535) hC q109 dX0_steady_54 ?_
                  refine sc_icmp_le (tgt := 61) hC dX0_steady_56 (by decide) (fun c9 => ?_) (fun c9 => ?_)
                  · refine k61 (fun q => ?_)
                    rcases q with (q | q | q | q | q | q) | (q | q | q)
                    · exact c1 q
                    · exact c2 q
                    · exact c3 q
                    · exact c4 q
                    · exact c5 q
                    · exact absurd c6 (Int32.not_le.mpr q)
                    · exact c7 q
                    · exact c8 q
                    · exact absurd c9 (Int32.not_le.mpr q)
                  · exact k59 (Or.inr (Or.inr (Or.inr (Int32.not_le.mp c9))))
            · exact k30 (Or.inl (Or.inr (Or.inr (Or.inr (Or.inr (Or.inr (Int32.not_le.mp c6)))))))
section UA
variable {K : sc_K} {d : ClassId} {h : Nat → Nat}
theorem ua_loop (hC : sc_C K cX0_unappend RX0 d 6 3) (n c m : Nat) (X3 : Int32) (t v : Nat → Nat) (hm : m ≤ 16) (hn : 16 * c + m ≤ n) (hP : pu_PI n t v)
    (hk : ∀ (f1 : Nat → Int32) (a1 : Nat → Nat → Int32), pu_CI (16 * c + (m - 1)) t v f1 a1 → ∀ lv, sc_W K (xw0 h d f1 a1) 92 lv [.int X3]) :
    ∀ (j i : Nat) (f1 : Nat → Int32) (a1 : Nat → Nat → Int32), i + j + 1 = m → pu_CI (16 * c + i) t v f1 a1 → pu_WS (16 * c + i) t v f1 → pu_RD (pu_sh t c) (pu_sh v c) m a1 → sc_W K (xw0 h d f1 a1) 50 [(0, .ref (h 20)), (1, .int (nI c)), (2, .int (nI m)), (3, .int X3), (4, .int (nI i))] [] := by
  have hn64 := hP.1
  intro j
  induction j with
  | zero =>
    intro i f1 a1 hij hI hS hR
    refine sc_iload hC dX0_unappend_50 rfl ?_
    refine sc_iload_n hC dX0_unappend_52 rfl ?_
    refine sc_iconst (v := 1) hC dX0_unappend_53 (by decide) ?_
    refine sc_isub hC dX0_unappend_54 ?_
    refine sc_top ((pk_sub (b := 1) (by omega) : nI m - 1 = nI (m - 1))) ?_
    refine sc_icmp_ge (tgt := 91) hC dX0_unappend_55 (by decide) (fun c1 => ?_) (fun c1 => ?_)
    · refine sc_iload_n hC dX0_unappend_91 rfl ?_
      rw [show i = m - 1 by omega] at hI
      exact hk f1 a1 hI _
    · exact absurd (nI_le (by omega) (by omega)) c1
  | succ j ih =>
    intro i f1 a1 hij hI hS hR
    have hPi : pu_PI (16 * c + i + 1) t v := pu_PI_mono (by omega) hP
    have hlm := pu_last_mon hPi
    refine sc_iload hC dX0_unappend_50 rfl ?_
    refine sc_iload_n hC dX0_unappend_52 rfl ?_
    refine sc_iconst (v := 1) hC dX0_unappend_53 (by decide) ?_
    refine sc_isub hC dX0_unappend_54 ?_
    refine sc_top ((pk_sub (b := 1) (by omega) : nI m - 1 = nI (m - 1))) ?_
    refine sc_icmp_ge (tgt := 91) hC dX0_unappend_55 (by decide) (fun c1 => ?_) (fun c1 => ?_)
    · exact absurd c1 (nI_ge (by omega) (by omega))
    · refine sc_aload_n hC dX0_unappend_58 rfl ?_
      refine x0_g14 hC dX0_unappend_59 ?_
      refine sc_iload hC dX0_unappend_62 rfl ?_
      refine x0_ald14 hC (i) (rfl) (by omega) dX0_unappend_64 ?_
      refine sc_top ((hR i (by omega)).1) ?_
      refine sc_aload_n hC dX0_unappend_65 rfl ?_
      refine x0_callI hC (c0_tnI hI (by omega)) k0_timeNow rfl (by decide) (by decide) dX0_unappend_66 rfl (Nat.le_of_ble_eq_true rfl) (fun r f2 a2 hp => ?_)
      obtain ⟨rfl, rfl, rfl⟩ := hp
      refine sc_isub hC dX0_unappend_69 ?_
      refine sc_top ((show nI (pu_sh t c i) - nI (pu_last (16 * c + i) t) = nI (t (16 * c + i) - pu_last (16 * c + i) t) from pk_sub hlm)) ?_
      refine sc_istore hC dX0_unappend_70 rfl (by decide) ?_
      refine sc_aload_n hC dX0_unappend_72 rfl ?_
      refine sc_iload hC dX0_unappend_73 rfl ?_
      refine sc_aload_n hC dX0_unappend_75 rfl ?_
      refine x0_g15 hC dX0_unappend_76 ?_
      refine sc_iload hC dX0_unappend_79 rfl ?_
      refine x0_ald15 hC (i) (rfl) (by omega) dX0_unappend_81 ?_
      refine sc_top ((show _ = nI (v (16 * c + i)) from (hR i (by omega)).2)) ?_
      refine x0_callV hC (c0_wr (g := t (16 * c + i) - pu_last (16 * c + i) t) (by omega) hPi hI hS (by omega)) k0_write rfl (by decide) (by decide) dX0_unappend_82 rfl (Nat.le_of_ble_eq_true rfl) (fun f3 a3 hp => ?_)
      obtain ⟨hI3, hS3, -, h14, h15⟩ := hp
      refine sc_iinc (v := 1) hC dX0_unappend_85 (by decide) rfl rfl (by decide) ?_
      refine sc_goto (tgt := 50) hC dX0_unappend_88 (by decide) ?_
      refine sc_kp [0, 1, 2, 3, 4] rfl ?_
      rw [nI_1 i]
      refine ih (i + 1) f3 a3 (by omega) hI3 hS3 (fun q hq => ?_)
      rw [h14, h15]
      exact hR q hq
end UA
theorem c0_unappend {n : Nat} {t v : Nat → Nat} {f : Nat → Int32} {a : Nat → Nat → Int32} (hP : pu_PI n t v) (hI : pu_CI n t v f a) :
    sc_I0 yX0_unappend cX0_unappend 6 (some .int) 3 [] f a (fun r f' a' => r = pu_uaA (n, t, v) ∧ pu_CS (pu_uaN (n, t, v)) f' a') := by
  have hn := hP.1
  refine x0_ofI pn0_unappend (fun _ => Nat.le_of_ble_eq_true rfl) (fun K d h hC hret => ?_)
  show sc_W K (xw0 h d f a) 0 [(0, .ref (h 20))] []
  refine sc_aload_n hC dX0_unappend_0 rfl ?_
  refine x0_g0 hC dX0_unappend_1 ?_
  refine sc_top (hI.1) ?_
  refine sc_if_ne (tgt := 10) hC dX0_unappend_4 (by decide) (fun c1 => ?_) (fun c1 => ?_)
  · have n0 : ¬ n = 0 := fun q => c1 ((pu_n0 (by omega)).mpr q)
    have hcn : 16 * ((n - 1) / 16) < n := by omega
    have hml := pu_m_le n ((n - 1) / 16)
    have hm0 := hml.2.2 hcn
    have hmn : 16 * ((n - 1) / 16) + pu_m n ((n - 1) / 16) = n := by unfold pu_m; split <;> omega
    generalize hce : (n - 1) / 16 = c at hcn hml hm0 hmn
    generalize hme : pu_m n c = m at hml hm0 hmn
    refine sc_aload_n hC dX0_unappend_10 rfl ?_
    refine x0_g0 hC dX0_unappend_11 ?_
    refine sc_top (hI.1) ?_
    refine sc_iconst (v := 1) hC dX0_unappend_14 (by decide) ?_
    refine sc_isub hC dX0_unappend_15 ?_
    refine sc_top ((pk_sub (b := 1) (by omega) : nI n - 1 = nI (n - 1))) ?_
    refine sc_iconst (v := 4) hC dX0_unappend_16 (by decide) ?_
    refine sc_ishr hC dX0_unappend_17 ?_
    refine sc_top ((show nI (n - 1) >>> ((4 : Int32) &&& 31) = nI c by rw [← hce]; exact pk_shrN (by omega) _ 4 (by decide))) ?_
    refine sc_istore_n hC dX0_unappend_18 rfl (by decide) ?_
    refine sc_aload_n hC dX0_unappend_19 rfl ?_
    refine sc_iload_n hC dX0_unappend_20 rfl ?_
    refine x0_callV hC (c0_un hP hI hcn) k0_unpack rfl (by decide) (by decide) dX0_unappend_21 rfl (Nat.le_of_ble_eq_true rfl) (fun f1 a1 hp => ?_)
    obtain ⟨hF, hA, hR, -⟩ := hp
    rw [hme] at hR
    have hI1 := pu_CI_keep (hF 0 (by omega)) hA hI
    refine sc_aload_n hC dX0_unappend_24 rfl ?_
    refine sc_iload_n hC dX0_unappend_25 rfl ?_
    refine x0_callI hC (c0_ic n c f1 a1 hn (by omega) hI1.1) k0_inChunk rfl (by decide) (by decide) dX0_unappend_26 rfl (Nat.le_of_ble_eq_true rfl) (fun r f2 a2 hp => ?_)
    obtain ⟨rfl, rfl, rfl⟩ := hp
    rw [hme]
    refine sc_istore_n hC dX0_unappend_29 rfl (by decide) ?_
    refine sc_aload_n hC dX0_unappend_30 rfl ?_
    refine x0_g15 hC dX0_unappend_31 ?_
    refine sc_iload_n hC dX0_unappend_34 rfl ?_
    refine sc_iconst (v := 1) hC dX0_unappend_35 (by decide) ?_
    refine sc_isub hC dX0_unappend_36 ?_
    refine sc_top ((pk_sub (b := 1) (by omega) : nI m - 1 = nI (m - 1))) ?_
    refine x0_ald15 hC (m - 1) (rfl) (by omega) dX0_unappend_37 ?_
    refine sc_top ((hR (m - 1) (by omega)).2) ?_
    refine sc_istore_n hC dX0_unappend_38 rfl (by decide) ?_
    refine sc_aload_n hC dX0_unappend_39 rfl ?_
    refine sc_iload_n hC dX0_unappend_40 rfl ?_
    refine sc_bipush (v := 16) hC dX0_unappend_41 (by decide) ?_
    refine sc_imul hC dX0_unappend_43 ?_
    refine sc_top ((show nI c * 16 = nI (16 * c) by rw [show (16 : Int32) = nI 16 from rfl, pk_mul, Nat.mul_comm])) ?_
    refine x0_p0 hC dX0_unappend_44 ?_
    refine sc_iconst (v := 0) hC dX0_unappend_47 (by decide) ?_
    refine sc_istore hC dX0_unappend_48 rfl (by decide) ?_
    refine ua_loop hC n c m _ t v (by omega) (by omega) hP ?_ (m - 1) 0 _ _ (by omega) ?_ ?_ hR
    · intro f3 a3 hI3 lv
      refine hret _ _ _ _ _ dX0_unappend_92 ⟨?_, ?_⟩
      · unfold pu_uaA
        rw [if_neg n0]
        show nI (v (16 * c + (m - 1))) = nI (v (n - 1))
        rw [show 16 * c + (m - 1) = n - 1 by omega]
      · show pu_CI (n - 1) t v f3 a3
        rw [show n - 1 = 16 * c + (m - 1) by omega]
        exact hI3
    · refine ⟨rfl, fun c' hc' => ?_⟩
      have e : pu_m (16 * c + 0) c' = pu_m n c' := by unfold pu_m; split <;> split <;> omega
      rw [e]
      exact hI1.2 c' (by omega)
    · intro q
      exact absurd (by omega) q
  · have n0 : n = 0 := (pu_n0 (by omega)).mp c1
    refine sc_bipush (v := -4) hC dX0_unappend_7 (by decide) ?_
    refine hret _ _ _ _ _ dX0_unappend_9 ⟨?_, ?_⟩
    · unfold pu_uaA
      rw [if_pos n0]
    · show pu_CI (n - 1) t v f a
      rw [n0] at hI ⊢
      exact hI
end
section
set_option maxRecDepth 100000
/-! SeriesCodec.dropOldest -/
theorem pu_sft {g b : Nat → Int32} {c s : Nat} (hg : ∀ p, g p = if p < c then b (p + s) else b p) : ∀ p, upd g c (b (c + s)) p = if p < c + 1 then b (p + s) else b p := by
  intro p
  by_cases hp : p = c
  · rw [hp, pk_us, if_pos (by omega)]
  · rw [pk_un hp, hg p]
    by_cases h1 : p < c
    · rw [if_pos h1, if_pos (by omega)]
    · rw [if_neg h1, if_neg (by omega)]
theorem pu_at_shift {b b' : Nat → Int32} {s : Nat} : ∀ (l : List Bool) (p : Nat), (∀ q, p ≤ q → q < p + l.length → pu_bit b' q = pu_bit b (q + s)) → pu_at b (p + s) l → pu_at b' p l
  | [], _, _, _ => trivial
  | x :: l, p, h, hat => by
    simp only [List.length_cons] at h
    refine ⟨(h p (Nat.le_refl _) (by omega)).trans hat.1, pu_at_shift l (p + 1) (fun q h1 h2 => h q (by omega) (by omega)) ?_⟩
    rw [show p + 1 + s = p + s + 1 by omega]
    exact hat.2
section DR
variable {K : sc_K} {d : ClassId} {h : Nat → Nat}
theorem dr_loop1 (hC : sc_C K cX0_dropOldest RX0 d 2 0) (f : Nat → Int32) (a : Nat → Nat → Int32)
    (hk : ∀ a1 : Nat → Nat → Int32, (∀ p, a1 1 p = if p < 72 then a 1 (p + 24) else a 1 p) → (∀ q, q ≠ 1 → a1 q = a q) → ∀ x, sc_W K (xw0 h d f a1) 41 [(0, .ref (h 20)), (1, .int x)] []) :
    ∀ (j k : Nat) (a1 : Nat → Nat → Int32), k + j = 72 → (∀ p, a1 1 p = if p < k then a 1 (p + 24) else a 1 p) → (∀ q, q ≠ 1 → a1 q = a q) → sc_W K (xw0 h d f a1) 14 [(0, .ref (h 20)), (1, .int (nI k))] [] := by
  intro j
  induction j with
  | zero =>
    intro k a1 hkj h1 h2
    refine sc_iload_n hC dX0_dropOldest_14 rfl ?_
    refine sc_bipush (v := 72) hC dX0_dropOldest_15 (by decide) ?_
    refine sc_icmp_ge (tgt := 41) hC dX0_dropOldest_17 (by decide) (fun c1 => ?_) (fun c1 => ?_)
    · rw [show k = 72 by omega] at h1
      exact hk a1 h1 h2 _
    · exact absurd (nI_le (a := 72) (by omega) (by omega)) c1
  | succ j ih =>
    intro k a1 hkj h1 h2
    refine sc_iload_n hC dX0_dropOldest_14 rfl ?_
    refine sc_bipush (v := 72) hC dX0_dropOldest_15 (by decide) ?_
    refine sc_icmp_ge (tgt := 41) hC dX0_dropOldest_17 (by decide) (fun c1 => ?_) (fun c1 => ?_)
    · exact absurd c1 (nI_ge (b := 72) (by omega) (by decide))
    · refine sc_aload_n hC dX0_dropOldest_20 rfl ?_
      refine x0_g1 hC dX0_dropOldest_21 ?_
      refine sc_iload_n hC dX0_dropOldest_24 rfl ?_
      refine sc_aload_n hC dX0_dropOldest_25 rfl ?_
      refine x0_g1 hC dX0_dropOldest_26 ?_
      refine sc_iload_n hC dX0_dropOldest_29 rfl ?_
      refine sc_bipush (v := 24) hC dX0_dropOldest_30 (by decide) ?_
      refine sc_iadd hC dX0_dropOldest_32 ?_
      refine sc_top ((nI_add k 24 : nI k + 24 = nI (k + 24))) ?_
      refine x0_ald1 hC (k + 24) (rfl) (by omega) dX0_dropOldest_33 ?_
      refine sc_top ((h1 (k + 24)).trans (if_neg (by omega))) ?_
      refine x0_ast1 hC (k) (rfl) (by omega) dX0_dropOldest_34 ?_
      refine sc_iinc (v := 1) hC dX0_dropOldest_35 (by decide) rfl rfl (by decide) ?_
      refine sc_goto (tgt := 14) hC dX0_dropOldest_38 (by decide) ?_
      rw [nI_1 k]
      refine ih (k + 1) _ (by omega) ?_ ?_
      · rw [sc_ua_s]
        exact pu_sft h1
      · intro q hq
        rw [sc_ua_n _ _ _ hq]
        exact h2 q hq
theorem dr_loop2 (hC : sc_C K cX0_dropOldest RX0 d 2 0) (f : Nat → Int32) (a b : Nat → Nat → Int32)
    (hk : ∀ a1 : Nat → Nat → Int32, (∀ q, 2 ≤ q → q ≤ 7 → ∀ p, a1 q p = if p < 3 then a q (p + 1) else a q p) → a1 1 = b 1 → ∀ x, sc_W K (xw0 h d f a1) 138 [(0, .ref (h 20)), (1, .int x)] []) :
    ∀ (j c : Nat) (a1 : Nat → Nat → Int32), c + j = 3 → (∀ q, 2 ≤ q → q ≤ 7 → ∀ p, a1 q p = if p < c then a q (p + 1) else a q p) → a1 1 = b 1 → sc_W K (xw0 h d f a1) 43 [(0, .ref (h 20)), (1, .int (nI c))] [] := by
  intro j
  induction j with
  | zero =>
    intro c a1 hcj h1 h2
    refine sc_iload_n hC dX0_dropOldest_43 rfl ?_
    refine sc_iconst (v := 3) hC dX0_dropOldest_44 (by decide) ?_
    refine sc_icmp_ge (tgt := 138) hC dX0_dropOldest_45 (by decide) (fun c1 => ?_) (fun c1 => ?_)
    · rw [show c = 3 by omega] at h1
      exact hk a1 h1 h2 _
    · exact absurd (nI_le (a := 3) (by omega) (by omega)) c1
  | succ j ih =>
    intro c a1 hcj h1 h2
    have hv : ∀ q, 2 ≤ q → q ≤ 7 → a1 q (c + 1) = a q (c + 1) := fun q q1 q2 => (h1 q q1 q2 (c + 1)).trans (if_neg (by omega))
    refine sc_iload_n hC dX0_dropOldest_43 rfl ?_
    refine sc_iconst (v := 3) hC dX0_dropOldest_44 (by decide) ?_
    refine sc_icmp_ge (tgt := 138) hC dX0_dropOldest_45 (by decide) (fun c1 => ?_) (fun c1 => ?_)
    · exact absurd c1 (nI_ge (b := 3) (by omega) (by decide))
    · refine sc_aload_n hC dX0_dropOldest_48 rfl ?_
      refine x0_g2 hC dX0_dropOldest_49 ?_
      refine sc_iload_n hC dX0_dropOldest_52 rfl ?_
      refine sc_aload_n hC dX0_dropOldest_53 rfl ?_
      refine x0_g2 hC dX0_dropOldest_54 ?_
      refine sc_iload_n hC dX0_dropOldest_57 rfl ?_
      refine sc_iconst (v := 1) hC dX0_dropOldest_58 (by decide) ?_
      refine sc_iadd hC dX0_dropOldest_59 ?_
      refine sc_top (nI_1 c) ?_
      refine x0_ald2 hC (c + 1) (rfl) (by omega) dX0_dropOldest_60 ?_
      refine sc_top (hv 2 (by decide) (by decide)) ?_
      refine x0_ast2 hC (c) (rfl) (by omega) dX0_dropOldest_61 ?_
      refine sc_aload_n hC dX0_dropOldest_62 rfl ?_
      refine x0_g3 hC dX0_dropOldest_63 ?_
      refine sc_iload_n hC dX0_dropOldest_66 rfl ?_
      refine sc_aload_n hC dX0_dropOldest_67 rfl ?_
      refine x0_g3 hC dX0_dropOldest_68 ?_
      refine sc_iload_n hC dX0_dropOldest_71 rfl ?_
      refine sc_iconst (v := 1) hC dX0_dropOldest_72 (by decide) ?_
      refine sc_iadd hC dX0_dropOldest_73 ?_
      refine sc_top (nI_1 c) ?_
      refine x0_ald3 hC (c + 1) (rfl) (by omega) dX0_dropOldest_74 ?_
      refine sc_top (hv 3 (by decide) (by decide)) ?_
      refine x0_ast3 hC (c) (rfl) (by omega) dX0_dropOldest_75 ?_
      refine sc_aload_n hC dX0_dropOldest_76 rfl ?_
      refine x0_g4 hC dX0_dropOldest_77 ?_
      refine sc_iload_n hC dX0_dropOldest_80 rfl ?_
      refine sc_aload_n hC dX0_dropOldest_81 rfl ?_
      refine x0_g4 hC dX0_dropOldest_82 ?_
      refine sc_iload_n hC dX0_dropOldest_85 rfl ?_
      refine sc_iconst (v := 1) hC dX0_dropOldest_86 (by decide) ?_
      refine sc_iadd hC dX0_dropOldest_87 ?_
      refine sc_top (nI_1 c) ?_
      refine x0_ald4 hC (c + 1) (rfl) (by omega) dX0_dropOldest_88 ?_
      refine sc_top (hv 4 (by decide) (by decide)) ?_
      refine x0_ast4 hC (c) (rfl) (by omega) dX0_dropOldest_89 ?_
      refine sc_aload_n hC dX0_dropOldest_90 rfl ?_
      refine x0_g5 hC dX0_dropOldest_91 ?_
      refine sc_iload_n hC dX0_dropOldest_94 rfl ?_
      refine sc_aload_n hC dX0_dropOldest_95 rfl ?_
      refine x0_g5 hC dX0_dropOldest_96 ?_
      refine sc_iload_n hC dX0_dropOldest_99 rfl ?_
      refine sc_iconst (v := 1) hC dX0_dropOldest_100 (by decide) ?_
      refine sc_iadd hC dX0_dropOldest_101 ?_
      refine sc_top (nI_1 c) ?_
      refine x0_ald5 hC (c + 1) (rfl) (by omega) dX0_dropOldest_102 ?_
      refine sc_top (hv 5 (by decide) (by decide)) ?_
      refine x0_ast5 hC (c) (rfl) (by omega) dX0_dropOldest_103 ?_
      refine sc_aload_n hC dX0_dropOldest_104 rfl ?_
      refine x0_g6 hC dX0_dropOldest_105 ?_
      refine sc_iload_n hC dX0_dropOldest_108 rfl ?_
      refine sc_aload_n hC dX0_dropOldest_109 rfl ?_
      refine x0_g6 hC dX0_dropOldest_110 ?_
      refine sc_iload_n hC dX0_dropOldest_113 rfl ?_
      refine sc_iconst (v := 1) hC dX0_dropOldest_114 (by decide) ?_
      refine sc_iadd hC dX0_dropOldest_115 ?_
      refine sc_top (nI_1 c) ?_
      refine x0_ald6 hC (c + 1) (rfl) (by omega) dX0_dropOldest_116 ?_
      refine sc_top (hv 6 (by decide) (by decide)) ?_
      refine x0_ast6 hC (c) (rfl) (by omega) dX0_dropOldest_117 ?_
      refine sc_aload_n hC dX0_dropOldest_118 rfl ?_
      refine x0_g7 hC dX0_dropOldest_119 ?_
      refine sc_iload_n hC dX0_dropOldest_122 rfl ?_
      refine sc_aload_n hC dX0_dropOldest_123 rfl ?_
      refine x0_g7 hC dX0_dropOldest_124 ?_
      refine sc_iload_n hC dX0_dropOldest_127 rfl ?_
      refine sc_iconst (v := 1) hC dX0_dropOldest_128 (by decide) ?_
      refine sc_iadd hC dX0_dropOldest_129 ?_
      refine sc_top (nI_1 c) ?_
      refine x0_ald7 hC (c + 1) (rfl) (by omega) dX0_dropOldest_130 ?_
      refine sc_top (hv 7 (by decide) (by decide)) ?_
      refine x0_ast7 hC (c) (rfl) (by omega) dX0_dropOldest_131 ?_
      refine sc_iinc (v := 1) hC dX0_dropOldest_132 (by decide) rfl rfl (by decide) ?_
      refine sc_goto (tgt := 43) hC dX0_dropOldest_135 (by decide) ?_
      rw [nI_1 c]
      refine ih (c + 1) _ (by omega) ?_ h2
      intro q q1 q2
      rcases (show q = 2 ∨ q = 3 ∨ q = 4 ∨ q = 5 ∨ q = 6 ∨ q = 7 by omega) with rfl | rfl | rfl | rfl | rfl | rfl
      · exact pu_sft (h1 2 q1 q2)
      · exact pu_sft (h1 3 q1 q2)
      · exact pu_sft (h1 4 q1 q2)
      · exact pu_sft (h1 5 q1 q2)
      · exact pu_sft (h1 6 q1 q2)
      · exact pu_sft (h1 7 q1 q2)
end DR
theorem c0_dropOldest {n : Nat} {t v : Nat → Nat} {f : Nat → Int32} {a : Nat → Nat → Int32} (hP : pu_PI n t v) (hI : pu_CI n t v f a) :
    sc_I0 yX0_dropOldest cX0_dropOldest 2 (some .int) 0 [] f a (fun r f' a' => r = pu_drA (n, t, v) ∧ pu_CS (pu_drN (n, t, v)) f' a') := by
  have hn := hP.1
  refine x0_ofI pn0_dropOldest (fun _ => Nat.le_of_ble_eq_true rfl) (fun K d h hC hret => ?_)
  show sc_W K (xw0 h d f a) 0 [(0, .ref (h 20))] []
  refine sc_aload_n hC dX0_dropOldest_0 rfl ?_
  refine x0_g0 hC dX0_dropOldest_1 ?_
  refine sc_top (hI.1) ?_
  refine sc_bipush (v := 16) hC dX0_dropOldest_4 (by decide) ?_
  refine sc_icmp_ge (tgt := 12) hC dX0_dropOldest_6 (by decide) (fun c1 => ?_) (fun c1 => ?_)
  · have n16 := (nI_leI (a := 16) (by decide) (by omega)).mp c1
    refine sc_iconst (v := 0) hC dX0_dropOldest_12 (by decide) ?_
    refine sc_istore_n hC dX0_dropOldest_13 rfl (by decide) ?_
    refine dr_loop1 hC f a ?_ 72 0 a rfl (fun p => (if_neg (by omega)).symm) (fun _ _ => rfl)
    intro a1 h1 h2 x
    refine sc_iconst (v := 0) hC dX0_dropOldest_41 (by decide) ?_
    refine sc_istore_n hC dX0_dropOldest_42 rfl (by decide) ?_
    refine dr_loop2 hC f a a1 ?_ 3 0 a1 rfl (fun q q1 q2 p => ?_) rfl
    · intro a2 h3 h4 x
      refine sc_aload_n hC dX0_dropOldest_138 rfl ?_
      refine sc_aload_n hC dX0_dropOldest_139 rfl ?_
      refine x0_g0 hC dX0_dropOldest_140 ?_
      refine sc_top (hI.1) ?_
      refine sc_bipush (v := 16) hC dX0_dropOldest_143 (by decide) ?_
      refine sc_isub hC dX0_dropOldest_145 ?_
      refine sc_top ((pk_sub (b := 16) n16 : nI n - 16 = nI (n - 16))) ?_
      refine x0_p0 hC dX0_dropOldest_146 ?_
      refine sc_aload_n hC dX0_dropOldest_149 rfl ?_
      refine x0_g0 hC dX0_dropOldest_150 ?_
      refine hret _ _ _ _ _ dX0_dropOldest_153 ⟨?_, ?_⟩
      · unfold pu_drA
        rw [if_neg (by show ¬ n < 16; omega)]
        rfl
      · unfold pu_drN
        rw [if_neg (by show ¬ n < 16; omega)]
        refine ⟨rfl, fun c hc => ?_⟩
        have hc : 16 * c < n - 16 := hc
        have hl := (pu_m_le n (c + 1)).1
        have em : pu_m (n - 16) c = pu_m n (c + 1) := by unfold pu_m; split <;> split <;> omega
        have et : pu_sh (fun i => t (i + 16)) c = pu_sh t (c + 1) := by
          funext i
          show t (16 * c + i + 16) = t (16 * (c + 1) + i)
          congr 1
          omega
        have ev : pu_sh (fun i => v (i + 16)) c = pu_sh v (c + 1) := by
          funext i
          show v (16 * c + i + 16) = v (16 * (c + 1) + i)
          congr 1
          omega
        show pu_CH (pu_sh (fun i => t (i + 16)) c) (pu_sh (fun i => v (i + 16)) c) (pu_m (n - 16) c) c a2
        rw [em, et, ev]
        obtain ⟨i2, i1, i3, i4, i5, i6, i7⟩ := hI.2 (c + 1) (by omega)
        have hv : ∀ q, 2 ≤ q → q ≤ 7 → a2 q c = a q (c + 1) := fun q q1 q2 => (h3 q q1 q2 c).trans (if_pos (by omega))
        have hlen := pu_st_len' (pu_sh t (c + 1)) (pu_sh v (c + 1)) (pu_m n (c + 1)) hl
        refine ⟨?_, ?_, ?_, ?_, ?_, ?_, ?_⟩
        · rw [hv 2 (by decide) (by decide)]; exact i2
        · rw [h4]
          refine pu_at_shift (s := 768) _ _ (fun q q1 q2 => ?_) (by rw [show 768 * c + 768 = 768 * (c + 1) by omega]; exact i1)
          unfold pu_bit
          rw [h1 (q / 32), if_pos (by omega), show (q + 768) / 32 = q / 32 + 24 by omega, show (q + 768) % 32 = q % 32 by omega]
        · rw [hv 3 (by decide) (by decide)]; exact i3
        · rw [hv 4 (by decide) (by decide)]; exact i4
        · rw [hv 5 (by decide) (by decide)]; exact i5
        · rw [hv 6 (by decide) (by decide)]; exact i6
        · rw [hv 7 (by decide) (by decide)]; exact i7
    · rw [h2 q (by omega), if_neg (by omega)]
  · have n16 : ¬ 16 ≤ n := fun q => c1 ((nI_leI (a := 16) (by decide) (by omega)).mpr q)
    refine sc_bipush (v := -4) hC dX0_dropOldest_9 (by decide) ?_
    refine hret _ _ _ _ _ dX0_dropOldest_11 ⟨?_, ?_⟩
    · unfold pu_drA
      rw [if_pos (by show n < 16; omega)]
    · unfold pu_drN
      rw [if_pos (by show n < 16; omega)]
      exact hI
end
section
set_option maxRecDepth 100000
/-! SeriesCodec.points, noPoint, time, value, chunks, size, packed -/
theorem c0_points {n : Nat} {t v : Nat → Nat} {f : Nat → Int32} {a : Nat → Nat → Int32} (hI : pu_CI n t v f a) :
    sc_I0 yX0_points cX0_points 1 (some .int) 0 [] f a (fun r f' a' => r = nI n ∧ pu_CS (n, t, v) f' a') := by
  refine x0_ofI pn0_points (fun _ => Nat.le_of_ble_eq_true rfl) (fun K d h hC hret => ?_)
  show sc_W K (xw0 h d f a) 0 [(0, .ref (h 20))] []
  refine sc_aload_n hC dX0_points_0 rfl ?_
  refine x0_g0 hC dX0_points_1 ?_
  exact hret _ _ _ _ _ dX0_points_4 ⟨hI.1, hI⟩
theorem c0_np (n : Nat) (f : Nat → Int32) (a : Nat → Nat → Int32) (hf : f 0 = nI n) (x : Int32) :
    sc_I0 yX0_noPoint cX0_noPoint 2 (some .boolean) 0 [.int x] f a (fun r f' a' => r = (if x < 0 ∨ nI n ≤ x then 1 else 0) ∧ f' = f ∧ a' = a) := by
  refine x0_ofZ pn0_noPoint (fun _ => Nat.le_of_ble_eq_true rfl) (fun K d h hC hret => ?_)
  show sc_W K (xw0 h d f a) 0 [(0, .ref (h 20)), (1, .int x)] []
  have k12 : (x < 0 ∨ nI n ≤ x) → sc_W K (xw0 h d f a) 12 [(0, .ref (h 20)), (1, .int x)] [] := by
    intro hb
    refine sc_iconst (v := 1) hC dX0_noPoint_12 (by decide) ?_
    refine sc_goto (tgt := 17) hC dX0_noPoint_13 (by decide) ?_
    exact hret _ _ _ _ _ dX0_noPoint_17 (Or.inr rfl) ⟨by rw [if_pos hb], rfl, rfl⟩
  refine sc_iload_n hC dX0_noPoint_0 rfl ?_
  refine sc_if_lt (tgt := 12) hC dX0_noPoint_1 (by decide) (fun c1 => ?_) (fun c1 => ?_)
  · exact k12 (Or.inl c1)
  · refine sc_iload_n hC dX0_noPoint_4 rfl ?_
    refine sc_aload_n hC dX0_noPoint_5 rfl ?_
    refine x0_g0 hC dX0_noPoint_6 ?_
    refine sc_top (hf) ?_
    refine sc_icmp_lt (tgt := 16) hC dX0_noPoint_9 (by decide) (fun c2 => ?_) (fun c2 => ?_)
    · refine sc_iconst (v := 0) hC dX0_noPoint_16 (by decide) ?_
      exact hret _ _ _ _ _ dX0_noPoint_17 (Or.inl rfl) ⟨by rw [if_neg (fun q => q.elim c1 (fun q => absurd c2 (Int32.not_lt.mpr q)))], rfl, rfl⟩
    · exact k12 (Or.inr (Int32.not_lt.mp c2))
theorem pu_ix {n : Nat} {x : Int32} (hn : n ≤ 64) (h : ¬ (x < 0 ∨ nI n ≤ x)) : ∃ j, j < n ∧ x = nI j := by
  rcases pk_ix x (n := n) (by omega) with q | q | q
  · exact absurd (Or.inl q) h
  · exact absurd (Or.inr q) h
  · exact q
theorem c0_time {n : Nat} {t v : Nat → Nat} {f : Nat → Int32} {a : Nat → Nat → Int32} (hP : pu_PI n t v) (hI : pu_CI n t v f a) (x : Int32) :
    sc_I0 yX0_time cX0_time 2 (some .int) 3 [.int x] f a (fun r f' a' => r = pu_tmA (n, t, v) x ∧ pu_CS (n, t, v) f' a') := by
  have hn := hP.1
  refine x0_ofI pn0_time (fun _ => Nat.le_of_ble_eq_true rfl) (fun K d h hC hret => ?_)
  show sc_W K (xw0 h d f a) 0 [(0, .ref (h 20)), (1, .int x)] []
  refine sc_aload_n hC dX0_time_0 rfl ?_
  refine sc_iload_n hC dX0_time_1 rfl ?_
  refine x0_callI hC (c0_np n f a hI.1 x) k0_noPoint rfl (by decide) (by decide) dX0_time_2 rfl (Nat.le_of_ble_eq_true rfl) (fun r f1 a1 hp => ?_)
  obtain ⟨rfl, rfl, rfl⟩ := hp
  by_cases hb : x < 0 ∨ nI n ≤ x
  · rw [if_pos hb]
    refine sc_if_eq (tgt := 11) hC dX0_time_5 (by decide) (fun c1 => ?_) (fun c1 => ?_)
    · exact absurd c1 (by decide)
    · refine sc_bipush (v := -4) hC dX0_time_8 (by decide) ?_
      refine hret _ _ _ _ _ dX0_time_10 ⟨?_, hI⟩
      unfold pu_tmA
      rw [if_pos hb]
  · rw [if_neg hb]
    refine sc_if_eq (tgt := 11) hC dX0_time_5 (by decide) (fun c1 => ?_) (fun c1 => ?_)
    · obtain ⟨j, hj, rfl⟩ := pu_ix hn hb
      refine sc_aload_n hC dX0_time_11 rfl ?_
      refine sc_iload_n hC dX0_time_12 rfl ?_
      refine sc_iconst (v := 4) hC dX0_time_13 (by decide) ?_
      refine sc_ishr hC dX0_time_14 ?_
      refine sc_top ((pk_shrN (by omega) _ 4 (by decide) : nI j >>> ((4 : Int32) &&& 31) = nI (j / 16))) ?_
      refine x0_callV hC (c0_un hP hI (show 16 * (j / 16) < n by omega)) k0_unpack rfl (by decide) (by decide) dX0_time_15 rfl (Nat.le_of_ble_eq_true rfl) (fun f2 a2 hp => ?_)
      obtain ⟨hF, hA, hR, -⟩ := hp
      have hm : j % 16 < pu_m n (j / 16) := by unfold pu_m; split <;> omega
      refine sc_aload_n hC dX0_time_18 rfl ?_
      refine x0_g14 hC dX0_time_19 ?_
      refine sc_iload_n hC dX0_time_22 rfl ?_
      refine sc_bipush (v := 15) hC dX0_time_23 (by decide) ?_
      refine sc_iand hC dX0_time_25 ?_
      refine sc_top ((pk_andN (by omega) 4 (by decide) : nI j &&& 15 = nI (j % 16))) ?_
      refine x0_ald14 hC (j % 16) (rfl) (by omega) dX0_time_26 ?_
      refine hret _ _ _ _ _ dX0_time_27 ⟨?_, pu_CI_keep (hF 0 (by omega)) hA hI⟩
      unfold pu_tmA
      rw [if_neg hb, nI_clamp (by omega), (hR (j % 16) hm).1]
      show nI (t (16 * (j / 16) + j % 16)) = nI (t j)
      rw [show 16 * (j / 16) + j % 16 = j by omega]
    · exact absurd rfl c1
theorem c0_value {n : Nat} {t v : Nat → Nat} {f : Nat → Int32} {a : Nat → Nat → Int32} (hP : pu_PI n t v) (hI : pu_CI n t v f a) (x : Int32) :
    sc_I0 yX0_value cX0_value 2 (some .int) 3 [.int x] f a (fun r f' a' => r = pu_vlA (n, t, v) x ∧ pu_CS (n, t, v) f' a') := by
  have hn := hP.1
  refine x0_ofI pn0_value (fun _ => Nat.le_of_ble_eq_true rfl) (fun K d h hC hret => ?_)
  show sc_W K (xw0 h d f a) 0 [(0, .ref (h 20)), (1, .int x)] []
  refine sc_aload_n hC dX0_value_0 rfl ?_
  refine sc_iload_n hC dX0_value_1 rfl ?_
  refine x0_callI hC (c0_np n f a hI.1 x) k0_noPoint rfl (by decide) (by decide) dX0_value_2 rfl (Nat.le_of_ble_eq_true rfl) (fun r f1 a1 hp => ?_)
  obtain ⟨rfl, rfl, rfl⟩ := hp
  by_cases hb : x < 0 ∨ nI n ≤ x
  · rw [if_pos hb]
    refine sc_if_eq (tgt := 11) hC dX0_value_5 (by decide) (fun c1 => ?_) (fun c1 => ?_)
    · exact absurd c1 (by decide)
    · refine sc_bipush (v := -4) hC dX0_value_8 (by decide) ?_
      refine hret _ _ _ _ _ dX0_value_10 ⟨?_, hI⟩
      unfold pu_vlA
      rw [if_pos hb]
  · rw [if_neg hb]
    refine sc_if_eq (tgt := 11) hC dX0_value_5 (by decide) (fun c1 => ?_) (fun c1 => ?_)
    · obtain ⟨j, hj, rfl⟩ := pu_ix hn hb
      refine sc_aload_n hC dX0_value_11 rfl ?_
      refine sc_iload_n hC dX0_value_12 rfl ?_
      refine sc_iconst (v := 4) hC dX0_value_13 (by decide) ?_
      refine sc_ishr hC dX0_value_14 ?_
      refine sc_top ((pk_shrN (by omega) _ 4 (by decide) : nI j >>> ((4 : Int32) &&& 31) = nI (j / 16))) ?_
      refine x0_callV hC (c0_un hP hI (show 16 * (j / 16) < n by omega)) k0_unpack rfl (by decide) (by decide) dX0_value_15 rfl (Nat.le_of_ble_eq_true rfl) (fun f2 a2 hp => ?_)
      obtain ⟨hF, hA, hR, -⟩ := hp
      have hm : j % 16 < pu_m n (j / 16) := by unfold pu_m; split <;> omega
      refine sc_aload_n hC dX0_value_18 rfl ?_
      refine x0_g15 hC dX0_value_19 ?_
      refine sc_iload_n hC dX0_value_22 rfl ?_
      refine sc_bipush (v := 15) hC dX0_value_23 (by decide) ?_
      refine sc_iand hC dX0_value_25 ?_
      refine sc_top ((pk_andN (by omega) 4 (by decide) : nI j &&& 15 = nI (j % 16))) ?_
      refine x0_ald15 hC (j % 16) (rfl) (by omega) dX0_value_26 ?_
      refine hret _ _ _ _ _ dX0_value_27 ⟨?_, pu_CI_keep (hF 0 (by omega)) hA hI⟩
      unfold pu_vlA
      rw [if_neg hb, nI_clamp (by omega), (hR (j % 16) hm).2]
      show nI (v (16 * (j / 16) + j % 16)) = nI (v j)
      rw [show 16 * (j / 16) + j % 16 = j by omega]
    · exact absurd rfl c1
theorem c0_chk (n : Nat) (f : Nat → Int32) (a : Nat → Nat → Int32) (hn : n ≤ 64) (hf : f 0 = nI n) : sc_I0 yX0_chunks cX0_chunks 1 (some .int) 0 [] f a (fun r f' a' => r = nI ((n + 15) / 16) ∧ f' = f ∧ a' = a) := by
  refine x0_ofI pn0_chunks (fun _ => Nat.le_of_ble_eq_true rfl) (fun K d h hC hret => ?_)
  show sc_W K (xw0 h d f a) 0 [(0, .ref (h 20))] []
  refine sc_aload_n hC dX0_chunks_0 rfl ?_
  refine x0_g0 hC dX0_chunks_1 ?_
  refine sc_top (hf) ?_
  refine sc_bipush (v := 15) hC dX0_chunks_4 (by decide) ?_
  refine sc_iadd hC dX0_chunks_6 ?_
  refine sc_top ((nI_add n 15 : nI n + 15 = nI (n + 15))) ?_
  refine sc_iconst (v := 4) hC dX0_chunks_7 (by decide) ?_
  refine sc_ishr hC dX0_chunks_8 ?_
  exact hret _ _ _ _ _ dX0_chunks_9 ⟨pk_shrN (by omega) _ 4 (by decide), rfl, rfl⟩
theorem c0_size {n : Nat} {t v : Nat → Nat} {f : Nat → Int32} {a : Nat → Nat → Int32} (hP : pu_PI n t v) (hI : pu_CI n t v f a) (x : Int32) :
    sc_I0 yX0_size cX0_size 2 (some .int) 1 [.int x] f a (fun r f' a' => r = pu_szA (n, t, v) x ∧ pu_CS (n, t, v) f' a') := by
  have hn := hP.1
  refine x0_ofI pn0_size (fun _ => Nat.le_of_ble_eq_true rfl) (fun K d h hC hret => ?_)
  show sc_W K (xw0 h d f a) 0 [(0, .ref (h 20)), (1, .int x)] []
  have k12 : (x < 0 ∨ nI ((n + 15) / 16) ≤ x) → sc_W K (xw0 h d f a) 12 [(0, .ref (h 20)), (1, .int x)] [] := by
    intro hb
    refine sc_bipush (v := -4) hC dX0_size_12 (by decide) ?_
    refine sc_goto (tgt := 23) hC dX0_size_14 (by decide) ?_
    refine hret _ _ _ _ _ dX0_size_23 ⟨?_, hI⟩
    unfold pu_szA
    rw [if_pos hb]
  refine sc_iload_n hC dX0_size_0 rfl ?_
  refine sc_if_lt (tgt := 12) hC dX0_size_1 (by decide) (fun c1 => ?_) (fun c1 => ?_)
  · exact k12 (Or.inl c1)
  · refine sc_iload_n hC dX0_size_4 rfl ?_
    refine sc_aload_n hC dX0_size_5 rfl ?_
    refine x0_callI hC (c0_chk n f a hn hI.1) k0_chunks rfl (by decide) (by decide) dX0_size_6 rfl (Nat.le_of_ble_eq_true rfl) (fun r f1 a1 hp => ?_)
    obtain ⟨rfl, rfl, rfl⟩ := hp
    refine sc_icmp_lt (tgt := 17) hC dX0_size_9 (by decide) (fun c2 => ?_) (fun c2 => ?_)
    · have hb : ¬ (x < 0 ∨ nI ((n + 15) / 16) ≤ x) := fun q => q.elim c1 (fun q => absurd c2 (Int32.not_lt.mpr q))
      obtain ⟨j, hj, rfl⟩ := pu_ix (by omega) hb
      refine sc_aload_n hC dX0_size_17 rfl ?_
      refine x0_g2 hC dX0_size_18 ?_
      refine sc_iload_n hC dX0_size_21 rfl ?_
      refine x0_ald2 hC (j) (rfl) (by omega) dX0_size_22 ?_
      refine hret _ _ _ _ _ dX0_size_23 ⟨?_, hI⟩
      unfold pu_szA
      rw [if_neg hb, nI_clamp (by omega)]
      exact (hI.2 j (by omega)).1
    · exact k12 (Or.inr (Int32.not_lt.mp c2))
section PK
variable {K : sc_K} {d : ClassId} {h : Nat → Nat}
theorem pk_lp (hC : sc_C K cX0_packed RX0 d 3 1) {n : Nat} {t v : Nat → Nat} {f : Nat → Int32} {a : Nat → Nat → Int32} (hn : n ≤ 64) (hI : pu_CI n t v f a)
    (hk : ∀ lv, sc_W K (xw0 h d f a) 28 lv [.int (pu_pkA (n, t, v))]) :
    ∀ (j c : Nat), c + j = (n + 15) / 16 → sc_W K (xw0 h d f a) 4 [(0, .ref (h 20)), (1, .int (nI (pu_sum (pu_sz (n, t, v)) c))), (2, .int (nI c))] [] := by
  intro j
  induction j with
  | zero =>
    intro c hcj
    refine sc_iload_n hC dX0_packed_4 rfl ?_
    refine sc_aload_n hC dX0_packed_5 rfl ?_
    refine x0_callI hC (c0_chk n f a hn hI.1) k0_chunks rfl (by decide) (by decide) dX0_packed_6 rfl (Nat.le_of_ble_eq_true rfl) (fun r f1 a1 hp => ?_)
    obtain ⟨rfl, rfl, rfl⟩ := hp
    refine sc_icmp_ge (tgt := 27) hC dX0_packed_9 (by decide) (fun c1 => ?_) (fun c1 => ?_)
    · refine sc_iload_n hC dX0_packed_27 rfl ?_
      rw [show c = (n + 15) / 16 by omega]
      exact hk _
    · exact absurd (nI_le (by omega) (by omega)) c1
  | succ j ih =>
    intro c hcj
    refine sc_iload_n hC dX0_packed_4 rfl ?_
    refine sc_aload_n hC dX0_packed_5 rfl ?_
    refine x0_callI hC (c0_chk n f a hn hI.1) k0_chunks rfl (by decide) (by decide) dX0_packed_6 rfl (Nat.le_of_ble_eq_true rfl) (fun r f1 a1 hp => ?_)
    obtain ⟨rfl, rfl, rfl⟩ := hp
    refine sc_icmp_ge (tgt := 27) hC dX0_packed_9 (by decide) (fun c1 => ?_) (fun c1 => ?_)
    · exact absurd c1 (nI_ge (by omega) (by omega))
    · refine sc_iload_n hC dX0_packed_12 rfl ?_
      refine sc_aload_n hC dX0_packed_13 rfl ?_
      refine x0_g2 hC dX0_packed_14 ?_
      refine sc_iload_n hC dX0_packed_17 rfl ?_
      refine x0_ald2 hC (c) (rfl) (by omega) dX0_packed_18 ?_
      refine sc_top ((hI.2 c (by omega)).1) ?_
      refine sc_iadd hC dX0_packed_19 ?_
      refine sc_top (nI_add _ _) ?_
      refine sc_istore_n hC dX0_packed_20 rfl (by decide) ?_
      refine sc_iinc (v := 1) hC dX0_packed_21 (by decide) rfl rfl (by decide) ?_
      refine sc_goto (tgt := 4) hC dX0_packed_24 (by decide) ?_
      rw [nI_1 c]
      exact ih (c + 1) (by omega)
end PK
theorem c0_packed {n : Nat} {t v : Nat → Nat} {f : Nat → Int32} {a : Nat → Nat → Int32} (hP : pu_PI n t v) (hI : pu_CI n t v f a) :
    sc_I0 yX0_packed cX0_packed 3 (some .int) 1 [] f a (fun r f' a' => r = pu_pkA (n, t, v) ∧ pu_CS (n, t, v) f' a') := by
  refine x0_ofI pn0_packed (fun _ => Nat.le_of_ble_eq_true rfl) (fun K d h hC hret => ?_)
  show sc_W K (xw0 h d f a) 0 [(0, .ref (h 20))] []
  refine sc_iconst (v := 0) hC dX0_packed_0 (by decide) ?_
  refine sc_istore_n hC dX0_packed_1 rfl (by decide) ?_
  refine sc_iconst (v := 0) hC dX0_packed_2 (by decide) ?_
  refine sc_istore_n hC dX0_packed_3 rfl (by decide) ?_
  exact pk_lp hC hP.1 hI (fun lv => hret _ _ _ _ _ dX0_packed_28 ⟨rfl, hI⟩) _ 0 (Nat.zero_add _)
end
section
set_option maxRecDepth 100000
/-! SeriesCodec.firstFrom, valueAt -/
theorem pu_ff_none {t : Nat → Nat} {x : Int32} : ∀ (k i0 : Nat), (∀ i, i0 ≤ i → i < i0 + k → ¬ x ≤ nI (t i)) → pu_ffr t x k i0 = -4
  | 0, _, _ => rfl
  | k + 1, i0, h => by
    unfold pu_ffr
    rw [if_neg (h i0 (Nat.le_refl _) (by omega))]
    exact pu_ff_none k (i0 + 1) (fun i h1 h2 => h i (by omega) (by omega))
theorem pu_ff_hit {t : Nat → Nat} {x : Int32} {p : Nat} (hp : x ≤ nI (t p)) : ∀ (k i0 : Nat), i0 ≤ p → p < i0 + k → (∀ i, i0 ≤ i → i < p → ¬ x ≤ nI (t i)) → pu_ffr t x k i0 = nI p
  | 0, _, h1, h2, _ => absurd h2 (by omega)
  | k + 1, i0, h1, h2, h => by
    unfold pu_ffr
    by_cases e : i0 = p
    · rw [e, if_pos hp]
    · rw [if_neg (h i0 (Nat.le_refl _) (by omega))]
      exact pu_ff_hit hp k (i0 + 1) (by omega) (by omega) (fun i h3 h4 => h i (by omega) h4)
theorem pu_va_none {t v : Nat → Nat} {x : Int32} : ∀ k : Nat, (∀ i, i < k → ¬ nI (t i) ≤ x) → pu_va t v x k = -4
  | 0, _ => rfl
  | k + 1, h => by
    unfold pu_va
    rw [if_neg (h k (by omega))]
    exact pu_va_none k (fun i hi => h i (by omega))
theorem pu_va_hit {t v : Nat → Nat} {x : Int32} {p : Nat} (hp : nI (t p) ≤ x) : ∀ k : Nat, p < k → (∀ i, p < i → i < k → ¬ nI (t i) ≤ x) → pu_va t v x k = nI (v p)
  | 0, h, _ => absurd h (by omega)
  | k + 1, h, h2 => by
    unfold pu_va
    by_cases e : k = p
    · rw [e, if_pos hp]
    · rw [if_neg (h2 k (by omega) (by omega))]
      exact pu_va_hit hp k (by omega) (fun i h3 h4 => h2 i h3 (by omega))
theorem pu_mle {n : Nat} {t v : Nat → Nat} (hP : pu_PI n t v) {i j : Nat} (h1 : i ≤ j) (h2 : j < n) : nI (t i) ≤ nI (t j) := nI_le (pu_PI_le hP j i h1 h2) (by have := hP.2.1 j h2; omega)
section FF
variable {K : sc_K} {d : ClassId} {h : Nat → Nat}
theorem ff_in (hC : sc_C K cX0_firstFrom RX0 d 6 3) (T : Nat → Nat) (m c : Nat) (x X2 : Int32) (f : Nat → Int32) (a : Nat → Nat → Int32) (hm : m ≤ 16) (hR : ∀ i, i < m → a 14 i = nI (T i)) (hlast : x ≤ nI (T (m - 1)))
    (hk : ∀ i, i < m → x ≤ nI (T i) → (∀ i', i' < i → ¬ x ≤ nI (T i')) → ∀ lv, sc_W K (xw0 h d f a) 67 lv [.int (nI (16 * c + i))]) :
    ∀ (j i : Nat), i + j + 1 = m → (∀ i', i' < i → ¬ x ≤ nI (T i')) → sc_W K (xw0 h d f a) 33 [(0, .ref (h 20)), (1, .int x), (2, .int X2), (3, .int (nI c)), (4, .int (nI i)), (5, .int (nI i))] [] := by
  intro j
  induction j with
  | zero =>
    intro i hij hno
    refine sc_iload hC dX0_firstFrom_33 rfl ?_
    refine sc_bipush (v := 16) hC dX0_firstFrom_35 (by decide) ?_
    refine sc_icmp_ge (tgt := 60) hC dX0_firstFrom_37 (by decide) (fun c1 => ?_) (fun c1 => ?_)
    · exact absurd c1 (nI_ge (b := 16) (by omega) (by decide))
    · refine sc_aload_n hC dX0_firstFrom_40 rfl ?_
      refine x0_g14 hC dX0_firstFrom_41 ?_
      refine sc_iload hC dX0_firstFrom_44 rfl ?_
      refine x0_ald14 hC (i) (rfl) (by omega) dX0_firstFrom_46 ?_
      refine sc_top (hR i (by omega)) ?_
      refine sc_iload_n hC dX0_firstFrom_47 rfl ?_
      refine sc_icmp_ge (tgt := 60) hC dX0_firstFrom_48 (by decide) (fun c2 => ?_) (fun c2 => ?_)
      · refine sc_iload_n hC dX0_firstFrom_60 rfl ?_
        refine sc_bipush (v := 16) hC dX0_firstFrom_61 (by decide) ?_
        refine sc_imul hC dX0_firstFrom_63 ?_
        refine sc_iload hC dX0_firstFrom_64 rfl ?_
        refine sc_iadd hC dX0_firstFrom_66 ?_
        refine sc_top ((show nI c * 16 + nI i = nI (16 * c + i) by rw [show (16 : Int32) = nI 16 from rfl, pk_mul, nI_add, Nat.mul_comm])) ?_
        exact hk i (by omega) c2 hno _
      · exact absurd (by rw [show i = m - 1 by omega]; exact hlast) c2
  | succ j ih =>
    intro i hij hno
    refine sc_iload hC dX0_firstFrom_33 rfl ?_
    refine sc_bipush (v := 16) hC dX0_firstFrom_35 (by decide) ?_
    refine sc_icmp_ge (tgt := 60) hC dX0_firstFrom_37 (by decide) (fun c1 => ?_) (fun c1 => ?_)
    · exact absurd c1 (nI_ge (b := 16) (by omega) (by decide))
    · refine sc_aload_n hC dX0_firstFrom_40 rfl ?_
      refine x0_g14 hC dX0_firstFrom_41 ?_
      refine sc_iload hC dX0_firstFrom_44 rfl ?_
      refine x0_ald14 hC (i) (rfl) (by omega) dX0_firstFrom_46 ?_
      refine sc_top (hR i (by omega)) ?_
      refine sc_iload_n hC dX0_firstFrom_47 rfl ?_
      refine sc_icmp_ge (tgt := 60) hC dX0_firstFrom_48 (by decide) (fun c2 => ?_) (fun c2 => ?_)
      · refine sc_iload_n hC dX0_firstFrom_60 rfl ?_
        refine sc_bipush (v := 16) hC dX0_firstFrom_61 (by decide) ?_
        refine sc_imul hC dX0_firstFrom_63 ?_
        refine sc_iload hC dX0_firstFrom_64 rfl ?_
        refine sc_iadd hC dX0_firstFrom_66 ?_
        refine sc_top ((show nI c * 16 + nI i = nI (16 * c + i) by rw [show (16 : Int32) = nI 16 from rfl, pk_mul, nI_add, Nat.mul_comm])) ?_
        exact hk i (by omega) c2 hno _
      · refine sc_iinc (v := 1) hC dX0_firstFrom_51 (by decide) rfl rfl (by decide) ?_
        refine sc_iinc (v := 1) hC dX0_firstFrom_54 (by decide) rfl rfl (by decide) ?_
        refine sc_goto (tgt := 33) hC dX0_firstFrom_57 (by decide) ?_
        rw [nI_1 i]
        refine ih (i + 1) (by omega) (fun i' hi' => ?_)
        by_cases e : i' = i
        · rw [e]; exact c2
        · exact hno i' (by omega)
theorem ff_out (hC : sc_C K cX0_firstFrom RX0 d 6 3) {n : Nat} {t v : Nat → Nat} {f : Nat → Int32} {a : Nat → Nat → Int32} (hP : pu_PI n t v) (hI : pu_CI n t v f a) (x : Int32)
    (hret : ∀ (r : Int32) (f' : Nat → Int32) (a' : Nat → Nat → Int32) (pc : Nat) (lv : List (Nat × Value)), decode cX0_firstFrom pc = .ok (.ireturn, 1) → (r = pu_ffA (n, t, v) x ∧ pu_CS (n, t, v) f' a') → sc_W K (xw0 h d f' a') pc lv [.int r]) :
    ∀ (j c : Nat), c + j = (n + 15) / 16 → (∀ i, i < 16 * c → i < n → ¬ x ≤ nI (t i)) → sc_W K (xw0 h d f a) 7 [(0, .ref (h 20)), (1, .int x), (2, .int (nI ((n + 15) / 16))), (3, .int (nI c))] [] := by
  have hn := hP.1
  intro j
  induction j with
  | zero =>
    intro c hcj hno
    refine sc_iload_n hC dX0_firstFrom_7 rfl ?_
    refine sc_iload_n hC dX0_firstFrom_8 rfl ?_
    refine sc_icmp_ge (tgt := 74) hC dX0_firstFrom_9 (by decide) (fun c1 => ?_) (fun c1 => ?_)
    · refine sc_bipush (v := -4) hC dX0_firstFrom_74 (by decide) ?_
      refine hret _ _ _ _ _ dX0_firstFrom_76 ⟨?_, hI⟩
      exact (pu_ff_none _ _ (fun i _ h2 => hno i (by omega) (by omega))).symm
    · exact absurd (nI_le (by omega) (by omega)) c1
  | succ j ih =>
    intro c hcj hno
    have hcn : 16 * c < n := by omega
    have hml := pu_m_le n c
    have hm0 := hml.2.2 hcn
    have hi4 := (hI.2 c hcn).2.2.2.1
    refine sc_iload_n hC dX0_firstFrom_7 rfl ?_
    refine sc_iload_n hC dX0_firstFrom_8 rfl ?_
    refine sc_icmp_ge (tgt := 74) hC dX0_firstFrom_9 (by decide) (fun c1 => ?_) (fun c1 => ?_)
    · exact absurd c1 (nI_ge (by omega) (by omega))
    · refine sc_aload_n hC dX0_firstFrom_12 rfl ?_
      refine x0_g4 hC dX0_firstFrom_13 ?_
      refine sc_iload_n hC dX0_firstFrom_16 rfl ?_
      refine x0_ald4 hC (c) (rfl) (by omega) dX0_firstFrom_17 ?_
      refine sc_top (hi4) ?_
      refine sc_iload_n hC dX0_firstFrom_18 rfl ?_
      refine sc_icmp_lt (tgt := 68) hC dX0_firstFrom_19 (by decide) (fun c2 => ?_) (fun c2 => ?_)
      · refine sc_iinc (v := 1) hC dX0_firstFrom_68 (by decide) rfl rfl (by decide) ?_
        refine sc_goto (tgt := 7) hC dX0_firstFrom_71 (by decide) ?_
        rw [nI_1 c]
        refine ih (c + 1) (by omega) (fun i h1 h2 q => ?_)
        have hle : nI (t i) ≤ nI (pu_sh t c (pu_m n c - 1)) := pu_mle hP (j := 16 * c + (pu_m n c - 1)) (by unfold pu_m; split <;> omega) (by omega)
        exact absurd (Int32.lt_of_le_of_lt hle c2) (Int32.not_lt.mpr q)
      · refine sc_aload_n hC dX0_firstFrom_22 rfl ?_
        refine sc_iload_n hC dX0_firstFrom_23 rfl ?_
        refine x0_callV hC (c0_un hP hI hcn) k0_unpack rfl (by decide) (by decide) dX0_firstFrom_24 rfl (Nat.le_of_ble_eq_true rfl) (fun f1 a1 hp => ?_)
        obtain ⟨hF, hA, hR, -⟩ := hp
        refine sc_iconst (v := 0) hC dX0_firstFrom_27 (by decide) ?_
        refine sc_istore hC dX0_firstFrom_28 rfl (by decide) ?_
        refine sc_iconst (v := 0) hC dX0_firstFrom_30 (by decide) ?_
        refine sc_istore hC dX0_firstFrom_31 rfl (by decide) ?_
        refine ff_in hC (pu_sh t c) (pu_m n c) c x _ f1 a1 hml.1 (fun i hi => (hR i hi).1) (Int32.not_lt.mp c2) ?_ (pu_m n c - 1) 0 (by omega) (fun i' hi' => absurd hi' (Nat.not_lt_zero _))
        intro i hi hx hno2 lv
        refine hret _ _ _ _ _ dX0_firstFrom_67 ⟨?_, pu_CI_keep (hF 0 (by omega)) hA hI⟩
        refine (pu_ff_hit (p := 16 * c + i) hx _ _ (Nat.zero_le _) (by show 16 * c + i < 0 + n; omega) (fun i' h1 h2 => ?_)).symm
        by_cases e : i' < 16 * c
        · exact hno i' e (by omega)
        · have := hno2 (i' - 16 * c) (by omega)
          unfold pu_sh at this
          rw [show 16 * c + (i' - 16 * c) = i' by omega] at this
          exact this
end FF
theorem c0_firstFrom {n : Nat} {t v : Nat → Nat} {f : Nat → Int32} {a : Nat → Nat → Int32} (hP : pu_PI n t v) (hI : pu_CI n t v f a) (x : Int32) :
    sc_I0 yX0_firstFrom cX0_firstFrom 6 (some .int) 3 [.int x] f a (fun r f' a' => r = pu_ffA (n, t, v) x ∧ pu_CS (n, t, v) f' a') := by
  refine x0_ofI pn0_firstFrom (fun _ => Nat.le_of_ble_eq_true rfl) (fun K d h hC hret => ?_)
  show sc_W K (xw0 h d f a) 0 [(0, .ref (h 20)), (1, .int x)] []
  refine sc_aload_n hC dX0_firstFrom_0 rfl ?_
  refine x0_callI hC (c0_chk n f a hP.1 hI.1) k0_chunks rfl (by decide) (by decide) dX0_firstFrom_1 rfl (Nat.le_of_ble_eq_true rfl) (fun r f1 a1 hp => ?_)
  obtain ⟨rfl, rfl, rfl⟩ := hp
  refine sc_istore_n hC dX0_firstFrom_4 rfl (by decide) ?_
  refine sc_iconst (v := 0) hC dX0_firstFrom_5 (by decide) ?_
  refine sc_istore_n hC dX0_firstFrom_6 rfl (by decide) ?_
  exact ff_out hC hP hI x hret _ 0 (Nat.zero_add _) (fun i h1 _ => absurd h1 (by omega))
section VA
variable {K : sc_K} {d : ClassId} {h : Nat → Nat}
theorem va_in (hC : sc_C K cX0_valueAt RX0 d 7 3) (T V : Nat → Nat) (m : Nat) (x X2 X3 X4 : Int32) (f : Nat → Int32) (a : Nat → Nat → Int32) (hm : m ≤ 16) (hR : pu_RD T V m a) (hfirst : nI (T 0) ≤ x)
    (hk : ∀ i, i < m → nI (T i) ≤ x → (∀ i', i < i' → i' < m → ¬ nI (T i') ≤ x) → ∀ lv, sc_W K (xw0 h d f a) 78 lv [.int (nI (V i))]) :
    ∀ (i k : Nat), i + k + 1 = m → (∀ i', i < i' → i' < m → ¬ nI (T i') ≤ x) → sc_W K (xw0 h d f a) 44 [(0, .ref (h 20)), (1, .int x), (2, .int X2), (3, .int X3), (4, .int X4), (5, .int (nI i)), (6, .int (nI k))] [] := by
  intro i
  induction i with
  | zero =>
    intro k hik hno
    refine sc_iload hC dX0_valueAt_44 rfl ?_
    refine sc_bipush (v := 16) hC dX0_valueAt_46 (by decide) ?_
    refine sc_icmp_ge (tgt := 71) hC dX0_valueAt_48 (by decide) (fun c1 => ?_) (fun c1 => ?_)
    · exact absurd c1 (nI_ge (b := 16) (by omega) (by decide))
    · refine sc_aload_n hC dX0_valueAt_51 rfl ?_
      refine x0_g14 hC dX0_valueAt_52 ?_
      refine sc_iload hC dX0_valueAt_55 rfl ?_
      refine x0_ald14 hC (0) (rfl) (by omega) dX0_valueAt_57 ?_
      refine sc_top ((hR 0 (by omega)).1) ?_
      refine sc_iload_n hC dX0_valueAt_58 rfl ?_
      refine sc_icmp_le (tgt := 71) hC dX0_valueAt_59 (by decide) (fun c2 => ?_) (fun c2 => ?_)
      · refine sc_aload_n hC dX0_valueAt_71 rfl ?_
        refine x0_g15 hC dX0_valueAt_72 ?_
        refine sc_iload hC dX0_valueAt_75 rfl ?_
        refine x0_ald15 hC (0) (rfl) (by omega) dX0_valueAt_77 ?_
        refine sc_top ((hR 0 (by omega)).2) ?_
        exact hk 0 (by omega) c2 hno _
      · exact absurd hfirst c2
  | succ i ih =>
    intro k hik hno
    refine sc_iload hC dX0_valueAt_44 rfl ?_
    refine sc_bipush (v := 16) hC dX0_valueAt_46 (by decide) ?_
    refine sc_icmp_ge (tgt := 71) hC dX0_valueAt_48 (by decide) (fun c1 => ?_) (fun c1 => ?_)
    · exact absurd c1 (nI_ge (b := 16) (by omega) (by decide))
    · refine sc_aload_n hC dX0_valueAt_51 rfl ?_
      refine x0_g14 hC dX0_valueAt_52 ?_
      refine sc_iload hC dX0_valueAt_55 rfl ?_
      refine x0_ald14 hC (i + 1) (rfl) (by omega) dX0_valueAt_57 ?_
      refine sc_top ((hR (i + 1) (by omega)).1) ?_
      refine sc_iload_n hC dX0_valueAt_58 rfl ?_
      refine sc_icmp_le (tgt := 71) hC dX0_valueAt_59 (by decide) (fun c2 => ?_) (fun c2 => ?_)
      · refine sc_aload_n hC dX0_valueAt_71 rfl ?_
        refine x0_g15 hC dX0_valueAt_72 ?_
        refine sc_iload hC dX0_valueAt_75 rfl ?_
        refine x0_ald15 hC (i + 1) (rfl) (by omega) dX0_valueAt_77 ?_
        refine sc_top ((hR (i + 1) (by omega)).2) ?_
        exact hk (i + 1) (by omega) c2 hno _
      · refine sc_iinc (v := -1) hC dX0_valueAt_62 (by decide) rfl rfl (by decide) ?_
        refine sc_iinc (v := 1) hC dX0_valueAt_65 (by decide) rfl rfl (by decide) ?_
        refine sc_goto (tgt := 44) hC dX0_valueAt_68 (by decide) ?_
        rw [pk_m1 i, nI_1 k]
        refine ih (k + 1) (by omega) (fun i' h1 h2 => ?_)
        by_cases e : i' = i + 1
        · rw [e]; exact c2
        · exact hno i' (by omega) h2
theorem va_out (hC : sc_C K cX0_valueAt RX0 d 7 3) {n : Nat} {t v : Nat → Nat} {f : Nat → Int32} {a : Nat → Nat → Int32} (hP : pu_PI n t v) (hI : pu_CI n t v f a) (x X2 : Int32)
    (hret : ∀ (r : Int32) (f' : Nat → Int32) (a' : Nat → Nat → Int32) (pc : Nat) (lv : List (Nat × Value)), decode cX0_valueAt pc = .ok (.ireturn, 1) → (r = pu_vaA (n, t, v) x ∧ pu_CS (n, t, v) f' a') → sc_W K (xw0 h d f' a') pc lv [.int r]) :
    ∀ (j : Nat), j ≤ (n + 15) / 16 → (∀ i, 16 * j ≤ i → i < n → ¬ nI (t i) ≤ x) → sc_W K (xw0 h d f a) 9 [(0, .ref (h 20)), (1, .int x), (2, .int X2), (3, .int (nI j - 1))] [] := by
  have hn := hP.1
  intro j
  induction j with
  | zero =>
    intro hj hno
    refine sc_iload_n hC dX0_valueAt_9 rfl ?_
    refine sc_if_lt (tgt := 85) hC dX0_valueAt_10 (by decide) (fun c1 => ?_) (fun c1 => ?_)
    · refine sc_bipush (v := -4) hC dX0_valueAt_85 (by decide) ?_
      refine hret _ _ _ _ _ dX0_valueAt_87 ⟨?_, hI⟩
      exact (pu_va_none _ (fun i hi => hno i (by omega) hi)).symm
    · exact absurd (by decide) c1
  | succ c ih =>
    intro hj hno
    rw [nI_pred c]
    have hcn : 16 * c < n := by omega
    have hml := pu_m_le n c
    have hm0 := hml.2.2 hcn
    have hi3 := (hI.2 c hcn).2.2.1
    refine sc_iload_n hC dX0_valueAt_9 rfl ?_
    refine sc_if_lt (tgt := 85) hC dX0_valueAt_10 (by decide) (fun c1 => ?_) (fun c1 => ?_)
    · exact absurd c1 (nI_pos (by omega))
    · refine sc_aload_n hC dX0_valueAt_13 rfl ?_
      refine x0_g3 hC dX0_valueAt_14 ?_
      refine sc_iload_n hC dX0_valueAt_17 rfl ?_
      refine x0_ald3 hC (c) (rfl) (by omega) dX0_valueAt_18 ?_
      refine sc_top (hi3) ?_
      refine sc_iload_n hC dX0_valueAt_19 rfl ?_
      refine sc_icmp_gt (tgt := 79) hC dX0_valueAt_20 (by decide) (fun c2 => ?_) (fun c2 => ?_)
      · refine sc_iinc (v := -1) hC dX0_valueAt_79 (by decide) rfl rfl (by decide) ?_
        refine sc_goto (tgt := 9) hC dX0_valueAt_82 (by decide) ?_
        rw [pu_sub1]
        refine ih (by omega) (fun i h1 h2 q => ?_)
        have hle : nI (pu_sh t c 0) ≤ nI (t i) := pu_mle hP (i := 16 * c + 0) h1 h2
        exact absurd (Int32.lt_of_lt_of_le c2 hle) (Int32.not_lt.mpr q)
      · refine sc_aload_n hC dX0_valueAt_23 rfl ?_
        refine sc_iload_n hC dX0_valueAt_24 rfl ?_
        refine x0_callV hC (c0_un hP hI hcn) k0_unpack rfl (by decide) (by decide) dX0_valueAt_25 rfl (Nat.le_of_ble_eq_true rfl) (fun f1 a1 hp => ?_)
        obtain ⟨hF, hA, hR, -⟩ := hp
        have hI1 := pu_CI_keep (hF 0 (by omega)) hA hI
        refine sc_aload_n hC dX0_valueAt_28 rfl ?_
        refine sc_iload_n hC dX0_valueAt_29 rfl ?_
        refine x0_callI hC (c0_ic n c f1 a1 hn (by omega) hI1.1) k0_inChunk rfl (by decide) (by decide) dX0_valueAt_30 rfl (Nat.le_of_ble_eq_true rfl) (fun r f2 a2 hp => ?_)
        obtain ⟨rfl, rfl, rfl⟩ := hp
        refine sc_istore hC dX0_valueAt_33 rfl (by decide) ?_
        refine sc_iload hC dX0_valueAt_35 rfl ?_
        refine sc_iconst (v := 1) hC dX0_valueAt_37 (by decide) ?_
        refine sc_isub hC dX0_valueAt_38 ?_
        refine sc_top ((pk_sub (b := 1) (by omega) : nI (pu_m n c) - 1 = nI (pu_m n c - 1))) ?_
        refine sc_istore hC dX0_valueAt_39 rfl (by decide) ?_
        refine sc_iconst (v := 0) hC dX0_valueAt_41 (by decide) ?_
        refine sc_istore hC dX0_valueAt_42 rfl (by decide) ?_
        refine va_in hC (pu_sh t c) (pu_sh v c) (pu_m n c) x _ _ _ _ _ hml.1 hR (Int32.not_lt.mp c2) ?_ (pu_m n c - 1) 0 (by omega) (fun i' h1 h2 => absurd h2 (by omega))
        intro i hi hx hno2 lv
        refine hret _ _ _ _ _ dX0_valueAt_78 ⟨?_, hI1⟩
        refine (pu_va_hit (p := 16 * c + i) hx _ (by show 16 * c + i < n; omega) (fun i' h1 h2 => ?_)).symm
        have h2 : i' < n := h2
        by_cases e : 16 * (c + 1) ≤ i'
        · exact hno i' e h2
        · have := hno2 (i' - 16 * c) (by omega) (by unfold pu_m; split <;> omega)
          unfold pu_sh at this
          rw [show 16 * c + (i' - 16 * c) = i' by omega] at this
          exact this
end VA
theorem c0_valueAt {n : Nat} {t v : Nat → Nat} {f : Nat → Int32} {a : Nat → Nat → Int32} (hP : pu_PI n t v) (hI : pu_CI n t v f a) (x : Int32) :
    sc_I0 yX0_valueAt cX0_valueAt 7 (some .int) 3 [.int x] f a (fun r f' a' => r = pu_vaA (n, t, v) x ∧ pu_CS (n, t, v) f' a') := by
  refine x0_ofI pn0_valueAt (fun _ => Nat.le_of_ble_eq_true rfl) (fun K d h hC hret => ?_)
  show sc_W K (xw0 h d f a) 0 [(0, .ref (h 20)), (1, .int x)] []
  refine sc_aload_n hC dX0_valueAt_0 rfl ?_
  refine x0_callI hC (c0_chk n f a hP.1 hI.1) k0_chunks rfl (by decide) (by decide) dX0_valueAt_1 rfl (Nat.le_of_ble_eq_true rfl) (fun r f1 a1 hp => ?_)
  obtain ⟨rfl, rfl, rfl⟩ := hp
  refine sc_istore_n hC dX0_valueAt_4 rfl (by decide) ?_
  refine sc_iload_n hC dX0_valueAt_5 rfl ?_
  refine sc_iconst (v := 1) hC dX0_valueAt_6 (by decide) ?_
  refine sc_isub hC dX0_valueAt_7 ?_
  refine sc_istore_n hC dX0_valueAt_8 rfl (by decide) ?_
  exact va_out hC hP hI x _ hret _ (Nat.le_refl _) (fun i h1 h2 => absurd h2 (by omega))
end
section
set_option maxRecDepth 100000
/-! SeriesCodec.badSpan, note, cut, search, count, sum, greatest, least -/
theorem c0_bs (f : Nat → Int32) (a : Nat → Nat → Int32) (x y : Int32) :
    sc_I0 yX0_badSpan cX0_badSpan 3 (some .boolean) 0 [.int x, .int y] f a (fun r f' a' => r = (if pu_bsp x y then 1 else 0) ∧ f' = f ∧ a' = a) := by
  refine x0_ofZ pn0_badSpan (fun _ => Nat.le_of_ble_eq_true rfl) (fun K d h hC hret => ?_)
  show sc_W K (xw0 h d f a) 0 [(0, .ref (h 20)), (1, .int x), (2, .int y)] []
  have k15 : pu_bsp x y → sc_W K (xw0 h d f a) 15 [(0, .ref (h 20)), (1, .int x), (2, .int y)] [] := by
    intro hb
    refine sc_iconst (v := 1) hC dX0_badSpan_15 (by decide) ?_
    refine sc_goto (tgt := 20) hC dX0_badSpan_16 (by decide) ?_
    exact hret _ _ _ _ _ dX0_badSpan_20 (Or.inr rfl) ⟨by rw [if_pos hb], rfl, rfl⟩
  refine sc_iload_n hC dX0_badSpan_0 rfl ?_
  refine sc_if_lt (tgt := 15) hC dX0_badSpan_1 (by decide) (fun c1 => ?_) (fun c1 => ?_)
  · exact k15 (Or.inl c1)
  · refine sc_iload_n hC dX0_badSpan_4 rfl ?_
    refine sc_iload_n hC dX0_badSpan_5 rfl ?_
    refine sc_icmp_gt (tgt := 15) hC dX0_badSpan_6 (by decide) (fun c2 => ?_) (fun c2 => ?_)
    · exact k15 (Or.inr (Or.inl c2))
    · refine sc_iload_n hC dX0_badSpan_9 rfl ?_
      refine sc_ldc (v := 60000) hC q104 dX0_badSpan_10 ?_
      refine sc_icmp_le (tgt := 19) hC dX0_badSpan_12 (by decide) (fun c3 => ?_) (fun c3 => ?_)
      · refine sc_iconst (v := 0) hC dX0_badSpan_19 (by decide) ?_
        refine hret _ _ _ _ _ dX0_badSpan_20 (Or.inl rfl) ⟨?_, rfl, rfl⟩
        rw [if_neg]
        intro q
        rcases q with q | q | q
        · exact c1 q
        · exact c2 q
        · exact absurd c3 (Int32.not_le.mpr q)
      · exact k15 (Or.inr (Or.inr (Int32.not_le.mp c3)))
/-- what a search has found -/
def pu_FD (C s l H : Nat) (f : Nat → Int32) : Prop := f 16 = nI C ∧ f 17 = nI s ∧ f 18 = nI l ∧ f 19 = nI H - 1
theorem c0_nt (N S lo hi C s l H : Nat) (f : Nat → Int32) (a : Nat → Nat → Int32) (hlo : lo < 2 ^ 30) (hhi : hi < 2 ^ 30) (hl : l < 2 ^ 30) (hH : H < 2 ^ 30) (hf : pu_FD C s l H f) :
    sc_V0 yX0_note cX0_note 5 0 [.int (nI N), .int (nI S), .int (nI lo), .int (nI hi)] f a (fun f' a' => pu_FD (C + N) (s + S) (if lo < l then lo else l) (if H < hi + 1 then hi + 1 else H) f' ∧ (∀ k, k < 16 → f' k = f k) ∧ a' = a) := by
  obtain ⟨h16, h17, h18, h19⟩ := hf
  refine x0_ofV pn0_note (fun _ => Nat.le_of_ble_eq_true rfl) (fun K d h hC hret => ?_)
  show sc_W K (xw0 h d f a) 0 [(0, .ref (h 20)), (1, .int (nI N)), (2, .int (nI S)), (3, .int (nI lo)), (4, .int (nI hi))] []
  have ti : (nI H - 1).toInt = (H : Int) - 1 := pk_sub_toInt (b := 1) hH (by decide)
  have k59 : ∀ (f2 : Nat → Int32), f2 16 = nI (C + N) → f2 17 = nI (s + S) → f2 18 = nI (if lo < l then lo else l) → (∀ k, k < 16 → f2 k = f k) → sc_W K (xw0 h d f2 a) 59 [(0, .ref (h 20)), (1, .int (nI N)), (2, .int (nI S)), (3, .int (nI lo)), (4, .int (nI hi))] [.int (nI (if H < hi + 1 then hi + 1 else H) - 1), .ref (h 20)] := by
    intro f2 e16 e17 e18 eF
    refine x0_p19 hC dX0_note_59 ?_
    refine hret _ _ _ _ dX0_note_62 ⟨⟨e16, e17, e18, rfl⟩, fun k hk => ?_, rfl⟩
    rw [pk_un (by omega)]
    exact eF k hk
  have k37 : ∀ (f2 : Nat → Int32), f2 16 = nI (C + N) → f2 17 = nI (s + S) → f2 19 = nI H - 1 → (∀ k, k < 16 → f2 k = f k) → sc_W K (xw0 h d f2 a) 37 [(0, .ref (h 20)), (1, .int (nI N)), (2, .int (nI S)), (3, .int (nI lo)), (4, .int (nI hi))] [.int (nI (if lo < l then lo else l)), .ref (h 20)] := by
    intro f2 e16 e17 e19 eF
    have eF2 : ∀ k, k < 16 → upd f2 18 (nI (if lo < l then lo else l)) k = f k := fun k hk => (pk_un (by omega)).trans (eF k hk)
    have kk := k59 (upd f2 18 (nI (if lo < l then lo else l))) e16 e17 rfl eF2
    refine x0_p18 hC dX0_note_37 ?_
    refine sc_aload_n hC dX0_note_40 rfl ?_
    refine sc_iload hC dX0_note_41 rfl ?_
    refine sc_aload_n hC dX0_note_43 rfl ?_
    refine x0_g19 hC dX0_note_44 ?_
    refine sc_top (e19) ?_
    refine sc_icmp_le (tgt := 55) hC dX0_note_47 (by decide) (fun c1 => ?_) (fun c1 => ?_)
    · have c1 := (pu_le (nI_toInt (by omega)) ti).mp c1
      rw [if_neg (show ¬ H < hi + 1 by omega)] at kk
      refine sc_aload_n hC dX0_note_55 rfl ?_
      refine x0_g19 hC dX0_note_56 ?_
      refine sc_top (e19) ?_
      exact kk
    · have c1 : ¬ (hi : Int) ≤ (H : Int) - 1 := fun q => c1 ((pu_le (nI_toInt (by omega)) ti).mpr q)
      rw [if_pos (show H < hi + 1 by omega), nI_pred] at kk
      refine sc_iload hC dX0_note_50 rfl ?_
      refine sc_goto (tgt := 59) hC dX0_note_52 (by decide) ?_
      exact kk
  have kk := k37 (upd (upd f 16 (nI (C + N))) 17 (nI (s + S))) rfl rfl h19 (fun k hk => by rw [pk_un (by omega), pk_un (by omega)])
  refine sc_aload_n hC dX0_note_0 rfl ?_
  refine sc_aload_n hC dX0_note_1 rfl ?_
  refine x0_g16 hC dX0_note_2 ?_
  refine sc_top (h16) ?_
  refine sc_iload_n hC dX0_note_5 rfl ?_
  refine sc_iadd hC dX0_note_6 ?_
  refine sc_top (nI_add C N) ?_
  refine x0_p16 hC dX0_note_7 ?_
  refine sc_aload_n hC dX0_note_10 rfl ?_
  refine sc_aload_n hC dX0_note_11 rfl ?_
  refine x0_g17 hC dX0_note_12 ?_
  refine sc_top (h17) ?_
  refine sc_iload_n hC dX0_note_15 rfl ?_
  refine sc_iadd hC dX0_note_16 ?_
  refine sc_top (nI_add s S) ?_
  refine x0_p17 hC dX0_note_17 ?_
  refine sc_aload_n hC dX0_note_20 rfl ?_
  refine sc_iload_n hC dX0_note_21 rfl ?_
  refine sc_aload_n hC dX0_note_22 rfl ?_
  refine x0_g18 hC dX0_note_23 ?_
  refine sc_top (h18) ?_
  refine sc_icmp_ge (tgt := 33) hC dX0_note_26 (by decide) (fun c1 => ?_) (fun c1 => ?_)
  · have c1 := (nI_leI (by omega) (by omega)).mp c1
    rw [if_neg (by omega)] at kk
    refine sc_aload_n hC dX0_note_33 rfl ?_
    refine x0_g18 hC dX0_note_34 ?_
    refine sc_top (h18) ?_
    exact kk
  · have c1 : ¬ l ≤ lo := fun q => c1 ((nI_leI (by omega) (by omega)).mpr q)
    rw [if_pos (by omega)] at kk
    refine sc_iload_n hC dX0_note_29 rfl ?_
    refine sc_goto (tgt := 37) hC dX0_note_30 (by decide) ?_
    exact kk
/-- a search has seen the first k points -/
def pu_FK (t v : Nat → Nat) (x y : Int32) (k : Nat) (f : Nat → Int32) : Prop := pu_FD (pu_cnt t x y k) (pu_smm t v x y k) (pu_lo t v x y k) (pu_hi t v x y k) f
theorem pu_lo_lt (t v : Nat → Nat) (x y : Int32) : ∀ k : Nat, pu_lo t v x y k ≤ 65536
  | 0 => Nat.le_refl _
  | k + 1 => by
    have h := pu_lo_lt t v x y k
    unfold pu_lo
    split <;> omega
theorem pu_hi_lt {t v : Nat → Nat} {x y : Int32} : ∀ {k : Nat}, (∀ i, i < k → v i ≤ 65535) → pu_hi t v x y k ≤ 65536 := by
  intro k
  induction k with
  | zero => intro _; exact Nat.zero_le _
  | succ k ih =>
    intro h
    have h1 := ih (fun i hi => h i (by omega))
    have h2 := h k (by omega)
    unfold pu_hi
    split <;> omega
theorem pu_cnt_no {t v : Nat → Nat} {x y : Int32} {k : Nat} (h : ¬ pu_in x y (t k)) : pu_cnt t x y (k + 1) = pu_cnt t x y k ∧ pu_smm t v x y (k + 1) = pu_smm t v x y k ∧ pu_lo t v x y (k + 1) = pu_lo t v x y k ∧ pu_hi t v x y (k + 1) = pu_hi t v x y k := by
  refine ⟨?_, ?_, ?_, ?_⟩
  · exact if_neg h
  · exact if_neg h
  · exact if_neg (fun q => h q.1)
  · exact if_neg (fun q => h q.1)
theorem pu_cnt_yes {t v : Nat → Nat} {x y : Int32} {k : Nat} (h : pu_in x y (t k)) : pu_cnt t x y (k + 1) = pu_cnt t x y k + 1 ∧ pu_smm t v x y (k + 1) = pu_smm t v x y k + v k ∧ pu_lo t v x y (k + 1) = (if v k < pu_lo t v x y k then v k else pu_lo t v x y k) ∧ pu_hi t v x y (k + 1) = (if pu_hi t v x y k < v k + 1 then v k + 1 else pu_hi t v x y k) := by
  refine ⟨if_pos h, if_pos h, ?_, ?_⟩
  · show (if pu_in x y (t k) ∧ v k < pu_lo t v x y k then v k else pu_lo t v x y k) = _
    by_cases q : v k < pu_lo t v x y k
    · rw [if_pos ⟨h, q⟩, if_pos q]
    · rw [if_neg (fun z => q z.2), if_neg q]
  · show (if pu_in x y (t k) ∧ pu_hi t v x y k < v k + 1 then v k + 1 else pu_hi t v x y k) = _
    by_cases q : pu_hi t v x y k < v k + 1
    · rw [if_pos ⟨h, q⟩, if_pos q]
    · rw [if_neg (fun z => q z.2), if_neg q]
theorem pu_FK_no {t v : Nat → Nat} {x y : Int32} {k : Nat} {f : Nat → Int32} (h : ¬ pu_in x y (t k)) (hf : pu_FK t v x y k f) : pu_FK t v x y (k + 1) f := by
  obtain ⟨e1, e2, e3, e4⟩ := pu_cnt_no (v := v) h
  unfold pu_FK at *
  rw [e1, e2, e3, e4]
  exact hf
/-- none of m points counts -/
theorem pu_FK_nos {t v : Nat → Nat} {x y : Int32} {k : Nat} {f : Nat → Int32} : ∀ {m : Nat}, (∀ i, i < m → ¬ pu_in x y (t (k + i))) → pu_FK t v x y k f → pu_FK t v x y (k + m) f := by
  intro m
  induction m with
  | zero => intro _ hf; exact hf
  | succ m ih =>
    intro h hf
    exact pu_FK_no (h m (by omega)) (ih (fun i hi => h i (by omega)) hf)
/-- all of m points count -/
theorem pu_FK_all {t v : Nat → Nat} {x y : Int32} {k : Nat} : ∀ {m : Nat}, (∀ i, i < m + 1 → pu_in x y (t (k + i))) → (∀ i, i < m + 1 → v (k + i) ≤ 65535) →
    pu_cnt t x y (k + (m + 1)) = pu_cnt t x y k + (m + 1) ∧ pu_smm t v x y (k + (m + 1)) = pu_smm t v x y k + pu_sum (fun i => v (k + i)) (m + 1) ∧ pu_lo t v x y (k + (m + 1)) = (if pu_min (fun i => v (k + i)) (m + 1) < pu_lo t v x y k then pu_min (fun i => v (k + i)) (m + 1) else pu_lo t v x y k) ∧ pu_hi t v x y (k + (m + 1)) = (if pu_hi t v x y k < pu_max (fun i => v (k + i)) (m + 1) + 1 then pu_max (fun i => v (k + i)) (m + 1) + 1 else pu_hi t v x y k) := by
  intro m
  induction m with
  | zero =>
    intro h hv
    have hv0 := hv 0 (by omega)
    obtain ⟨e1, e2, e3, e4⟩ := pu_cnt_yes (v := v) (h 0 (by omega))
    have m1 : pu_min (fun i => v (k + i)) (0 + 1) = v (k + 0) := by
      show (if v (k + 0) < 65535 then v (k + 0) else 65535) = _
      split <;> omega
    have m2 : pu_max (fun i => v (k + i)) (0 + 1) = v (k + 0) := by
      show (if 0 < v (k + 0) then v (k + 0) else 0) = _
      split <;> omega
    rw [m1, m2]
    refine ⟨e1, ?_, e3, e4⟩
    rw [show k + (0 + 1) = k + 0 + 1 from rfl, e2]
    show _ = _ + (0 + v (k + 0))
    rw [Nat.zero_add]
    rfl
  | succ m ih =>
    intro h hv
    obtain ⟨i1, i2, i3, i4⟩ := ih (fun i hi => h i (by omega)) (fun i hi => hv i (by omega))
    obtain ⟨e1, e2, e3, e4⟩ := pu_cnt_yes (v := v) (h (m + 1) (by omega))
    rw [show k + (m + 1 + 1) = k + (m + 1) + 1 from rfl, e1, e2, e3, e4, i1, i2, i3, i4]
    refine ⟨rfl, ?_, ?_, ?_⟩
    · show _ = _ + (pu_sum _ (m + 1) + v (k + (m + 1)))
      omega
    · show _ = (if (if v (k + (m + 1)) < pu_min _ (m + 1) then v (k + (m + 1)) else pu_min _ (m + 1)) < _ then (if v (k + (m + 1)) < pu_min _ (m + 1) then v (k + (m + 1)) else pu_min _ (m + 1)) else _)
      generalize pu_min (fun i => v (k + i)) (m + 1) = p
      generalize pu_lo t v x y k = q
      generalize v (k + (m + 1)) = r
      repeat' split
      all_goals omega
    · show _ = (if _ < (if pu_max _ (m + 1) < v (k + (m + 1)) then v (k + (m + 1)) else pu_max _ (m + 1)) + 1 then (if pu_max _ (m + 1) < v (k + (m + 1)) then v (k + (m + 1)) else pu_max _ (m + 1)) + 1 else _)
      generalize pu_max (fun i => v (k + i)) (m + 1) = p
      generalize pu_hi t v x y k = q
      generalize v (k + (m + 1)) = r
      repeat' split
      all_goals omega
section CUT
variable {K : sc_K} {d : ClassId} {h : Nat → Nat}
theorem ct_loop (hC : sc_C K cX0_cut RX0 d 6 3) (t v : Nat → Nat) (m c : Nat) (x y : Int32) (f : Nat → Int32) (a : Nat → Nat → Int32) (hm : m ≤ 16) (hV : ∀ i, i < 16 * c + m → v i ≤ 65535) (hR : pu_RD (pu_sh t c) (pu_sh v c) m a)
    (hk : ∀ (f1 : Nat → Int32) (lv : List (Nat × Value)), pu_FK t v x y (16 * c + m) f1 → (∀ k, k < 16 → f1 k = f k) → sc_W K (xw0 h d f1 a) 76 lv []) :
    ∀ (j i : Nat) (f1 : Nat → Int32), i + j = m → pu_FK t v x y (16 * c + i) f1 → (∀ k, k < 16 → f1 k = f k) → sc_W K (xw0 h d f1 a) 15 [(0, .ref (h 20)), (1, .int (nI c)), (2, .int x), (3, .int y), (4, .int (nI m)), (5, .int (nI i))] [] := by
  intro j
  induction j with
  | zero =>
    intro i f1 hij hf eF
    rw [Nat.add_zero] at hij
    subst hij
    refine sc_iload hC dX0_cut_15 rfl ?_
    refine sc_iload hC dX0_cut_17 rfl ?_
    refine sc_icmp_ge (tgt := 76) hC dX0_cut_19 (by decide) (fun c1 => ?_) (fun c1 => ?_)
    · exact hk f1 _ hf eF
    · exact absurd (nI_le (Nat.le_refl _) (by omega)) c1
  | succ j ih =>
    intro i f1 hij hf eF
    have k70 : ∀ (f2 : Nat → Int32), pu_FK t v x y (16 * c + i + 1) f2 → (∀ k, k < 16 → f2 k = f k) → sc_W K (xw0 h d f2 a) 70 [(0, .ref (h 20)), (1, .int (nI c)), (2, .int x), (3, .int y), (4, .int (nI m)), (5, .int (nI i))] [] := by
      intro f2 hf2 eF2
      refine sc_iinc (v := 1) hC dX0_cut_70 (by decide) rfl rfl (by decide) ?_
      refine sc_goto (tgt := 15) hC dX0_cut_73 (by decide) ?_
      rw [nI_1 i]
      exact ih (i + 1) f2 (by omega) hf2 eF2
    refine sc_iload hC dX0_cut_15 rfl ?_
    refine sc_iload hC dX0_cut_17 rfl ?_
    refine sc_icmp_ge (tgt := 76) hC dX0_cut_19 (by decide) (fun c1 => ?_) (fun c1 => ?_)
    · exact absurd c1 (nI_ge (by omega) (by omega))
    · refine sc_aload_n hC dX0_cut_22 rfl ?_
      refine x0_g14 hC dX0_cut_23 ?_
      refine sc_iload hC dX0_cut_26 rfl ?_
      refine x0_ald14 hC (i) (rfl) (by omega) dX0_cut_28 ?_
      refine sc_top ((show _ = nI (t (16 * c + i)) from (hR i (by omega)).1)) ?_
      refine sc_iload_n hC dX0_cut_29 rfl ?_
      refine sc_icmp_lt (tgt := 70) hC dX0_cut_30 (by decide) (fun c2 => ?_) (fun c2 => ?_)
      · exact k70 f1 (pu_FK_no (fun q => absurd c2 (Int32.not_lt.mpr q.1)) hf) eF
      · refine sc_aload_n hC dX0_cut_33 rfl ?_
        refine x0_g14 hC dX0_cut_34 ?_
        refine sc_iload hC dX0_cut_37 rfl ?_
        refine x0_ald14 hC (i) (rfl) (by omega) dX0_cut_39 ?_
        refine sc_top ((show _ = nI (t (16 * c + i)) from (hR i (by omega)).1)) ?_
        refine sc_iload_n hC dX0_cut_40 rfl ?_
        refine sc_icmp_gt (tgt := 70) hC dX0_cut_41 (by decide) (fun c3 => ?_) (fun c3 => ?_)
        · exact k70 f1 (pu_FK_no (fun q => absurd c3 (Int32.not_lt.mpr q.2)) hf) eF
        · have hin : pu_in x y (t (16 * c + i)) := ⟨Int32.not_lt.mp c2, Int32.not_lt.mp c3⟩
          obtain ⟨e1, e2, e3, e4⟩ := pu_cnt_yes (v := v) hin
          have hvi := hV (16 * c + i) (by omega)
          have hl := pu_lo_lt t v x y (16 * c + i)
          have hh := pu_hi_lt (t := t) (x := x) (y := y) (k := 16 * c + i) (v := v) (fun i' hi' => hV i' (by omega))
          refine sc_aload_n hC dX0_cut_44 rfl ?_
          refine sc_iconst (v := 1) hC dX0_cut_45 (by decide) ?_
          refine sc_aload_n hC dX0_cut_46 rfl ?_
          refine x0_g15 hC dX0_cut_47 ?_
          refine sc_iload hC dX0_cut_50 rfl ?_
          refine x0_ald15 hC (i) (rfl) (by omega) dX0_cut_52 ?_
          refine sc_top ((show _ = nI (v (16 * c + i)) from (hR i (by omega)).2)) ?_
          refine sc_aload_n hC dX0_cut_53 rfl ?_
          refine x0_g15 hC dX0_cut_54 ?_
          refine sc_iload hC dX0_cut_57 rfl ?_
          refine x0_ald15 hC (i) (rfl) (by omega) dX0_cut_59 ?_
          refine sc_top ((show _ = nI (v (16 * c + i)) from (hR i (by omega)).2)) ?_
          refine sc_aload_n hC dX0_cut_60 rfl ?_
          refine x0_g15 hC dX0_cut_61 ?_
          refine sc_iload hC dX0_cut_64 rfl ?_
          refine x0_ald15 hC (i) (rfl) (by omega) dX0_cut_66 ?_
          refine sc_top ((show _ = nI (v (16 * c + i)) from (hR i (by omega)).2)) ?_
          refine x0_callV hC (c0_nt 1 (v (16 * c + i)) (v (16 * c + i)) (v (16 * c + i)) _ _ _ _ f1 a (by omega) (by omega) (by omega) (by omega) hf) k0_note rfl (by decide) (by decide) dX0_cut_67 rfl (Nat.le_of_ble_eq_true rfl) (fun f2 a2 hp => ?_)
          obtain ⟨hf2, eF2, rfl⟩ := hp
          refine k70 f2 ?_ (fun k hk => (eF2 k hk).trans (eF k hk))
          unfold pu_FK
          rw [e1, e2, e3, e4]
          exact hf2
end CUT
theorem c0_ct {n c : Nat} {t v : Nat → Nat} {f : Nat → Int32} {a : Nat → Nat → Int32} (hP : pu_PI n t v) (hI : pu_CI n t v f a) (hc : 16 * c < n) (x y : Int32) (hf : pu_FK t v x y (16 * c) f) :
    sc_V0 yX0_cut cX0_cut 6 3 [.int (nI c), .int x, .int y] f a (fun f' a' => pu_FK t v x y (16 * c + pu_m n c) f' ∧ pu_CI n t v f' a') := by
  have hn := hP.1
  have hml := pu_m_le n c
  refine x0_ofV pn0_cut (fun _ => Nat.le_of_ble_eq_true rfl) (fun K d h hC hret => ?_)
  show sc_W K (xw0 h d f a) 0 [(0, .ref (h 20)), (1, .int (nI c)), (2, .int x), (3, .int y)] []
  refine sc_aload_n hC dX0_cut_0 rfl ?_
  refine sc_iload_n hC dX0_cut_1 rfl ?_
  refine x0_callV hC (c0_un hP hI hc) k0_unpack rfl (by decide) (by decide) dX0_cut_2 rfl (Nat.le_of_ble_eq_true rfl) (fun f1 a1 hp => ?_)
  obtain ⟨hF, hA, hR, -⟩ := hp
  have hI1 := pu_CI_keep (hF 0 (by omega)) hA hI
  refine sc_aload_n hC dX0_cut_5 rfl ?_
  refine sc_iload_n hC dX0_cut_6 rfl ?_
  refine x0_callI hC (c0_ic n c f1 a1 hn (by omega) hI1.1) k0_inChunk rfl (by decide) (by decide) dX0_cut_7 rfl (Nat.le_of_ble_eq_true rfl) (fun r f2 a2 hp => ?_)
  obtain ⟨rfl, rfl, rfl⟩ := hp
  refine sc_istore hC dX0_cut_10 rfl (by decide) ?_
  refine sc_iconst (v := 0) hC dX0_cut_12 (by decide) ?_
  refine sc_istore hC dX0_cut_13 rfl (by decide) ?_
  refine ct_loop hC t v (pu_m n c) c x y f2 _ hml.1 (fun i hi => hP.2.2.1 i (by omega)) hR ?_ (pu_m n c) 0 f2 (Nat.zero_add _) ?_ (fun _ _ => rfl)
  · intro f3 lv hf3 eF3
    exact hret _ _ _ _ dX0_cut_76 ⟨hf3, pu_CI_keep (eF3 0 (by omega)) (fun _ _ _ => rfl) hI1⟩
  · obtain ⟨g1, g2, g3, g4⟩ := hf
    refine ⟨?_, ?_, ?_, ?_⟩
    · rw [hF 16 (by omega)]; exact g1
    · rw [hF 17 (by omega)]; exact g2
    · rw [hF 18 (by omega)]; exact g3
    · rw [hF 19 (by omega)]; exact g4
section SE
variable {K : sc_K} {d : ClassId} {h : Nat → Nat}
theorem se_loop (hC : sc_C K cX0_search RX0 d 6 4) {n : Nat} {t v : Nat → Nat} (hP : pu_PI n t v) (x y : Int32)
    (hk : ∀ (f1 : Nat → Int32) (a1 : Nat → Nat → Int32) (lv : List (Nat × Value)), pu_FK t v x y n f1 → pu_CI n t v f1 a1 → sc_W K (xw0 h d f1 a1) 131 lv []) :
    ∀ (j c : Nat) (f1 : Nat → Int32) (a1 : Nat → Nat → Int32), c + j = (n + 15) / 16 → pu_FK t v x y (if 16 * c < n then 16 * c else n) f1 → pu_CI n t v f1 a1 → ∀ lv, sc_keep lv [0, 1, 2, 3, 4] = some [(0, .ref (h 20)), (1, .int x), (2, .int y), (3, .int (nI ((n + 15) / 16))), (4, .int (nI c))] → sc_W K (xw0 h d f1 a1) 29 lv [] := by
  have hn := hP.1
  intro j
  induction j with
  | zero =>
    intro c f1 a1 hcj hf hI lv hlv
    refine sc_kp [0, 1, 2, 3, 4] hlv ?_
    rw [if_neg (by omega)] at hf
    refine sc_iload hC dX0_search_29 rfl ?_
    refine sc_iload_n hC dX0_search_31 rfl ?_
    refine sc_icmp_ge (tgt := 131) hC dX0_search_32 (by decide) (fun c1 => ?_) (fun c1 => ?_)
    · exact hk f1 a1 _ hf hI
    · exact absurd (nI_le (by omega) (by omega)) c1
  | succ j ih =>
    intro c f1 a1 hcj hf hI lv hlv
    refine sc_kp [0, 1, 2, 3, 4] hlv ?_
    have hcn : 16 * c < n := by omega
    rw [if_pos hcn] at hf
    have hml := pu_m_le n c
    have hm0 := hml.2.2 hcn
    have hmm : 16 * c + pu_m n c = if 16 * (c + 1) < n then 16 * (c + 1) else n := by unfold pu_m; split <;> split <;> omega
    obtain ⟨-, -, i3, i4, i5, i6, i7⟩ := hI.2 c hcn
    have hmon1 : ∀ i, i < pu_m n c → nI (pu_sh t c 0) ≤ nI (t (16 * c + i)) := fun i hi => pu_mle hP (i := 16 * c + 0) (by omega) (by omega)
    have hmon2 : ∀ i, i < pu_m n c → nI (t (16 * c + i)) ≤ nI (pu_sh t c (pu_m n c - 1)) := fun i hi => pu_mle hP (j := 16 * c + (pu_m n c - 1)) (by omega) (by omega)
    have k125 : ∀ (f2 : Nat → Int32) (a2 : Nat → Nat → Int32) (lv : List (Nat × Value)), pu_FK t v x y (16 * c + pu_m n c) f2 → pu_CI n t v f2 a2 → sc_keep lv [0, 1, 2, 3, 4] = some [(0, .ref (h 20)), (1, .int x), (2, .int y), (3, .int (nI ((n + 15) / 16))), (4, .int (nI c))] → sc_W K (xw0 h d f2 a2) 125 lv [] := by
      intro f2 a2 lv hf2 hI2 hlv2
      refine sc_kp [0, 1, 2, 3, 4] hlv2 ?_
      refine sc_iinc (v := 1) hC dX0_search_125 (by decide) rfl rfl (by decide) ?_
      refine sc_goto (tgt := 29) hC dX0_search_128 (by decide) ?_
      rw [nI_1 c]
      rw [hmm] at hf2
      exact ih (c + 1) f2 a2 (by omega) hf2 hI2 _ rfl
    have k95 : sc_W K (xw0 h d f1 a1) 95 [(0, .ref (h 20)), (1, .int x), (2, .int y), (3, .int (nI ((n + 15) / 16))), (4, .int (nI c))] [] := by
      refine sc_aload_n hC dX0_search_95 rfl ?_
      refine x0_g3 hC dX0_search_96 ?_
      refine sc_iload hC dX0_search_99 rfl ?_
      refine x0_ald3 hC (c) (rfl) (by omega) dX0_search_101 ?_
      refine sc_top (i3) ?_
      refine sc_iload_n hC dX0_search_102 rfl ?_
      refine sc_icmp_gt (tgt := 125) hC dX0_search_103 (by decide) (fun c1 => ?_) (fun c1 => ?_)
      · refine k125 f1 a1 _ (pu_FK_nos (fun i hi q => ?_) hf) hI rfl
        exact absurd (Int32.lt_of_lt_of_le c1 (hmon1 i hi)) (Int32.not_lt.mpr q.2)
      · refine sc_aload_n hC dX0_search_106 rfl ?_
        refine x0_g4 hC dX0_search_107 ?_
        refine sc_iload hC dX0_search_110 rfl ?_
        refine x0_ald4 hC (c) (rfl) (by omega) dX0_search_112 ?_
        refine sc_top (i4) ?_
        refine sc_iload_n hC dX0_search_113 rfl ?_
        refine sc_icmp_lt (tgt := 125) hC dX0_search_114 (by decide) (fun c2 => ?_) (fun c2 => ?_)
        · refine k125 f1 a1 _ (pu_FK_nos (fun i hi q => ?_) hf) hI rfl
          exact absurd (Int32.lt_of_le_of_lt (hmon2 i hi) c2) (Int32.not_lt.mpr q.1)
        · refine sc_aload_n hC dX0_search_117 rfl ?_
          refine sc_iload hC dX0_search_118 rfl ?_
          refine sc_iload_n hC dX0_search_120 rfl ?_
          refine sc_iload_n hC dX0_search_121 rfl ?_
          refine x0_callV hC (c0_ct hP hI hcn x y hf) k0_cut rfl (by decide) (by decide) dX0_search_122 rfl (Nat.le_of_ble_eq_true rfl) (fun f2 a2 hp => ?_)
          obtain ⟨hf2, hI2⟩ := hp
          exact k125 f2 a2 _ hf2 hI2 rfl
    refine sc_iload hC dX0_search_29 rfl ?_
    refine sc_iload_n hC dX0_search_31 rfl ?_
    refine sc_icmp_ge (tgt := 131) hC dX0_search_32 (by decide) (fun c1 => ?_) (fun c1 => ?_)
    · exact absurd c1 (nI_ge (by omega) (by omega))
    · refine sc_aload_n hC dX0_search_35 rfl ?_
      refine x0_g3 hC dX0_search_36 ?_
      refine sc_iload hC dX0_search_39 rfl ?_
      refine x0_ald3 hC (c) (rfl) (by omega) dX0_search_41 ?_
      refine sc_top (i3) ?_
      refine sc_iload_n hC dX0_search_42 rfl ?_
      refine sc_icmp_lt (tgt := 95) hC dX0_search_43 (by decide) (fun c2 => ?_) (fun c2 => ?_)
      · exact k95
      · refine sc_aload_n hC dX0_search_46 rfl ?_
        refine x0_g4 hC dX0_search_47 ?_
        refine sc_iload hC dX0_search_50 rfl ?_
        refine x0_ald4 hC (c) (rfl) (by omega) dX0_search_52 ?_
        refine sc_top (i4) ?_
        refine sc_iload_n hC dX0_search_53 rfl ?_
        refine sc_icmp_gt (tgt := 95) hC dX0_search_54 (by decide) (fun c3 => ?_) (fun c3 => ?_)
        · exact k95
        · have hall : ∀ i, i < pu_m n c → pu_in x y (t (16 * c + i)) := fun i hi => ⟨Int32.le_trans (Int32.not_lt.mp c2) (hmon1 i hi), Int32.le_trans (hmon2 i hi) (Int32.not_lt.mp c3)⟩
          have hV : ∀ i, i < 16 * c + pu_m n c → v i ≤ 65535 := fun i hi => hP.2.2.1 i (by omega)
          have hl := pu_lo_lt t v x y (16 * c)
          have hh := pu_hi_lt (t := t) (x := x) (y := y) (k := 16 * c) (v := v) (fun i' hi' => hV i' (by omega))
          have hmin : pu_min (pu_sh v c) (pu_m n c) ≤ 65535 := by
            generalize pu_m n c = m
            induction m with
            | zero => exact Nat.le_refl _
            | succ m ih => unfold pu_min; split <;> omega
          have hmax : pu_max (pu_sh v c) (pu_m n c) ≤ 65535 := by
            have : ∀ m, (∀ i, i < m → pu_sh v c i ≤ 65535) → pu_max (pu_sh v c) m ≤ 65535 := by
              intro m
              induction m with
              | zero => intro _; exact Nat.zero_le _
              | succ m ih =>
                intro q
                have q1 := ih (fun i hi => q i (by omega))
                have q2 := q m (by omega)
                unfold pu_max
                split <;> omega
            exact this _ (fun i hi => hV _ (by omega))
          refine sc_aload_n hC dX0_search_57 rfl ?_
          refine sc_iload hC dX0_search_58 rfl ?_
          refine x0_callI hC (c0_ic n c f1 a1 hn (by omega) hI.1) k0_inChunk rfl (by decide) (by decide) dX0_search_60 rfl (Nat.le_of_ble_eq_true rfl) (fun r f2 a2 hp => ?_)
          obtain ⟨rfl, rfl, rfl⟩ := hp
          refine sc_istore hC dX0_search_63 rfl (by decide) ?_
          refine sc_aload_n hC dX0_search_65 rfl ?_
          refine sc_iload hC dX0_search_66 rfl ?_
          refine sc_aload_n hC dX0_search_68 rfl ?_
          refine x0_g5 hC dX0_search_69 ?_
          refine sc_iload hC dX0_search_72 rfl ?_
          refine x0_ald5 hC (c) (rfl) (by omega) dX0_search_74 ?_
          refine sc_top (i5) ?_
          refine sc_aload_n hC dX0_search_75 rfl ?_
          refine x0_g6 hC dX0_search_76 ?_
          refine sc_iload hC dX0_search_79 rfl ?_
          refine x0_ald6 hC (c) (rfl) (by omega) dX0_search_81 ?_
          refine sc_top (i6) ?_
          refine sc_aload_n hC dX0_search_82 rfl ?_
          refine x0_g7 hC dX0_search_83 ?_
          refine sc_iload hC dX0_search_86 rfl ?_
          refine x0_ald7 hC (c) (rfl) (by omega) dX0_search_88 ?_
          refine sc_top (i7) ?_
          refine x0_callV hC (c0_nt (pu_m n c) _ _ _ _ _ _ _ _ _ (by omega) (by omega) (by omega) (by omega) hf) k0_note rfl (by decide) (by decide) dX0_search_89 rfl (Nat.le_of_ble_eq_true rfl) (fun f3 a3 hp => ?_)
          obtain ⟨hf3, eF3, rfl⟩ := hp
          refine sc_goto (tgt := 125) hC dX0_search_92 (by decide) ?_
          refine k125 f3 a3 _ ?_ (pu_CI_keep (eF3 0 (by omega)) (fun _ _ _ => rfl) hI) rfl
          have hme : pu_m n c = pu_m n c - 1 + 1 := by omega
          have hfa := pu_FK_all (t := t) (v := v) (x := x) (y := y) (k := 16 * c) (m := pu_m n c - 1) (fun i hi => hall i (by omega)) (fun i hi => hV _ (by omega))
          rw [← hme] at hfa
          obtain ⟨g1, g2, g3, g4⟩ := hfa
          unfold pu_FK
          rw [g1, g2, g3, g4]
          exact hf3
end SE
theorem c0_se {n : Nat} {t v : Nat → Nat} {f : Nat → Int32} {a : Nat → Nat → Int32} (hP : pu_PI n t v) (hI : pu_CI n t v f a) (x y : Int32) :
    sc_V0 yX0_search cX0_search 6 4 [.int x, .int y] f a (fun f' a' => pu_FK t v x y n f' ∧ pu_CI n t v f' a') := by
  refine x0_ofV pn0_search (fun _ => Nat.le_of_ble_eq_true rfl) (fun K d h hC hret => ?_)
  show sc_W K (xw0 h d f a) 0 [(0, .ref (h 20)), (1, .int x), (2, .int y)] []
  refine sc_aload_n hC dX0_search_0 rfl ?_
  refine sc_iconst (v := 0) hC dX0_search_1 (by decide) ?_
  refine x0_p16 hC dX0_search_2 ?_
  refine sc_aload_n hC dX0_search_5 rfl ?_
  refine sc_iconst (v := 0) hC dX0_search_6 (by decide) ?_
  refine x0_p17 hC dX0_search_7 ?_
  refine sc_aload_n hC dX0_search_10 rfl ?_
  refine sc_ldc (v := 65536) hC q219 dX0_search_11 ?_
  refine x0_p18 hC dX0_search_13 ?_
  refine sc_aload_n hC dX0_search_16 rfl ?_
  refine sc_iconst (v := -1) hC dX0_search_17 (by decide) ?_
  refine x0_p19 hC dX0_search_18 ?_
  refine sc_aload_n hC dX0_search_21 rfl ?_
  refine x0_callI hC (c0_chk n _ a hP.1 hI.1) k0_chunks rfl (by decide) (by decide) dX0_search_22 rfl (Nat.le_of_ble_eq_true rfl) (fun r f1 a1 hp => ?_)
  obtain ⟨rfl, rfl, rfl⟩ := hp
  refine sc_istore_n hC dX0_search_25 rfl (by decide) ?_
  refine sc_iconst (v := 0) hC dX0_search_26 (by decide) ?_
  refine sc_istore hC dX0_search_27 rfl (by decide) ?_
  refine se_loop hC hP x y (fun f1 a1 lv h1 h2 => hret _ _ _ _ dX0_search_131 ⟨h1, h2⟩) _ 0 _ _ (Nat.zero_add _) ?_ ?_ _ ?_
  · have e : (if 16 * 0 < n then 16 * 0 else n) = 0 := by split <;> omega
    rw [e]
    exact ⟨rfl, rfl, rfl, rfl⟩
  · exact pu_CI_keep rfl (fun _ _ _ => rfl) hI
  · rfl
theorem c0_count {n : Nat} {t v : Nat → Nat} {f : Nat → Int32} {a : Nat → Nat → Int32} (hP : pu_PI n t v) (hI : pu_CI n t v f a) (x y : Int32) :
    sc_I0 yX0_count cX0_count 3 (some .int) 5 [.int x, .int y] f a (fun r f' a' => r = pu_ctA (n, t, v) x y ∧ pu_CS (n, t, v) f' a') := by
  refine x0_ofI pn0_count (fun _ => Nat.le_of_ble_eq_true rfl) (fun K d h hC hret => ?_)
  show sc_W K (xw0 h d f a) 0 [(0, .ref (h 20)), (1, .int x), (2, .int y)] []
  refine sc_aload_n hC dX0_count_0 rfl ?_
  refine sc_iload_n hC dX0_count_1 rfl ?_
  refine sc_iload_n hC dX0_count_2 rfl ?_
  refine x0_callI hC (c0_bs f a x y) k0_badSpan rfl (by decide) (by decide) dX0_count_3 rfl (Nat.le_of_ble_eq_true rfl) (fun r f1 a1 hp => ?_)
  obtain ⟨rfl, rfl, rfl⟩ := hp
  by_cases hb : pu_bsp x y
  · rw [if_pos hb]
    refine sc_if_eq (tgt := 11) hC dX0_count_6 (by decide) (fun c1 => ?_) (fun c1 => ?_)
    · exact absurd c1 (by decide)
    · refine sc_iconst (v := -1) hC dX0_count_9 (by decide) ?_
      refine hret _ _ _ _ _ dX0_count_10 ⟨?_, hI⟩
      unfold pu_ctA
      rw [if_pos hb]
  · rw [if_neg hb]
    refine sc_if_eq (tgt := 11) hC dX0_count_6 (by decide) (fun c1 => ?_) (fun c1 => ?_)
    · refine sc_aload_n hC dX0_count_11 rfl ?_
      refine sc_iload_n hC dX0_count_12 rfl ?_
      refine sc_iload_n hC dX0_count_13 rfl ?_
      refine x0_callV hC (c0_se hP hI x y) k0_search rfl (by decide) (by decide) dX0_count_14 rfl (Nat.le_of_ble_eq_true rfl) (fun f2 a2 hp => ?_)
      obtain ⟨hf2, hI2⟩ := hp
      refine sc_aload_n hC dX0_count_17 rfl ?_
      refine x0_g16 hC dX0_count_18 ?_
      refine hret _ _ _ _ _ dX0_count_21 ⟨?_, hI2⟩
      unfold pu_ctA
      rw [if_neg hb]
      exact hf2.1
    · exact absurd rfl c1
theorem c0_sum {n : Nat} {t v : Nat → Nat} {f : Nat → Int32} {a : Nat → Nat → Int32} (hP : pu_PI n t v) (hI : pu_CI n t v f a) (x y : Int32) :
    sc_I0 yX0_sum cX0_sum 3 (some .int) 5 [.int x, .int y] f a (fun r f' a' => r = pu_smA (n, t, v) x y ∧ pu_CS (n, t, v) f' a') := by
  refine x0_ofI pn0_sum (fun _ => Nat.le_of_ble_eq_true rfl) (fun K d h hC hret => ?_)
  show sc_W K (xw0 h d f a) 0 [(0, .ref (h 20)), (1, .int x), (2, .int y)] []
  refine sc_aload_n hC dX0_sum_0 rfl ?_
  refine sc_iload_n hC dX0_sum_1 rfl ?_
  refine sc_iload_n hC dX0_sum_2 rfl ?_
  refine x0_callI hC (c0_bs f a x y) k0_badSpan rfl (by decide) (by decide) dX0_sum_3 rfl (Nat.le_of_ble_eq_true rfl) (fun r f1 a1 hp => ?_)
  obtain ⟨rfl, rfl, rfl⟩ := hp
  by_cases hb : pu_bsp x y
  · rw [if_pos hb]
    refine sc_if_eq (tgt := 11) hC dX0_sum_6 (by decide) (fun c1 => ?_) (fun c1 => ?_)
    · exact absurd c1 (by decide)
    · refine sc_iconst (v := -1) hC dX0_sum_9 (by decide) ?_
      refine hret _ _ _ _ _ dX0_sum_10 ⟨?_, hI⟩
      unfold pu_smA
      rw [if_pos hb]
  · rw [if_neg hb]
    refine sc_if_eq (tgt := 11) hC dX0_sum_6 (by decide) (fun c1 => ?_) (fun c1 => ?_)
    · refine sc_aload_n hC dX0_sum_11 rfl ?_
      refine sc_iload_n hC dX0_sum_12 rfl ?_
      refine sc_iload_n hC dX0_sum_13 rfl ?_
      refine x0_callV hC (c0_se hP hI x y) k0_search rfl (by decide) (by decide) dX0_sum_14 rfl (Nat.le_of_ble_eq_true rfl) (fun f2 a2 hp => ?_)
      obtain ⟨hf2, hI2⟩ := hp
      refine sc_aload_n hC dX0_sum_17 rfl ?_
      refine x0_g17 hC dX0_sum_18 ?_
      refine hret _ _ _ _ _ dX0_sum_21 ⟨?_, hI2⟩
      unfold pu_smA
      rw [if_neg hb]
      exact hf2.2.1
    · exact absurd rfl c1
theorem pu_cnt_le (t : Nat → Nat) (x y : Int32) : ∀ k : Nat, pu_cnt t x y k ≤ k
  | 0 => Nat.le_refl _
  | k + 1 => by
    have h := pu_cnt_le t x y k
    unfold pu_cnt
    split <;> omega
theorem c0_greatest {n : Nat} {t v : Nat → Nat} {f : Nat → Int32} {a : Nat → Nat → Int32} (hP : pu_PI n t v) (hI : pu_CI n t v f a) (x y : Int32) :
    sc_I0 yX0_greatest cX0_greatest 3 (some .int) 5 [.int x, .int y] f a (fun r f' a' => r = pu_grA (n, t, v) x y ∧ pu_CS (n, t, v) f' a') := by
  have hn := hP.1
  have hcl := pu_cnt_le t x y n
  refine x0_ofI pn0_greatest (fun _ => Nat.le_of_ble_eq_true rfl) (fun K d h hC hret => ?_)
  show sc_W K (xw0 h d f a) 0 [(0, .ref (h 20)), (1, .int x), (2, .int y)] []
  refine sc_aload_n hC dX0_greatest_0 rfl ?_
  refine sc_iload_n hC dX0_greatest_1 rfl ?_
  refine sc_iload_n hC dX0_greatest_2 rfl ?_
  refine x0_callI hC (c0_bs f a x y) k0_badSpan rfl (by decide) (by decide) dX0_greatest_3 rfl (Nat.le_of_ble_eq_true rfl) (fun r f1 a1 hp => ?_)
  obtain ⟨rfl, rfl, rfl⟩ := hp
  by_cases hb : pu_bsp x y
  · rw [if_pos hb]
    refine sc_if_eq (tgt := 11) hC dX0_greatest_6 (by decide) (fun c1 => ?_) (fun c1 => ?_)
    · exact absurd c1 (by decide)
    · refine sc_iconst (v := -1) hC dX0_greatest_9 (by decide) ?_
      refine hret _ _ _ _ _ dX0_greatest_10 ⟨?_, hI⟩
      unfold pu_grA
      rw [if_pos hb]
  · rw [if_neg hb]
    refine sc_if_eq (tgt := 11) hC dX0_greatest_6 (by decide) (fun c1 => ?_) (fun c1 => ?_)
    · refine sc_aload_n hC dX0_greatest_11 rfl ?_
      refine sc_iload_n hC dX0_greatest_12 rfl ?_
      refine sc_iload_n hC dX0_greatest_13 rfl ?_
      refine x0_callV hC (c0_se hP hI x y) k0_search rfl (by decide) (by decide) dX0_greatest_14 rfl (Nat.le_of_ble_eq_true rfl) (fun f2 a2 hp => ?_)
      obtain ⟨hf2, hI2⟩ := hp
      refine sc_aload_n hC dX0_greatest_17 rfl ?_
      refine x0_g16 hC dX0_greatest_18 ?_
      refine sc_top (hf2.1) ?_
      refine sc_if_ne (tgt := 29) hC dX0_greatest_21 (by decide) (fun c2 => ?_) (fun c2 => ?_)
      · refine sc_aload_n hC dX0_greatest_29 rfl ?_
        refine x0_g19 hC dX0_greatest_30 ?_
        refine hret _ _ _ _ _ dX0_greatest_33 ⟨?_, hI2⟩
        unfold pu_grA
        rw [if_neg hb, if_neg (fun q => c2 ((pu_n0 (by omega)).mpr q))]
        exact hf2.2.2.2
      · refine sc_bipush (v := -4) hC dX0_greatest_24 (by decide) ?_
        refine sc_goto (tgt := 33) hC dX0_greatest_26 (by decide) ?_
        refine hret _ _ _ _ _ dX0_greatest_33 ⟨?_, hI2⟩
        unfold pu_grA
        rw [if_neg hb, if_pos ((pu_n0 (by omega)).mp c2)]
    · exact absurd rfl c1
theorem c0_least {n : Nat} {t v : Nat → Nat} {f : Nat → Int32} {a : Nat → Nat → Int32} (hP : pu_PI n t v) (hI : pu_CI n t v f a) (x y : Int32) :
    sc_I0 yX0_least cX0_least 3 (some .int) 5 [.int x, .int y] f a (fun r f' a' => r = pu_leA (n, t, v) x y ∧ pu_CS (n, t, v) f' a') := by
  have hn := hP.1
  have hcl := pu_cnt_le t x y n
  refine x0_ofI pn0_least (fun _ => Nat.le_of_ble_eq_true rfl) (fun K d h hC hret => ?_)
  show sc_W K (xw0 h d f a) 0 [(0, .ref (h 20)), (1, .int x), (2, .int y)] []
  refine sc_aload_n hC dX0_least_0 rfl ?_
  refine sc_iload_n hC dX0_least_1 rfl ?_
  refine sc_iload_n hC dX0_least_2 rfl ?_
  refine x0_callI hC (c0_bs f a x y) k0_badSpan rfl (by decide) (by decide) dX0_least_3 rfl (Nat.le_of_ble_eq_true rfl) (fun r f1 a1 hp => ?_)
  obtain ⟨rfl, rfl, rfl⟩ := hp
  by_cases hb : pu_bsp x y
  · rw [if_pos hb]
    refine sc_if_eq (tgt := 11) hC dX0_least_6 (by decide) (fun c1 => ?_) (fun c1 => ?_)
    · exact absurd c1 (by decide)
    · refine sc_iconst (v := -1) hC dX0_least_9 (by decide) ?_
      refine hret _ _ _ _ _ dX0_least_10 ⟨?_, hI⟩
      unfold pu_leA
      rw [if_pos hb]
  · rw [if_neg hb]
    refine sc_if_eq (tgt := 11) hC dX0_least_6 (by decide) (fun c1 => ?_) (fun c1 => ?_)
    · refine sc_aload_n hC dX0_least_11 rfl ?_
      refine sc_iload_n hC dX0_least_12 rfl ?_
      refine sc_iload_n hC dX0_least_13 rfl ?_
      refine x0_callV hC (c0_se hP hI x y) k0_search rfl (by decide) (by decide) dX0_least_14 rfl (Nat.le_of_ble_eq_true rfl) (fun f2 a2 hp => ?_)
      obtain ⟨hf2, hI2⟩ := hp
      refine sc_aload_n hC dX0_least_17 rfl ?_
      refine x0_g16 hC dX0_least_18 ?_
      refine sc_top (hf2.1) ?_
      refine sc_if_ne (tgt := 29) hC dX0_least_21 (by decide) (fun c2 => ?_) (fun c2 => ?_)
      · refine sc_aload_n hC dX0_least_29 rfl ?_
        refine x0_g18 hC dX0_least_30 ?_
        refine hret _ _ _ _ _ dX0_least_33 ⟨?_, hI2⟩
        unfold pu_leA
        rw [if_neg hb, if_neg (fun q => c2 ((pu_n0 (by omega)).mpr q))]
        exact hf2.2.2.1
      · refine sc_bipush (v := -4) hC dX0_least_24 (by decide) ?_
        refine sc_goto (tgt := 33) hC dX0_least_26 (by decide) ?_
        refine hret _ _ _ _ _ dX0_least_33 ⟨?_, hI2⟩
        unfold pu_leA
        rw [if_neg hb, if_pos ((pu_n0 (by omega)).mp c2)]
    · exact absurd rfl c1
end
section
set_option maxRecDepth 100000
/-! SeriesCodec.rises, widestGap -/
/-- the value ahead of point k (65536 ahead of the first), the time ahead of it (0 ahead of the first) -/
def pu_bv (v : Nat → Nat) (k : Nat) : Nat := if k = 0 then 65536 else v (k - 1)
def pu_bt (t : Nat → Nat) (k : Nat) : Nat := if k = 0 then 0 else t (k - 1)
section RS
variable {K : sc_K} {d : ClassId} {h : Nat → Nat}
theorem rs_in (hC : sc_C K cX0_rises RX0 d 7 3) (T v : Nat → Nat) (m c : Nat) (X3 : Int32) (f : Nat → Int32) (a : Nat → Nat → Int32) (hm : m ≤ 16) (hV : ∀ i, i < 16 * c + m → v i ≤ 65535) (hR : pu_RD T (pu_sh v c) m a)
    (hk : sc_W K (xw0 h d f a) 76 [(0, .ref (h 20)), (1, .int (nI (pu_rs v (16 * c + m)))), (2, .int (nI (pu_bv v (16 * c + m)))), (3, .int X3), (4, .int (nI c)), (5, .int (nI m)), (6, .int (nI m))] []) :
    ∀ (j i : Nat), i + j = m → sc_W K (xw0 h d f a) 36 [(0, .ref (h 20)), (1, .int (nI (pu_rs v (16 * c + i)))), (2, .int (nI (pu_bv v (16 * c + i)))), (3, .int X3), (4, .int (nI c)), (5, .int (nI m)), (6, .int (nI i))] [] := by
  intro j
  induction j with
  | zero =>
    intro i hij
    rw [Nat.add_zero] at hij
    subst hij
    refine sc_iload hC dX0_rises_36 rfl ?_
    refine sc_iload hC dX0_rises_38 rfl ?_
    refine sc_icmp_ge (tgt := 76) hC dX0_rises_40 (by decide) (fun c1 => ?_) (fun c1 => ?_)
    · exact hk
    · exact absurd (nI_le (Nat.le_refl _) (by omega)) c1
  | succ j ih =>
    intro i hij
    have hvi := hV (16 * c + i) (by omega)
    have hbv : pu_bv v (16 * c + i) ≤ 65536 := by
      unfold pu_bv
      split
      · omega
      · have := hV (16 * c + i - 1) (by omega)
        omega
    have k61 : sc_W K (xw0 h d f a) 61 [(0, .ref (h 20)), (1, .int (nI (pu_rs v (16 * c + i)))), (2, .int (nI (pu_bv v (16 * c + i)))), (3, .int X3), (4, .int (nI c)), (5, .int (nI m)), (6, .int (nI i))] [.int (nI (pu_rs v (16 * c + i + 1)))] := by
      refine sc_istore_n hC dX0_rises_61 rfl (by decide) ?_
      refine sc_aload_n hC dX0_rises_62 rfl ?_
      refine x0_g15 hC dX0_rises_63 ?_
      refine sc_iload hC dX0_rises_66 rfl ?_
      refine x0_ald15 hC (i) (rfl) (by omega) dX0_rises_68 ?_
      refine sc_top ((show _ = nI (pu_bv v (16 * c + i + 1)) from (hR i (by omega)).2)) ?_
      refine sc_istore_n hC dX0_rises_69 rfl (by decide) ?_
      refine sc_iinc (v := 1) hC dX0_rises_70 (by decide) rfl rfl (by decide) ?_
      refine sc_goto (tgt := 36) hC dX0_rises_73 (by decide) ?_
      rw [nI_1 i]
      exact ih (i + 1) (by omega)
    have ers : pu_rs v (16 * c + i + 1) = if 1 ≤ 16 * c + i ∧ v (16 * c + i - 1) < v (16 * c + i) then pu_rs v (16 * c + i) + 1 else pu_rs v (16 * c + i) := rfl
    refine sc_iload hC dX0_rises_36 rfl ?_
    refine sc_iload hC dX0_rises_38 rfl ?_
    refine sc_icmp_ge (tgt := 76) hC dX0_rises_40 (by decide) (fun c1 => ?_) (fun c1 => ?_)
    · exact absurd c1 (nI_ge (by omega) (by omega))
    · refine sc_aload_n hC dX0_rises_43 rfl ?_
      refine x0_g15 hC dX0_rises_44 ?_
      refine sc_iload hC dX0_rises_47 rfl ?_
      refine x0_ald15 hC (i) (rfl) (by omega) dX0_rises_49 ?_
      refine sc_top ((show _ = nI (v (16 * c + i)) from (hR i (by omega)).2)) ?_
      refine sc_iload_n hC dX0_rises_50 rfl ?_
      refine sc_icmp_le (tgt := 60) hC dX0_rises_51 (by decide) (fun c2 => ?_) (fun c2 => ?_)
      · have c2 := (nI_leI (by omega) (by omega)).mp c2
        rw [ers, if_neg (fun q => by unfold pu_bv at c2; rw [if_neg (by omega)] at c2; omega)] at k61
        refine sc_iload_n hC dX0_rises_60 rfl ?_
        exact k61
      · have c2 : ¬ v (16 * c + i) ≤ pu_bv v (16 * c + i) := fun q => c2 ((nI_leI (by omega) (by omega)).mpr q)
        have hq : 1 ≤ 16 * c + i ∧ v (16 * c + i - 1) < v (16 * c + i) := by
          unfold pu_bv at c2
          split at c2 <;> omega
        rw [ers, if_pos hq] at k61
        refine sc_iload_n hC dX0_rises_54 rfl ?_
        refine sc_iconst (v := 1) hC dX0_rises_55 (by decide) ?_
        refine sc_iadd hC dX0_rises_56 ?_
        refine sc_top (nI_1 _) ?_
        refine sc_goto (tgt := 61) hC dX0_rises_57 (by decide) ?_
        exact k61
theorem rs_out (hC : sc_C K cX0_rises RX0 d 7 3) {n : Nat} {t v : Nat → Nat} (hP : pu_PI n t v)
    (hk : ∀ (f1 : Nat → Int32) (a1 : Nat → Nat → Int32) (lv : List (Nat × Value)), pu_CI n t v f1 a1 → sc_W K (xw0 h d f1 a1) 83 lv [.int (nI (pu_rs v n))]) :
    ∀ (j c : Nat) (f1 : Nat → Int32) (a1 : Nat → Nat → Int32), c + j = (n + 15) / 16 → pu_CI n t v f1 a1 → sc_W K (xw0 h d f1 a1) 13 [(0, .ref (h 20)), (1, .int (nI (pu_rs v (if 16 * c < n then 16 * c else n)))), (2, .int (nI (pu_bv v (if 16 * c < n then 16 * c else n)))), (3, .int (nI ((n + 15) / 16))), (4, .int (nI c))] [] := by
  have hn := hP.1
  intro j
  induction j with
  | zero =>
    intro c f1 a1 hcj hI
    rw [if_neg (by omega)]
    refine sc_iload hC dX0_rises_13 rfl ?_
    refine sc_iload_n hC dX0_rises_15 rfl ?_
    refine sc_icmp_ge (tgt := 82) hC dX0_rises_16 (by decide) (fun c1 => ?_) (fun c1 => ?_)
    · refine sc_iload_n hC dX0_rises_82 rfl ?_
      exact hk f1 a1 _ hI
    · exact absurd (nI_le (by omega) (by omega)) c1
  | succ j ih =>
    intro c f1 a1 hcj hI
    have hcn : 16 * c < n := by omega
    have hml := pu_m_le n c
    have hmm : 16 * c + pu_m n c = if 16 * (c + 1) < n then 16 * (c + 1) else n := by unfold pu_m; split <;> split <;> omega
    rw [if_pos hcn]
    refine sc_iload hC dX0_rises_13 rfl ?_
    refine sc_iload_n hC dX0_rises_15 rfl ?_
    refine sc_icmp_ge (tgt := 82) hC dX0_rises_16 (by decide) (fun c1 => ?_) (fun c1 => ?_)
    · exact absurd c1 (nI_ge (by omega) (by omega))
    · refine sc_aload_n hC dX0_rises_19 rfl ?_
      refine sc_iload hC dX0_rises_20 rfl ?_
      refine x0_callV hC (c0_un hP hI hcn) k0_unpack rfl (by decide) (by decide) dX0_rises_22 rfl (Nat.le_of_ble_eq_true rfl) (fun f2 a2 hp => ?_)
      obtain ⟨hF, hA, hR, -⟩ := hp
      have hI2 := pu_CI_keep (hF 0 (by omega)) hA hI
      refine sc_aload_n hC dX0_rises_25 rfl ?_
      refine sc_iload hC dX0_rises_26 rfl ?_
      refine x0_callI hC (c0_ic n c f2 a2 hn (by omega) hI2.1) k0_inChunk rfl (by decide) (by decide) dX0_rises_28 rfl (Nat.le_of_ble_eq_true rfl) (fun r f3 a3 hp => ?_)
      obtain ⟨rfl, rfl, rfl⟩ := hp
      refine sc_istore hC dX0_rises_31 rfl (by decide) ?_
      refine sc_iconst (v := 0) hC dX0_rises_33 (by decide) ?_
      refine sc_istore hC dX0_rises_34 rfl (by decide) ?_
      refine rs_in hC (pu_sh t c) v (pu_m n c) c _ _ _ hml.1 (fun i hi => hP.2.2.1 i (by omega)) hR ?_ (pu_m n c) 0 (Nat.zero_add _)
      refine sc_iinc (v := 1) hC dX0_rises_76 (by decide) rfl rfl (by decide) ?_
      refine sc_goto (tgt := 13) hC dX0_rises_79 (by decide) ?_
      refine sc_kp [0, 1, 2, 3, 4] rfl ?_
      rw [nI_1 c, hmm]
      exact ih (c + 1) _ _ (by omega) hI2
end RS
theorem c0_rises {n : Nat} {t v : Nat → Nat} {f : Nat → Int32} {a : Nat → Nat → Int32} (hP : pu_PI n t v) (hI : pu_CI n t v f a) :
    sc_I0 yX0_rises cX0_rises 7 (some .int) 3 [] f a (fun r f' a' => r = pu_rsA (n, t, v) ∧ pu_CS (n, t, v) f' a') := by
  refine x0_ofI pn0_rises (fun _ => Nat.le_of_ble_eq_true rfl) (fun K d h hC hret => ?_)
  show sc_W K (xw0 h d f a) 0 [(0, .ref (h 20))] []
  refine sc_iconst (v := 0) hC dX0_rises_0 (by decide) ?_
  refine sc_istore_n hC dX0_rises_1 rfl (by decide) ?_
  refine sc_ldc (v := 65536) hC q219 dX0_rises_2 ?_
  refine sc_istore_n hC dX0_rises_4 rfl (by decide) ?_
  refine sc_aload_n hC dX0_rises_5 rfl ?_
  refine x0_callI hC (c0_chk n f a hP.1 hI.1) k0_chunks rfl (by decide) (by decide) dX0_rises_6 rfl (Nat.le_of_ble_eq_true rfl) (fun r f1 a1 hp => ?_)
  obtain ⟨rfl, rfl, rfl⟩ := hp
  refine sc_istore_n hC dX0_rises_9 rfl (by decide) ?_
  refine sc_iconst (v := 0) hC dX0_rises_10 (by decide) ?_
  refine sc_istore hC dX0_rises_11 rfl (by decide) ?_
  have hh := rs_out hC hP (fun f2 a2 lv hI2 => hret _ _ _ _ _ dX0_rises_83 ⟨rfl, hI2⟩) _ 0 _ _ (Nat.zero_add _) hI
  have e : (if 16 * 0 < n then 16 * 0 else n) = 0 := by split <;> omega
  rw [e] at hh
  exact hh
/-- the widest gap as the int that is kept -/
def pu_wi (t : Nat → Nat) (k : Nat) : Int32 := if pu_wg t k = 0 then -4 else nI (pu_wg t k - 1)
theorem pu_wg_le {t : Nat → Nat} : ∀ {k : Nat}, (∀ i, i < k → t i ≤ 60000) → pu_wg t k ≤ 60001 := by
  intro k
  induction k with
  | zero => intro _; exact Nat.zero_le _
  | succ k ih =>
    intro h
    have h1 := ih (fun i hi => h i (by omega))
    have h2 := h k (by omega)
    unfold pu_wg
    split <;> omega
theorem pu_wi_lt {t : Nat → Nat} {k D : Nat} (hk : pu_wg t k ≤ 60001) (hD : D ≤ 60000) : pu_wi t k < nI D ↔ pu_wg t k < D + 1 := by
  unfold pu_wi
  split
  next e =>
    rw [pu_lt (i := -4) (by decide) (nI_toInt (by omega))]
    omega
  next e =>
    rw [nI_ltI (by omega) (by omega)]
    omega
section WG
variable {K : sc_K} {d : ClassId} {h : Nat → Nat}
theorem wg_in (hC : sc_C K cX0_widestGap RX0 d 7 3) (t V : Nat → Nat) (m c : Nat) (X3 : Int32) (f : Nat → Int32) (a : Nat → Nat → Int32) (hc : c < 4) (hm : m ≤ 16) (hT : ∀ i, i < 16 * c + m → t i ≤ 60000) (hmon : ∀ i, i + 1 < 16 * c + m → t i ≤ t (i + 1)) (hR : pu_RD (pu_sh t c) V m a)
    (hk : sc_W K (xw0 h d f a) 88 [(0, .ref (h 20)), (1, .int (pu_wi t (16 * c + m))), (2, .int (nI (pu_bt t (16 * c + m)))), (3, .int X3), (4, .int (nI c)), (5, .int (nI m)), (6, .int (nI m))] []) :
    ∀ (j i : Nat), i + j = m → sc_W K (xw0 h d f a) 36 [(0, .ref (h 20)), (1, .int (pu_wi t (16 * c + i))), (2, .int (nI (pu_bt t (16 * c + i)))), (3, .int X3), (4, .int (nI c)), (5, .int (nI m)), (6, .int (nI i))] [] := by
  intro j
  induction j with
  | zero =>
    intro i hij
    rw [Nat.add_zero] at hij
    subst hij
    refine sc_iload hC dX0_widestGap_36 rfl ?_
    refine sc_iload hC dX0_widestGap_38 rfl ?_
    refine sc_icmp_ge (tgt := 88) hC dX0_widestGap_40 (by decide) (fun c1 => ?_) (fun c1 => ?_)
    · exact hk
    · exact absurd (nI_le (Nat.le_refl _) (by omega)) c1
  | succ j ih =>
    intro i hij
    have hti := hT (16 * c + i) (by omega)
    have hwl := pu_wg_le (t := t) (k := 16 * c + i) (fun i' hi' => hT i' (by omega))
    have k74 : sc_W K (xw0 h d f a) 74 [(0, .ref (h 20)), (1, .int (pu_wi t (16 * c + i + 1))), (2, .int (nI (pu_bt t (16 * c + i)))), (3, .int X3), (4, .int (nI c)), (5, .int (nI m)), (6, .int (nI i))] [] := by
      refine sc_aload_n hC dX0_widestGap_74 rfl ?_
      refine x0_g14 hC dX0_widestGap_75 ?_
      refine sc_iload hC dX0_widestGap_78 rfl ?_
      refine x0_ald14 hC (i) (rfl) (by omega) dX0_widestGap_80 ?_
      refine sc_top ((show _ = nI (pu_bt t (16 * c + i + 1)) from (hR i (by omega)).1)) ?_
      refine sc_istore_n hC dX0_widestGap_81 rfl (by decide) ?_
      refine sc_iinc (v := 1) hC dX0_widestGap_82 (by decide) rfl rfl (by decide) ?_
      refine sc_goto (tgt := 36) hC dX0_widestGap_85 (by decide) ?_
      rw [nI_1 i]
      exact ih (i + 1) (by omega)
    have ewg : pu_wg t (16 * c + i + 1) = if 1 ≤ 16 * c + i ∧ pu_wg t (16 * c + i) < t (16 * c + i) - t (16 * c + i - 1) + 1 then t (16 * c + i) - t (16 * c + i - 1) + 1 else pu_wg t (16 * c + i) := rfl
    refine sc_iload hC dX0_widestGap_36 rfl ?_
    refine sc_iload hC dX0_widestGap_38 rfl ?_
    refine sc_icmp_ge (tgt := 88) hC dX0_widestGap_40 (by decide) (fun c1 => ?_) (fun c1 => ?_)
    · exact absurd c1 (nI_ge (by omega) (by omega))
    · refine sc_iload hC dX0_widestGap_43 rfl ?_
      refine sc_iload hC dX0_widestGap_45 rfl ?_
      refine sc_iadd hC dX0_widestGap_47 ?_
      refine sc_top (nI_add c i) ?_
      refine sc_if_le (tgt := 74) hC dX0_widestGap_48 (by decide) (fun c2 => ?_) (fun c2 => ?_)
      · have c2 := (nI_leI (b := 0) (by omega) (by decide)).mp c2
        have e : pu_wi t (16 * c + i + 1) = pu_wi t (16 * c + i) := by
          unfold pu_wi
          rw [ewg.trans (if_neg (by omega))]
        rw [e] at k74
        exact k74
      · have c2 : ¬ c + i ≤ 0 := fun q => c2 ((nI_leI (b := 0) (by omega) (by decide)).mpr q)
        have hb : pu_bt t (16 * c + i) = t (16 * c + i - 1) := by
          unfold pu_bt
          rw [if_neg (by omega)]
        have hmo : t (16 * c + i - 1) ≤ t (16 * c + i) := by
          have := hmon (16 * c + i - 1) (by omega)
          rw [show 16 * c + i - 1 + 1 = 16 * c + i by omega] at this
          exact this
        have hsub : nI (t (16 * c + i)) - nI (pu_bt t (16 * c + i)) = nI (t (16 * c + i) - t (16 * c + i - 1)) := by
          rw [hb]
          exact pk_sub hmo
        refine sc_aload_n hC dX0_widestGap_51 rfl ?_
        refine x0_g14 hC dX0_widestGap_52 ?_
        refine sc_iload hC dX0_widestGap_55 rfl ?_
        refine x0_ald14 hC (i) (rfl) (by omega) dX0_widestGap_57 ?_
        refine sc_top ((show _ = nI (t (16 * c + i)) from (hR i (by omega)).1)) ?_
        refine sc_iload_n hC dX0_widestGap_58 rfl ?_
        refine sc_isub hC dX0_widestGap_59 ?_
        refine sc_top (hsub) ?_
        refine sc_iload_n hC dX0_widestGap_60 rfl ?_
        refine sc_icmp_le (tgt := 74) hC dX0_widestGap_61 (by decide) (fun c3 => ?_) (fun c3 => ?_)
        · have c3 : ¬ pu_wg t (16 * c + i) < t (16 * c + i) - t (16 * c + i - 1) + 1 := fun q => absurd c3 (Int32.not_le.mpr ((pu_wi_lt hwl (by omega)).mpr q))
          have e : pu_wi t (16 * c + i + 1) = pu_wi t (16 * c + i) := by
            unfold pu_wi
            rw [ewg.trans (if_neg (fun q => c3 q.2))]
          rw [e] at k74
          exact k74
        · have c3 := (pu_wi_lt hwl (by omega)).mp (Int32.not_le.mp c3)
          have e : pu_wi t (16 * c + i + 1) = nI (t (16 * c + i) - t (16 * c + i - 1)) := by
            unfold pu_wi
            rw [ewg.trans (if_pos ⟨by omega, c3⟩), if_neg (by omega), Nat.add_sub_cancel]
          rw [e] at k74
          refine sc_aload_n hC dX0_widestGap_64 rfl ?_
          refine x0_g14 hC dX0_widestGap_65 ?_
          refine sc_iload hC dX0_widestGap_68 rfl ?_
          refine x0_ald14 hC (i) (rfl) (by omega) dX0_widestGap_70 ?_
          refine sc_top ((show _ = nI (t (16 * c + i)) from (hR i (by omega)).1)) ?_
          refine sc_iload_n hC dX0_widestGap_71 rfl ?_
          refine sc_isub hC dX0_widestGap_72 ?_
          refine sc_top (hsub) ?_
          refine sc_istore_n hC dX0_widestGap_73 rfl (by decide) ?_
          exact k74
theorem wg_out (hC : sc_C K cX0_widestGap RX0 d 7 3) {n : Nat} {t v : Nat → Nat} (hP : pu_PI n t v)
    (hk : ∀ (f1 : Nat → Int32) (a1 : Nat → Nat → Int32) (lv : List (Nat × Value)), pu_CI n t v f1 a1 → sc_W K (xw0 h d f1 a1) 95 lv [.int (pu_wi t n)]) :
    ∀ (j c : Nat) (f1 : Nat → Int32) (a1 : Nat → Nat → Int32), c + j = (n + 15) / 16 → pu_CI n t v f1 a1 → sc_W K (xw0 h d f1 a1) 13 [(0, .ref (h 20)), (1, .int (pu_wi t (if 16 * c < n then 16 * c else n))), (2, .int (nI (pu_bt t (if 16 * c < n then 16 * c else n)))), (3, .int (nI ((n + 15) / 16))), (4, .int (nI c))] [] := by
  have hn := hP.1
  intro j
  induction j with
  | zero =>
    intro c f1 a1 hcj hI
    rw [if_neg (by omega)]
    refine sc_iload hC dX0_widestGap_13 rfl ?_
    refine sc_iload_n hC dX0_widestGap_15 rfl ?_
    refine sc_icmp_ge (tgt := 94) hC dX0_widestGap_16 (by decide) (fun c1 => ?_) (fun c1 => ?_)
    · refine sc_iload_n hC dX0_widestGap_94 rfl ?_
      exact hk f1 a1 _ hI
    · exact absurd (nI_le (by omega) (by omega)) c1
  | succ j ih =>
    intro c f1 a1 hcj hI
    have hcn : 16 * c < n := by omega
    have hml := pu_m_le n c
    have hmm : 16 * c + pu_m n c = if 16 * (c + 1) < n then 16 * (c + 1) else n := by unfold pu_m; split <;> split <;> omega
    rw [if_pos hcn]
    refine sc_iload hC dX0_widestGap_13 rfl ?_
    refine sc_iload_n hC dX0_widestGap_15 rfl ?_
    refine sc_icmp_ge (tgt := 94) hC dX0_widestGap_16 (by decide) (fun c1 => ?_) (fun c1 => ?_)
    · exact absurd c1 (nI_ge (by omega) (by omega))
    · refine sc_aload_n hC dX0_widestGap_19 rfl ?_
      refine sc_iload hC dX0_widestGap_20 rfl ?_
      refine x0_callV hC (c0_un hP hI hcn) k0_unpack rfl (by decide) (by decide) dX0_widestGap_22 rfl (Nat.le_of_ble_eq_true rfl) (fun f2 a2 hp => ?_)
      obtain ⟨hF, hA, hR, -⟩ := hp
      have hI2 := pu_CI_keep (hF 0 (by omega)) hA hI
      refine sc_aload_n hC dX0_widestGap_25 rfl ?_
      refine sc_iload hC dX0_widestGap_26 rfl ?_
      refine x0_callI hC (c0_ic n c f2 a2 hn (by omega) hI2.1) k0_inChunk rfl (by decide) (by decide) dX0_widestGap_28 rfl (Nat.le_of_ble_eq_true rfl) (fun r f3 a3 hp => ?_)
      obtain ⟨rfl, rfl, rfl⟩ := hp
      refine sc_istore hC dX0_widestGap_31 rfl (by decide) ?_
      refine sc_iconst (v := 0) hC dX0_widestGap_33 (by decide) ?_
      refine sc_istore hC dX0_widestGap_34 rfl (by decide) ?_
      refine wg_in hC t (pu_sh v c) (pu_m n c) c _ _ _ (by omega) hml.1 (fun i hi => hP.2.1 i (by omega)) (fun i hi => hP.2.2.2 i (by omega)) hR ?_ (pu_m n c) 0 (Nat.zero_add _)
      refine sc_iinc (v := 1) hC dX0_widestGap_88 (by decide) rfl rfl (by decide) ?_
      refine sc_goto (tgt := 13) hC dX0_widestGap_91 (by decide) ?_
      refine sc_kp [0, 1, 2, 3, 4] rfl ?_
      rw [nI_1 c, hmm]
      exact ih (c + 1) _ _ (by omega) hI2
end WG
theorem c0_widestGap {n : Nat} {t v : Nat → Nat} {f : Nat → Int32} {a : Nat → Nat → Int32} (hP : pu_PI n t v) (hI : pu_CI n t v f a) :
    sc_I0 yX0_widestGap cX0_widestGap 7 (some .int) 3 [] f a (fun r f' a' => r = pu_wgA (n, t, v) ∧ pu_CS (n, t, v) f' a') := by
  refine x0_ofI pn0_widestGap (fun _ => Nat.le_of_ble_eq_true rfl) (fun K d h hC hret => ?_)
  show sc_W K (xw0 h d f a) 0 [(0, .ref (h 20))] []
  refine sc_bipush (v := -4) hC dX0_widestGap_0 (by decide) ?_
  refine sc_istore_n hC dX0_widestGap_2 rfl (by decide) ?_
  refine sc_iconst (v := 0) hC dX0_widestGap_3 (by decide) ?_
  refine sc_istore_n hC dX0_widestGap_4 rfl (by decide) ?_
  refine sc_aload_n hC dX0_widestGap_5 rfl ?_
  refine x0_callI hC (c0_chk n f a hP.1 hI.1) k0_chunks rfl (by decide) (by decide) dX0_widestGap_6 rfl (Nat.le_of_ble_eq_true rfl) (fun r f1 a1 hp => ?_)
  obtain ⟨rfl, rfl, rfl⟩ := hp
  refine sc_istore_n hC dX0_widestGap_9 rfl (by decide) ?_
  refine sc_iconst (v := 0) hC dX0_widestGap_10 (by decide) ?_
  refine sc_istore hC dX0_widestGap_11 rfl (by decide) ?_
  have hh := wg_out hC hP (fun f2 a2 lv hI2 => hret _ _ _ _ _ dX0_widestGap_95 ⟨rfl, hI2⟩) _ 0 _ _ (Nat.zero_add _) hI
  have e : (if 16 * 0 < n then 16 * 0 else n) = 0 := by split <;> omega
  rw [e] at hh
  exact hh
end
section
set_option maxRecDepth 100000
/-! SeriesCodecModel: lastTime, isValue, append, steady, dropOldest, unappend, points, isPoint, time, value, firstFrom, valueAt, rises, widestGap -/
theorem m1_lt {n : Nat} {t v : Nat → Nat} {f : Nat → Int32} {a : Nat → Nat → Int32} (hn : n ≤ 64) (hM : pu_MS (n, t, v) f a) :
    sc_I1 yX1_lastTime cX1_lastTime 1 (some .int) 0 [] f a (fun r f' a' => r = nI (pu_last n t) ∧ f' = f ∧ a' = a) := by
  have h2 : f 2 = nI n := hM.1
  have ha : ∀ i, i < n → a 0 i = nI (t i) ∧ a 1 i = nI (v i) := hM.2
  refine x1_ofI pn1_lastTime (fun _ => Nat.le_of_ble_eq_true rfl) (fun K d h hC hret => ?_)
  show sc_W K (xw1 h d f a) 0 [(0, .ref (h 5))] []
  refine sc_aload_n hC dX1_lastTime_0 rfl ?_
  refine x1_g2 hC dX1_lastTime_1 ?_
  refine sc_top (h2) ?_
  refine sc_if_ne (tgt := 11) hC dX1_lastTime_4 (by decide) (fun c1 => ?_) (fun c1 => ?_)
  · have n0 : ¬ n = 0 := fun q => c1 ((pu_n0 (by omega)).mpr q)
    refine sc_aload_n hC dX1_lastTime_11 rfl ?_
    refine x1_g0 hC dX1_lastTime_12 ?_
    refine sc_aload_n hC dX1_lastTime_15 rfl ?_
    refine x1_g2 hC dX1_lastTime_16 ?_
    refine sc_top (h2) ?_
    refine sc_iconst (v := 1) hC dX1_lastTime_19 (by decide) ?_
    refine sc_isub hC dX1_lastTime_20 ?_
    refine sc_top ((pk_sub (b := 1) (by omega) : nI n - 1 = nI (n - 1))) ?_
    refine x1_ald0 hC (n - 1) (rfl) (by omega) dX1_lastTime_21 ?_
    refine sc_top ((ha (n - 1) (by omega)).1) ?_
    exact hret _ _ _ _ _ dX1_lastTime_22 ⟨by unfold pu_last; rw [if_neg n0], rfl, rfl⟩
  · have n0 : n = 0 := (pu_n0 (by omega)).mp c1
    refine sc_iconst (v := 0) hC dX1_lastTime_7 (by decide) ?_
    refine sc_goto (tgt := 22) hC dX1_lastTime_8 (by decide) ?_
    exact hret _ _ _ _ _ dX1_lastTime_22 ⟨by unfold pu_last; rw [if_pos n0]; rfl, rfl, rfl⟩
theorem m1_iv (f : Nat → Int32) (a : Nat → Nat → Int32) (y : Int32) :
    sc_I1 yX1_isValue cX1_isValue 2 (some .boolean) 0 [.int y] f a (fun r f' a' => r = (if y < 0 ∨ 65535 < y then 0 else 1) ∧ f' = f ∧ a' = a) := by
  refine x1_ofZ pn1_isValue (fun _ => Nat.le_of_ble_eq_true rfl) (fun K d h hC hret => ?_)
  show sc_W K (xw1 h d f a) 0 [(0, .ref (h 5)), (1, .int y)] []
  have k14 : (y < 0 ∨ 65535 < y) → sc_W K (xw1 h d f a) 14 [(0, .ref (h 5)), (1, .int y)] [] := by
    intro hb
    refine sc_iconst (v := 0) hC dX1_isValue_14 (by decide) ?_
    exact hret _ _ _ _ _ dX1_isValue_15 (Or.inl rfl) ⟨by rw [if_pos hb], rfl, rfl⟩
  refine sc_iload_n hC dX1_isValue_0 rfl ?_
  refine sc_if_lt (tgt := 14) hC dX1_isValue_1 (by decide) (fun c1 => ?_) (fun c1 => ?_)
  · exact k14 (Or.inl c1)
  · refine sc_iload_n hC dX1_isValue_4 rfl ?_
    refine sc_ldc (v := 65535) hC q287 dX1_isValue_5 ?_
    refine sc_icmp_gt (tgt := 14) hC dX1_isValue_7 (by decide) (fun c2 => ?_) (fun c2 => ?_)
    · exact k14 (Or.inr c2)
    · refine sc_iconst (v := 1) hC dX1_isValue_10 (by decide) ?_
      refine sc_goto (tgt := 15) hC dX1_isValue_11 (by decide) ?_
      exact hret _ _ _ _ _ dX1_isValue_15 (Or.inr rfl) ⟨by rw [if_neg (fun q => q.elim c1 c2)], rfl, rfl⟩
theorem m1_append {n : Nat} {t v : Nat → Nat} {f : Nat → Int32} {a : Nat → Nat → Int32} (hP : pu_PI n t v) (hM : pu_MS (n, t, v) f a) (x y : Int32) :
    sc_I1 yX1_append cX1_append 3 (some .int) 1 [.int x, .int y] f a (fun r f' a' => r = pu_apA (n, t, v) x y ∧ pu_MS (pu_apN (n, t, v) x y) f' a') := by
  have hn := hP.1
  have h2 : f 2 = nI n := hM.1
  have ha : ∀ i, i < n → a 0 i = nI (t i) ∧ a 1 i = nI (v i) := hM.2
  refine x1_ofI pn1_append (fun _ => Nat.le_of_ble_eq_true rfl) (fun K d h hC hret => ?_)
  show sc_W K (xw1 h d f a) 0 [(0, .ref (h 5)), (1, .int x), (2, .int y)] []
  have k29 : pu_apB (n, t, v) x y → sc_W K (xw1 h d f a) 29 [(0, .ref (h 5)), (1, .int x), (2, .int y)] [] := by
    intro hb
    refine sc_iconst (v := -1) hC dX1_append_29 (by decide) ?_
    refine hret _ _ _ _ _ dX1_append_30 ⟨?_, ?_⟩
    · unfold pu_apA
      rw [if_pos hb]
    · unfold pu_apN
      rw [if_pos (Or.inl hb)]
      exact hM
  have k31 : ¬ pu_apB (n, t, v) x y → sc_W K (xw1 h d f a) 31 [(0, .ref (h 5)), (1, .int x), (2, .int y)] [] := by
    intro hb
    refine sc_aload_n hC dX1_append_31 rfl ?_
    refine x1_g2 hC dX1_append_32 ?_
    refine sc_top (h2) ?_
    refine sc_bipush (v := 64) hC dX1_append_35 (by decide) ?_
    refine sc_icmp_ne (tgt := 43) hC dX1_append_37 (by decide) (fun c1 => ?_) (fun c1 => ?_)
    · have n64 : ¬ n = 64 := fun q => c1 (by rw [q]; rfl)
      obtain ⟨g, w, rfl, rfl, h1, h3⟩ := pu_ap_ok hP hb
      have eN : pu_apN (n, t, v) (nI g) (nI w) = (n + 1, pu_un t n (pu_last n t + g), pu_un v n w) := by
        unfold pu_apN
        rw [if_neg (fun q => q.elim hb n64), nI_clamp (by omega), nI_clamp (by omega)]
      refine sc_aload_n hC dX1_append_43 rfl ?_
      refine x1_g0 hC dX1_append_44 ?_
      refine sc_aload_n hC dX1_append_47 rfl ?_
      refine x1_g2 hC dX1_append_48 ?_
      refine sc_top (h2) ?_
      refine sc_aload_n hC dX1_append_51 rfl ?_
      refine x1_callI hC (m1_lt hn hM) k1_lastTime rfl (by decide) (by decide) dX1_append_52 rfl (Nat.le_of_ble_eq_true rfl) (fun r f1 a1 hp => ?_)
      obtain ⟨rfl, rfl, rfl⟩ := hp
      refine sc_iload_n hC dX1_append_55 rfl ?_
      refine sc_iadd hC dX1_append_56 ?_
      refine sc_top (nI_add _ _) ?_
      refine x1_ast0 hC (n) (rfl) (by omega) dX1_append_57 ?_
      refine sc_aload_n hC dX1_append_58 rfl ?_
      refine x1_g1 hC dX1_append_59 ?_
      refine sc_aload_n hC dX1_append_62 rfl ?_
      refine x1_g2 hC dX1_append_63 ?_
      refine sc_top (h2) ?_
      refine sc_iload_n hC dX1_append_66 rfl ?_
      refine x1_ast1 hC (n) (rfl) (by omega) dX1_append_67 ?_
      refine sc_aload_n hC dX1_append_68 rfl ?_
      refine sc_dup hC dX1_append_69 rfl ?_
      refine x1_g2 hC dX1_append_70 ?_
      refine sc_top (h2) ?_
      refine sc_iconst (v := 1) hC dX1_append_73 (by decide) ?_
      refine sc_iadd hC dX1_append_74 ?_
      refine sc_top (nI_1 n) ?_
      refine x1_p2 hC dX1_append_75 ?_
      refine sc_aload_n hC dX1_append_78 rfl ?_
      refine x1_g2 hC dX1_append_79 ?_
      refine sc_iconst (v := 1) hC dX1_append_82 (by decide) ?_
      refine sc_isub hC dX1_append_83 ?_
      refine sc_top ((nI_pred n : upd f1 2 (nI (n + 1)) 2 - 1 = nI n)) ?_
      refine hret _ _ _ _ _ dX1_append_84 ⟨?_, ?_⟩
      · unfold pu_apA
        rw [if_neg hb, if_neg n64]
      · rw [eN]
        refine ⟨rfl, fun i hi => ?_⟩
        have hi : i < n + 1 := hi
        show upd (a1 0) n (nI (pu_last n t + g)) i = nI (pu_un t n (pu_last n t + g) i) ∧ upd (a1 1) n (nI w) i = nI (pu_un v n w i)
        by_cases e : i = n
        · rw [e, pk_us, pk_us, pu_un_s, pu_un_s]
          exact ⟨rfl, rfl⟩
        · rw [pk_un e, pk_un e, pu_un_n _ _ e, pu_un_n _ _ e]
          exact ha i (by omega)
    · have n64 : n = 64 := (nI_eq (b := 64) (by omega) (by decide)).mp c1
      refine sc_bipush (v := -2) hC dX1_append_40 (by decide) ?_
      refine hret _ _ _ _ _ dX1_append_42 ⟨?_, ?_⟩
      · unfold pu_apA
        rw [if_neg hb, if_pos n64]
      · unfold pu_apN
        rw [if_pos (Or.inr n64)]
        exact hM
  refine sc_iload_n hC dX1_append_0 rfl ?_
  refine sc_if_lt (tgt := 29) hC dX1_append_1 (by decide) (fun c1 => ?_) (fun c1 => ?_)
  · exact k29 (Or.inl c1)
  · refine sc_iload_n hC dX1_append_4 rfl ?_
    refine sc_ldc (v := 60000) hC q278 dX1_append_5 ?_
    refine sc_icmp_gt (tgt := 29) hC dX1_append_7 (by decide) (fun c2 => ?_) (fun c2 => ?_)
    · exact k29 (Or.inr (Or.inl c2))
    · refine sc_aload_n hC dX1_append_10 rfl ?_
      refine x1_callI hC (m1_lt hn hM) k1_lastTime rfl (by decide) (by decide) dX1_append_11 rfl (Nat.le_of_ble_eq_true rfl) (fun r f1 a1 hp => ?_)
      obtain ⟨rfl, rfl, rfl⟩ := hp
      refine sc_iload_n hC dX1_append_14 rfl ?_
      refine sc_iadd hC dX1_append_15 ?_
      refine sc_ldc (v := 60000) hC q278 dX1_append_16 ?_
      refine sc_icmp_gt (tgt := 29) hC dX1_append_18 (by decide) (fun c3 => ?_) (fun c3 => ?_)
      · exact k29 (Or.inr (Or.inr (Or.inl c3)))
      · refine sc_aload_n hC dX1_append_21 rfl ?_
        refine sc_iload_n hC dX1_append_22 rfl ?_
        refine x1_callI hC (m1_iv _ _ y) k1_isValue rfl (by decide) (by decide) dX1_append_23 rfl (Nat.le_of_ble_eq_true rfl) (fun r f2 a2 hp => ?_)
        obtain ⟨rfl, rfl, rfl⟩ := hp
        by_cases hy : y < 0 ∨ 65535 < y
        · rw [if_pos hy]
          refine sc_if_ne (tgt := 31) hC dX1_append_26 (by decide) (fun c4 => ?_) (fun c4 => ?_)
          · exact absurd rfl c4
          · exact k29 (Or.inr (Or.inr (Or.inr hy)))
        · rw [if_neg hy]
          refine sc_if_ne (tgt := 31) hC dX1_append_26 (by decide) (fun c4 => ?_) (fun c4 => ?_)
          · refine k31 (fun q => ?_)
            rcases q with q | q | q | q
            · exact c1 q
            · exact c2 q
            · exact c3 q
            · exact hy q
          · exact absurd c4 (by decide)
theorem pu_sv_0 {w : Nat} {z : Int32} (hw : w ≤ 65535) : pu_sv (nI w) z 0 = w := by
  unfold pu_sv
  rw [nI_0, Int32.zero_mul, Int32.add_zero, pk_tn (by omega)]
  omega
theorem pu_sv_1 {w : Nat} {z : Int32} (i : Nat) : (nI (pu_sv (nI w) z i) + z) &&& 65535 = nI (pu_sv (nI w) z (i + 1)) := by
  rw [pk_and _ 16 (by decide)]
  congr 1
  unfold pu_sv
  have e : nI w + nI (i + 1) * z = nI w + nI i * z + z := by
    rw [← nI_1 i]
    grind
  rw [e]
  generalize nI w + nI i * z = X
  rw [Int32.toBitVec_add, Int32.toBitVec_add, BitVec.toNat_add, BitVec.toNat_add, pk_tn (by omega)]
  omega
theorem pu_MS_congr {n : Nat} {t t' v v' : Nat → Nat} {f : Nat → Int32} {a : Nat → Nat → Int32} (ht : ∀ i, i < n → t i = t' i) (hv : ∀ i, i < n → v i = v' i) (h : pu_MS (n, t, v) f a) : pu_MS (n, t', v') f a := by
  refine ⟨h.1, fun i hi => ?_⟩
  have hi : i < n := hi
  show a 0 i = nI (t' i) ∧ a 1 i = nI (v' i)
  rw [← ht i hi, ← hv i hi]
  exact h.2 i hi
section SY1
variable {K : sc_K} {d : ClassId} {h : Nat → Nat}
theorem sy1_loop (hC : sc_C K cX1_steady RX1 d 7 2) (n m g w : Nat) (z Y : Int32) (t v : Nat → Nat) (hn : n + m ≤ 64) (hg0 : g ≤ 60000) (hP : pu_PI (n + m) t v) (hg : ∀ i, i < m → t (n + i) = pu_last (n + i) t + g) (hv : ∀ i, i < m → v (n + i) = pu_sv (nI w) z i)
    (hk : ∀ (f1 : Nat → Int32) (a1 : Nat → Nat → Int32), pu_MS (n + m, t, v) f1 a1 → ∀ lv, sc_W K (xw1 h d f1 a1) 113 lv [.int (nI (n + m))]) :
    ∀ (j i : Nat) (f1 : Nat → Int32) (a1 : Nat → Nat → Int32), i + j = m → pu_MS (n + i, t, v) f1 a1 → sc_W K (xw1 h d f1 a1) 79 [(0, .ref (h 5)), (1, .int (nI m)), (2, .int (nI g)), (3, .int Y), (4, .int z), (5, .int (nI (pu_sv (nI w) z i))), (6, .int (nI i))] [] := by
  intro j
  induction j with
  | zero =>
    intro i f1 a1 hij hM
    rw [Nat.add_zero] at hij
    subst hij
    have h2 : f1 2 = nI (n + i) := hM.1
    refine sc_iload hC dX1_steady_79 rfl ?_
    refine sc_iload_n hC dX1_steady_81 rfl ?_
    refine sc_icmp_ge (tgt := 109) hC dX1_steady_82 (by decide) (fun c1 => ?_) (fun c1 => ?_)
    · refine sc_aload_n hC dX1_steady_109 rfl ?_
      refine x1_g2 hC dX1_steady_110 ?_
      refine sc_top (h2) ?_
      exact hk f1 a1 hM _
    · exact absurd (nI_le (Nat.le_refl _) (by omega)) c1
  | succ j ih =>
    intro i f1 a1 hij hM
    have hPi : pu_PI (n + i) t v := pu_PI_mono (by omega) hP
    have hti := hP.2.1 (n + i) (by omega)
    have hvi := hP.2.2.1 (n + i) (by omega)
    have hgi := hg i (by omega)
    rw [hv i (by omega)] at hvi
    have hb : ¬ pu_apB (n + i, t, v) (nI g) (nI (pu_sv (nI w) z i)) := by
      intro q
      rcases q with q | q | q | q | q
      · exact nI_pos (by omega) q
      · exact absurd ((nI_ltI (a := 60000) (by decide) (by omega)).mp q) (by omega)
      · have q : 60000 < nI (pu_last (n + i) t) + nI g := q
        rw [nI_add] at q
        exact absurd ((nI_ltI (a := 60000) (by decide) (by omega)).mp q) (by omega)
      · exact nI_pos (by omega) q
      · exact absurd ((nI_ltI (a := 65535) (by decide) (by omega)).mp q) (by omega)
    have eN : pu_apN (n + i, t, v) (nI g) (nI (pu_sv (nI w) z i)) = (n + i + 1, pu_un t (n + i) (pu_last (n + i) t + g), pu_un v (n + i) (pu_sv (nI w) z i)) := by
      unfold pu_apN
      rw [if_neg (fun q => q.elim hb (fun q => by have q : n + i = 64 := q; omega)), nI_clamp (by omega), nI_clamp (by omega)]
    refine sc_iload hC dX1_steady_79 rfl ?_
    refine sc_iload_n hC dX1_steady_81 rfl ?_
    refine sc_icmp_ge (tgt := 109) hC dX1_steady_82 (by decide) (fun c1 => ?_) (fun c1 => ?_)
    · exact absurd c1 (nI_ge (by omega) (by omega))
    · refine sc_aload_n hC dX1_steady_85 rfl ?_
      refine sc_iload_n hC dX1_steady_86 rfl ?_
      refine sc_iload hC dX1_steady_87 rfl ?_
      refine x1_callI hC (m1_append hPi hM (nI g) (nI (pu_sv (nI w) z i))) k1_append rfl (by decide) (by decide) dX1_steady_89 rfl (Nat.le_of_ble_eq_true rfl) (fun r f2 a2 hp => ?_)
      obtain ⟨-, hM2⟩ := hp
      rw [eN] at hM2
      have hM3 : pu_MS (n + i + 1, t, v) f2 a2 := by
        refine pu_MS_congr (fun q hq => ?_) (fun q hq => ?_) hM2
        · by_cases e : q = n + i
          · rw [e, pu_un_s, ← hgi]
          · rw [pu_un_n _ _ e]
        · by_cases e : q = n + i
          · rw [e, pu_un_s, hv i (by omega)]
          · rw [pu_un_n _ _ e]
      refine sc_pop hC dX1_steady_92 rfl ?_
      refine sc_iload hC dX1_steady_93 rfl ?_
      refine sc_iload hC dX1_steady_95 rfl ?_
      refine sc_iadd hC dX1_steady_97 ?_
      refine sc_ldc (v := 65535) hC q287 dX1_steady_98 ?_
      refine sc_iand hC dX1_steady_100 ?_
      refine sc_top (pu_sv_1 i) ?_
      refine sc_istore hC dX1_steady_101 rfl (by decide) ?_
      refine sc_iinc (v := 1) hC dX1_steady_103 (by decide) rfl rfl (by decide) ?_
      refine sc_goto (tgt := 79) hC dX1_steady_106 (by decide) ?_
      rw [nI_1 i]
      exact ih (i + 1) f2 a2 (by omega) hM3
end SY1
theorem m1_steady {n : Nat} {t v : Nat → Nat} {f : Nat → Int32} {a : Nat → Nat → Int32} (hP : pu_PI n t v) (hM : pu_MS (n, t, v) f a) (k x y z : Int32) :
    sc_I1 yX1_steady cX1_steady 7 (some .int) 2 [.int k, .int x, .int y, .int z] f a (fun r f' a' => r = pu_syA (n, t, v) k x y z ∧ pu_MS (pu_syN (n, t, v) k x y z) f' a') := by
  have hn := hP.1
  have h2 : f 2 = nI n := hM.1
  refine x1_ofI pn1_steady (fun _ => Nat.le_of_ble_eq_true rfl) (fun K d h hC hret => ?_)
  show sc_W K (xw1 h d f a) 0 [(0, .ref (h 5)), (1, .int k), (2, .int x), (3, .int y), (4, .int z)] []
  have kb : pu_syB (n, t, v) k x y z → ∀ (pc : Nat) (lv : List (Nat × Value)), decode cX1_steady pc = .ok (.ireturn, 1) → sc_W K (xw1 h d f a) pc lv [.int (-1)] := by
    intro hb pc lv hd
    refine hret _ _ _ _ _ hd ⟨?_, ?_⟩
    · unfold pu_syA
      rw [if_pos hb]
    · unfold pu_syN
      rw [if_pos (Or.inl hb)]
      exact hM
  have k33 : pu_syB (n, t, v) k x y z → sc_W K (xw1 h d f a) 33 [(0, .ref (h 5)), (1, .int k), (2, .int x), (3, .int y), (4, .int z)] [] := by
    intro hb
    refine sc_iconst (v := -1) hC dX1_steady_33 (by decide) ?_
    exact kb hb _ _ dX1_steady_34
  have k57 : pu_syB (n, t, v) k x y z → sc_W K (xw1 h d f a) 57 [(0, .ref (h 5)), (1, .int k), (2, .int x), (3, .int y), (4, .int z)] [] := by
    intro hb
    refine sc_iconst (v := -1) hC dX1_steady_57 (by decide) ?_
    exact kb hb _ _ dX1_steady_58
  have k59 : ¬ pu_syB (n, t, v) k x y z → sc_W K (xw1 h d f a) 59 [(0, .ref (h 5)), (1, .int k), (2, .int x), (3, .int y), (4, .int z)] [] := by
    intro hb
    refine sc_aload_n hC dX1_steady_59 rfl ?_
    refine x1_g2 hC dX1_steady_60 ?_
    refine sc_top (h2) ?_
    refine sc_iload_n hC dX1_steady_63 rfl ?_
    refine sc_iadd hC dX1_steady_64 ?_
    refine sc_bipush (v := 64) hC dX1_steady_65 (by decide) ?_
    refine sc_icmp_le (tgt := 73) hC dX1_steady_67 (by decide) (fun c1 => ?_) (fun c1 => ?_)
    · have n64 : ¬ 64 < nI n + k := fun q => absurd c1 (Int32.not_le.mpr q)
      obtain ⟨m, g, w, rfl, rfl, rfl, hm, h1, h3, h4⟩ := pu_sy_ok hP hb
      have hnm : n + m ≤ 64 := by
        rw [nI_add] at n64
        exact Nat.not_lt.mp (fun q => n64 (nI_lt (a := 64) q (by omega)))
      have eN : pu_syN (n, t, v) (nI m) (nI g) (nI w) z = (n + m, fun i => if i < n then t i else pu_last n t + (i - n + 1) * g, fun i => if i < n then v i else pu_sv (nI w) z (i - n)) := by
        unfold pu_syN
        rw [if_neg (fun q => q.elim hb n64), nI_clamp (by omega), nI_clamp (by omega)]
      have e1 : ∀ i, i < n → t i = (fun i => if i < n then t i else pu_last n t + (i - n + 1) * g) i := fun i hi => (if_pos hi).symm
      have e2 : ∀ i, i < n → v i = (fun i => if i < n then v i else pu_sv (nI w) z (i - n)) i := fun i hi => (if_pos hi).symm
      have kk : sc_W K (xw1 h d f a) 79 [(0, .ref (h 5)), (1, .int (nI m)), (2, .int (nI g)), (3, .int (nI w)), (4, .int z), (5, .int (nI (pu_sv (nI w) z 0))), (6, .int (nI 0))] [] := by
        refine sy1_loop hC n m g w z _ _ _ hnm h4 (pu_PI_sy (y := nI w) (z := z) hP hnm h1) ?_ ?_ ?_ m 0 f a (by omega) (pu_MS_congr e1 e2 hM)
        · intro i hi
          rw [if_neg (by omega), show n + i - n + 1 = i + 1 by omega]
          cases i with
          | zero =>
            have e := pu_last_congr e1
            show pu_last n t + (0 + 1) * g = pu_last n _ + g
            rw [← e]
            omega
          | succ i =>
            rw [show n + (i + 1) = n + i + 1 from rfl, pu_last_succ]
            show pu_last n t + (i + 1 + 1) * g = (if n + i < n then t (n + i) else pu_last n t + (n + i - n + 1) * g) + g
            rw [if_neg (by omega), show n + i - n + 1 = i + 1 by omega, Nat.succ_mul (i + 1), ← Nat.add_assoc]
        · intro i hi
          rw [if_neg (by omega), show n + i - n = i by omega]
        · intro f2 a2 hM2 lv
          refine hret _ _ _ _ _ dX1_steady_113 ⟨?_, ?_⟩
          · unfold pu_syA
            rw [if_neg hb, if_neg n64, nI_add]
          · rw [eN]
            exact hM2
      rw [pu_sv_0 h3] at kk
      refine sc_iload_n hC dX1_steady_73 rfl ?_
      refine sc_istore hC dX1_steady_74 rfl (by decide) ?_
      refine sc_iconst (v := 0) hC dX1_steady_76 (by decide) ?_
      refine sc_istore hC dX1_steady_77 rfl (by decide) ?_
      exact kk
    · have n64 : 64 < nI n + k := Int32.not_le.mp c1
      refine sc_bipush (v := -2) hC dX1_steady_70 (by decide) ?_
      refine hret _ _ _ _ _ dX1_steady_72 ⟨?_, ?_⟩
      · unfold pu_syA
        rw [if_neg hb, if_pos n64]
      · unfold pu_syN
        rw [if_pos (Or.inr n64)]
        exact hM
  refine sc_iload_n hC dX1_steady_0 rfl ?_
  refine sc_if_lt (tgt := 33) hC dX1_steady_1 (by decide) (fun c1 => ?_) (fun c1 => ?_)
  · exact k33 (Or.inl (Or.inl c1))
  · refine sc_iload_n hC dX1_steady_4 rfl ?_
    refine sc_bipush (v := 64) hC dX1_steady_5 (by decide) ?_
    refine sc_icmp_gt (tgt := 33) hC dX1_steady_7 (by decide) (fun c2 => ?_) (fun c2 => ?_)
    · exact k33 (Or.inl (Or.inr (Or.inl c2)))
    · refine sc_iload_n hC dX1_steady_10 rfl ?_
      refine sc_if_lt (tgt := 33) hC dX1_steady_11 (by decide) (fun c3 => ?_) (fun c3 => ?_)
      · exact k33 (Or.inl (Or.inr (Or.inr (Or.inl c3))))
      · refine sc_iload_n hC dX1_steady_14 rfl ?_
        refine sc_ldc (v := 60000) hC q278 dX1_steady_15 ?_
        refine sc_icmp_gt (tgt := 33) hC dX1_steady_17 (by decide) (fun c4 => ?_) (fun c4 => ?_)
        · exact k33 (Or.inl (Or.inr (Or.inr (Or.inr (Or.inl c4)))))
        · refine sc_aload_n hC dX1_steady_20 rfl ?_
          refine x1_callI hC (m1_lt hn hM) k1_lastTime rfl (by decide) (by decide) dX1_steady_21 rfl (Nat.le_of_ble_eq_true rfl) (fun r f1 a1 hp => ?_)
          obtain ⟨rfl, rfl, rfl⟩ := hp
          refine sc_iload_n hC dX1_steady_24 rfl ?_
          refine sc_iload_n hC dX1_steady_25 rfl ?_
          refine sc_imul hC dX1_steady_26 ?_
          refine sc_iadd hC dX1_steady_27 ?_
          refine sc_ldc (v := 60000) hC q278 dX1_steady_28 ?_
          refine sc_icmp_le (tgt := 35) hC dX1_steady_30 (by decide) (fun c5 => ?_) (fun c5 => ?_)
          · refine sc_aload_n hC dX1_steady_35 rfl ?_
            refine sc_iload_n hC dX1_steady_36 rfl ?_
            refine x1_callI hC (m1_iv _ _ y) k1_isValue rfl (by decide) (by decide) dX1_steady_37 rfl (Nat.le_of_ble_eq_true rfl) (fun r f2 a2 hp => ?_)
            obtain ⟨rfl, rfl, rfl⟩ := hp
            by_cases hy : y < 0 ∨ 65535 < y
            · rw [if_pos hy]
              refine sc_if_eq (tgt := 57) hC dX1_steady_40 (by decide) (fun c6 => ?_) (fun c6 => ?_)
              · exact k57 (Or.inl (Or.inr (Or.inr (Or.inr (Or.inr hy)))))
              · exact absurd rfl c6
            · rw [if_neg hy]
              refine sc_if_eq (tgt := 57) hC dX1_steady_40 (by decide) (fun c6 => ?_) (fun c6 => ?_)
              · exact absurd c6 (by decide)
              · refine sc_iload hC dX1_steady_43 rfl ?_
                refine sc_ldc (v := -65535) hC q292 dX1_steady_45 ?_
                refine sc_icmp_lt (tgt := 57) hC dX1_steady_47 (by decide) (fun c8 => ?_) (fun c8 => ?_)
                · exact k57 (Or.inr (Or.inr (Or.inl c8)))
                · refine sc_iload hC dX1_steady_50 rfl ?_
                  refine sc_ldc (v := 65535) hC q287 dX1_steady_52 ?_
                  refine sc_icmp_le (tgt := 59) hC dX1_steady_54 (by decide) (fun c9 => ?_) (fun c9 => ?_)
                  · refine k59 (fun q => ?_)
                    rcases q with (q | q | q | q | q) | (q | q | q)
                    · exact c1 q
                    · exact c2 q
                    · exact c3 q
                    · exact c4 q
                    · exact hy q
                    · exact absurd c5 (Int32.not_le.mpr q)
                    · exact c8 q
                    · exact absurd c9 (Int32.not_le.mpr q)
                  · exact k57 (Or.inr (Or.inr (Or.inr (Int32.not_le.mp c9))))
          · exact k33 (Or.inr (Or.inl (Int32.not_le.mp c5)))
section DR1
variable {K : sc_K} {d : ClassId} {h : Nat → Nat}
theorem dr1_loop (hC : sc_C K cX1_dropOldest RX1 d 2 0) (m : Nat) (hm : m + 16 ≤ 64) (f : Nat → Int32) (a : Nat → Nat → Int32) (hf : f 2 = nI m)
    (hk : ∀ (a1 : Nat → Nat → Int32) (lv : List (Nat × Value)), (∀ p, a1 0 p = if p < m then a 0 (p + 16) else a 0 p) → (∀ p, a1 1 p = if p < m then a 1 (p + 16) else a 1 p) → sc_W K (xw1 h d f a1) 73 lv [.int (nI m)]) :
    ∀ (j i : Nat) (a1 : Nat → Nat → Int32), i + j = m → (∀ p, a1 0 p = if p < i then a 0 (p + 16) else a 0 p) → (∀ p, a1 1 p = if p < i then a 1 (p + 16) else a 1 p) → sc_W K (xw1 h d f a1) 25 [(0, .ref (h 5)), (1, .int (nI i))] [] := by
  intro j
  induction j with
  | zero =>
    intro i a1 hij h0 h1
    rw [Nat.add_zero] at hij
    subst hij
    refine sc_iload_n hC dX1_dropOldest_25 rfl ?_
    refine sc_aload_n hC dX1_dropOldest_26 rfl ?_
    refine x1_g2 hC dX1_dropOldest_27 ?_
    refine sc_top (hf) ?_
    refine sc_icmp_ge (tgt := 69) hC dX1_dropOldest_30 (by decide) (fun c1 => ?_) (fun c1 => ?_)
    · refine sc_aload_n hC dX1_dropOldest_69 rfl ?_
      refine x1_g2 hC dX1_dropOldest_70 ?_
      refine sc_top (hf) ?_
      exact hk a1 _ h0 h1
    · exact absurd (nI_le (Nat.le_refl _) (by omega)) c1
  | succ j ih =>
    intro i a1 hij h0 h1
    refine sc_iload_n hC dX1_dropOldest_25 rfl ?_
    refine sc_aload_n hC dX1_dropOldest_26 rfl ?_
    refine x1_g2 hC dX1_dropOldest_27 ?_
    refine sc_top (hf) ?_
    refine sc_icmp_ge (tgt := 69) hC dX1_dropOldest_30 (by decide) (fun c1 => ?_) (fun c1 => ?_)
    · exact absurd c1 (nI_ge (by omega) (by omega))
    · refine sc_aload_n hC dX1_dropOldest_33 rfl ?_
      refine x1_g0 hC dX1_dropOldest_34 ?_
      refine sc_iload_n hC dX1_dropOldest_37 rfl ?_
      refine sc_aload_n hC dX1_dropOldest_38 rfl ?_
      refine x1_g0 hC dX1_dropOldest_39 ?_
      refine sc_iload_n hC dX1_dropOldest_42 rfl ?_
      refine sc_bipush (v := 16) hC dX1_dropOldest_43 (by decide) ?_
      refine sc_iadd hC dX1_dropOldest_45 ?_
      refine sc_top ((nI_add i 16 : nI i + 16 = nI (i + 16))) ?_
      refine x1_ald0 hC (i + 16) (rfl) (by omega) dX1_dropOldest_46 ?_
      refine sc_top ((h0 (i + 16)).trans (if_neg (by omega))) ?_
      refine x1_ast0 hC (i) (rfl) (by omega) dX1_dropOldest_47 ?_
      refine sc_aload_n hC dX1_dropOldest_48 rfl ?_
      refine x1_g1 hC dX1_dropOldest_49 ?_
      refine sc_iload_n hC dX1_dropOldest_52 rfl ?_
      refine sc_aload_n hC dX1_dropOldest_53 rfl ?_
      refine x1_g1 hC dX1_dropOldest_54 ?_
      refine sc_iload_n hC dX1_dropOldest_57 rfl ?_
      refine sc_bipush (v := 16) hC dX1_dropOldest_58 (by decide) ?_
      refine sc_iadd hC dX1_dropOldest_60 ?_
      refine sc_top ((nI_add i 16 : nI i + 16 = nI (i + 16))) ?_
      refine x1_ald1 hC (i + 16) (rfl) (by omega) dX1_dropOldest_61 ?_
      refine sc_top ((h1 (i + 16)).trans (if_neg (by omega))) ?_
      refine x1_ast1 hC (i) (rfl) (by omega) dX1_dropOldest_62 ?_
      refine sc_iinc (v := 1) hC dX1_dropOldest_63 (by decide) rfl rfl (by decide) ?_
      refine sc_goto (tgt := 25) hC dX1_dropOldest_66 (by decide) ?_
      rw [nI_1 i]
      exact ih (i + 1) _ (by omega) (pu_sft h0) (pu_sft h1)
end DR1
theorem m1_dropOldest {n : Nat} {t v : Nat → Nat} {f : Nat → Int32} {a : Nat → Nat → Int32} (hP : pu_PI n t v) (hM : pu_MS (n, t, v) f a) :
    sc_I1 yX1_dropOldest cX1_dropOldest 2 (some .int) 0 [] f a (fun r f' a' => r = pu_drA (n, t, v) ∧ pu_MS (pu_drN (n, t, v)) f' a') := by
  have hn := hP.1
  have h2 : f 2 = nI n := hM.1
  have ha : ∀ i, i < n → a 0 i = nI (t i) ∧ a 1 i = nI (v i) := hM.2
  refine x1_ofI pn1_dropOldest (fun _ => Nat.le_of_ble_eq_true rfl) (fun K d h hC hret => ?_)
  show sc_W K (xw1 h d f a) 0 [(0, .ref (h 5))] []
  refine sc_aload_n hC dX1_dropOldest_0 rfl ?_
  refine x1_g2 hC dX1_dropOldest_1 ?_
  refine sc_top (h2) ?_
  refine sc_bipush (v := 16) hC dX1_dropOldest_4 (by decide) ?_
  refine sc_icmp_ge (tgt := 12) hC dX1_dropOldest_6 (by decide) (fun c1 => ?_) (fun c1 => ?_)
  · have n16 := (nI_leI (a := 16) (by decide) (by omega)).mp c1
    refine sc_aload_n hC dX1_dropOldest_12 rfl ?_
    refine sc_aload_n hC dX1_dropOldest_13 rfl ?_
    refine x1_g2 hC dX1_dropOldest_14 ?_
    refine sc_top (h2) ?_
    refine sc_bipush (v := 16) hC dX1_dropOldest_17 (by decide) ?_
    refine sc_isub hC dX1_dropOldest_19 ?_
    refine sc_top ((pk_sub (b := 16) n16 : nI n - 16 = nI (n - 16))) ?_
    refine x1_p2 hC dX1_dropOldest_20 ?_
    refine sc_iconst (v := 0) hC dX1_dropOldest_23 (by decide) ?_
    refine sc_istore_n hC dX1_dropOldest_24 rfl (by decide) ?_
    refine dr1_loop hC (n - 16) (by omega) _ a rfl ?_ (n - 16) 0 a (Nat.zero_add _) (fun p => (if_neg (by omega)).symm) (fun p => (if_neg (by omega)).symm)
    intro a1 lv h0 h1
    refine hret _ _ _ _ _ dX1_dropOldest_73 ⟨?_, ?_⟩
    · unfold pu_drA
      rw [if_neg (by show ¬ n < 16; omega)]
    · unfold pu_drN
      rw [if_neg (by show ¬ n < 16; omega)]
      refine ⟨rfl, fun i hi => ?_⟩
      have hi : i < n - 16 := hi
      show a1 0 i = nI (t (i + 16)) ∧ a1 1 i = nI (v (i + 16))
      rw [h0 i, h1 i, if_pos hi, if_pos hi]
      exact ha (i + 16) (by omega)
  · have n16 : ¬ 16 ≤ n := fun q => c1 ((nI_leI (a := 16) (by decide) (by omega)).mpr q)
    refine sc_bipush (v := -4) hC dX1_dropOldest_9 (by decide) ?_
    refine hret _ _ _ _ _ dX1_dropOldest_11 ⟨?_, ?_⟩
    · unfold pu_drA
      rw [if_pos (by show n < 16; omega)]
    · unfold pu_drN
      rw [if_pos (by show n < 16; omega)]
      exact hM
theorem m1_unappend {n : Nat} {t v : Nat → Nat} {f : Nat → Int32} {a : Nat → Nat → Int32} (hP : pu_PI n t v) (hM : pu_MS (n, t, v) f a) :
    sc_I1 yX1_unappend cX1_unappend 1 (some .int) 0 [] f a (fun r f' a' => r = pu_uaA (n, t, v) ∧ pu_MS (pu_uaN (n, t, v)) f' a') := by
  have hn := hP.1
  have h2 : f 2 = nI n := hM.1
  have ha : ∀ i, i < n → a 0 i = nI (t i) ∧ a 1 i = nI (v i) := hM.2
  refine x1_ofI pn1_unappend (fun _ => Nat.le_of_ble_eq_true rfl) (fun K d h hC hret => ?_)
  show sc_W K (xw1 h d f a) 0 [(0, .ref (h 5))] []
  refine sc_aload_n hC dX1_unappend_0 rfl ?_
  refine x1_g2 hC dX1_unappend_1 ?_
  refine sc_top (h2) ?_
  refine sc_if_ne (tgt := 10) hC dX1_unappend_4 (by decide) (fun c1 => ?_) (fun c1 => ?_)
  · have n0 : ¬ n = 0 := fun q => c1 ((pu_n0 (by omega)).mpr q)
    refine sc_aload_n hC dX1_unappend_10 rfl ?_
    refine sc_dup hC dX1_unappend_11 rfl ?_
    refine x1_g2 hC dX1_unappend_12 ?_
    refine sc_top (h2) ?_
    refine sc_iconst (v := 1) hC dX1_unappend_15 (by decide) ?_
    refine sc_isub hC dX1_unappend_16 ?_
    refine sc_top ((pk_sub (b := 1) (by omega) : nI n - 1 = nI (n - 1))) ?_
    refine x1_p2 hC dX1_unappend_17 ?_
    refine sc_aload_n hC dX1_unappend_20 rfl ?_
    refine x1_g1 hC dX1_unappend_21 ?_
    refine sc_aload_n hC dX1_unappend_24 rfl ?_
    refine x1_g2 hC dX1_unappend_25 ?_
    refine x1_ald1 hC (n - 1) (rfl) (by omega) dX1_unappend_28 ?_
    refine hret _ _ _ _ _ dX1_unappend_29 ⟨?_, ⟨rfl, fun i hi => ?_⟩⟩
    · unfold pu_uaA
      rw [if_neg n0]
      exact (ha (n - 1) (by omega)).2
    · have hi : i < n - 1 := hi
      exact ha i (by omega)
  · have n0 : n = 0 := (pu_n0 (by omega)).mp c1
    refine sc_bipush (v := -4) hC dX1_unappend_7 (by decide) ?_
    refine hret _ _ _ _ _ dX1_unappend_9 ⟨?_, ?_⟩
    · unfold pu_uaA
      rw [if_pos n0]
    · refine ⟨?_, fun i hi => absurd hi ?_⟩
      · show f 2 = nI (n - 1)
        rw [h2, n0]
      · show ¬ i < n - 1
        omega
theorem m1_points {n : Nat} {t v : Nat → Nat} {f : Nat → Int32} {a : Nat → Nat → Int32} (hM : pu_MS (n, t, v) f a) :
    sc_I1 yX1_points cX1_points 1 (some .int) 0 [] f a (fun r f' a' => r = nI n ∧ pu_MS (n, t, v) f' a') := by
  refine x1_ofI pn1_points (fun _ => Nat.le_of_ble_eq_true rfl) (fun K d h hC hret => ?_)
  show sc_W K (xw1 h d f a) 0 [(0, .ref (h 5))] []
  refine sc_aload_n hC dX1_points_0 rfl ?_
  refine x1_g2 hC dX1_points_1 ?_
  exact hret _ _ _ _ _ dX1_points_4 ⟨hM.1, hM⟩
theorem m1_ip (n : Nat) (f : Nat → Int32) (a : Nat → Nat → Int32) (hf : f 2 = nI n) (x : Int32) :
    sc_I1 yX1_isPoint cX1_isPoint 2 (some .boolean) 0 [.int x] f a (fun r f' a' => r = (if x < 0 ∨ nI n ≤ x then 0 else 1) ∧ f' = f ∧ a' = a) := by
  refine x1_ofZ pn1_isPoint (fun _ => Nat.le_of_ble_eq_true rfl) (fun K d h hC hret => ?_)
  show sc_W K (xw1 h d f a) 0 [(0, .ref (h 5)), (1, .int x)] []
  have k16 : (x < 0 ∨ nI n ≤ x) → sc_W K (xw1 h d f a) 16 [(0, .ref (h 5)), (1, .int x)] [] := by
    intro hb
    refine sc_iconst (v := 0) hC dX1_isPoint_16 (by decide) ?_
    exact hret _ _ _ _ _ dX1_isPoint_17 (Or.inl rfl) ⟨by rw [if_pos hb], rfl, rfl⟩
  refine sc_iload_n hC dX1_isPoint_0 rfl ?_
  refine sc_if_lt (tgt := 16) hC dX1_isPoint_1 (by decide) (fun c1 => ?_) (fun c1 => ?_)
  · exact k16 (Or.inl c1)
  · refine sc_iload_n hC dX1_isPoint_4 rfl ?_
    refine sc_aload_n hC dX1_isPoint_5 rfl ?_
    refine x1_g2 hC dX1_isPoint_6 ?_
    refine sc_top (hf) ?_
    refine sc_icmp_ge (tgt := 16) hC dX1_isPoint_9 (by decide) (fun c2 => ?_) (fun c2 => ?_)
    · exact k16 (Or.inr c2)
    · refine sc_iconst (v := 1) hC dX1_isPoint_12 (by decide) ?_
      refine sc_goto (tgt := 17) hC dX1_isPoint_13 (by decide) ?_
      exact hret _ _ _ _ _ dX1_isPoint_17 (Or.inr rfl) ⟨by rw [if_neg (fun q => q.elim c1 c2)], rfl, rfl⟩
theorem m1_time {n : Nat} {t v : Nat → Nat} {f : Nat → Int32} {a : Nat → Nat → Int32} (hP : pu_PI n t v) (hM : pu_MS (n, t, v) f a) (x : Int32) :
    sc_I1 yX1_time cX1_time 2 (some .int) 1 [.int x] f a (fun r f' a' => r = pu_tmA (n, t, v) x ∧ pu_MS (n, t, v) f' a') := by
  have hn := hP.1
  have h2 : f 2 = nI n := hM.1
  have ha : ∀ i, i < n → a 0 i = nI (t i) ∧ a 1 i = nI (v i) := hM.2
  refine x1_ofI pn1_time (fun _ => Nat.le_of_ble_eq_true rfl) (fun K d h hC hret => ?_)
  show sc_W K (xw1 h d f a) 0 [(0, .ref (h 5)), (1, .int x)] []
  refine sc_aload_n hC dX1_time_0 rfl ?_
  refine sc_iload_n hC dX1_time_1 rfl ?_
  refine x1_callI hC (m1_ip n f a h2 x) k1_isPoint rfl (by decide) (by decide) dX1_time_2 rfl (Nat.le_of_ble_eq_true rfl) (fun r f1 a1 hp => ?_)
  obtain ⟨rfl, rfl, rfl⟩ := hp
  by_cases hb : x < 0 ∨ nI n ≤ x
  · rw [if_pos hb]
    refine sc_if_eq (tgt := 17) hC dX1_time_5 (by decide) (fun c1 => ?_) (fun c1 => ?_)
    · refine sc_bipush (v := -4) hC dX1_time_17 (by decide) ?_
      refine hret _ _ _ _ _ dX1_time_19 ⟨?_, hM⟩
      unfold pu_tmA
      rw [if_pos hb]
    · exact absurd rfl c1
  · rw [if_neg hb]
    refine sc_if_eq (tgt := 17) hC dX1_time_5 (by decide) (fun c1 => ?_) (fun c1 => ?_)
    · exact absurd c1 (by decide)
    · obtain ⟨j, hj, rfl⟩ := pu_ix hn hb
      refine sc_aload_n hC dX1_time_8 rfl ?_
      refine x1_g0 hC dX1_time_9 ?_
      refine sc_iload_n hC dX1_time_12 rfl ?_
      refine x1_ald0 hC (j) (rfl) (by omega) dX1_time_13 ?_
      refine sc_goto (tgt := 19) hC dX1_time_14 (by decide) ?_
      refine hret _ _ _ _ _ dX1_time_19 ⟨?_, hM⟩
      unfold pu_tmA
      rw [if_neg hb, nI_clamp (by omega)]
      exact (ha j hj).1
theorem m1_value {n : Nat} {t v : Nat → Nat} {f : Nat → Int32} {a : Nat → Nat → Int32} (hP : pu_PI n t v) (hM : pu_MS (n, t, v) f a) (x : Int32) :
    sc_I1 yX1_value cX1_value 2 (some .int) 1 [.int x] f a (fun r f' a' => r = pu_vlA (n, t, v) x ∧ pu_MS (n, t, v) f' a') := by
  have hn := hP.1
  have h2 : f 2 = nI n := hM.1
  have ha : ∀ i, i < n → a 0 i = nI (t i) ∧ a 1 i = nI (v i) := hM.2
  refine x1_ofI pn1_value (fun _ => Nat.le_of_ble_eq_true rfl) (fun K d h hC hret => ?_)
  show sc_W K (xw1 h d f a) 0 [(0, .ref (h 5)), (1, .int x)] []
  refine sc_aload_n hC dX1_value_0 rfl ?_
  refine sc_iload_n hC dX1_value_1 rfl ?_
  refine x1_callI hC (m1_ip n f a h2 x) k1_isPoint rfl (by decide) (by decide) dX1_value_2 rfl (Nat.le_of_ble_eq_true rfl) (fun r f1 a1 hp => ?_)
  obtain ⟨rfl, rfl, rfl⟩ := hp
  by_cases hb : x < 0 ∨ nI n ≤ x
  · rw [if_pos hb]
    refine sc_if_eq (tgt := 17) hC dX1_value_5 (by decide) (fun c1 => ?_) (fun c1 => ?_)
    · refine sc_bipush (v := -4) hC dX1_value_17 (by decide) ?_
      refine hret _ _ _ _ _ dX1_value_19 ⟨?_, hM⟩
      unfold pu_vlA
      rw [if_pos hb]
    · exact absurd rfl c1
  · rw [if_neg hb]
    refine sc_if_eq (tgt := 17) hC dX1_value_5 (by decide) (fun c1 => ?_) (fun c1 => ?_)
    · exact absurd c1 (by decide)
    · obtain ⟨j, hj, rfl⟩ := pu_ix hn hb
      refine sc_aload_n hC dX1_value_8 rfl ?_
      refine x1_g1 hC dX1_value_9 ?_
      refine sc_iload_n hC dX1_value_12 rfl ?_
      refine x1_ald1 hC (j) (rfl) (by omega) dX1_value_13 ?_
      refine sc_goto (tgt := 19) hC dX1_value_14 (by decide) ?_
      refine hret _ _ _ _ _ dX1_value_19 ⟨?_, hM⟩
      unfold pu_vlA
      rw [if_neg hb, nI_clamp (by omega)]
      exact (ha j hj).2
end
section
set_option maxRecDepth 100000
/-! SeriesCodecModel: firstFrom, valueAt, rises, widestGap, timeSize, valueSize, size, packed -/
section M2
variable {K : sc_K} {d : ClassId} {h : Nat → Nat}
theorem ff1_loop (hC : sc_C K cX1_firstFrom RX1 d 3 0) {n : Nat} {t v : Nat → Nat} {f : Nat → Int32} {a : Nat → Nat → Int32} (hn : n ≤ 64) (hM : pu_MS (n, t, v) f a) (x : Int32)
    (hk : ∀ (r : Int32) (pc : Nat) (lv : List (Nat × Value)), decode cX1_firstFrom pc = .ok (.ireturn, 1) → r = pu_ffA (n, t, v) x → sc_W K (xw1 h d f a) pc lv [.int r]) :
    ∀ (j i : Nat), i + j = n → pu_ffr t x j i = pu_ffA (n, t, v) x → sc_W K (xw1 h d f a) 2 [(0, .ref (h 5)), (1, .int x), (2, .int (nI i))] [] := by
  have h2 : f 2 = nI n := hM.1
  have ha : ∀ i, i < n → a 0 i = nI (t i) ∧ a 1 i = nI (v i) := hM.2
  intro j
  induction j with
  | zero =>
    intro i hij he
    refine sc_iload_n hC dX1_firstFrom_2 rfl ?_
    refine sc_aload_n hC dX1_firstFrom_3 rfl ?_
    refine x1_g2 hC dX1_firstFrom_4 ?_
    refine sc_top (h2) ?_
    refine sc_icmp_ge (tgt := 28) hC dX1_firstFrom_7 (by decide) (fun c1 => ?_) (fun c1 => ?_)
    · refine sc_bipush (v := -4) hC dX1_firstFrom_28 (by decide) ?_
      exact hk _ _ _ dX1_firstFrom_30 he
    · exact absurd (nI_le (by omega) (by omega)) c1
  | succ j ih =>
    intro i hij he
    unfold pu_ffr at he
    refine sc_iload_n hC dX1_firstFrom_2 rfl ?_
    refine sc_aload_n hC dX1_firstFrom_3 rfl ?_
    refine x1_g2 hC dX1_firstFrom_4 ?_
    refine sc_top (h2) ?_
    refine sc_icmp_ge (tgt := 28) hC dX1_firstFrom_7 (by decide) (fun c1 => ?_) (fun c1 => ?_)
    · exact absurd c1 (nI_ge (by omega) (by omega))
    · refine sc_aload_n hC dX1_firstFrom_10 rfl ?_
      refine x1_g0 hC dX1_firstFrom_11 ?_
      refine sc_iload_n hC dX1_firstFrom_14 rfl ?_
      refine x1_ald0 hC (i) (rfl) (by omega) dX1_firstFrom_15 ?_
      refine sc_top ((ha i (by omega)).1) ?_
      refine sc_iload_n hC dX1_firstFrom_16 rfl ?_
      refine sc_icmp_lt (tgt := 22) hC dX1_firstFrom_17 (by decide) (fun c2 => ?_) (fun c2 => ?_)
      · rw [if_neg (Int32.not_le.mpr c2)] at he
        refine sc_iinc (v := 1) hC dX1_firstFrom_22 (by decide) rfl rfl (by decide) ?_
        refine sc_goto (tgt := 2) hC dX1_firstFrom_25 (by decide) ?_
        rw [nI_1 i]
        exact ih (i + 1) (by omega) he
      · rw [if_pos (Int32.not_lt.mp c2)] at he
        refine sc_iload_n hC dX1_firstFrom_20 rfl ?_
        exact hk _ _ _ dX1_firstFrom_21 he
theorem va1_loop (hC : sc_C K cX1_valueAt RX1 d 4 0) {n : Nat} {t v : Nat → Nat} {f : Nat → Int32} {a : Nat → Nat → Int32} (hn : n ≤ 64) (hM : pu_MS (n, t, v) f a) (x : Int32)
    (hk : ∀ (lv : List (Nat × Value)), sc_W K (xw1 h d f a) 41 lv [.int (pu_va t v x n)]) :
    ∀ (j i : Nat), i + j = n → sc_W K (xw1 h d f a) 5 [(0, .ref (h 5)), (1, .int x), (2, .int (pu_va t v x i)), (3, .int (nI i))] [] := by
  have h2 : f 2 = nI n := hM.1
  have ha : ∀ i, i < n → a 0 i = nI (t i) ∧ a 1 i = nI (v i) := hM.2
  intro j
  induction j with
  | zero =>
    intro i hij
    rw [Nat.add_zero] at hij
    subst hij
    refine sc_iload_n hC dX1_valueAt_5 rfl ?_
    refine sc_aload_n hC dX1_valueAt_6 rfl ?_
    refine x1_g2 hC dX1_valueAt_7 ?_
    refine sc_top (h2) ?_
    refine sc_icmp_ge (tgt := 40) hC dX1_valueAt_10 (by decide) (fun c1 => ?_) (fun c1 => ?_)
    · refine sc_iload_n hC dX1_valueAt_40 rfl ?_
      exact hk _
    · exact absurd (nI_le (Nat.le_refl _) (by omega)) c1
  | succ j ih =>
    intro i hij
    have e : pu_va t v x (i + 1) = if nI (t i) ≤ x then nI (v i) else pu_va t v x i := rfl
    have kk := ih (i + 1) (by omega)
    rw [e, ← nI_1 i] at kk
    refine sc_iload_n hC dX1_valueAt_5 rfl ?_
    refine sc_aload_n hC dX1_valueAt_6 rfl ?_
    refine x1_g2 hC dX1_valueAt_7 ?_
    refine sc_top (h2) ?_
    refine sc_icmp_ge (tgt := 40) hC dX1_valueAt_10 (by decide) (fun c1 => ?_) (fun c1 => ?_)
    · exact absurd c1 (nI_ge (by omega) (by omega))
    · refine sc_aload_n hC dX1_valueAt_13 rfl ?_
      refine x1_g0 hC dX1_valueAt_14 ?_
      refine sc_iload_n hC dX1_valueAt_17 rfl ?_
      refine x1_ald0 hC (i) (rfl) (by omega) dX1_valueAt_18 ?_
      refine sc_top ((ha i (by omega)).1) ?_
      refine sc_iload_n hC dX1_valueAt_19 rfl ?_
      refine sc_icmp_gt (tgt := 32) hC dX1_valueAt_20 (by decide) (fun c2 => ?_) (fun c2 => ?_)
      · rw [if_neg (Int32.not_le.mpr c2)] at kk
        refine sc_iload_n hC dX1_valueAt_32 rfl ?_
        refine sc_istore_n hC dX1_valueAt_33 rfl (by decide) ?_
        refine sc_iinc (v := 1) hC dX1_valueAt_34 (by decide) rfl rfl (by decide) ?_
        refine sc_goto (tgt := 5) hC dX1_valueAt_37 (by decide) ?_
        exact kk
      · rw [if_pos (Int32.not_lt.mp c2)] at kk
        refine sc_aload_n hC dX1_valueAt_23 rfl ?_
        refine x1_g1 hC dX1_valueAt_24 ?_
        refine sc_iload_n hC dX1_valueAt_27 rfl ?_
        refine x1_ald1 hC (i) (rfl) (by omega) dX1_valueAt_28 ?_
        refine sc_top ((ha i (by omega)).2) ?_
        refine sc_goto (tgt := 33) hC dX1_valueAt_29 (by decide) ?_
        refine sc_istore_n hC dX1_valueAt_33 rfl (by decide) ?_
        refine sc_iinc (v := 1) hC dX1_valueAt_34 (by decide) rfl rfl (by decide) ?_
        refine sc_goto (tgt := 5) hC dX1_valueAt_37 (by decide) ?_
        exact kk
theorem rs1_loop (hC : sc_C K cX1_rises RX1 d 3 0) {n : Nat} {t v : Nat → Nat} {f : Nat → Int32} {a : Nat → Nat → Int32} (hP : pu_PI n t v) (hM : pu_MS (n, t, v) f a)
    (hk : ∀ (lv : List (Nat × Value)), sc_W K (xw1 h d f a) 44 lv [.int (nI (pu_rs v n))]) :
    ∀ (j i : Nat), i + j = n → 1 ≤ i → sc_W K (xw1 h d f a) 4 [(0, .ref (h 5)), (1, .int (nI (pu_rs v i))), (2, .int (nI i))] [] := by
  have hn := hP.1
  have h2 : f 2 = nI n := hM.1
  have ha : ∀ i, i < n → a 0 i = nI (t i) ∧ a 1 i = nI (v i) := hM.2
  intro j
  induction j with
  | zero =>
    intro i hij hi
    rw [Nat.add_zero] at hij
    subst hij
    refine sc_iload_n hC dX1_rises_4 rfl ?_
    refine sc_aload_n hC dX1_rises_5 rfl ?_
    refine x1_g2 hC dX1_rises_6 ?_
    refine sc_top (h2) ?_
    refine sc_icmp_ge (tgt := 43) hC dX1_rises_9 (by decide) (fun c1 => ?_) (fun c1 => ?_)
    · refine sc_iload_n hC dX1_rises_43 rfl ?_
      exact hk _
    · exact absurd (nI_le (Nat.le_refl _) (by omega)) c1
  | succ j ih =>
    intro i hij hi
    have hv1 := hP.2.2.1 i (by omega)
    have hv2 := hP.2.2.1 (i - 1) (by omega)
    have e : pu_rs v (i + 1) = if 1 ≤ i ∧ v (i - 1) < v i then pu_rs v i + 1 else pu_rs v i := rfl
    have kk := ih (i + 1) (by omega) (by omega)
    rw [e, ← nI_1 i] at kk
    refine sc_iload_n hC dX1_rises_4 rfl ?_
    refine sc_aload_n hC dX1_rises_5 rfl ?_
    refine x1_g2 hC dX1_rises_6 ?_
    refine sc_top (h2) ?_
    refine sc_icmp_ge (tgt := 43) hC dX1_rises_9 (by decide) (fun c1 => ?_) (fun c1 => ?_)
    · exact absurd c1 (nI_ge (by omega) (by omega))
    · refine sc_aload_n hC dX1_rises_12 rfl ?_
      refine x1_g1 hC dX1_rises_13 ?_
      refine sc_iload_n hC dX1_rises_16 rfl ?_
      refine x1_ald1 hC (i) (rfl) (by omega) dX1_rises_17 ?_
      refine sc_top ((ha i (by omega)).2) ?_
      refine sc_aload_n hC dX1_rises_18 rfl ?_
      refine x1_g1 hC dX1_rises_19 ?_
      refine sc_iload_n hC dX1_rises_22 rfl ?_
      refine sc_iconst (v := 1) hC dX1_rises_23 (by decide) ?_
      refine sc_isub hC dX1_rises_24 ?_
      refine sc_top ((pk_sub (b := 1) (by omega) : nI i - 1 = nI (i - 1))) ?_
      refine x1_ald1 hC (i - 1) (rfl) (by omega) dX1_rises_25 ?_
      refine sc_top ((ha (i - 1) (by omega)).2) ?_
      refine sc_icmp_le (tgt := 35) hC dX1_rises_26 (by decide) (fun c2 => ?_) (fun c2 => ?_)
      · have c2 := (nI_leI (by omega) (by omega)).mp c2
        rw [if_neg (by omega)] at kk
        refine sc_iload_n hC dX1_rises_35 rfl ?_
        refine sc_istore_n hC dX1_rises_36 rfl (by decide) ?_
        refine sc_iinc (v := 1) hC dX1_rises_37 (by decide) rfl rfl (by decide) ?_
        refine sc_goto (tgt := 4) hC dX1_rises_40 (by decide) ?_
        exact kk
      · have c2 : ¬ v i ≤ v (i - 1) := fun q => c2 ((nI_leI (by omega) (by omega)).mpr q)
        rw [if_pos (by omega), ← nI_1] at kk
        refine sc_iload_n hC dX1_rises_29 rfl ?_
        refine sc_iconst (v := 1) hC dX1_rises_30 (by decide) ?_
        refine sc_iadd hC dX1_rises_31 ?_
        refine sc_goto (tgt := 36) hC dX1_rises_32 (by decide) ?_
        refine sc_istore_n hC dX1_rises_36 rfl (by decide) ?_
        refine sc_iinc (v := 1) hC dX1_rises_37 (by decide) rfl rfl (by decide) ?_
        refine sc_goto (tgt := 4) hC dX1_rises_40 (by decide) ?_
        exact kk
theorem wg1_loop (hC : sc_C K cX1_widestGap RX1 d 3 0) {n : Nat} {t v : Nat → Nat} {f : Nat → Int32} {a : Nat → Nat → Int32} (hP : pu_PI n t v) (hM : pu_MS (n, t, v) f a)
    (hk : ∀ (lv : List (Nat × Value)), sc_W K (xw1 h d f a) 59 lv [.int (pu_wi t n)]) :
    ∀ (j i : Nat), i + j = n → 1 ≤ i → sc_W K (xw1 h d f a) 5 [(0, .ref (h 5)), (1, .int (pu_wi t i)), (2, .int (nI i))] [] := by
  have hn := hP.1
  have h2 : f 2 = nI n := hM.1
  have ha : ∀ i, i < n → a 0 i = nI (t i) ∧ a 1 i = nI (v i) := hM.2
  intro j
  induction j with
  | zero =>
    intro i hij hi
    rw [Nat.add_zero] at hij
    subst hij
    refine sc_iload_n hC dX1_widestGap_5 rfl ?_
    refine sc_aload_n hC dX1_widestGap_6 rfl ?_
    refine x1_g2 hC dX1_widestGap_7 ?_
    refine sc_top (h2) ?_
    refine sc_icmp_ge (tgt := 58) hC dX1_widestGap_10 (by decide) (fun c1 => ?_) (fun c1 => ?_)
    · refine sc_iload_n hC dX1_widestGap_58 rfl ?_
      exact hk _
    · exact absurd (nI_le (Nat.le_refl _) (by omega)) c1
  | succ j ih =>
    intro i hij hi
    have ht1 := hP.2.1 i (by omega)
    have hwl := pu_wg_le (t := t) (k := i) (fun i' hi' => hP.2.1 i' (by omega))
    have hmo : t (i - 1) ≤ t i := by
      have := hP.2.2.2 (i - 1) (by omega)
      rw [show i - 1 + 1 = i by omega] at this
      exact this
    have hsub : nI (t i) - nI (t (i - 1)) = nI (t i - t (i - 1)) := pk_sub hmo
    have e : pu_wg t (i + 1) = if 1 ≤ i ∧ pu_wg t i < t i - t (i - 1) + 1 then t i - t (i - 1) + 1 else pu_wg t i := rfl
    have kk := ih (i + 1) (by omega) (by omega)
    rw [← nI_1 i] at kk
    refine sc_iload_n hC dX1_widestGap_5 rfl ?_
    refine sc_aload_n hC dX1_widestGap_6 rfl ?_
    refine x1_g2 hC dX1_widestGap_7 ?_
    refine sc_top (h2) ?_
    refine sc_icmp_ge (tgt := 58) hC dX1_widestGap_10 (by decide) (fun c1 => ?_) (fun c1 => ?_)
    · exact absurd c1 (nI_ge (by omega) (by omega))
    · refine sc_aload_n hC dX1_widestGap_13 rfl ?_
      refine x1_g0 hC dX1_widestGap_14 ?_
      refine sc_iload_n hC dX1_widestGap_17 rfl ?_
      refine x1_ald0 hC (i) (rfl) (by omega) dX1_widestGap_18 ?_
      refine sc_top ((ha i (by omega)).1) ?_
      refine sc_aload_n hC dX1_widestGap_19 rfl ?_
      refine x1_g0 hC dX1_widestGap_20 ?_
      refine sc_iload_n hC dX1_widestGap_23 rfl ?_
      refine sc_iconst (v := 1) hC dX1_widestGap_24 (by decide) ?_
      refine sc_isub hC dX1_widestGap_25 ?_
      refine sc_top ((pk_sub (b := 1) (by omega) : nI i - 1 = nI (i - 1))) ?_
      refine x1_ald0 hC (i - 1) (rfl) (by omega) dX1_widestGap_26 ?_
      refine sc_top ((ha (i - 1) (by omega)).1) ?_
      refine sc_isub hC dX1_widestGap_27 ?_
      refine sc_top (hsub) ?_
      refine sc_iload_n hC dX1_widestGap_28 rfl ?_
      refine sc_icmp_le (tgt := 50) hC dX1_widestGap_29 (by decide) (fun c2 => ?_) (fun c2 => ?_)
      · have c2 : ¬ pu_wg t i < t i - t (i - 1) + 1 := fun q => absurd c2 (Int32.not_le.mpr ((pu_wi_lt hwl (by omega)).mpr q))
        have ew : pu_wi t (i + 1) = pu_wi t i := by
          unfold pu_wi
          rw [e.trans (if_neg (fun q => c2 q.2))]
        rw [ew] at kk
        refine sc_iload_n hC dX1_widestGap_50 rfl ?_
        refine sc_istore_n hC dX1_widestGap_51 rfl (by decide) ?_
        refine sc_iinc (v := 1) hC dX1_widestGap_52 (by decide) rfl rfl (by decide) ?_
        refine sc_goto (tgt := 5) hC dX1_widestGap_55 (by decide) ?_
        exact kk
      · have c2 := (pu_wi_lt hwl (by omega)).mp (Int32.not_le.mp c2)
        have ew : pu_wi t (i + 1) = nI (t i - t (i - 1)) := by
          unfold pu_wi
          rw [e.trans (if_pos ⟨hi, c2⟩), if_neg (by omega), Nat.add_sub_cancel]
        rw [ew] at kk
        refine sc_aload_n hC dX1_widestGap_32 rfl ?_
        refine x1_g0 hC dX1_widestGap_33 ?_
        refine sc_iload_n hC dX1_widestGap_36 rfl ?_
        refine x1_ald0 hC (i) (rfl) (by omega) dX1_widestGap_37 ?_
        refine sc_top ((ha i (by omega)).1) ?_
        refine sc_aload_n hC dX1_widestGap_38 rfl ?_
        refine x1_g0 hC dX1_widestGap_39 ?_
        refine sc_iload_n hC dX1_widestGap_42 rfl ?_
        refine sc_iconst (v := 1) hC dX1_widestGap_43 (by decide) ?_
        refine sc_isub hC dX1_widestGap_44 ?_
        refine sc_top ((pk_sub (b := 1) (by omega) : nI i - 1 = nI (i - 1))) ?_
        refine x1_ald0 hC (i - 1) (rfl) (by omega) dX1_widestGap_45 ?_
        refine sc_top ((ha (i - 1) (by omega)).1) ?_
        refine sc_isub hC dX1_widestGap_46 ?_
        refine sc_top (hsub) ?_
        refine sc_goto (tgt := 51) hC dX1_widestGap_47 (by decide) ?_
        refine sc_istore_n hC dX1_widestGap_51 rfl (by decide) ?_
        refine sc_iinc (v := 1) hC dX1_widestGap_52 (by decide) rfl rfl (by decide) ?_
        refine sc_goto (tgt := 5) hC dX1_widestGap_55 (by decide) ?_
        exact kk
end M2
theorem m1_firstFrom {n : Nat} {t v : Nat → Nat} {f : Nat → Int32} {a : Nat → Nat → Int32} (hP : pu_PI n t v) (hM : pu_MS (n, t, v) f a) (x : Int32) :
    sc_I1 yX1_firstFrom cX1_firstFrom 3 (some .int) 0 [.int x] f a (fun r f' a' => r = pu_ffA (n, t, v) x ∧ pu_MS (n, t, v) f' a') := by
  refine x1_ofI pn1_firstFrom (fun _ => Nat.le_of_ble_eq_true rfl) (fun K d h hC hret => ?_)
  show sc_W K (xw1 h d f a) 0 [(0, .ref (h 5)), (1, .int x)] []
  refine sc_iconst (v := 0) hC dX1_firstFrom_0 (by decide) ?_
  refine sc_istore_n hC dX1_firstFrom_1 rfl (by decide) ?_
  exact ff1_loop hC hP.1 hM x (fun r pc lv hd e => hret _ _ _ _ _ hd ⟨e, hM⟩) n 0 (Nat.zero_add _) rfl
theorem m1_valueAt {n : Nat} {t v : Nat → Nat} {f : Nat → Int32} {a : Nat → Nat → Int32} (hP : pu_PI n t v) (hM : pu_MS (n, t, v) f a) (x : Int32) :
    sc_I1 yX1_valueAt cX1_valueAt 4 (some .int) 0 [.int x] f a (fun r f' a' => r = pu_vaA (n, t, v) x ∧ pu_MS (n, t, v) f' a') := by
  refine x1_ofI pn1_valueAt (fun _ => Nat.le_of_ble_eq_true rfl) (fun K d h hC hret => ?_)
  show sc_W K (xw1 h d f a) 0 [(0, .ref (h 5)), (1, .int x)] []
  refine sc_bipush (v := -4) hC dX1_valueAt_0 (by decide) ?_
  refine sc_istore_n hC dX1_valueAt_2 rfl (by decide) ?_
  refine sc_iconst (v := 0) hC dX1_valueAt_3 (by decide) ?_
  refine sc_istore_n hC dX1_valueAt_4 rfl (by decide) ?_
  exact va1_loop hC hP.1 hM x (fun lv => hret _ _ _ _ _ dX1_valueAt_41 ⟨rfl, hM⟩) n 0 (Nat.zero_add _)
theorem m1_rises {n : Nat} {t v : Nat → Nat} {f : Nat → Int32} {a : Nat → Nat → Int32} (hP : pu_PI n t v) (hM : pu_MS (n, t, v) f a) :
    sc_I1 yX1_rises cX1_rises 3 (some .int) 0 [] f a (fun r f' a' => r = pu_rsA (n, t, v) ∧ pu_MS (n, t, v) f' a') := by
  have h2 : f 2 = nI n := hM.1
  refine x1_ofI pn1_rises (fun _ => Nat.le_of_ble_eq_true rfl) (fun K d h hC hret => ?_)
  show sc_W K (xw1 h d f a) 0 [(0, .ref (h 5))] []
  refine sc_iconst (v := 0) hC dX1_rises_0 (by decide) ?_
  refine sc_istore_n hC dX1_rises_1 rfl (by decide) ?_
  refine sc_iconst (v := 1) hC dX1_rises_2 (by decide) ?_
  refine sc_istore_n hC dX1_rises_3 rfl (by decide) ?_
  by_cases n0 : n = 0
  · subst n0
    refine sc_iload_n hC dX1_rises_4 rfl ?_
    refine sc_aload_n hC dX1_rises_5 rfl ?_
    refine x1_g2 hC dX1_rises_6 ?_
    refine sc_top (h2) ?_
    refine sc_icmp_ge (tgt := 43) hC dX1_rises_9 (by decide) (fun c1 => ?_) (fun c1 => ?_)
    · refine sc_iload_n hC dX1_rises_43 rfl ?_
      exact hret _ _ _ _ _ dX1_rises_44 ⟨rfl, hM⟩
    · exact absurd (by decide) c1
  · exact rs1_loop hC hP hM (fun lv => hret _ _ _ _ _ dX1_rises_44 ⟨rfl, hM⟩) (n - 1) 1 (by omega) (Nat.le_refl _)
theorem m1_widestGap {n : Nat} {t v : Nat → Nat} {f : Nat → Int32} {a : Nat → Nat → Int32} (hP : pu_PI n t v) (hM : pu_MS (n, t, v) f a) :
    sc_I1 yX1_widestGap cX1_widestGap 3 (some .int) 0 [] f a (fun r f' a' => r = pu_wgA (n, t, v) ∧ pu_MS (n, t, v) f' a') := by
  have h2 : f 2 = nI n := hM.1
  refine x1_ofI pn1_widestGap (fun _ => Nat.le_of_ble_eq_true rfl) (fun K d h hC hret => ?_)
  show sc_W K (xw1 h d f a) 0 [(0, .ref (h 5))] []
  refine sc_bipush (v := -4) hC dX1_widestGap_0 (by decide) ?_
  refine sc_istore_n hC dX1_widestGap_2 rfl (by decide) ?_
  refine sc_iconst (v := 1) hC dX1_widestGap_3 (by decide) ?_
  refine sc_istore_n hC dX1_widestGap_4 rfl (by decide) ?_
  by_cases n0 : n = 0
  · subst n0
    refine sc_iload_n hC dX1_widestGap_5 rfl ?_
    refine sc_aload_n hC dX1_widestGap_6 rfl ?_
    refine x1_g2 hC dX1_widestGap_7 ?_
    refine sc_top (h2) ?_
    refine sc_icmp_ge (tgt := 58) hC dX1_widestGap_10 (by decide) (fun c1 => ?_) (fun c1 => ?_)
    · refine sc_iload_n hC dX1_widestGap_58 rfl ?_
      exact hret _ _ _ _ _ dX1_widestGap_59 ⟨rfl, hM⟩
    · exact absurd (by decide) c1
  · exact wg1_loop hC hP hM (fun lv => hret _ _ _ _ _ dX1_widestGap_59 ⟨rfl, hM⟩) (n - 1) 1 (by omega) (Nat.le_refl _)
theorem m1_ts {n c j : Nat} {t v : Nat → Nat} {f : Nat → Int32} {a : Nat → Nat → Int32} (hP : pu_PI n t v) (hM : pu_MS (n, t, v) f a) (hj : 1 ≤ j) (hj2 : j < 16) (hn : 16 * c + j < n) :
    sc_I1 yX1_timeSize cX1_timeSize 4 (some .int) 0 [.int (nI (16 * c + j))] f a (fun r f' a' => r = nI (pu_tc (pu_dd (pu_sh t c) j)).length ∧ f' = f ∧ a' = a) := by
  have hn64 := hP.1
  have ha : ∀ i, i < n → a 0 i = nI (t i) ∧ a 1 i = nI (v i) := hM.2
  refine x1_ofI pn1_timeSize (fun _ => Nat.le_of_ble_eq_true rfl) (fun K d h hC hret => ?_)
  show sc_W K (xw1 h d f a) 0 [(0, .ref (h 5)), (1, .int (nI (16 * c + j)))] []
  have t0 := hP.2.1 (16 * c + j) hn
  have t1 := hP.2.1 (16 * c + j - 1) (by omega)
  have m1 : t (16 * c + j - 1) ≤ t (16 * c + j) := by
    have := hP.2.2.2 (16 * c + j - 1) (by omega)
    rw [show 16 * c + j - 1 + 1 = 16 * c + j by omega] at this
    exact this
  have e1 : pu_sh t c (j - 1) = t (16 * c + j - 1) := by
    unfold pu_sh
    congr 1
    omega
  have k29 : sc_W K (xw1 h d f a) 29 [(0, .ref (h 5)), (1, .int (nI (16 * c + j)))] [.int (nI (pu_gb (pu_sh t c) j))] := by
    have hgb : pu_gb (pu_sh t c) j ≤ 60000 := by
      unfold pu_gb
      rw [e1]
      split <;> omega
    generalize hz : pu_dd (pu_sh t c) j = z at hret
    have hzb : -60000 ≤ z ∧ z ≤ 60000 := by
      rw [← hz]
      exact pu_dd_le (fun i hi => hP.2.1 _ (by omega))
    have hzz : (nI (t (16 * c + j) - t (16 * c + j - 1)) - nI (pu_gb (pu_sh t c) j)).toInt = z := by
      rw [pk_sub_toInt (by omega) (by omega), ← hz]
      unfold pu_dd
      rw [e1]
      rfl
    have k71 : ¬ z = 0 → ¬ (-7 ≤ z ∧ z ≤ 8) → ∀ D : Int32, D.toInt = z → sc_W K (xw1 h d f a) 71 [(0, .ref (h 5)), (1, .int (nI (16 * c + j))), (2, .int (nI (pu_gb (pu_sh t c) j))), (3, .int D)] [] := by
      intro n0 n7 D hD
      have k88 : ¬ (-63 ≤ z ∧ z ≤ 64) → sc_W K (xw1 h d f a) 88 [(0, .ref (h 5)), (1, .int (nI (16 * c + j))), (2, .int (nI (pu_gb (pu_sh t c) j))), (3, .int D)] [] := by
        intro n63
        refine sc_bipush (v := 21) hC dX1_timeSize_88 (by decide) ?_
        refine hret _ _ _ _ _ dX1_timeSize_90 ⟨?_, rfl, rfl⟩
        unfold pu_tc
        rw [if_neg n0, if_neg n7, if_neg n63]
        simp only [List.length_append, List.length_cons, List.length_nil, pu_bits_len]
        rfl
      refine sc_iload_n hC dX1_timeSize_71 rfl ?_
      refine sc_bipush (v := -63) hC dX1_timeSize_72 (by decide) ?_
      refine sc_icmp_lt (tgt := 88) hC dX1_timeSize_74 (by decide) (fun c1 => ?_) (fun c1 => ?_)
      · exact k88 (fun q => absurd ((pu_lt hD (j := -63) (by decide)).mp c1) (by omega))
      · refine sc_iload_n hC dX1_timeSize_77 rfl ?_
        refine sc_bipush (v := 64) hC dX1_timeSize_78 (by decide) ?_
        refine sc_icmp_gt (tgt := 88) hC dX1_timeSize_80 (by decide) (fun c2 => ?_) (fun c2 => ?_)
        · exact k88 (fun q => absurd ((pu_lt (i := 64) (by decide) hD).mp c2) (by omega))
        · have r1 : ¬ z < -63 := fun q => c1 ((pu_lt hD (j := -63) (by decide)).mpr q)
          have r2 : ¬ 64 < z := fun q => c2 ((pu_lt (i := 64) (by decide) hD).mpr q)
          refine sc_bipush (v := 10) hC dX1_timeSize_83 (by decide) ?_
          refine sc_goto (tgt := 90) hC dX1_timeSize_85 (by decide) ?_
          refine hret _ _ _ _ _ dX1_timeSize_90 ⟨?_, rfl, rfl⟩
          unfold pu_tc
          rw [if_neg n0, if_neg n7, if_pos (by omega)]
          simp only [List.length_append, List.length_cons, List.length_nil, pu_bits_len]
          rfl
    refine sc_istore_n hC dX1_timeSize_29 rfl (by decide) ?_
    refine sc_aload_n hC dX1_timeSize_30 rfl ?_
    refine x1_g0 hC dX1_timeSize_31 ?_
    refine sc_iload_n hC dX1_timeSize_34 rfl ?_
    refine x1_ald0 hC (16 * c + j) (rfl) (by omega) dX1_timeSize_35 ?_
    refine sc_top ((ha (16 * c + j) (by omega)).1) ?_
    refine sc_aload_n hC dX1_timeSize_36 rfl ?_
    refine x1_g0 hC dX1_timeSize_37 ?_
    refine sc_iload_n hC dX1_timeSize_40 rfl ?_
    refine sc_iconst (v := 1) hC dX1_timeSize_41 (by decide) ?_
    refine sc_isub hC dX1_timeSize_42 ?_
    refine sc_top ((pk_sub (b := 1) (by omega) : nI (16 * c + j) - 1 = nI (16 * c + j - 1))) ?_
    refine x1_ald0 hC (16 * c + j - 1) (rfl) (by omega) dX1_timeSize_43 ?_
    refine sc_top ((ha (16 * c + j - 1) (by omega)).1) ?_
    refine sc_isub hC dX1_timeSize_44 ?_
    refine sc_top (pk_sub m1) ?_
    refine sc_iload_n hC dX1_timeSize_45 rfl ?_
    refine sc_isub hC dX1_timeSize_46 ?_
    generalize nI (t (16 * c + j) - t (16 * c + j - 1)) - nI (pu_gb (pu_sh t c) j) = D at hzz
    refine sc_istore_n hC dX1_timeSize_47 rfl (by decide) ?_
    refine sc_iload_n hC dX1_timeSize_48 rfl ?_
    refine sc_if_ne (tgt := 54) hC dX1_timeSize_49 (by decide) (fun c1 => ?_) (fun c1 => ?_)
    · have n0 : ¬ z = 0 := fun q => c1 ((pu_eq hzz (j := 0) (by decide)).mpr q)
      refine sc_iload_n hC dX1_timeSize_54 rfl ?_
      refine sc_bipush (v := -7) hC dX1_timeSize_55 (by decide) ?_
      refine sc_icmp_lt (tgt := 71) hC dX1_timeSize_57 (by decide) (fun c2 => ?_) (fun c2 => ?_)
      · exact k71 n0 (fun q => absurd ((pu_lt hzz (j := -7) (by decide)).mp c2) (by omega)) D hzz
      · refine sc_iload_n hC dX1_timeSize_60 rfl ?_
        refine sc_bipush (v := 8) hC dX1_timeSize_61 (by decide) ?_
        refine sc_icmp_gt (tgt := 71) hC dX1_timeSize_63 (by decide) (fun c3 => ?_) (fun c3 => ?_)
        · exact k71 n0 (fun q => absurd ((pu_lt (i := 8) (by decide) hzz).mp c3) (by omega)) D hzz
        · have r1 : ¬ z < -7 := fun q => c2 ((pu_lt hzz (j := -7) (by decide)).mpr q)
          have r2 : ¬ 8 < z := fun q => c3 ((pu_lt (i := 8) (by decide) hzz).mpr q)
          refine sc_bipush (v := 6) hC dX1_timeSize_66 (by decide) ?_
          refine sc_goto (tgt := 90) hC dX1_timeSize_68 (by decide) ?_
          refine hret _ _ _ _ _ dX1_timeSize_90 ⟨?_, rfl, rfl⟩
          unfold pu_tc
          rw [if_neg n0, if_pos (by omega)]
          simp only [List.length_append, List.length_cons, List.length_nil, pu_bits_len]
          rfl
    · have z0 : z = 0 := (pu_eq hzz (j := 0) (by decide)).mp c1
      refine sc_iconst (v := 1) hC dX1_timeSize_52 (by decide) ?_
      refine hret _ _ _ _ _ dX1_timeSize_53 ⟨?_, rfl, rfl⟩
      unfold pu_tc
      rw [if_pos z0]
      rfl
  refine sc_iload_n hC dX1_timeSize_0 rfl ?_
  refine sc_bipush (v := 16) hC dX1_timeSize_1 (by decide) ?_
  refine sc_irem hC dX1_timeSize_3 (by decide) ?_
  refine sc_top ((show nI (16 * c + j) - nI (16 * c + j) / 16 * 16 = nI ((16 * c + j) % 16) from pk_rem (d := 16) (by omega) (by decide) (by decide))) ?_
  refine sc_iconst (v := 1) hC dX1_timeSize_4 (by decide) ?_
  refine sc_icmp_ne (tgt := 12) hC dX1_timeSize_5 (by decide) (fun c1 => ?_) (fun c1 => ?_)
  · have hne : ¬ (16 * c + j) % 16 = 1 := fun q => c1 (by rw [q]; rfl)
    have m2 : t (16 * c + j - 2) ≤ t (16 * c + j - 1) := by
      have := hP.2.2.2 (16 * c + j - 2) (by omega)
      rw [show 16 * c + j - 2 + 1 = 16 * c + j - 1 by omega] at this
      exact this
    have e2 : pu_sh t c (j - 2) = t (16 * c + j - 2) := by
      unfold pu_sh
      congr 1
      omega
    have eg : pu_gb (pu_sh t c) j = t (16 * c + j - 1) - t (16 * c + j - 2) := by
      unfold pu_gb
      rw [if_neg (by omega), e1, e2]
    rw [eg] at k29
    refine sc_aload_n hC dX1_timeSize_12 rfl ?_
    refine x1_g0 hC dX1_timeSize_13 ?_
    refine sc_iload_n hC dX1_timeSize_16 rfl ?_
    refine sc_iconst (v := 1) hC dX1_timeSize_17 (by decide) ?_
    refine sc_isub hC dX1_timeSize_18 ?_
    refine sc_top ((pk_sub (b := 1) (by omega) : nI (16 * c + j) - 1 = nI (16 * c + j - 1))) ?_
    refine x1_ald0 hC (16 * c + j - 1) (rfl) (by omega) dX1_timeSize_19 ?_
    refine sc_top ((ha (16 * c + j - 1) (by omega)).1) ?_
    refine sc_aload_n hC dX1_timeSize_20 rfl ?_
    refine x1_g0 hC dX1_timeSize_21 ?_
    refine sc_iload_n hC dX1_timeSize_24 rfl ?_
    refine sc_iconst (v := 2) hC dX1_timeSize_25 (by decide) ?_
    refine sc_isub hC dX1_timeSize_26 ?_
    refine sc_top ((pk_sub (b := 2) (by omega) : nI (16 * c + j) - 2 = nI (16 * c + j - 2))) ?_
    refine x1_ald0 hC (16 * c + j - 2) (rfl) (by omega) dX1_timeSize_27 ?_
    refine sc_top ((ha (16 * c + j - 2) (by omega)).1) ?_
    refine sc_isub hC dX1_timeSize_28 ?_
    refine sc_top (pk_sub m2) ?_
    exact k29
  · have he := (nI_eq (b := 1) (by omega) (by decide)).mp c1
    have eg : pu_gb (pu_sh t c) j = 0 := by
      unfold pu_gb
      rw [if_pos (by omega)]
    rw [eg] at k29
    refine sc_iconst (v := 0) hC dX1_timeSize_8 (by decide) ?_
    refine sc_goto (tgt := 29) hC dX1_timeSize_9 (by decide) ?_
    exact k29
end
section
set_option maxRecDepth 100000
/-! SeriesCodecModel: valueSize, size, packed, isSpan, isIn, count, sum, greatest, least -/
def pu_W1 (w : Option (Nat × Nat)) (f : Nat → Int32) : Prop := match w with
  | none => f 3 = -1
  | some (l, r) => f 3 = nI l ∧ f 4 = nI r
section VS
variable {K : sc_K} {d : ClassId} {h : Nat → Nat}
theorem vl_loop (hC : sc_C K cX1_valueSize RX1 d 5 0) (X1 : Int32) (x L : Nat) (f : Nat → Int32) (a : Nat → Nat → Int32) (hL : L ≤ 15)
    (hk : sc_W K (xw1 h d f a) 41 [(0, .ref (h 5)), (1, .int X1), (2, .int (nI x)), (3, .int (nI (L)))] []) :
    ∀ (j l : Nat), l + j = 16 → L = l + pu_lz j x → sc_W K (xw1 h d f a) 24 [(0, .ref (h 5)), (1, .int X1), (2, .int (nI x)), (3, .int (nI l))] [] := by
  intro j
  induction j with
  | zero =>
    intro l hlj he
    exact absurd hL (by rw [he]; show ¬ l + 0 ≤ 15; omega)
  | succ j ih =>
    intro l hlj he
    unfold pu_lz at he
    refine sc_iload_n hC dX1_valueSize_24 rfl ?_
    refine sc_bipush (v := 15) hC dX1_valueSize_25 (by decide) ?_
    refine sc_iload_n hC dX1_valueSize_27 rfl ?_
    refine sc_isub hC dX1_valueSize_28 ?_
    refine sc_top ((show (15 : Int32) - nI l = nI j by rw [show j = 15 - l by omega]; exact pk_sub (a := 15) (by omega))) ?_
    refine sc_ishr hC dX1_valueSize_29 ?_
    refine sc_iconst (v := 1) hC dX1_valueSize_30 (by decide) ?_
    refine sc_iand hC dX1_valueSize_31 ?_
    refine sc_top (pu_tb (by omega)) ?_
    cases hb : x.testBit j with
    | true =>
      rw [if_pos hb] at he
      refine sc_if_ne (tgt := 41) hC dX1_valueSize_32 (by decide) (fun c1 => ?_) (fun c1 => ?_)
      · rw [he] at hk
        exact hk
      · exact absurd c1 (by decide)
    | false =>
      rw [if_neg (by rw [hb]; decide)] at he
      refine sc_if_ne (tgt := 41) hC dX1_valueSize_32 (by decide) (fun c1 => ?_) (fun c1 => ?_)
      · exact absurd rfl c1
      · refine sc_iinc (v := 1) hC dX1_valueSize_35 (by decide) rfl rfl (by decide) ?_
        refine sc_goto (tgt := 24) hC dX1_valueSize_38 (by decide) ?_
        rw [nI_1 l]
        exact ih (l + 1) (by omega) (by omega)
theorem vr_loop (hC : sc_C K cX1_valueSize RX1 d 5 0) (X1 X3 : Int32) (x R : Nat) (f : Nat → Int32) (a : Nat → Nat → Int32) (hR : R ≤ 15)
    (hk : sc_W K (xw1 h d f a) 59 [(0, .ref (h 5)), (1, .int X1), (2, .int (nI x)), (3, .int X3), (4, .int (nI (R)))] []) :
    ∀ (j r : Nat), r + j = 16 → R = r + pu_tz j r x → sc_W K (xw1 h d f a) 44 [(0, .ref (h 5)), (1, .int X1), (2, .int (nI x)), (3, .int X3), (4, .int (nI r))] [] := by
  intro j
  induction j with
  | zero =>
    intro r hrj he
    exact absurd hR (by rw [he]; show ¬ r + 0 ≤ 15; omega)
  | succ j ih =>
    intro r hrj he
    unfold pu_tz at he
    refine sc_iload_n hC dX1_valueSize_44 rfl ?_
    refine sc_iload hC dX1_valueSize_45 rfl ?_
    refine sc_ishr hC dX1_valueSize_47 ?_
    refine sc_iconst (v := 1) hC dX1_valueSize_48 (by decide) ?_
    refine sc_iand hC dX1_valueSize_49 ?_
    refine sc_top (pu_tb (by omega)) ?_
    cases hb : x.testBit r with
    | true =>
      rw [if_pos hb] at he
      refine sc_if_ne (tgt := 59) hC dX1_valueSize_50 (by decide) (fun c1 => ?_) (fun c1 => ?_)
      · rw [he] at hk
        exact hk
      · exact absurd c1 (by decide)
    | false =>
      rw [if_neg (by rw [hb]; decide)] at he
      refine sc_if_ne (tgt := 59) hC dX1_valueSize_50 (by decide) (fun c1 => ?_) (fun c1 => ?_)
      · exact absurd rfl c1
      · refine sc_iinc (v := 1) hC dX1_valueSize_53 (by decide) rfl rfl (by decide) ?_
        refine sc_goto (tgt := 44) hC dX1_valueSize_56 (by decide) ?_
        rw [nI_1 r]
        exact ih (r + 1) (by omega) (by omega)
end VS
theorem m1_vs {n k : Nat} {t v : Nat → Nat} {f : Nat → Int32} {a : Nat → Nat → Int32} (w : Option (Nat × Nat)) (hP : pu_PI n t v) (hM : pu_MS (n, t, v) f a) (hk1 : 1 ≤ k) (hkn : k < n) (hW : pu_W1 w f) (hok : pu_wok w) :
    sc_I1 yX1_valueSize cX1_valueSize 5 (some .int) 0 [.int (nI k)] f a (fun r f' a' => r = nI (pu_vc w (v k ^^^ v (k - 1))).length ∧ pu_W1 (pu_nx w (v k ^^^ v (k - 1))) f' ∧ f' 2 = f 2 ∧ a' = a) := by
  have hn64 := hP.1
  have ha : ∀ i, i < n → a 0 i = nI (t i) ∧ a 1 i = nI (v i) := hM.2
  have hx : v k ^^^ v (k - 1) < 65536 := Nat.xor_lt_two_pow (n := 16) (by have := hP.2.2.1 k hkn; omega) (by have := hP.2.2.1 (k - 1) (by omega); omega)
  refine x1_ofI pn1_valueSize (fun _ => Nat.le_of_ble_eq_true rfl) (fun K d h hC hret => ?_)
  show sc_W K (xw1 h d f a) 0 [(0, .ref (h 5)), (1, .int (nI k))] []
  refine sc_aload_n hC dX1_valueSize_0 rfl ?_
  refine x1_g1 hC dX1_valueSize_1 ?_
  refine sc_iload_n hC dX1_valueSize_4 rfl ?_
  refine x1_ald1 hC (k) (rfl) (by omega) dX1_valueSize_5 ?_
  refine sc_top ((ha k hkn).2) ?_
  refine sc_aload_n hC dX1_valueSize_6 rfl ?_
  refine x1_g1 hC dX1_valueSize_7 ?_
  refine sc_iload_n hC dX1_valueSize_10 rfl ?_
  refine sc_iconst (v := 1) hC dX1_valueSize_11 (by decide) ?_
  refine sc_isub hC dX1_valueSize_12 ?_
  refine sc_top ((pk_sub (b := 1) (by omega) : nI k - 1 = nI (k - 1))) ?_
  refine x1_ald1 hC (k - 1) (rfl) (by omega) dX1_valueSize_13 ?_
  refine sc_top ((ha (k - 1) (by omega)).2) ?_
  refine sc_ixor hC dX1_valueSize_14 ?_
  refine sc_top (nx_xor _ _) ?_
  generalize v k ^^^ v (k - 1) = x at hx hret
  refine sc_istore_n hC dX1_valueSize_15 rfl (by decide) ?_
  refine sc_iload_n hC dX1_valueSize_16 rfl ?_
  refine sc_if_ne (tgt := 22) hC dX1_valueSize_17 (by decide) (fun c0 => ?_) (fun c0 => ?_)
  · have n0 : ¬ x = 0 := fun q => c0 ((pu_n0 (by omega)).mpr q)
    have hLR := pu_LR n0 hx
    have k96 : pu_fit w x = false → sc_W K (xw1 h d f a) 96 [(0, .ref (h 5)), (1, .int (nI k)), (2, .int (nI x)), (3, .int (nI (pu_L x))), (4, .int (nI (pu_R x)))] [] := by
      intro hf
      refine sc_aload_n hC dX1_valueSize_96 rfl ?_
      refine sc_iload_n hC dX1_valueSize_97 rfl ?_
      refine x1_p3 hC dX1_valueSize_98 ?_
      refine sc_aload_n hC dX1_valueSize_101 rfl ?_
      refine sc_iload hC dX1_valueSize_102 rfl ?_
      refine x1_p4 hC dX1_valueSize_104 ?_
      refine sc_bipush (v := 26) hC dX1_valueSize_107 (by decide) ?_
      refine sc_iload_n hC dX1_valueSize_109 rfl ?_
      refine sc_isub hC dX1_valueSize_110 ?_
      refine sc_top ((pk_sub (a := 26) (by omega) : (26 : Int32) - nI (pu_L x) = nI (26 - pu_L x))) ?_
      refine sc_iload hC dX1_valueSize_111 rfl ?_
      refine sc_isub hC dX1_valueSize_113 ?_
      refine sc_top (pk_sub (by omega)) ?_
      refine hret _ _ _ _ _ dX1_valueSize_114 ⟨?_, ?_, rfl, rfl⟩
      · unfold pu_vc
        rw [if_neg n0, if_neg (by rw [hf]; decide)]
        unfold pu_new
        simp only [List.length_append, List.length_cons, List.length_nil, pu_bits_len]
        congr 1
        omega
      · unfold pu_nx
        rw [if_neg n0, if_neg (by rw [hf]; decide)]
        exact ⟨rfl, rfl⟩
    refine sc_iconst (v := 0) hC dX1_valueSize_22 (by decide) ?_
    refine sc_istore_n hC dX1_valueSize_23 rfl (by decide) ?_
    refine vl_loop hC _ x (pu_L x) f a (by omega) ?_ 16 0 rfl (Nat.zero_add _).symm
    refine sc_iconst (v := 0) hC dX1_valueSize_41 (by decide) ?_
    refine sc_istore hC dX1_valueSize_42 rfl (by decide) ?_
    refine vr_loop hC _ _ x (pu_R x) f a (by omega) ?_ 16 0 rfl (Nat.zero_add _).symm
    refine sc_aload_n hC dX1_valueSize_59 rfl ?_
    refine x1_g3 hC dX1_valueSize_60 ?_
    match w, hW, hok, k96, hret with
    | none, hW, hok, k96, hret =>
      refine sc_top (hW) ?_
      refine sc_if_lt (tgt := 96) hC dX1_valueSize_63 (by decide) (fun c1 => ?_) (fun c1 => ?_)
      · exact k96 rfl
      · exact absurd (by decide) c1
    | some (l, r), hW, hok, k96, hret =>
      have hok : l + r ≤ 15 := hok
      refine sc_top (hW.1) ?_
      refine sc_if_lt (tgt := 96) hC dX1_valueSize_63 (by decide) (fun c1 => ?_) (fun c1 => ?_)
      · exact absurd c1 (nI_pos (by omega))
      · refine sc_iload_n hC dX1_valueSize_66 rfl ?_
        refine sc_aload_n hC dX1_valueSize_67 rfl ?_
        refine x1_g3 hC dX1_valueSize_68 ?_
        refine sc_top (hW.1) ?_
        refine sc_icmp_lt (tgt := 96) hC dX1_valueSize_71 (by decide) (fun c2 => ?_) (fun c2 => ?_)
        · refine k96 (decide_eq_false (fun q => ?_))
          exact absurd ((nI_ltI (by omega) (by omega)).mp c2) (by omega)
        · refine sc_iload hC dX1_valueSize_74 rfl ?_
          refine sc_aload_n hC dX1_valueSize_76 rfl ?_
          refine x1_g4 hC dX1_valueSize_77 ?_
          refine sc_top (hW.2) ?_
          refine sc_icmp_lt (tgt := 96) hC dX1_valueSize_80 (by decide) (fun c3 => ?_) (fun c3 => ?_)
          · refine k96 (decide_eq_false (fun q => ?_))
            exact absurd ((nI_ltI (by omega) (by omega)).mp c3) (by omega)
          · have hl : l ≤ pu_L x := Nat.not_lt.mp (fun q => c2 ((nI_ltI (by omega) (by omega)).mpr q))
            have hr : r ≤ pu_R x := Nat.not_lt.mp (fun q => c3 ((nI_ltI (by omega) (by omega)).mpr q))
            have hf : pu_fit (some (l, r)) x = true := decide_eq_true ⟨hl, hr⟩
            refine sc_bipush (v := 18) hC dX1_valueSize_83 (by decide) ?_
            refine sc_aload_n hC dX1_valueSize_85 rfl ?_
            refine x1_g3 hC dX1_valueSize_86 ?_
            refine sc_top (hW.1) ?_
            refine sc_isub hC dX1_valueSize_89 ?_
            refine sc_top ((pk_sub (a := 18) (by omega) : (18 : Int32) - nI l = nI (18 - l))) ?_
            refine sc_aload_n hC dX1_valueSize_90 rfl ?_
            refine x1_g4 hC dX1_valueSize_91 ?_
            refine sc_top (hW.2) ?_
            refine sc_isub hC dX1_valueSize_94 ?_
            refine sc_top (pk_sub (by omega)) ?_
            refine hret _ _ _ _ _ dX1_valueSize_95 ⟨?_, ?_, rfl, rfl⟩
            · unfold pu_vc
              rw [if_neg n0, if_pos hf]
              show _ = nI ([true, false] ++ pu_bits (16 - l - r) (x / 2 ^ r)).length
              simp only [List.length_append, List.length_cons, List.length_nil, pu_bits_len]
              congr 1
              omega
            · unfold pu_nx
              rw [if_neg n0, if_pos hf]
              exact hW
  · have z0 : x = 0 := (pu_n0 (by omega)).mp c0
    refine sc_iconst (v := 1) hC dX1_valueSize_20 (by decide) ?_
    refine hret _ _ _ _ _ dX1_valueSize_21 ⟨?_, ?_, rfl, rfl⟩
    · unfold pu_vc
      rw [if_pos z0]
      rfl
    · unfold pu_nx
      rw [if_pos z0]
      exact hW
section SZ
variable {K : sc_K} {d : ClassId} {h : Nat → Nat}
theorem sz_loop (hC : sc_C K cX1_size RX1 d 4 1) {n c : Nat} {t v : Nat → Nat} {a : Nat → Nat → Int32} (hP : pu_PI n t v) (hc : 16 * c < n)
    (hk : ∀ (f1 : Nat → Int32) (lv : List (Nat × Value)), pu_MS (n, t, v) f1 a → sc_W K (xw1 h d f1 a) 78 lv [.int (nI (pu_sz (n, t, v) c))]) :
    ∀ (k j : Nat) (f1 : Nat → Int32), j + k = pu_m n c → 1 ≤ j → pu_MS (n, t, v) f1 a → pu_W1 (pu_wn (pu_sh v c) j) f1 → sc_W K (xw1 h d f1 a) 38 [(0, .ref (h 5)), (1, .int (nI c)), (2, .int (nI (pu_st (pu_sh t c) (pu_sh v c) j).length)), (3, .int (nI (16 * c + j)))] [] := by
  have hn := hP.1
  have hml := pu_m_le n c
  have e16 : (16 : Int32) * nI c + 16 = nI (16 * c + 16) := by
    rw [show (16 : Int32) = nI 16 from rfl, pk_mul, nI_add]
  intro k
  induction k with
  | zero =>
    intro j f1 hjk hj hM hW
    have h2 : f1 2 = nI n := hM.1
    have kk := hk f1 [(0, .ref (h 5)), (1, .int (nI c)), (2, .int (nI (pu_st (pu_sh t c) (pu_sh v c) j).length)), (3, .int (nI (16 * c + j)))] hM
    have ej : pu_sz (n, t, v) c = (pu_st (pu_sh t c) (pu_sh v c) j).length := by
      unfold pu_sz
      rw [show j = pu_m n c by omega]
    rw [ej] at kk
    refine sc_iload_n hC dX1_size_38 rfl ?_
    refine sc_bipush (v := 16) hC dX1_size_39 (by decide) ?_
    refine sc_iload_n hC dX1_size_41 rfl ?_
    refine sc_imul hC dX1_size_42 ?_
    refine sc_bipush (v := 16) hC dX1_size_43 (by decide) ?_
    refine sc_iadd hC dX1_size_45 ?_
    refine sc_top (e16) ?_
    refine sc_icmp_ge (tgt := 77) hC dX1_size_46 (by decide) (fun c1 => ?_) (fun c1 => ?_)
    · refine sc_iload_n hC dX1_size_77 rfl ?_
      exact kk
    · have c1 : ¬ 16 * c + 16 ≤ 16 * c + j := fun q => c1 ((nI_leI (by omega) (by omega)).mpr q)
      refine sc_iload_n hC dX1_size_49 rfl ?_
      refine sc_aload_n hC dX1_size_50 rfl ?_
      refine x1_g2 hC dX1_size_51 ?_
      refine sc_top (h2) ?_
      refine sc_icmp_ge (tgt := 77) hC dX1_size_54 (by decide) (fun c2 => ?_) (fun c2 => ?_)
      · refine sc_iload_n hC dX1_size_77 rfl ?_
        exact kk
      · have c2 : ¬ n ≤ 16 * c + j := fun q => c2 ((nI_leI (by omega) (by omega)).mpr q)
        exfalso
        unfold pu_m at hjk
        split at hjk <;> omega
  | succ k ih =>
    intro j f1 hjk hj hM hW
    have h2 : f1 2 = nI n := hM.1
    have hv1 : pu_sh v c j = v (16 * c + j) := rfl
    have hv2 : pu_sh v c (j - 1) = v (16 * c + j - 1) := by
      unfold pu_sh
      congr 1
      omega
    refine sc_iload_n hC dX1_size_38 rfl ?_
    refine sc_bipush (v := 16) hC dX1_size_39 (by decide) ?_
    refine sc_iload_n hC dX1_size_41 rfl ?_
    refine sc_imul hC dX1_size_42 ?_
    refine sc_bipush (v := 16) hC dX1_size_43 (by decide) ?_
    refine sc_iadd hC dX1_size_45 ?_
    refine sc_top (e16) ?_
    refine sc_icmp_ge (tgt := 77) hC dX1_size_46 (by decide) (fun c1 => ?_) (fun c1 => ?_)
    · exact absurd ((nI_leI (by omega) (by omega)).mp c1) (by omega)
    · refine sc_iload_n hC dX1_size_49 rfl ?_
      refine sc_aload_n hC dX1_size_50 rfl ?_
      refine x1_g2 hC dX1_size_51 ?_
      refine sc_top (h2) ?_
      refine sc_icmp_ge (tgt := 77) hC dX1_size_54 (by decide) (fun c2 => ?_) (fun c2 => ?_)
      · exact absurd ((nI_leI (by omega) (by omega)).mp c2) (by omega)
      · refine sc_iload_n hC dX1_size_57 rfl ?_
        refine sc_aload_n hC dX1_size_58 rfl ?_
        refine sc_iload_n hC dX1_size_59 rfl ?_
        refine x1_callI hC (m1_ts hP hM hj (by omega) (show 16 * c + j < n by omega)) k1_timeSize rfl (by decide) (by decide) dX1_size_60 rfl (Nat.le_of_ble_eq_true rfl) (fun r f2 a2 hp => ?_)
        obtain ⟨rfl, rfl, rfl⟩ := hp
        refine sc_iadd hC dX1_size_63 ?_
        refine sc_aload_n hC dX1_size_64 rfl ?_
        refine sc_iload_n hC dX1_size_65 rfl ?_
        refine x1_callI hC (m1_vs (pu_wn (pu_sh v c) j) hP hM (show 1 ≤ 16 * c + j by omega) (by omega) hW (pu_wn_ok (fun i hi => by have := hP.2.2.1 (16 * c + i) (by omega); unfold pu_sh; omega))) k1_valueSize rfl (by decide) (by decide) dX1_size_66 rfl (Nat.le_of_ble_eq_true rfl) (fun r f3 a3 hp => ?_)
        obtain ⟨rfl, hW3, hF3, rfl⟩ := hp
        rw [← hv1, ← hv2] at hW3
        rw [← hv1, ← hv2, nI_add]
        refine sc_iadd hC dX1_size_69 ?_
        refine sc_top (nI_add _ _) ?_
        refine sc_istore_n hC dX1_size_70 rfl (by decide) ?_
        refine sc_iinc (v := 1) hC dX1_size_71 (by decide) rfl rfl (by decide) ?_
        refine sc_goto (tgt := 38) hC dX1_size_74 (by decide) ?_
        rw [nI_1]
        have es : (pu_st (pu_sh t c) (pu_sh v c) j).length + (pu_tc (pu_dd (pu_sh t c) j)).length + (pu_vc (pu_wn (pu_sh v c) j) (pu_sh v c j ^^^ pu_sh v c (j - 1))).length = (pu_st (pu_sh t c) (pu_sh v c) (j + 1)).length := by
          rw [pu_st_succ, List.length_append]
          unfold pu_pc
          rw [if_neg (by omega), List.length_append]
          omega
        rw [es]
        refine ih (j + 1) f3 (by omega) (by omega) ⟨?_, hM.2⟩ ?_
        · rw [hF3]
          exact h2
        · unfold pu_wn
          rw [if_neg (by omega)]
          exact hW3
end SZ
theorem m1_size {n : Nat} {t v : Nat → Nat} {f : Nat → Int32} {a : Nat → Nat → Int32} (hP : pu_PI n t v) (hM : pu_MS (n, t, v) f a) (x : Int32) :
    sc_I1 yX1_size cX1_size 4 (some .int) 1 [.int x] f a (fun r f' a' => r = pu_szA (n, t, v) x ∧ pu_MS (n, t, v) f' a') := by
  have hn := hP.1
  have h2 : f 2 = nI n := hM.1
  refine x1_ofI pn1_size (fun _ => Nat.le_of_ble_eq_true rfl) (fun K d h hC hret => ?_)
  show sc_W K (xw1 h d f a) 0 [(0, .ref (h 5)), (1, .int x)] []
  have k20 : (x < 0 ∨ nI ((n + 15) / 16) ≤ x) → sc_W K (xw1 h d f a) 20 [(0, .ref (h 5)), (1, .int x)] [] := by
    intro hb
    refine sc_bipush (v := -4) hC dX1_size_20 (by decide) ?_
    refine hret _ _ _ _ _ dX1_size_22 ⟨?_, hM⟩
    unfold pu_szA
    rw [if_pos hb]
  refine sc_iload_n hC dX1_size_0 rfl ?_
  refine sc_if_lt (tgt := 20) hC dX1_size_1 (by decide) (fun c1 => ?_) (fun c1 => ?_)
  · exact k20 (Or.inl c1)
  · refine sc_iload_n hC dX1_size_4 rfl ?_
    refine sc_iconst (v := 3) hC dX1_size_5 (by decide) ?_
    refine sc_icmp_gt (tgt := 20) hC dX1_size_6 (by decide) (fun c2 => ?_) (fun c2 => ?_)
    · refine k20 (Or.inr ?_)
      have : nI ((n + 15) / 16) ≤ 4 := nI_le (b := 4) (by omega) (by decide)
      refine Int32.le_trans this ?_
      rw [pu_le (i := 4) (by decide) rfl]
      have := (pu_lt (i := 3) (by decide) rfl).mp c2
      omega
    · obtain ⟨c, hc3, rfl⟩ := nI_of2 (n := 3) (M := 3) (by decide) c1 (Int32.not_lt.mp c2)
      refine sc_bipush (v := 16) hC dX1_size_9 (by decide) ?_
      refine sc_iload_n hC dX1_size_11 rfl ?_
      refine sc_imul hC dX1_size_12 ?_
      refine sc_top ((show (16 : Int32) * nI c = nI (16 * c) by rw [show (16 : Int32) = nI 16 from rfl, pk_mul])) ?_
      refine sc_aload_n hC dX1_size_13 rfl ?_
      refine x1_g2 hC dX1_size_14 ?_
      refine sc_top (h2) ?_
      refine sc_icmp_lt (tgt := 23) hC dX1_size_17 (by decide) (fun c3 => ?_) (fun c3 => ?_)
      · have c3 := (nI_ltI (by omega) (by omega)).mp c3
        have hm := (pu_m_le n c).2.2 c3
        refine sc_bipush (v := 32) hC dX1_size_23 (by decide) ?_
        refine sc_istore_n hC dX1_size_25 rfl (by decide) ?_
        refine sc_aload_n hC dX1_size_26 rfl ?_
        refine sc_iconst (v := -1) hC dX1_size_27 (by decide) ?_
        refine x1_p3 hC dX1_size_28 ?_
        refine sc_bipush (v := 16) hC dX1_size_31 (by decide) ?_
        refine sc_iload_n hC dX1_size_33 rfl ?_
        refine sc_imul hC dX1_size_34 ?_
        refine sc_top ((show (16 : Int32) * nI c = nI (16 * c) by rw [show (16 : Int32) = nI 16 from rfl, pk_mul])) ?_
        refine sc_iconst (v := 1) hC dX1_size_35 (by decide) ?_
        refine sc_iadd hC dX1_size_36 ?_
        refine sc_top (nI_1 (16 * c)) ?_
        refine sc_istore_n hC dX1_size_37 rfl (by decide) ?_
        refine sz_loop hC hP c3 ?_ (pu_m n c - 1) 1 _ (by omega) (Nat.le_refl _) ⟨h2, hM.2⟩ rfl
        intro f1 lv hM1
        refine hret _ _ _ _ _ dX1_size_78 ⟨?_, hM1⟩
        unfold pu_szA
        rw [if_neg (fun q => q.elim c1 (fun q => absurd ((nI_leI (by show (n + 15) / 16 < 2 ^ 31; omega) (by omega)).mp q) (by show ¬ (n + 15) / 16 ≤ c; omega))), nI_clamp (by omega)]
      · have c3 : ¬ 16 * c < n := fun q => c3 ((nI_ltI (by omega) (by omega)).mpr q)
        exact k20 (Or.inr (nI_le (by omega) (by omega)))
section PK1
variable {K : sc_K} {d : ClassId} {h : Nat → Nat}
theorem pk1_loop (hC : sc_C K cX1_packed RX1 d 3 2) {n : Nat} {t v : Nat → Nat} (hP : pu_PI n t v)
    (hk : ∀ (f1 : Nat → Int32) (a1 : Nat → Nat → Int32) (lv : List (Nat × Value)), pu_MS (n, t, v) f1 a1 → sc_W K (xw1 h d f1 a1) 30 lv [.int (pu_pkA (n, t, v))]) :
    ∀ (j c : Nat) (f1 : Nat → Int32) (a1 : Nat → Nat → Int32), c + j = (n + 15) / 16 → pu_MS (n, t, v) f1 a1 → sc_W K (xw1 h d f1 a1) 4 [(0, .ref (h 5)), (1, .int (nI (pu_sum (pu_sz (n, t, v)) c))), (2, .int (nI c))] [] := by
  have hn := hP.1
  intro j
  induction j with
  | zero =>
    intro c f1 a1 hcj hM
    have h2 : f1 2 = nI n := hM.1
    have kk := hk f1 a1 [(0, .ref (h 5)), (1, .int (nI (pu_sum (pu_sz (n, t, v)) c))), (2, .int (nI c))] hM
    have e : pu_pkA (n, t, v) = nI (pu_sum (pu_sz (n, t, v)) c) := by
      unfold pu_pkA
      rw [show c = (n + 15) / 16 by omega]
    rw [e] at kk
    refine sc_bipush (v := 16) hC dX1_packed_4 (by decide) ?_
    refine sc_iload_n hC dX1_packed_6 rfl ?_
    refine sc_imul hC dX1_packed_7 ?_
    refine sc_top ((show (16 : Int32) * nI c = nI (16 * c) by rw [show (16 : Int32) = nI 16 from rfl, pk_mul])) ?_
    refine sc_aload_n hC dX1_packed_8 rfl ?_
    refine x1_g2 hC dX1_packed_9 ?_
    refine sc_top (h2) ?_
    refine sc_icmp_ge (tgt := 29) hC dX1_packed_12 (by decide) (fun c1 => ?_) (fun c1 => ?_)
    · refine sc_iload_n hC dX1_packed_29 rfl ?_
      exact kk
    · exact absurd (nI_le (by omega) (by omega)) c1
  | succ j ih =>
    intro c f1 a1 hcj hM
    have h2 : f1 2 = nI n := hM.1
    refine sc_bipush (v := 16) hC dX1_packed_4 (by decide) ?_
    refine sc_iload_n hC dX1_packed_6 rfl ?_
    refine sc_imul hC dX1_packed_7 ?_
    refine sc_top ((show (16 : Int32) * nI c = nI (16 * c) by rw [show (16 : Int32) = nI 16 from rfl, pk_mul])) ?_
    refine sc_aload_n hC dX1_packed_8 rfl ?_
    refine x1_g2 hC dX1_packed_9 ?_
    refine sc_top (h2) ?_
    refine sc_icmp_ge (tgt := 29) hC dX1_packed_12 (by decide) (fun c1 => ?_) (fun c1 => ?_)
    · exact absurd c1 (nI_ge (by omega) (by omega))
    · refine sc_iload_n hC dX1_packed_15 rfl ?_
      refine sc_aload_n hC dX1_packed_16 rfl ?_
      refine sc_iload_n hC dX1_packed_17 rfl ?_
      refine x1_callI hC (m1_size hP hM (nI c)) k1_size rfl (by decide) (by decide) dX1_packed_18 rfl (Nat.le_of_ble_eq_true rfl) (fun r f2 a2 hp => ?_)
      obtain ⟨rfl, hM2⟩ := hp
      refine sc_top ((show pu_szA (n, t, v) (nI c) = nI (pu_sz (n, t, v) c) by unfold pu_szA; rw [if_neg (fun q => q.elim (nI_pos (by omega)) (fun q => absurd ((nI_leI (by show (n + 15) / 16 < 2 ^ 31; omega) (by omega)).mp q) (by show ¬ (n + 15) / 16 ≤ c; omega))), nI_clamp (by omega)])) ?_
      refine sc_iadd hC dX1_packed_21 ?_
      refine sc_top (nI_add _ _) ?_
      refine sc_istore_n hC dX1_packed_22 rfl (by decide) ?_
      refine sc_iinc (v := 1) hC dX1_packed_23 (by decide) rfl rfl (by decide) ?_
      refine sc_goto (tgt := 4) hC dX1_packed_26 (by decide) ?_
      rw [nI_1 c]
      exact ih (c + 1) f2 a2 (by omega) hM2
end PK1
theorem m1_packed {n : Nat} {t v : Nat → Nat} {f : Nat → Int32} {a : Nat → Nat → Int32} (hP : pu_PI n t v) (hM : pu_MS (n, t, v) f a) :
    sc_I1 yX1_packed cX1_packed 3 (some .int) 2 [] f a (fun r f' a' => r = pu_pkA (n, t, v) ∧ pu_MS (n, t, v) f' a') := by
  refine x1_ofI pn1_packed (fun _ => Nat.le_of_ble_eq_true rfl) (fun K d h hC hret => ?_)
  show sc_W K (xw1 h d f a) 0 [(0, .ref (h 5))] []
  refine sc_iconst (v := 0) hC dX1_packed_0 (by decide) ?_
  refine sc_istore_n hC dX1_packed_1 rfl (by decide) ?_
  refine sc_iconst (v := 0) hC dX1_packed_2 (by decide) ?_
  refine sc_istore_n hC dX1_packed_3 rfl (by decide) ?_
  exact pk1_loop hC hP (fun f1 a1 lv hM1 => hret _ _ _ _ _ dX1_packed_30 ⟨rfl, hM1⟩) _ 0 f a (Nat.zero_add _) hM
theorem m1_is (f : Nat → Int32) (a : Nat → Nat → Int32) (x y : Int32) :
    sc_I1 yX1_isSpan cX1_isSpan 3 (some .boolean) 0 [.int x, .int y] f a (fun r f' a' => r = (if pu_bsp x y then 0 else 1) ∧ f' = f ∧ a' = a) := by
  refine x1_ofZ pn1_isSpan (fun _ => Nat.le_of_ble_eq_true rfl) (fun K d h hC hret => ?_)
  show sc_W K (xw1 h d f a) 0 [(0, .ref (h 5)), (1, .int x), (2, .int y)] []
  have k19 : pu_bsp x y → sc_W K (xw1 h d f a) 19 [(0, .ref (h 5)), (1, .int x), (2, .int y)] [] := by
    intro hb
    refine sc_iconst (v := 0) hC dX1_isSpan_19 (by decide) ?_
    exact hret _ _ _ _ _ dX1_isSpan_20 (Or.inl rfl) ⟨by rw [if_pos hb], rfl, rfl⟩
  refine sc_iload_n hC dX1_isSpan_0 rfl ?_
  refine sc_if_lt (tgt := 19) hC dX1_isSpan_1 (by decide) (fun c1 => ?_) (fun c1 => ?_)
  · exact k19 (Or.inl c1)
  · refine sc_iload_n hC dX1_isSpan_4 rfl ?_
    refine sc_iload_n hC dX1_isSpan_5 rfl ?_
    refine sc_icmp_gt (tgt := 19) hC dX1_isSpan_6 (by decide) (fun c2 => ?_) (fun c2 => ?_)
    · exact k19 (Or.inr (Or.inl c2))
    · refine sc_iload_n hC dX1_isSpan_9 rfl ?_
      refine sc_ldc (v := 60000) hC q278 dX1_isSpan_10 ?_
      refine sc_icmp_gt (tgt := 19) hC dX1_isSpan_12 (by decide) (fun c3 => ?_) (fun c3 => ?_)
      · exact k19 (Or.inr (Or.inr c3))
      · refine sc_iconst (v := 1) hC dX1_isSpan_15 (by decide) ?_
        refine sc_goto (tgt := 20) hC dX1_isSpan_16 (by decide) ?_
        refine hret _ _ _ _ _ dX1_isSpan_20 (Or.inr rfl) ⟨?_, rfl, rfl⟩
        rw [if_neg]
        intro q
        rcases q with q | q | q
        · exact c1 q
        · exact c2 q
        · exact c3 q
theorem m1_in {n i : Nat} {t v : Nat → Nat} {f : Nat → Int32} {a : Nat → Nat → Int32} (hn : n ≤ 64) (hM : pu_MS (n, t, v) f a) (hi : i < n) (x y : Int32) :
    sc_I1 yX1_isIn cX1_isIn 4 (some .boolean) 0 [.int (nI i), .int x, .int y] f a (fun r f' a' => r = (if pu_in x y (t i) then 1 else 0) ∧ f' = f ∧ a' = a) := by
  have ha : ∀ i, i < n → a 0 i = nI (t i) ∧ a 1 i = nI (v i) := hM.2
  refine x1_ofZ pn1_isIn (fun _ => Nat.le_of_ble_eq_true rfl) (fun K d h hC hret => ?_)
  show sc_W K (xw1 h d f a) 0 [(0, .ref (h 5)), (1, .int (nI i)), (2, .int x), (3, .int y)] []
  have k24 : ¬ pu_in x y (t i) → sc_W K (xw1 h d f a) 24 [(0, .ref (h 5)), (1, .int (nI i)), (2, .int x), (3, .int y)] [] := by
    intro hb
    refine sc_iconst (v := 0) hC dX1_isIn_24 (by decide) ?_
    exact hret _ _ _ _ _ dX1_isIn_25 (Or.inl rfl) ⟨by rw [if_neg hb], rfl, rfl⟩
  refine sc_aload_n hC dX1_isIn_0 rfl ?_
  refine x1_g0 hC dX1_isIn_1 ?_
  refine sc_iload_n hC dX1_isIn_4 rfl ?_
  refine x1_ald0 hC (i) (rfl) (by omega) dX1_isIn_5 ?_
  refine sc_top ((ha i hi).1) ?_
  refine sc_iload_n hC dX1_isIn_6 rfl ?_
  refine sc_icmp_lt (tgt := 24) hC dX1_isIn_7 (by decide) (fun c1 => ?_) (fun c1 => ?_)
  · exact k24 (fun q => absurd c1 (Int32.not_lt.mpr q.1))
  · refine sc_aload_n hC dX1_isIn_10 rfl ?_
    refine x1_g0 hC dX1_isIn_11 ?_
    refine sc_iload_n hC dX1_isIn_14 rfl ?_
    refine x1_ald0 hC (i) (rfl) (by omega) dX1_isIn_15 ?_
    refine sc_top ((ha i hi).1) ?_
    refine sc_iload_n hC dX1_isIn_16 rfl ?_
    refine sc_icmp_gt (tgt := 24) hC dX1_isIn_17 (by decide) (fun c2 => ?_) (fun c2 => ?_)
    · exact k24 (fun q => absurd c2 (Int32.not_lt.mpr q.2))
    · refine sc_iconst (v := 1) hC dX1_isIn_20 (by decide) ?_
      refine sc_goto (tgt := 25) hC dX1_isIn_21 (by decide) ?_
      exact hret _ _ _ _ _ dX1_isIn_25 (Or.inr rfl) ⟨by rw [if_pos ⟨Int32.not_lt.mp c1, Int32.not_lt.mp c2⟩], rfl, rfl⟩
/-- the greatest and the least so far, as the model keeps them -/
def pu_gi (t v : Nat → Nat) (x y : Int32) (k : Nat) : Int32 := if pu_cnt t x y k = 0 then -4 else nI (pu_hi t v x y k) - 1
def pu_li (t v : Nat → Nat) (x y : Int32) (k : Nat) : Int32 := if pu_cnt t x y k = 0 then -4 else nI (pu_lo t v x y k)
theorem pu_cnt0 {t v : Nat → Nat} {x y : Int32} : ∀ {k : Nat}, pu_cnt t x y k = 0 → pu_hi t v x y k = 0 ∧ pu_lo t v x y k = 65536 := by
  intro k
  induction k with
  | zero => intro _; exact ⟨rfl, rfl⟩
  | succ k ih =>
    intro h
    by_cases hin : pu_in x y (t k)
    · rw [(pu_cnt_yes (v := v) hin).1] at h
      omega
    · obtain ⟨e1, e2, e3, e4⟩ := pu_cnt_no (v := v) hin
      rw [e1] at h
      rw [e3, e4]
      exact ih h
theorem pu_cnt1 {t v : Nat → Nat} {x y : Int32} : ∀ {k : Nat}, pu_cnt t x y k ≠ 0 → 1 ≤ pu_hi t v x y k := by
  intro k
  induction k with
  | zero => intro h; exact absurd rfl h
  | succ k ih =>
    intro h
    by_cases hin : pu_in x y (t k)
    · rw [(pu_cnt_yes (v := v) hin).2.2.2]
      split <;> omega
    · obtain ⟨e1, e2, e3, e4⟩ := pu_cnt_no (v := v) hin
      rw [e1] at h
      rw [e4]
      exact ih h
theorem pu_gi_no {t v : Nat → Nat} {x y : Int32} {k : Nat} (h : ¬ pu_in x y (t k)) : pu_gi t v x y (k + 1) = pu_gi t v x y k ∧ pu_li t v x y (k + 1) = pu_li t v x y k := by
  obtain ⟨e1, e2, e3, e4⟩ := pu_cnt_no (v := v) h
  unfold pu_gi pu_li
  rw [e1, e3, e4]
  exact ⟨rfl, rfl⟩
theorem pu_gi_yes {t v : Nat → Nat} {x y : Int32} {k : Nat} (h : pu_in x y (t k)) (hv : v k ≤ 65535) (hh : pu_hi t v x y k ≤ 65536) : pu_gi t v x y (k + 1) = if nI (v k) ≤ pu_gi t v x y k then pu_gi t v x y k else nI (v k) := by
  obtain ⟨e1, e2, e3, e4⟩ := pu_cnt_yes (v := v) h
  have g1 : pu_gi t v x y (k + 1) = nI (if pu_hi t v x y k < v k + 1 then v k + 1 else pu_hi t v x y k) - 1 := by
    unfold pu_gi
    rw [e1, e4, if_neg (by omega)]
  rw [g1]
  by_cases c0 : pu_cnt t x y k = 0
  · have g2 : pu_gi t v x y k = -4 := by unfold pu_gi; rw [if_pos c0]
    obtain ⟨q1, q2⟩ := pu_cnt0 (v := v) c0
    rw [g2, q1, if_pos (by omega), nI_pred, if_neg]
    intro q
    have := (pu_le (nI_toInt (by omega)) (j := -4) (by decide)).mp q
    omega
  · have g2 : pu_gi t v x y k = nI (pu_hi t v x y k) - 1 := by unfold pu_gi; rw [if_neg c0]
    have ti : (nI (pu_hi t v x y k) - 1).toInt = (pu_hi t v x y k : Int) - 1 := pk_sub_toInt (b := 1) (by omega) (by decide)
    rw [g2]
    by_cases q : pu_hi t v x y k < v k + 1
    · rw [if_pos q, nI_pred]
      by_cases z : nI (v k) ≤ nI (pu_hi t v x y k) - 1
      · rw [if_pos z]
        have := (pu_le (nI_toInt (by omega)) ti).mp z
        omega
      · rw [if_neg z]
    · rw [if_neg q, if_pos]
      exact (pu_le (nI_toInt (by omega)) ti).mpr (by omega)
theorem pu_li_yes {t v : Nat → Nat} {x y : Int32} {k : Nat} (h : pu_in x y (t k)) (hv : v k ≤ 65535) : pu_li t v x y (k + 1) = if pu_li t v x y k < 0 then nI (v k) else if pu_li t v x y k ≤ nI (v k) then pu_li t v x y k else nI (v k) := by
  obtain ⟨e1, e2, e3, e4⟩ := pu_cnt_yes (v := v) h
  have hl := pu_lo_lt t v x y k
  have g1 : pu_li t v x y (k + 1) = nI (if v k < pu_lo t v x y k then v k else pu_lo t v x y k) := by
    unfold pu_li
    rw [e1, e3, if_neg (by omega)]
  rw [g1]
  by_cases c0 : pu_cnt t x y k = 0
  · have g2 : pu_li t v x y k = -4 := by unfold pu_li; rw [if_pos c0]
    obtain ⟨q1, q2⟩ := pu_cnt0 (v := v) c0
    rw [g2, q2, if_pos (by omega), if_pos (by decide)]
  · have g2 : pu_li t v x y k = nI (pu_lo t v x y k) := by unfold pu_li; rw [if_neg c0]
    rw [g2, if_neg (nI_pos (by omega))]
    by_cases q : v k < pu_lo t v x y k
    · rw [if_pos q, if_neg (nI_ge q (by omega))]
    · rw [if_neg q, if_pos (nI_le (by omega) (by omega))]
section SP1
variable {K : sc_K} {d : ClassId} {h : Nat → Nat}
theorem ct1_loop (hC : sc_C K cX1_count RX1 d 5 1) {n : Nat} {t v : Nat → Nat} {f : Nat → Int32} {a : Nat → Nat → Int32} (hn : n ≤ 64) (hM : pu_MS (n, t, v) f a) (x y : Int32)
    (hk : ∀ (lv : List (Nat × Value)), sc_W K (xw1 h d f a) 51 lv [.int (nI (pu_cnt t x y n))]) :
    ∀ (j i : Nat), i + j = n → sc_W K (xw1 h d f a) 16 [(0, .ref (h 5)), (1, .int x), (2, .int y), (3, .int (nI (pu_cnt t x y i))), (4, .int (nI i))] [] := by
  have h2 : f 2 = nI n := hM.1
  intro j
  induction j with
  | zero =>
    intro i hij
    rw [Nat.add_zero] at hij
    subst hij
    refine sc_iload hC dX1_count_16 rfl ?_
    refine sc_aload_n hC dX1_count_18 rfl ?_
    refine x1_g2 hC dX1_count_19 ?_
    refine sc_top (h2) ?_
    refine sc_icmp_ge (tgt := 50) hC dX1_count_22 (by decide) (fun c1 => ?_) (fun c1 => ?_)
    · refine sc_iload_n hC dX1_count_50 rfl ?_
      exact hk _
    · exact absurd (nI_le (Nat.le_refl _) (by omega)) c1
  | succ j ih =>
    intro i hij
    have kk := ih (i + 1) (by omega)
    rw [← nI_1 i] at kk
    refine sc_iload hC dX1_count_16 rfl ?_
    refine sc_aload_n hC dX1_count_18 rfl ?_
    refine x1_g2 hC dX1_count_19 ?_
    refine sc_top (h2) ?_
    refine sc_icmp_ge (tgt := 50) hC dX1_count_22 (by decide) (fun c1 => ?_) (fun c1 => ?_)
    · exact absurd c1 (nI_ge (by omega) (by omega))
    · refine sc_aload_n hC dX1_count_25 rfl ?_
      refine sc_iload hC dX1_count_26 rfl ?_
      refine sc_iload_n hC dX1_count_28 rfl ?_
      refine sc_iload_n hC dX1_count_29 rfl ?_
      refine x1_callI hC (m1_in hn hM (show i < n by omega) x y) k1_isIn rfl (by decide) (by decide) dX1_count_30 rfl (Nat.le_of_ble_eq_true rfl) (fun r f1 a1 hp => ?_)
      obtain ⟨rfl, rfl, rfl⟩ := hp
      by_cases hin : pu_in x y (t i)
      · rw [(pu_cnt_yes (v := v) hin).1, ← nI_1] at kk
        rw [if_pos hin]
        refine sc_if_eq (tgt := 42) hC dX1_count_33 (by decide) (fun c2 => ?_) (fun c2 => ?_)
        · exact absurd c2 (by decide)
        · refine sc_iload_n hC dX1_count_36 rfl ?_
          refine sc_iconst (v := 1) hC dX1_count_37 (by decide) ?_
          refine sc_iadd hC dX1_count_38 ?_
          refine sc_goto (tgt := 43) hC dX1_count_39 (by decide) ?_
          refine sc_istore_n hC dX1_count_43 rfl (by decide) ?_
          refine sc_iinc (v := 1) hC dX1_count_44 (by decide) rfl rfl (by decide) ?_
          refine sc_goto (tgt := 16) hC dX1_count_47 (by decide) ?_
          exact kk
      · rw [(pu_cnt_no (v := v) hin).1] at kk
        rw [if_neg hin]
        refine sc_if_eq (tgt := 42) hC dX1_count_33 (by decide) (fun c2 => ?_) (fun c2 => ?_)
        · refine sc_iload_n hC dX1_count_42 rfl ?_
          refine sc_istore_n hC dX1_count_43 rfl (by decide) ?_
          refine sc_iinc (v := 1) hC dX1_count_44 (by decide) rfl rfl (by decide) ?_
          refine sc_goto (tgt := 16) hC dX1_count_47 (by decide) ?_
          exact kk
        · exact absurd rfl c2
theorem sm1_loop (hC : sc_C K cX1_sum RX1 d 5 1) {n : Nat} {t v : Nat → Nat} {f : Nat → Int32} {a : Nat → Nat → Int32} (hn : n ≤ 64) (hM : pu_MS (n, t, v) f a) (x y : Int32)
    (hk : ∀ (lv : List (Nat × Value)), sc_W K (xw1 h d f a) 57 lv [.int (nI (pu_smm t v x y n))]) :
    ∀ (j i : Nat), i + j = n → sc_W K (xw1 h d f a) 16 [(0, .ref (h 5)), (1, .int x), (2, .int y), (3, .int (nI (pu_smm t v x y i))), (4, .int (nI i))] [] := by
  have h2 : f 2 = nI n := hM.1
  have ha : ∀ i, i < n → a 0 i = nI (t i) ∧ a 1 i = nI (v i) := hM.2
  intro j
  induction j with
  | zero =>
    intro i hij
    rw [Nat.add_zero] at hij
    subst hij
    refine sc_iload hC dX1_sum_16 rfl ?_
    refine sc_aload_n hC dX1_sum_18 rfl ?_
    refine x1_g2 hC dX1_sum_19 ?_
    refine sc_top (h2) ?_
    refine sc_icmp_ge (tgt := 56) hC dX1_sum_22 (by decide) (fun c1 => ?_) (fun c1 => ?_)
    · refine sc_iload_n hC dX1_sum_56 rfl ?_
      exact hk _
    · exact absurd (nI_le (Nat.le_refl _) (by omega)) c1
  | succ j ih =>
    intro i hij
    have kk := ih (i + 1) (by omega)
    rw [← nI_1 i] at kk
    refine sc_iload hC dX1_sum_16 rfl ?_
    refine sc_aload_n hC dX1_sum_18 rfl ?_
    refine x1_g2 hC dX1_sum_19 ?_
    refine sc_top (h2) ?_
    refine sc_icmp_ge (tgt := 56) hC dX1_sum_22 (by decide) (fun c1 => ?_) (fun c1 => ?_)
    · exact absurd c1 (nI_ge (by omega) (by omega))
    · refine sc_aload_n hC dX1_sum_25 rfl ?_
      refine sc_iload hC dX1_sum_26 rfl ?_
      refine sc_iload_n hC dX1_sum_28 rfl ?_
      refine sc_iload_n hC dX1_sum_29 rfl ?_
      refine x1_callI hC (m1_in hn hM (show i < n by omega) x y) k1_isIn rfl (by decide) (by decide) dX1_sum_30 rfl (Nat.le_of_ble_eq_true rfl) (fun r f1 a1 hp => ?_)
      obtain ⟨rfl, rfl, rfl⟩ := hp
      by_cases hin : pu_in x y (t i)
      · rw [(pu_cnt_yes (v := v) hin).2.1] at kk
        rw [if_pos hin]
        refine sc_if_eq (tgt := 48) hC dX1_sum_33 (by decide) (fun c2 => ?_) (fun c2 => ?_)
        · exact absurd c2 (by decide)
        · refine sc_iload_n hC dX1_sum_36 rfl ?_
          refine sc_aload_n hC dX1_sum_37 rfl ?_
          refine x1_g1 hC dX1_sum_38 ?_
          refine sc_iload hC dX1_sum_41 rfl ?_
          refine x1_ald1 hC (i) (rfl) (by omega) dX1_sum_43 ?_
          refine sc_top ((ha i (by omega)).2) ?_
          refine sc_iadd hC dX1_sum_44 ?_
          refine sc_top (nI_add _ _) ?_
          refine sc_goto (tgt := 49) hC dX1_sum_45 (by decide) ?_
          refine sc_istore_n hC dX1_sum_49 rfl (by decide) ?_
          refine sc_iinc (v := 1) hC dX1_sum_50 (by decide) rfl rfl (by decide) ?_
          refine sc_goto (tgt := 16) hC dX1_sum_53 (by decide) ?_
          exact kk
      · rw [(pu_cnt_no (v := v) hin).2.1] at kk
        rw [if_neg hin]
        refine sc_if_eq (tgt := 48) hC dX1_sum_33 (by decide) (fun c2 => ?_) (fun c2 => ?_)
        · refine sc_iload_n hC dX1_sum_48 rfl ?_
          refine sc_istore_n hC dX1_sum_49 rfl (by decide) ?_
          refine sc_iinc (v := 1) hC dX1_sum_50 (by decide) rfl rfl (by decide) ?_
          refine sc_goto (tgt := 16) hC dX1_sum_53 (by decide) ?_
          exact kk
        · exact absurd rfl c2
theorem gr1_loop (hC : sc_C K cX1_greatest RX1 d 5 1) {n : Nat} {t v : Nat → Nat} {f : Nat → Int32} {a : Nat → Nat → Int32} (hP : pu_PI n t v) (hM : pu_MS (n, t, v) f a) (x y : Int32)
    (hk : ∀ (lv : List (Nat × Value)), sc_W K (xw1 h d f a) 67 lv [.int (pu_gi t v x y n)]) :
    ∀ (j i : Nat), i + j = n → sc_W K (xw1 h d f a) 17 [(0, .ref (h 5)), (1, .int x), (2, .int y), (3, .int (pu_gi t v x y i)), (4, .int (nI i))] [] := by
  have hn := hP.1
  have h2 : f 2 = nI n := hM.1
  have ha : ∀ i, i < n → a 0 i = nI (t i) ∧ a 1 i = nI (v i) := hM.2
  intro j
  induction j with
  | zero =>
    intro i hij
    rw [Nat.add_zero] at hij
    subst hij
    refine sc_iload hC dX1_greatest_17 rfl ?_
    refine sc_aload_n hC dX1_greatest_19 rfl ?_
    refine x1_g2 hC dX1_greatest_20 ?_
    refine sc_top (h2) ?_
    refine sc_icmp_ge (tgt := 66) hC dX1_greatest_23 (by decide) (fun c1 => ?_) (fun c1 => ?_)
    · refine sc_iload_n hC dX1_greatest_66 rfl ?_
      exact hk _
    · exact absurd (nI_le (Nat.le_refl _) (by omega)) c1
  | succ j ih =>
    intro i hij
    have kk := ih (i + 1) (by omega)
    rw [← nI_1 i] at kk
    refine sc_iload hC dX1_greatest_17 rfl ?_
    refine sc_aload_n hC dX1_greatest_19 rfl ?_
    refine x1_g2 hC dX1_greatest_20 ?_
    refine sc_top (h2) ?_
    refine sc_icmp_ge (tgt := 66) hC dX1_greatest_23 (by decide) (fun c1 => ?_) (fun c1 => ?_)
    · exact absurd c1 (nI_ge (by omega) (by omega))
    · refine sc_aload_n hC dX1_greatest_26 rfl ?_
      refine sc_iload hC dX1_greatest_27 rfl ?_
      refine sc_iload_n hC dX1_greatest_29 rfl ?_
      refine sc_iload_n hC dX1_greatest_30 rfl ?_
      refine x1_callI hC (m1_in hn hM (show i < n by omega) x y) k1_isIn rfl (by decide) (by decide) dX1_greatest_31 rfl (Nat.le_of_ble_eq_true rfl) (fun r f1 a1 hp => ?_)
      obtain ⟨rfl, rfl, rfl⟩ := hp
      by_cases hin : pu_in x y (t i)
      · rw [pu_gi_yes hin (hP.2.2.1 i (by omega)) (pu_hi_lt (fun i' hi' => hP.2.2.1 i' (by omega)))] at kk
        rw [if_pos hin]
        refine sc_if_eq (tgt := 58) hC dX1_greatest_34 (by decide) (fun c2 => ?_) (fun c2 => ?_)
        · exact absurd c2 (by decide)
        · refine sc_aload_n hC dX1_greatest_37 rfl ?_
          refine x1_g1 hC dX1_greatest_38 ?_
          refine sc_iload hC dX1_greatest_41 rfl ?_
          refine x1_ald1 hC (i) (rfl) (by omega) dX1_greatest_43 ?_
          refine sc_top ((ha i (by omega)).2) ?_
          refine sc_iload_n hC dX1_greatest_44 rfl ?_
          refine sc_icmp_le (tgt := 58) hC dX1_greatest_45 (by decide) (fun c3 => ?_) (fun c3 => ?_)
          · rw [if_pos c3] at kk
            refine sc_iload_n hC dX1_greatest_58 rfl ?_
            refine sc_istore_n hC dX1_greatest_59 rfl (by decide) ?_
            refine sc_iinc (v := 1) hC dX1_greatest_60 (by decide) rfl rfl (by decide) ?_
            refine sc_goto (tgt := 17) hC dX1_greatest_63 (by decide) ?_
            exact kk
          · rw [if_neg c3] at kk
            refine sc_aload_n hC dX1_greatest_48 rfl ?_
            refine x1_g1 hC dX1_greatest_49 ?_
            refine sc_iload hC dX1_greatest_52 rfl ?_
            refine x1_ald1 hC (i) (rfl) (by omega) dX1_greatest_54 ?_
            refine sc_top ((ha i (by omega)).2) ?_
            refine sc_goto (tgt := 59) hC dX1_greatest_55 (by decide) ?_
            refine sc_istore_n hC dX1_greatest_59 rfl (by decide) ?_
            refine sc_iinc (v := 1) hC dX1_greatest_60 (by decide) rfl rfl (by decide) ?_
            refine sc_goto (tgt := 17) hC dX1_greatest_63 (by decide) ?_
            exact kk
      · rw [(pu_gi_no (v := v) hin).1] at kk
        rw [if_neg hin]
        refine sc_if_eq (tgt := 58) hC dX1_greatest_34 (by decide) (fun c2 => ?_) (fun c2 => ?_)
        · refine sc_iload_n hC dX1_greatest_58 rfl ?_
          refine sc_istore_n hC dX1_greatest_59 rfl (by decide) ?_
          refine sc_iinc (v := 1) hC dX1_greatest_60 (by decide) rfl rfl (by decide) ?_
          refine sc_goto (tgt := 17) hC dX1_greatest_63 (by decide) ?_
          exact kk
        · exact absurd rfl c2
theorem le1_loop (hC : sc_C K cX1_least RX1 d 5 1) {n : Nat} {t v : Nat → Nat} {f : Nat → Int32} {a : Nat → Nat → Int32} (hP : pu_PI n t v) (hM : pu_MS (n, t, v) f a) (x y : Int32)
    (hk : ∀ (lv : List (Nat × Value)), sc_W K (xw1 h d f a) 71 lv [.int (pu_li t v x y n)]) :
    ∀ (j i : Nat), i + j = n → sc_W K (xw1 h d f a) 17 [(0, .ref (h 5)), (1, .int x), (2, .int y), (3, .int (pu_li t v x y i)), (4, .int (nI i))] [] := by
  have hn := hP.1
  have h2 : f 2 = nI n := hM.1
  have ha : ∀ i, i < n → a 0 i = nI (t i) ∧ a 1 i = nI (v i) := hM.2
  intro j
  induction j with
  | zero =>
    intro i hij
    rw [Nat.add_zero] at hij
    subst hij
    refine sc_iload hC dX1_least_17 rfl ?_
    refine sc_aload_n hC dX1_least_19 rfl ?_
    refine x1_g2 hC dX1_least_20 ?_
    refine sc_top (h2) ?_
    refine sc_icmp_ge (tgt := 70) hC dX1_least_23 (by decide) (fun c1 => ?_) (fun c1 => ?_)
    · refine sc_iload_n hC dX1_least_70 rfl ?_
      exact hk _
    · exact absurd (nI_le (Nat.le_refl _) (by omega)) c1
  | succ j ih =>
    intro i hij
    have kk := ih (i + 1) (by omega)
    rw [← nI_1 i] at kk
    refine sc_iload hC dX1_least_17 rfl ?_
    refine sc_aload_n hC dX1_least_19 rfl ?_
    refine x1_g2 hC dX1_least_20 ?_
    refine sc_top (h2) ?_
    refine sc_icmp_ge (tgt := 70) hC dX1_least_23 (by decide) (fun c1 => ?_) (fun c1 => ?_)
    · exact absurd c1 (nI_ge (by omega) (by omega))
    · refine sc_aload_n hC dX1_least_26 rfl ?_
      refine sc_iload hC dX1_least_27 rfl ?_
      refine sc_iload_n hC dX1_least_29 rfl ?_
      refine sc_iload_n hC dX1_least_30 rfl ?_
      refine x1_callI hC (m1_in hn hM (show i < n by omega) x y) k1_isIn rfl (by decide) (by decide) dX1_least_31 rfl (Nat.le_of_ble_eq_true rfl) (fun r f1 a1 hp => ?_)
      obtain ⟨rfl, rfl, rfl⟩ := hp
      by_cases hin : pu_in x y (t i)
      · rw [pu_li_yes hin (hP.2.2.1 i (by omega))] at kk
        rw [if_pos hin]
        refine sc_if_eq (tgt := 62) hC dX1_least_34 (by decide) (fun c2 => ?_) (fun c2 => ?_)
        · exact absurd c2 (by decide)
        · refine sc_iload_n hC dX1_least_37 rfl ?_
          refine sc_if_lt (tgt := 52) hC dX1_least_38 (by decide) (fun c3 => ?_) (fun c3 => ?_)
          · rw [if_pos c3] at kk
            refine sc_aload_n hC dX1_least_52 rfl ?_
            refine x1_g1 hC dX1_least_53 ?_
            refine sc_iload hC dX1_least_56 rfl ?_
            refine x1_ald1 hC (i) (rfl) (by omega) dX1_least_58 ?_
            refine sc_top ((ha i (by omega)).2) ?_
            refine sc_goto (tgt := 63) hC dX1_least_59 (by decide) ?_
            refine sc_istore_n hC dX1_least_63 rfl (by decide) ?_
            refine sc_iinc (v := 1) hC dX1_least_64 (by decide) rfl rfl (by decide) ?_
            refine sc_goto (tgt := 17) hC dX1_least_67 (by decide) ?_
            exact kk
          · rw [if_neg c3] at kk
            refine sc_aload_n hC dX1_least_41 rfl ?_
            refine x1_g1 hC dX1_least_42 ?_
            refine sc_iload hC dX1_least_45 rfl ?_
            refine x1_ald1 hC (i) (rfl) (by omega) dX1_least_47 ?_
            refine sc_top ((ha i (by omega)).2) ?_
            refine sc_iload_n hC dX1_least_48 rfl ?_
            refine sc_icmp_ge (tgt := 62) hC dX1_least_49 (by decide) (fun c4 => ?_) (fun c4 => ?_)
            · rw [if_pos c4] at kk
              refine sc_iload_n hC dX1_least_62 rfl ?_
              refine sc_istore_n hC dX1_least_63 rfl (by decide) ?_
              refine sc_iinc (v := 1) hC dX1_least_64 (by decide) rfl rfl (by decide) ?_
              refine sc_goto (tgt := 17) hC dX1_least_67 (by decide) ?_
              exact kk
            · rw [if_neg c4] at kk
              refine sc_aload_n hC dX1_least_52 rfl ?_
              refine x1_g1 hC dX1_least_53 ?_
              refine sc_iload hC dX1_least_56 rfl ?_
              refine x1_ald1 hC (i) (rfl) (by omega) dX1_least_58 ?_
              refine sc_top ((ha i (by omega)).2) ?_
              refine sc_goto (tgt := 63) hC dX1_least_59 (by decide) ?_
              refine sc_istore_n hC dX1_least_63 rfl (by decide) ?_
              refine sc_iinc (v := 1) hC dX1_least_64 (by decide) rfl rfl (by decide) ?_
              refine sc_goto (tgt := 17) hC dX1_least_67 (by decide) ?_
              exact kk
      · rw [(pu_gi_no (v := v) hin).2] at kk
        rw [if_neg hin]
        refine sc_if_eq (tgt := 62) hC dX1_least_34 (by decide) (fun c2 => ?_) (fun c2 => ?_)
        · refine sc_iload_n hC dX1_least_62 rfl ?_
          refine sc_istore_n hC dX1_least_63 rfl (by decide) ?_
          refine sc_iinc (v := 1) hC dX1_least_64 (by decide) rfl rfl (by decide) ?_
          refine sc_goto (tgt := 17) hC dX1_least_67 (by decide) ?_
          exact kk
        · exact absurd rfl c2
end SP1
theorem m1_count {n : Nat} {t v : Nat → Nat} {f : Nat → Int32} {a : Nat → Nat → Int32} (hP : pu_PI n t v) (hM : pu_MS (n, t, v) f a) (x y : Int32) :
    sc_I1 yX1_count cX1_count 5 (some .int) 1 [.int x, .int y] f a (fun r f' a' => r = pu_ctA (n, t, v) x y ∧ pu_MS (n, t, v) f' a') := by
  refine x1_ofI pn1_count (fun _ => Nat.le_of_ble_eq_true rfl) (fun K d h hC hret => ?_)
  show sc_W K (xw1 h d f a) 0 [(0, .ref (h 5)), (1, .int x), (2, .int y)] []
  refine sc_aload_n hC dX1_count_0 rfl ?_
  refine sc_iload_n hC dX1_count_1 rfl ?_
  refine sc_iload_n hC dX1_count_2 rfl ?_
  refine x1_callI hC (m1_is f a x y) k1_isSpan rfl (by decide) (by decide) dX1_count_3 rfl (Nat.le_of_ble_eq_true rfl) (fun r f1 a1 hp => ?_)
  obtain ⟨rfl, rfl, rfl⟩ := hp
  by_cases hb : pu_bsp x y
  · rw [if_pos hb]
    refine sc_if_ne (tgt := 11) hC dX1_count_6 (by decide) (fun c1 => ?_) (fun c1 => ?_)
    · exact absurd rfl c1
    · refine sc_iconst (v := -1) hC dX1_count_9 (by decide) ?_
      refine hret _ _ _ _ _ dX1_count_10 ⟨?_, hM⟩
      unfold pu_ctA
      rw [if_pos hb]
  · rw [if_neg hb]
    refine sc_if_ne (tgt := 11) hC dX1_count_6 (by decide) (fun c1 => ?_) (fun c1 => ?_)
    · refine sc_iconst (v := 0) hC dX1_count_11 (by decide) ?_
      refine sc_istore_n hC dX1_count_12 rfl (by decide) ?_
      refine sc_iconst (v := 0) hC dX1_count_13 (by decide) ?_
      refine sc_istore hC dX1_count_14 rfl (by decide) ?_
      refine ct1_loop hC hP.1 hM x y (fun lv => hret _ _ _ _ _ dX1_count_51 ⟨?_, hM⟩) n 0 (Nat.zero_add _)
      unfold pu_ctA
      rw [if_neg hb]
    · exact absurd c1 (by decide)
theorem m1_sum {n : Nat} {t v : Nat → Nat} {f : Nat → Int32} {a : Nat → Nat → Int32} (hP : pu_PI n t v) (hM : pu_MS (n, t, v) f a) (x y : Int32) :
    sc_I1 yX1_sum cX1_sum 5 (some .int) 1 [.int x, .int y] f a (fun r f' a' => r = pu_smA (n, t, v) x y ∧ pu_MS (n, t, v) f' a') := by
  refine x1_ofI pn1_sum (fun _ => Nat.le_of_ble_eq_true rfl) (fun K d h hC hret => ?_)
  show sc_W K (xw1 h d f a) 0 [(0, .ref (h 5)), (1, .int x), (2, .int y)] []
  refine sc_aload_n hC dX1_sum_0 rfl ?_
  refine sc_iload_n hC dX1_sum_1 rfl ?_
  refine sc_iload_n hC dX1_sum_2 rfl ?_
  refine x1_callI hC (m1_is f a x y) k1_isSpan rfl (by decide) (by decide) dX1_sum_3 rfl (Nat.le_of_ble_eq_true rfl) (fun r f1 a1 hp => ?_)
  obtain ⟨rfl, rfl, rfl⟩ := hp
  by_cases hb : pu_bsp x y
  · rw [if_pos hb]
    refine sc_if_ne (tgt := 11) hC dX1_sum_6 (by decide) (fun c1 => ?_) (fun c1 => ?_)
    · exact absurd rfl c1
    · refine sc_iconst (v := -1) hC dX1_sum_9 (by decide) ?_
      refine hret _ _ _ _ _ dX1_sum_10 ⟨?_, hM⟩
      unfold pu_smA
      rw [if_pos hb]
  · rw [if_neg hb]
    refine sc_if_ne (tgt := 11) hC dX1_sum_6 (by decide) (fun c1 => ?_) (fun c1 => ?_)
    · refine sc_iconst (v := 0) hC dX1_sum_11 (by decide) ?_
      refine sc_istore_n hC dX1_sum_12 rfl (by decide) ?_
      refine sc_iconst (v := 0) hC dX1_sum_13 (by decide) ?_
      refine sc_istore hC dX1_sum_14 rfl (by decide) ?_
      refine sm1_loop hC hP.1 hM x y (fun lv => hret _ _ _ _ _ dX1_sum_57 ⟨?_, hM⟩) n 0 (Nat.zero_add _)
      unfold pu_smA
      rw [if_neg hb]
    · exact absurd c1 (by decide)
theorem m1_greatest {n : Nat} {t v : Nat → Nat} {f : Nat → Int32} {a : Nat → Nat → Int32} (hP : pu_PI n t v) (hM : pu_MS (n, t, v) f a) (x y : Int32) :
    sc_I1 yX1_greatest cX1_greatest 5 (some .int) 1 [.int x, .int y] f a (fun r f' a' => r = pu_grA (n, t, v) x y ∧ pu_MS (n, t, v) f' a') := by
  refine x1_ofI pn1_greatest (fun _ => Nat.le_of_ble_eq_true rfl) (fun K d h hC hret => ?_)
  show sc_W K (xw1 h d f a) 0 [(0, .ref (h 5)), (1, .int x), (2, .int y)] []
  refine sc_aload_n hC dX1_greatest_0 rfl ?_
  refine sc_iload_n hC dX1_greatest_1 rfl ?_
  refine sc_iload_n hC dX1_greatest_2 rfl ?_
  refine x1_callI hC (m1_is f a x y) k1_isSpan rfl (by decide) (by decide) dX1_greatest_3 rfl (Nat.le_of_ble_eq_true rfl) (fun r f1 a1 hp => ?_)
  obtain ⟨rfl, rfl, rfl⟩ := hp
  by_cases hb : pu_bsp x y
  · rw [if_pos hb]
    refine sc_if_ne (tgt := 11) hC dX1_greatest_6 (by decide) (fun c1 => ?_) (fun c1 => ?_)
    · exact absurd rfl c1
    · refine sc_iconst (v := -1) hC dX1_greatest_9 (by decide) ?_
      refine hret _ _ _ _ _ dX1_greatest_10 ⟨?_, hM⟩
      unfold pu_grA
      rw [if_pos hb]
  · rw [if_neg hb]
    refine sc_if_ne (tgt := 11) hC dX1_greatest_6 (by decide) (fun c1 => ?_) (fun c1 => ?_)
    · refine sc_bipush (v := -4) hC dX1_greatest_11 (by decide) ?_
      refine sc_istore_n hC dX1_greatest_13 rfl (by decide) ?_
      refine sc_iconst (v := 0) hC dX1_greatest_14 (by decide) ?_
      refine sc_istore hC dX1_greatest_15 rfl (by decide) ?_
      refine gr1_loop hC hP hM x y (fun lv => hret _ _ _ _ _ dX1_greatest_67 ⟨?_, hM⟩) n 0 (Nat.zero_add _)
      unfold pu_grA
      rw [if_neg hb]
      rfl
    · exact absurd c1 (by decide)
theorem m1_least {n : Nat} {t v : Nat → Nat} {f : Nat → Int32} {a : Nat → Nat → Int32} (hP : pu_PI n t v) (hM : pu_MS (n, t, v) f a) (x y : Int32) :
    sc_I1 yX1_least cX1_least 5 (some .int) 1 [.int x, .int y] f a (fun r f' a' => r = pu_leA (n, t, v) x y ∧ pu_MS (n, t, v) f' a') := by
  refine x1_ofI pn1_least (fun _ => Nat.le_of_ble_eq_true rfl) (fun K d h hC hret => ?_)
  show sc_W K (xw1 h d f a) 0 [(0, .ref (h 5)), (1, .int x), (2, .int y)] []
  refine sc_aload_n hC dX1_least_0 rfl ?_
  refine sc_iload_n hC dX1_least_1 rfl ?_
  refine sc_iload_n hC dX1_least_2 rfl ?_
  refine x1_callI hC (m1_is f a x y) k1_isSpan rfl (by decide) (by decide) dX1_least_3 rfl (Nat.le_of_ble_eq_true rfl) (fun r f1 a1 hp => ?_)
  obtain ⟨rfl, rfl, rfl⟩ := hp
  by_cases hb : pu_bsp x y
  · rw [if_pos hb]
    refine sc_if_ne (tgt := 11) hC dX1_least_6 (by decide) (fun c1 => ?_) (fun c1 => ?_)
    · exact absurd rfl c1
    · refine sc_iconst (v := -1) hC dX1_least_9 (by decide) ?_
      refine hret _ _ _ _ _ dX1_least_10 ⟨?_, hM⟩
      unfold pu_leA
      rw [if_pos hb]
  · rw [if_neg hb]
    refine sc_if_ne (tgt := 11) hC dX1_least_6 (by decide) (fun c1 => ?_) (fun c1 => ?_)
    · refine sc_bipush (v := -4) hC dX1_least_11 (by decide) ?_
      refine sc_istore_n hC dX1_least_13 rfl (by decide) ?_
      refine sc_iconst (v := 0) hC dX1_least_14 (by decide) ?_
      refine sc_istore hC dX1_least_15 rfl (by decide) ?_
      refine le1_loop hC hP hM x y (fun lv => hret _ _ _ _ _ dX1_least_71 ⟨?_, hM⟩) n 0 (Nat.zero_add _)
      unfold pu_leA
      rw [if_neg hb]
      rfl
    · exact absurd c1 (by decide)
end
section
set_option maxRecDepth 100000
/-! the constructors: every array new, the fields 0 but SeriesCodec.leading, -1 -/
theorem sc_same {D : va_G} {s : State} {c1 c2 : ClassId} (hK : va_K D vwCl [(c1, .int), (c2, .int)] s) : c1 = c2 := by
  have h1 : s.vm.findClass ("[" ++ FieldType.int.toString) = some c1 := (hK.2 0 _ rfl).2
  have h2 : s.vm.findClass ("[" ++ FieldType.int.toString) = some c2 := (hK.2 1 _ rfl).2
  exact Option.some.inj (h1.symm.trans h2)
abbrev fs0 : List Value := [.int 0, .null, .null, .null, .null, .null, .null, .null, .int 0, .int 0, .int 0, .int 0, .int 0, .int 0, .null, .null, .int 0, .int 0, .int 0, .int 0]
def if0 : Nat → Int32 := (upd (fun _ => 0) 10 (-1))
def ia0 : Nat → Nat → Int32 := fun _ _ => 0
/-- what new leaves, and its constructor makes of it -/
theorem c0_init (l : Launch) (D : va_G) (o sz : Nat) : Met l yX0_init (ws_ yX0_init cX0_init 1 none) ({ frames := 1, cells := 9, slots := 152, locals := 12 }) (va_Pc [.ref o] (fun U => U.heap.size = sz ∧ va_P D vwCl [(o, .inr (0, fs0))] U.heap ∧ va_K D vwCl [] U ∧ va_D (fun _ => True) [(o, .inr (0, fs0))])) (va_Qv (fun (u : ClassId × (Nat → Nat)) => u.2 20 = o) (fun u t => va_P D vwCl (xw0 u.2 u.1 if0 ia0) t.heap ∧ va_K D vwCl [(u.1, .int)] t ∧ va_D (va_A [(o, .inr (0, fs0))] sz) (xw0 u.2 u.1 if0 ia0)) (va_A [(o, .inr (0, fs0))] sz)) 9 152 (va_A [(o, .inr (0, fs0))] sz) := by
  refine Met.ofW (cc := cX0_init) (maxL := 1) (ret := none) (by decide) rfl ?_
  intro p e s m args below meth c s₁ B hml hv
  obtain ⟨rfl, hsz, hP, hK, hD0⟩ := hv
  have hx := B.exec
  have hb := B.bytes
  have hr := B.returns
  have hts := atoms_spec (ws := ws_ yX0_init cX0_init 1 none) B.pre
  have hts : ∀ w ∈ lw_all, w.before _ s = true := fun w h => hts w (List.mem_cons_of_mem _ h)
  have hown : s.vm.findClass RX0 = some m.cls := findClass_of_methodNamed B.named
  have hlocks := B.notSynchronized
  have hin : meth.name = "<init>" := (name_of_methodNamed B.named B.method).1
  subst hsz
  have hD := hD0.self (sz := s.heap.size)
  generalize hAe : va_A [(o, .inr (0, fs0))] s.heap.size = A at hD ⊢
  have hA : ∀ q : Nat, s.heap.size ≤ q → A q := fun q h => by rw [← hAe]; exact Or.inr h
  have hS : va_S A s.heap s.heap [] := va_S.rf
  have hP : va_P D vwCl [(o, .inr (0, fs0))] s.heap := hP
  have hl := lv_entry ([.ref o]) (n := 1) (Nat.le_of_ble_eq_true rfl)
  rw [lg_entry_eq]
  generalize (lg_sl ([.ref o]) ++ List.replicate (1 - (lg_sl ([.ref o])).length) Slot.unset).toArray = ls at hl ⊢
  have hl : lv_has ls 1 [(0, .ref o)] := hl
  refine lv_aload_n hx hb dX0_init_0 rfl (lv_at hl 0 rfl) ?_
  refine W.objInit hx hb hown (hts _ q35) (hts _ q36) (hts _ q37) rfl (by rw [hml]; exact hl.1) rfl dX0_init_1 (Nat.le_of_ble_eq_true rfl) (Nat.le_of_ble_eq_true rfl) ?_
  refine W.eq (g2 := F0 m 4 ls []) rfl ?_
  refine lv_aload_n hx hb dX0_init_4 rfl (lv_at hl 0 rfl) ?_
  refine lv_bipush (v := 96) hx hb dX0_init_5 (by decide) ?_
  refine va_newa (atype := .int) hx hb (hts _ q99) (ty := .int) rfl hK hP hD hS hA (N' := 96) (a0 := (96, .inl (fun _ => 0))) (fun _ => rfl) (by decide) (by decide) (by decide) (by show 0 + 1 ≤ 9; decide) (by show 0 + 96 ≤ 152; decide) dX0_init_7 (fun q1 d H hK hP hD hS => ?_)
  have hK : va_K D vwCl [(d, .int)] s := hK.sub [0] rfl
  have hP : va_P D vwCl [(o, .inr (0, [.int 0, .null, .null, .null, .null, .null, .null, .null, .int 0, .int 0, .int 0, .int 0, .int 0, .int 0, .null, .null, .int 0, .int 0, .int 0, .int 0])), (q1, .inl (d, 96, .inl (fun _ => 0)))] H := hP
  have hD : va_D A [(o, .inr (0, [.int 0, .null, .null, .null, .null, .null, .null, .null, .int 0, .int 0, .int 0, .int 0, .int 0, .int 0, .null, .null, .int 0, .int 0, .int 0, .int 0])), (q1, .inl (d, 96, .inl (fun _ => 0)))] := hD
  refine W.widen (k := 1) (n := 96) (Nat.le_of_ble_eq_true rfl) (Nat.le_of_ble_eq_true rfl) ?_
  refine va_putF (D := D) (ci := 0) (v := .ref q1) (ty := .array .int) (C := RX0) (T := TX0) (N := 20) hx hb hts in_X0 tyX0 tyX0_ok nmX0 hown hK hP hD hS 0 rfl rfl 1 (by decide) (hts _ q39) (fun _ h9 => h9) rfl hin rfl (by decide +kernel) rfl rfl (Nat.le_of_ble_eq_true rfl) dX0_init_9 (fun H locs hP hD hS => ?_)
  have hP : va_P D vwCl [(o, .inr (0, [.int 0, .ref q1, .null, .null, .null, .null, .null, .null, .int 0, .int 0, .int 0, .int 0, .int 0, .int 0, .null, .null, .int 0, .int 0, .int 0, .int 0])), (q1, .inl (d, 96, .inl (fun _ => 0)))] H := hP
  have hD : va_D A [(o, .inr (0, [.int 0, .ref q1, .null, .null, .null, .null, .null, .null, .int 0, .int 0, .int 0, .int 0, .int 0, .int 0, .null, .null, .int 0, .int 0, .int 0, .int 0])), (q1, .inl (d, 96, .inl (fun _ => 0)))] := hD
  refine lv_aload_n hx hb dX0_init_12 rfl (lv_at hl 0 rfl) ?_
  refine lv_iconst (v := 4) hx hb dX0_init_13 (by decide) ?_
  refine va_newa (atype := .int) hx hb (hts _ q99) (ty := .int) rfl hK hP hD hS hA (N' := 4) (a0 := (4, .inl (fun _ => 0))) (fun _ => rfl) (by decide) (by decide) (by decide) (by show 1 + 1 ≤ 9; decide) (by show 96 + 4 ≤ 152; decide) dX0_init_14 (fun q2 d2 H hK hP hD hS => ?_)
  have e2 := sc_same hK
  subst e2
  have hK : va_K D vwCl [(d, .int)] s := hK.sub [0] rfl
  have hP : va_P D vwCl [(o, .inr (0, [.int 0, .ref q1, .null, .null, .null, .null, .null, .null, .int 0, .int 0, .int 0, .int 0, .int 0, .int 0, .null, .null, .int 0, .int 0, .int 0, .int 0])), (q1, .inl (d, 96, .inl (fun _ => 0))), (q2, .inl (d, 4, .inl (fun _ => 0)))] H := hP
  have hD : va_D A [(o, .inr (0, [.int 0, .ref q1, .null, .null, .null, .null, .null, .null, .int 0, .int 0, .int 0, .int 0, .int 0, .int 0, .null, .null, .int 0, .int 0, .int 0, .int 0])), (q1, .inl (d, 96, .inl (fun _ => 0))), (q2, .inl (d, 4, .inl (fun _ => 0)))] := hD
  refine W.widen (k := 2) (n := 100) (Nat.le_of_ble_eq_true rfl) (Nat.le_of_ble_eq_true rfl) ?_
  refine va_putF (D := D) (ci := 0) (v := .ref q2) (ty := .array .int) (C := RX0) (T := TX0) (N := 20) hx hb hts in_X0 tyX0 tyX0_ok nmX0 hown hK hP hD hS 0 rfl rfl 2 (by decide) (hts _ q40) (fun _ h9 => h9) rfl hin rfl (by decide +kernel) rfl rfl (Nat.le_of_ble_eq_true rfl) dX0_init_16 (fun H locs hP hD hS => ?_)
  have hP : va_P D vwCl [(o, .inr (0, [.int 0, .ref q1, .ref q2, .null, .null, .null, .null, .null, .int 0, .int 0, .int 0, .int 0, .int 0, .int 0, .null, .null, .int 0, .int 0, .int 0, .int 0])), (q1, .inl (d, 96, .inl (fun _ => 0))), (q2, .inl (d, 4, .inl (fun _ => 0)))] H := hP
  have hD : va_D A [(o, .inr (0, [.int 0, .ref q1, .ref q2, .null, .null, .null, .null, .null, .int 0, .int 0, .int 0, .int 0, .int 0, .int 0, .null, .null, .int 0, .int 0, .int 0, .int 0])), (q1, .inl (d, 96, .inl (fun _ => 0))), (q2, .inl (d, 4, .inl (fun _ => 0)))] := hD
  refine lv_aload_n hx hb dX0_init_19 rfl (lv_at hl 0 rfl) ?_
  refine lv_iconst (v := 4) hx hb dX0_init_20 (by decide) ?_
  refine va_newa (atype := .int) hx hb (hts _ q99) (ty := .int) rfl hK hP hD hS hA (N' := 4) (a0 := (4, .inl (fun _ => 0))) (fun _ => rfl) (by decide) (by decide) (by decide) (by show 2 + 1 ≤ 9; decide) (by show 100 + 4 ≤ 152; decide) dX0_init_21 (fun q3 d2 H hK hP hD hS => ?_)
  have e2 := sc_same hK
  subst e2
  have hK : va_K D vwCl [(d, .int)] s := hK.sub [0] rfl
  have hP : va_P D vwCl [(o, .inr (0, [.int 0, .ref q1, .ref q2, .null, .null, .null, .null, .null, .int 0, .int 0, .int 0, .int 0, .int 0, .int 0, .null, .null, .int 0, .int 0, .int 0, .int 0])), (q1, .inl (d, 96, .inl (fun _ => 0))), (q2, .inl (d, 4, .inl (fun _ => 0))), (q3, .inl (d, 4, .inl (fun _ => 0)))] H := hP
  have hD : va_D A [(o, .inr (0, [.int 0, .ref q1, .ref q2, .null, .null, .null, .null, .null, .int 0, .int 0, .int 0, .int 0, .int 0, .int 0, .null, .null, .int 0, .int 0, .int 0, .int 0])), (q1, .inl (d, 96, .inl (fun _ => 0))), (q2, .inl (d, 4, .inl (fun _ => 0))), (q3, .inl (d, 4, .inl (fun _ => 0)))] := hD
  refine W.widen (k := 3) (n := 104) (Nat.le_of_ble_eq_true rfl) (Nat.le_of_ble_eq_true rfl) ?_
  refine va_putF (D := D) (ci := 0) (v := .ref q3) (ty := .array .int) (C := RX0) (T := TX0) (N := 20) hx hb hts in_X0 tyX0 tyX0_ok nmX0 hown hK hP hD hS 0 rfl rfl 3 (by decide) (hts _ q41) (fun _ h9 => h9) rfl hin rfl (by decide +kernel) rfl rfl (Nat.le_of_ble_eq_true rfl) dX0_init_23 (fun H locs hP hD hS => ?_)
  have hP : va_P D vwCl [(o, .inr (0, [.int 0, .ref q1, .ref q2, .ref q3, .null, .null, .null, .null, .int 0, .int 0, .int 0, .int 0, .int 0, .int 0, .null, .null, .int 0, .int 0, .int 0, .int 0])), (q1, .inl (d, 96, .inl (fun _ => 0))), (q2, .inl (d, 4, .inl (fun _ => 0))), (q3, .inl (d, 4, .inl (fun _ => 0)))] H := hP
  have hD : va_D A [(o, .inr (0, [.int 0, .ref q1, .ref q2, .ref q3, .null, .null, .null, .null, .int 0, .int 0, .int 0, .int 0, .int 0, .int 0, .null, .null, .int 0, .int 0, .int 0, .int 0])), (q1, .inl (d, 96, .inl (fun _ => 0))), (q2, .inl (d, 4, .inl (fun _ => 0))), (q3, .inl (d, 4, .inl (fun _ => 0)))] := hD
  refine lv_aload_n hx hb dX0_init_26 rfl (lv_at hl 0 rfl) ?_
  refine lv_iconst (v := 4) hx hb dX0_init_27 (by decide) ?_
  refine va_newa (atype := .int) hx hb (hts _ q99) (ty := .int) rfl hK hP hD hS hA (N' := 4) (a0 := (4, .inl (fun _ => 0))) (fun _ => rfl) (by decide) (by decide) (by decide) (by show 3 + 1 ≤ 9; decide) (by show 104 + 4 ≤ 152; decide) dX0_init_28 (fun q4 d2 H hK hP hD hS => ?_)
  have e2 := sc_same hK
  subst e2
  have hK : va_K D vwCl [(d, .int)] s := hK.sub [0] rfl
  have hP : va_P D vwCl [(o, .inr (0, [.int 0, .ref q1, .ref q2, .ref q3, .null, .null, .null, .null, .int 0, .int 0, .int 0, .int 0, .int 0, .int 0, .null, .null, .int 0, .int 0, .int 0, .int 0])), (q1, .inl (d, 96, .inl (fun _ => 0))), (q2, .inl (d, 4, .inl (fun _ => 0))), (q3, .inl (d, 4, .inl (fun _ => 0))), (q4, .inl (d, 4, .inl (fun _ => 0)))] H := hP
  have hD : va_D A [(o, .inr (0, [.int 0, .ref q1, .ref q2, .ref q3, .null, .null, .null, .null, .int 0, .int 0, .int 0, .int 0, .int 0, .int 0, .null, .null, .int 0, .int 0, .int 0, .int 0])), (q1, .inl (d, 96, .inl (fun _ => 0))), (q2, .inl (d, 4, .inl (fun _ => 0))), (q3, .inl (d, 4, .inl (fun _ => 0))), (q4, .inl (d, 4, .inl (fun _ => 0)))] := hD
  refine W.widen (k := 4) (n := 108) (Nat.le_of_ble_eq_true rfl) (Nat.le_of_ble_eq_true rfl) ?_
  refine va_putF (D := D) (ci := 0) (v := .ref q4) (ty := .array .int) (C := RX0) (T := TX0) (N := 20) hx hb hts in_X0 tyX0 tyX0_ok nmX0 hown hK hP hD hS 0 rfl rfl 4 (by decide) (hts _ q42) (fun _ h9 => h9) rfl hin rfl (by decide +kernel) rfl rfl (Nat.le_of_ble_eq_true rfl) dX0_init_30 (fun H locs hP hD hS => ?_)
  have hP : va_P D vwCl [(o, .inr (0, [.int 0, .ref q1, .ref q2, .ref q3, .ref q4, .null, .null, .null, .int 0, .int 0, .int 0, .int 0, .int 0, .int 0, .null, .null, .int 0, .int 0, .int 0, .int 0])), (q1, .inl (d, 96, .inl (fun _ => 0))), (q2, .inl (d, 4, .inl (fun _ => 0))), (q3, .inl (d, 4, .inl (fun _ => 0))), (q4, .inl (d, 4, .inl (fun _ => 0)))] H := hP
  have hD : va_D A [(o, .inr (0, [.int 0, .ref q1, .ref q2, .ref q3, .ref q4, .null, .null, .null, .int 0, .int 0, .int 0, .int 0, .int 0, .int 0, .null, .null, .int 0, .int 0, .int 0, .int 0])), (q1, .inl (d, 96, .inl (fun _ => 0))), (q2, .inl (d, 4, .inl (fun _ => 0))), (q3, .inl (d, 4, .inl (fun _ => 0))), (q4, .inl (d, 4, .inl (fun _ => 0)))] := hD
  refine lv_aload_n hx hb dX0_init_33 rfl (lv_at hl 0 rfl) ?_
  refine lv_iconst (v := 4) hx hb dX0_init_34 (by decide) ?_
  refine va_newa (atype := .int) hx hb (hts _ q99) (ty := .int) rfl hK hP hD hS hA (N' := 4) (a0 := (4, .inl (fun _ => 0))) (fun _ => rfl) (by decide) (by decide) (by decide) (by show 4 + 1 ≤ 9; decide) (by show 108 + 4 ≤ 152; decide) dX0_init_35 (fun q5 d2 H hK hP hD hS => ?_)
  have e2 := sc_same hK
  subst e2
  have hK : va_K D vwCl [(d, .int)] s := hK.sub [0] rfl
  have hP : va_P D vwCl [(o, .inr (0, [.int 0, .ref q1, .ref q2, .ref q3, .ref q4, .null, .null, .null, .int 0, .int 0, .int 0, .int 0, .int 0, .int 0, .null, .null, .int 0, .int 0, .int 0, .int 0])), (q1, .inl (d, 96, .inl (fun _ => 0))), (q2, .inl (d, 4, .inl (fun _ => 0))), (q3, .inl (d, 4, .inl (fun _ => 0))), (q4, .inl (d, 4, .inl (fun _ => 0))), (q5, .inl (d, 4, .inl (fun _ => 0)))] H := hP
  have hD : va_D A [(o, .inr (0, [.int 0, .ref q1, .ref q2, .ref q3, .ref q4, .null, .null, .null, .int 0, .int 0, .int 0, .int 0, .int 0, .int 0, .null, .null, .int 0, .int 0, .int 0, .int 0])), (q1, .inl (d, 96, .inl (fun _ => 0))), (q2, .inl (d, 4, .inl (fun _ => 0))), (q3, .inl (d, 4, .inl (fun _ => 0))), (q4, .inl (d, 4, .inl (fun _ => 0))), (q5, .inl (d, 4, .inl (fun _ => 0)))] := hD
  refine W.widen (k := 5) (n := 112) (Nat.le_of_ble_eq_true rfl) (Nat.le_of_ble_eq_true rfl) ?_
  refine va_putF (D := D) (ci := 0) (v := .ref q5) (ty := .array .int) (C := RX0) (T := TX0) (N := 20) hx hb hts in_X0 tyX0 tyX0_ok nmX0 hown hK hP hD hS 0 rfl rfl 5 (by decide) (hts _ q43) (fun _ h9 => h9) rfl hin rfl (by decide +kernel) rfl rfl (Nat.le_of_ble_eq_true rfl) dX0_init_37 (fun H locs hP hD hS => ?_)
  have hP : va_P D vwCl [(o, .inr (0, [.int 0, .ref q1, .ref q2, .ref q3, .ref q4, .ref q5, .null, .null, .int 0, .int 0, .int 0, .int 0, .int 0, .int 0, .null, .null, .int 0, .int 0, .int 0, .int 0])), (q1, .inl (d, 96, .inl (fun _ => 0))), (q2, .inl (d, 4, .inl (fun _ => 0))), (q3, .inl (d, 4, .inl (fun _ => 0))), (q4, .inl (d, 4, .inl (fun _ => 0))), (q5, .inl (d, 4, .inl (fun _ => 0)))] H := hP
  have hD : va_D A [(o, .inr (0, [.int 0, .ref q1, .ref q2, .ref q3, .ref q4, .ref q5, .null, .null, .int 0, .int 0, .int 0, .int 0, .int 0, .int 0, .null, .null, .int 0, .int 0, .int 0, .int 0])), (q1, .inl (d, 96, .inl (fun _ => 0))), (q2, .inl (d, 4, .inl (fun _ => 0))), (q3, .inl (d, 4, .inl (fun _ => 0))), (q4, .inl (d, 4, .inl (fun _ => 0))), (q5, .inl (d, 4, .inl (fun _ => 0)))] := hD
  refine lv_aload_n hx hb dX0_init_40 rfl (lv_at hl 0 rfl) ?_
  refine lv_iconst (v := 4) hx hb dX0_init_41 (by decide) ?_
  refine va_newa (atype := .int) hx hb (hts _ q99) (ty := .int) rfl hK hP hD hS hA (N' := 4) (a0 := (4, .inl (fun _ => 0))) (fun _ => rfl) (by decide) (by decide) (by decide) (by show 5 + 1 ≤ 9; decide) (by show 112 + 4 ≤ 152; decide) dX0_init_42 (fun q6 d2 H hK hP hD hS => ?_)
  have e2 := sc_same hK
  subst e2
  have hK : va_K D vwCl [(d, .int)] s := hK.sub [0] rfl
  have hP : va_P D vwCl [(o, .inr (0, [.int 0, .ref q1, .ref q2, .ref q3, .ref q4, .ref q5, .null, .null, .int 0, .int 0, .int 0, .int 0, .int 0, .int 0, .null, .null, .int 0, .int 0, .int 0, .int 0])), (q1, .inl (d, 96, .inl (fun _ => 0))), (q2, .inl (d, 4, .inl (fun _ => 0))), (q3, .inl (d, 4, .inl (fun _ => 0))), (q4, .inl (d, 4, .inl (fun _ => 0))), (q5, .inl (d, 4, .inl (fun _ => 0))), (q6, .inl (d, 4, .inl (fun _ => 0)))] H := hP
  have hD : va_D A [(o, .inr (0, [.int 0, .ref q1, .ref q2, .ref q3, .ref q4, .ref q5, .null, .null, .int 0, .int 0, .int 0, .int 0, .int 0, .int 0, .null, .null, .int 0, .int 0, .int 0, .int 0])), (q1, .inl (d, 96, .inl (fun _ => 0))), (q2, .inl (d, 4, .inl (fun _ => 0))), (q3, .inl (d, 4, .inl (fun _ => 0))), (q4, .inl (d, 4, .inl (fun _ => 0))), (q5, .inl (d, 4, .inl (fun _ => 0))), (q6, .inl (d, 4, .inl (fun _ => 0)))] := hD
  refine W.widen (k := 6) (n := 116) (Nat.le_of_ble_eq_true rfl) (Nat.le_of_ble_eq_true rfl) ?_
  refine va_putF (D := D) (ci := 0) (v := .ref q6) (ty := .array .int) (C := RX0) (T := TX0) (N := 20) hx hb hts in_X0 tyX0 tyX0_ok nmX0 hown hK hP hD hS 0 rfl rfl 6 (by decide) (hts _ q44) (fun _ h9 => h9) rfl hin rfl (by decide +kernel) rfl rfl (Nat.le_of_ble_eq_true rfl) dX0_init_44 (fun H locs hP hD hS => ?_)
  have hP : va_P D vwCl [(o, .inr (0, [.int 0, .ref q1, .ref q2, .ref q3, .ref q4, .ref q5, .ref q6, .null, .int 0, .int 0, .int 0, .int 0, .int 0, .int 0, .null, .null, .int 0, .int 0, .int 0, .int 0])), (q1, .inl (d, 96, .inl (fun _ => 0))), (q2, .inl (d, 4, .inl (fun _ => 0))), (q3, .inl (d, 4, .inl (fun _ => 0))), (q4, .inl (d, 4, .inl (fun _ => 0))), (q5, .inl (d, 4, .inl (fun _ => 0))), (q6, .inl (d, 4, .inl (fun _ => 0)))] H := hP
  have hD : va_D A [(o, .inr (0, [.int 0, .ref q1, .ref q2, .ref q3, .ref q4, .ref q5, .ref q6, .null, .int 0, .int 0, .int 0, .int 0, .int 0, .int 0, .null, .null, .int 0, .int 0, .int 0, .int 0])), (q1, .inl (d, 96, .inl (fun _ => 0))), (q2, .inl (d, 4, .inl (fun _ => 0))), (q3, .inl (d, 4, .inl (fun _ => 0))), (q4, .inl (d, 4, .inl (fun _ => 0))), (q5, .inl (d, 4, .inl (fun _ => 0))), (q6, .inl (d, 4, .inl (fun _ => 0)))] := hD
  refine lv_aload_n hx hb dX0_init_47 rfl (lv_at hl 0 rfl) ?_
  refine lv_iconst (v := 4) hx hb dX0_init_48 (by decide) ?_
  refine va_newa (atype := .int) hx hb (hts _ q99) (ty := .int) rfl hK hP hD hS hA (N' := 4) (a0 := (4, .inl (fun _ => 0))) (fun _ => rfl) (by decide) (by decide) (by decide) (by show 6 + 1 ≤ 9; decide) (by show 116 + 4 ≤ 152; decide) dX0_init_49 (fun q7 d2 H hK hP hD hS => ?_)
  have e2 := sc_same hK
  subst e2
  have hK : va_K D vwCl [(d, .int)] s := hK.sub [0] rfl
  have hP : va_P D vwCl [(o, .inr (0, [.int 0, .ref q1, .ref q2, .ref q3, .ref q4, .ref q5, .ref q6, .null, .int 0, .int 0, .int 0, .int 0, .int 0, .int 0, .null, .null, .int 0, .int 0, .int 0, .int 0])), (q1, .inl (d, 96, .inl (fun _ => 0))), (q2, .inl (d, 4, .inl (fun _ => 0))), (q3, .inl (d, 4, .inl (fun _ => 0))), (q4, .inl (d, 4, .inl (fun _ => 0))), (q5, .inl (d, 4, .inl (fun _ => 0))), (q6, .inl (d, 4, .inl (fun _ => 0))), (q7, .inl (d, 4, .inl (fun _ => 0)))] H := hP
  have hD : va_D A [(o, .inr (0, [.int 0, .ref q1, .ref q2, .ref q3, .ref q4, .ref q5, .ref q6, .null, .int 0, .int 0, .int 0, .int 0, .int 0, .int 0, .null, .null, .int 0, .int 0, .int 0, .int 0])), (q1, .inl (d, 96, .inl (fun _ => 0))), (q2, .inl (d, 4, .inl (fun _ => 0))), (q3, .inl (d, 4, .inl (fun _ => 0))), (q4, .inl (d, 4, .inl (fun _ => 0))), (q5, .inl (d, 4, .inl (fun _ => 0))), (q6, .inl (d, 4, .inl (fun _ => 0))), (q7, .inl (d, 4, .inl (fun _ => 0)))] := hD
  refine W.widen (k := 7) (n := 120) (Nat.le_of_ble_eq_true rfl) (Nat.le_of_ble_eq_true rfl) ?_
  refine va_putF (D := D) (ci := 0) (v := .ref q7) (ty := .array .int) (C := RX0) (T := TX0) (N := 20) hx hb hts in_X0 tyX0 tyX0_ok nmX0 hown hK hP hD hS 0 rfl rfl 7 (by decide) (hts _ q45) (fun _ h9 => h9) rfl hin rfl (by decide +kernel) rfl rfl (Nat.le_of_ble_eq_true rfl) dX0_init_51 (fun H locs hP hD hS => ?_)
  have hP : va_P D vwCl [(o, .inr (0, [.int 0, .ref q1, .ref q2, .ref q3, .ref q4, .ref q5, .ref q6, .ref q7, .int 0, .int 0, .int 0, .int 0, .int 0, .int 0, .null, .null, .int 0, .int 0, .int 0, .int 0])), (q1, .inl (d, 96, .inl (fun _ => 0))), (q2, .inl (d, 4, .inl (fun _ => 0))), (q3, .inl (d, 4, .inl (fun _ => 0))), (q4, .inl (d, 4, .inl (fun _ => 0))), (q5, .inl (d, 4, .inl (fun _ => 0))), (q6, .inl (d, 4, .inl (fun _ => 0))), (q7, .inl (d, 4, .inl (fun _ => 0)))] H := hP
  have hD : va_D A [(o, .inr (0, [.int 0, .ref q1, .ref q2, .ref q3, .ref q4, .ref q5, .ref q6, .ref q7, .int 0, .int 0, .int 0, .int 0, .int 0, .int 0, .null, .null, .int 0, .int 0, .int 0, .int 0])), (q1, .inl (d, 96, .inl (fun _ => 0))), (q2, .inl (d, 4, .inl (fun _ => 0))), (q3, .inl (d, 4, .inl (fun _ => 0))), (q4, .inl (d, 4, .inl (fun _ => 0))), (q5, .inl (d, 4, .inl (fun _ => 0))), (q6, .inl (d, 4, .inl (fun _ => 0))), (q7, .inl (d, 4, .inl (fun _ => 0)))] := hD
  refine lv_aload_n hx hb dX0_init_54 rfl (lv_at hl 0 rfl) ?_
  refine lv_bipush (v := 16) hx hb dX0_init_55 (by decide) ?_
  refine va_newa (atype := .int) hx hb (hts _ q99) (ty := .int) rfl hK hP hD hS hA (N' := 16) (a0 := (16, .inl (fun _ => 0))) (fun _ => rfl) (by decide) (by decide) (by decide) (by show 7 + 1 ≤ 9; decide) (by show 120 + 16 ≤ 152; decide) dX0_init_57 (fun q8 d2 H hK hP hD hS => ?_)
  have e2 := sc_same hK
  subst e2
  have hK : va_K D vwCl [(d, .int)] s := hK.sub [0] rfl
  have hP : va_P D vwCl [(o, .inr (0, [.int 0, .ref q1, .ref q2, .ref q3, .ref q4, .ref q5, .ref q6, .ref q7, .int 0, .int 0, .int 0, .int 0, .int 0, .int 0, .null, .null, .int 0, .int 0, .int 0, .int 0])), (q1, .inl (d, 96, .inl (fun _ => 0))), (q2, .inl (d, 4, .inl (fun _ => 0))), (q3, .inl (d, 4, .inl (fun _ => 0))), (q4, .inl (d, 4, .inl (fun _ => 0))), (q5, .inl (d, 4, .inl (fun _ => 0))), (q6, .inl (d, 4, .inl (fun _ => 0))), (q7, .inl (d, 4, .inl (fun _ => 0))), (q8, .inl (d, 16, .inl (fun _ => 0)))] H := hP
  have hD : va_D A [(o, .inr (0, [.int 0, .ref q1, .ref q2, .ref q3, .ref q4, .ref q5, .ref q6, .ref q7, .int 0, .int 0, .int 0, .int 0, .int 0, .int 0, .null, .null, .int 0, .int 0, .int 0, .int 0])), (q1, .inl (d, 96, .inl (fun _ => 0))), (q2, .inl (d, 4, .inl (fun _ => 0))), (q3, .inl (d, 4, .inl (fun _ => 0))), (q4, .inl (d, 4, .inl (fun _ => 0))), (q5, .inl (d, 4, .inl (fun _ => 0))), (q6, .inl (d, 4, .inl (fun _ => 0))), (q7, .inl (d, 4, .inl (fun _ => 0))), (q8, .inl (d, 16, .inl (fun _ => 0)))] := hD
  refine W.widen (k := 8) (n := 136) (Nat.le_of_ble_eq_true rfl) (Nat.le_of_ble_eq_true rfl) ?_
  refine va_putF (D := D) (ci := 0) (v := .ref q8) (ty := .array .int) (C := RX0) (T := TX0) (N := 20) hx hb hts in_X0 tyX0 tyX0_ok nmX0 hown hK hP hD hS 0 rfl rfl 14 (by decide) (hts _ q52) (fun _ h9 => h9) rfl hin rfl (by decide +kernel) rfl rfl (Nat.le_of_ble_eq_true rfl) dX0_init_59 (fun H locs hP hD hS => ?_)
  have hP : va_P D vwCl [(o, .inr (0, [.int 0, .ref q1, .ref q2, .ref q3, .ref q4, .ref q5, .ref q6, .ref q7, .int 0, .int 0, .int 0, .int 0, .int 0, .int 0, .ref q8, .null, .int 0, .int 0, .int 0, .int 0])), (q1, .inl (d, 96, .inl (fun _ => 0))), (q2, .inl (d, 4, .inl (fun _ => 0))), (q3, .inl (d, 4, .inl (fun _ => 0))), (q4, .inl (d, 4, .inl (fun _ => 0))), (q5, .inl (d, 4, .inl (fun _ => 0))), (q6, .inl (d, 4, .inl (fun _ => 0))), (q7, .inl (d, 4, .inl (fun _ => 0))), (q8, .inl (d, 16, .inl (fun _ => 0)))] H := hP
  have hD : va_D A [(o, .inr (0, [.int 0, .ref q1, .ref q2, .ref q3, .ref q4, .ref q5, .ref q6, .ref q7, .int 0, .int 0, .int 0, .int 0, .int 0, .int 0, .ref q8, .null, .int 0, .int 0, .int 0, .int 0])), (q1, .inl (d, 96, .inl (fun _ => 0))), (q2, .inl (d, 4, .inl (fun _ => 0))), (q3, .inl (d, 4, .inl (fun _ => 0))), (q4, .inl (d, 4, .inl (fun _ => 0))), (q5, .inl (d, 4, .inl (fun _ => 0))), (q6, .inl (d, 4, .inl (fun _ => 0))), (q7, .inl (d, 4, .inl (fun _ => 0))), (q8, .inl (d, 16, .inl (fun _ => 0)))] := hD
  refine lv_aload_n hx hb dX0_init_62 rfl (lv_at hl 0 rfl) ?_
  refine lv_bipush (v := 16) hx hb dX0_init_63 (by decide) ?_
  refine va_newa (atype := .int) hx hb (hts _ q99) (ty := .int) rfl hK hP hD hS hA (N' := 16) (a0 := (16, .inl (fun _ => 0))) (fun _ => rfl) (by decide) (by decide) (by decide) (by show 8 + 1 ≤ 9; decide) (by show 136 + 16 ≤ 152; decide) dX0_init_65 (fun q9 d2 H hK hP hD hS => ?_)
  have e2 := sc_same hK
  subst e2
  have hK : va_K D vwCl [(d, .int)] s := hK.sub [0] rfl
  have hP : va_P D vwCl [(o, .inr (0, [.int 0, .ref q1, .ref q2, .ref q3, .ref q4, .ref q5, .ref q6, .ref q7, .int 0, .int 0, .int 0, .int 0, .int 0, .int 0, .ref q8, .null, .int 0, .int 0, .int 0, .int 0])), (q1, .inl (d, 96, .inl (fun _ => 0))), (q2, .inl (d, 4, .inl (fun _ => 0))), (q3, .inl (d, 4, .inl (fun _ => 0))), (q4, .inl (d, 4, .inl (fun _ => 0))), (q5, .inl (d, 4, .inl (fun _ => 0))), (q6, .inl (d, 4, .inl (fun _ => 0))), (q7, .inl (d, 4, .inl (fun _ => 0))), (q8, .inl (d, 16, .inl (fun _ => 0))), (q9, .inl (d, 16, .inl (fun _ => 0)))] H := hP
  have hD : va_D A [(o, .inr (0, [.int 0, .ref q1, .ref q2, .ref q3, .ref q4, .ref q5, .ref q6, .ref q7, .int 0, .int 0, .int 0, .int 0, .int 0, .int 0, .ref q8, .null, .int 0, .int 0, .int 0, .int 0])), (q1, .inl (d, 96, .inl (fun _ => 0))), (q2, .inl (d, 4, .inl (fun _ => 0))), (q3, .inl (d, 4, .inl (fun _ => 0))), (q4, .inl (d, 4, .inl (fun _ => 0))), (q5, .inl (d, 4, .inl (fun _ => 0))), (q6, .inl (d, 4, .inl (fun _ => 0))), (q7, .inl (d, 4, .inl (fun _ => 0))), (q8, .inl (d, 16, .inl (fun _ => 0))), (q9, .inl (d, 16, .inl (fun _ => 0)))] := hD
  refine W.widen (k := 9) (n := 152) (Nat.le_of_ble_eq_true rfl) (Nat.le_of_ble_eq_true rfl) ?_
  refine va_putF (D := D) (ci := 0) (v := .ref q9) (ty := .array .int) (C := RX0) (T := TX0) (N := 20) hx hb hts in_X0 tyX0 tyX0_ok nmX0 hown hK hP hD hS 0 rfl rfl 15 (by decide) (hts _ q53) (fun _ h9 => h9) rfl hin rfl (by decide +kernel) rfl rfl (Nat.le_of_ble_eq_true rfl) dX0_init_67 (fun H locs hP hD hS => ?_)
  have hP : va_P D vwCl [(o, .inr (0, [.int 0, .ref q1, .ref q2, .ref q3, .ref q4, .ref q5, .ref q6, .ref q7, .int 0, .int 0, .int 0, .int 0, .int 0, .int 0, .ref q8, .ref q9, .int 0, .int 0, .int 0, .int 0])), (q1, .inl (d, 96, .inl (fun _ => 0))), (q2, .inl (d, 4, .inl (fun _ => 0))), (q3, .inl (d, 4, .inl (fun _ => 0))), (q4, .inl (d, 4, .inl (fun _ => 0))), (q5, .inl (d, 4, .inl (fun _ => 0))), (q6, .inl (d, 4, .inl (fun _ => 0))), (q7, .inl (d, 4, .inl (fun _ => 0))), (q8, .inl (d, 16, .inl (fun _ => 0))), (q9, .inl (d, 16, .inl (fun _ => 0)))] H := hP
  have hD : va_D A [(o, .inr (0, [.int 0, .ref q1, .ref q2, .ref q3, .ref q4, .ref q5, .ref q6, .ref q7, .int 0, .int 0, .int 0, .int 0, .int 0, .int 0, .ref q8, .ref q9, .int 0, .int 0, .int 0, .int 0])), (q1, .inl (d, 96, .inl (fun _ => 0))), (q2, .inl (d, 4, .inl (fun _ => 0))), (q3, .inl (d, 4, .inl (fun _ => 0))), (q4, .inl (d, 4, .inl (fun _ => 0))), (q5, .inl (d, 4, .inl (fun _ => 0))), (q6, .inl (d, 4, .inl (fun _ => 0))), (q7, .inl (d, 4, .inl (fun _ => 0))), (q8, .inl (d, 16, .inl (fun _ => 0))), (q9, .inl (d, 16, .inl (fun _ => 0)))] := hD
  refine lv_aload_n hx hb dX0_init_70 rfl (lv_at hl 0 rfl) ?_
  refine lv_iconst (v := -1) hx hb dX0_init_71 (by decide) ?_
  refine va_put (D := D) (ci := 0) (v := .int (-1)) (ty := .int) (C := RX0) (T := TX0) (N := 20) hx hb hts in_X0 tyX0 tyX0_ok nmX0 hown hK hP hD hS 0 rfl rfl 10 (by decide) (hts _ q48) (fun _ h9 => h9) rfl (by decide +kernel) rfl rfl (Nat.le_of_ble_eq_true rfl) dX0_init_72 (fun H locs hP hD hS => ?_)
  have hP : va_P D vwCl [(o, .inr (0, [.int 0, .ref q1, .ref q2, .ref q3, .ref q4, .ref q5, .ref q6, .ref q7, .int 0, .int 0, .int (-1), .int 0, .int 0, .int 0, .ref q8, .ref q9, .int 0, .int 0, .int 0, .int 0])), (q1, .inl (d, 96, .inl (fun _ => 0))), (q2, .inl (d, 4, .inl (fun _ => 0))), (q3, .inl (d, 4, .inl (fun _ => 0))), (q4, .inl (d, 4, .inl (fun _ => 0))), (q5, .inl (d, 4, .inl (fun _ => 0))), (q6, .inl (d, 4, .inl (fun _ => 0))), (q7, .inl (d, 4, .inl (fun _ => 0))), (q8, .inl (d, 16, .inl (fun _ => 0))), (q9, .inl (d, 16, .inl (fun _ => 0)))] H := hP
  have hD : va_D A [(o, .inr (0, [.int 0, .ref q1, .ref q2, .ref q3, .ref q4, .ref q5, .ref q6, .ref q7, .int 0, .int 0, .int (-1), .int 0, .int 0, .int 0, .ref q8, .ref q9, .int 0, .int 0, .int 0, .int 0])), (q1, .inl (d, 96, .inl (fun _ => 0))), (q2, .inl (d, 4, .inl (fun _ => 0))), (q3, .inl (d, 4, .inl (fun _ => 0))), (q4, .inl (d, 4, .inl (fun _ => 0))), (q5, .inl (d, 4, .inl (fun _ => 0))), (q6, .inl (d, 4, .inl (fun _ => 0))), (q7, .inl (d, 4, .inl (fun _ => 0))), (q8, .inl (d, 16, .inl (fun _ => 0))), (q9, .inl (d, 16, .inl (fun _ => 0)))] := hD
  have hP9 : va_P D vwCl (xw0 (fun k => match k with | 1 => q1 | 2 => q2 | 3 => q3 | 4 => q4 | 5 => q5 | 6 => q6 | 7 => q7 | 14 => q8 | 15 => q9 | _ => o) d if0 ia0) H := hP
  have hD9 : va_D A (xw0 (fun k => match k with | 1 => q1 | 2 => q2 | 3 => q3 | 4 => q4 | 5 => q5 | 6 => q6 | 7 => q7 | 14 => q8 | 15 => q9 | _ => o) d if0 ia0) := hD
  exact W.vret hx hb hr (fun t ht hW => ⟨⟨(d, fun k => match k with | 1 => q1 | 2 => q2 | 3 => q3 | 4 => q4 | 5 => q5 | 6 => q6 | 7 => q7 | 14 => q8 | 15 => q9 | _ => o), rfl, rfl, by rw [ht]; exact hP9, va_K.moved hW.alike hK, hD9⟩, hS.F ht⟩) hS.2.2 dX0_init_75
abbrev fs1 : List Value := [.null, .null, .int 0, .int 0, .int 0]
def if1 : Nat → Int32 := (fun _ => 0)
def ia1 : Nat → Nat → Int32 := fun _ _ => 0
/-- what new leaves, and its constructor makes of it -/
theorem c1_init (l : Launch) (D : va_G) (o sz : Nat) : Met l yX1_init (ws_ yX1_init cX1_init 1 none) ({ frames := 1, cells := 2, slots := 128, locals := 12 }) (va_Pc [.ref o] (fun U => U.heap.size = sz ∧ va_P D vwCl [(o, .inr (1, fs1))] U.heap ∧ va_K D vwCl [] U ∧ va_D (fun _ => True) [(o, .inr (1, fs1))])) (va_Qv (fun (u : ClassId × (Nat → Nat)) => u.2 5 = o) (fun u t => va_P D vwCl (xw1 u.2 u.1 if1 ia1) t.heap ∧ va_K D vwCl [(u.1, .int)] t ∧ va_D (va_A [(o, .inr (1, fs1))] sz) (xw1 u.2 u.1 if1 ia1)) (va_A [(o, .inr (1, fs1))] sz)) 2 128 (va_A [(o, .inr (1, fs1))] sz) := by
  refine Met.ofW (cc := cX1_init) (maxL := 1) (ret := none) (by decide) rfl ?_
  intro p e s m args below meth c s₁ B hml hv
  obtain ⟨rfl, hsz, hP, hK, hD0⟩ := hv
  have hx := B.exec
  have hb := B.bytes
  have hr := B.returns
  have hts := atoms_spec (ws := ws_ yX1_init cX1_init 1 none) B.pre
  have hts : ∀ w ∈ lw_all, w.before _ s = true := fun w h => hts w (List.mem_cons_of_mem _ h)
  have hown : s.vm.findClass RX1 = some m.cls := findClass_of_methodNamed B.named
  have hlocks := B.notSynchronized
  have hin : meth.name = "<init>" := (name_of_methodNamed B.named B.method).1
  subst hsz
  have hD := hD0.self (sz := s.heap.size)
  generalize hAe : va_A [(o, .inr (1, fs1))] s.heap.size = A at hD ⊢
  have hA : ∀ q : Nat, s.heap.size ≤ q → A q := fun q h => by rw [← hAe]; exact Or.inr h
  have hS : va_S A s.heap s.heap [] := va_S.rf
  have hP : va_P D vwCl [(o, .inr (1, fs1))] s.heap := hP
  have hl := lv_entry ([.ref o]) (n := 1) (Nat.le_of_ble_eq_true rfl)
  rw [lg_entry_eq]
  generalize (lg_sl ([.ref o]) ++ List.replicate (1 - (lg_sl ([.ref o])).length) Slot.unset).toArray = ls at hl ⊢
  have hl : lv_has ls 1 [(0, .ref o)] := hl
  refine lv_aload_n hx hb dX1_init_0 rfl (lv_at hl 0 rfl) ?_
  refine W.objInit hx hb hown (hts _ q257) (hts _ q36) (hts _ q37) rfl (by rw [hml]; exact hl.1) rfl dX1_init_1 (Nat.le_of_ble_eq_true rfl) (Nat.le_of_ble_eq_true rfl) ?_
  refine W.eq (g2 := F0 m 4 ls []) rfl ?_
  refine lv_aload_n hx hb dX1_init_4 rfl (lv_at hl 0 rfl) ?_
  refine lv_bipush (v := 64) hx hb dX1_init_5 (by decide) ?_
  refine va_newa (atype := .int) hx hb (hts _ q99) (ty := .int) rfl hK hP hD hS hA (N' := 64) (a0 := (64, .inl (fun _ => 0))) (fun _ => rfl) (by decide) (by decide) (by decide) (by show 0 + 1 ≤ 2; decide) (by show 0 + 64 ≤ 128; decide) dX1_init_7 (fun q1 d H hK hP hD hS => ?_)
  have hK : va_K D vwCl [(d, .int)] s := hK.sub [0] rfl
  have hP : va_P D vwCl [(o, .inr (1, [.null, .null, .int 0, .int 0, .int 0])), (q1, .inl (d, 64, .inl (fun _ => 0)))] H := hP
  have hD : va_D A [(o, .inr (1, [.null, .null, .int 0, .int 0, .int 0])), (q1, .inl (d, 64, .inl (fun _ => 0)))] := hD
  refine W.widen (k := 1) (n := 64) (Nat.le_of_ble_eq_true rfl) (Nat.le_of_ble_eq_true rfl) ?_
  refine va_putF (D := D) (ci := 1) (v := .ref q1) (ty := .array .int) (C := RX1) (T := TX1) (N := 5) hx hb hts in_X1 tyX1 tyX1_ok nmX1 hown hK hP hD hS 0 rfl rfl 0 (by decide) (hts _ q258) (fun _ h9 => h9) rfl hin rfl (by decide +kernel) rfl rfl (Nat.le_of_ble_eq_true rfl) dX1_init_9 (fun H locs hP hD hS => ?_)
  have hP : va_P D vwCl [(o, .inr (1, [.ref q1, .null, .int 0, .int 0, .int 0])), (q1, .inl (d, 64, .inl (fun _ => 0)))] H := hP
  have hD : va_D A [(o, .inr (1, [.ref q1, .null, .int 0, .int 0, .int 0])), (q1, .inl (d, 64, .inl (fun _ => 0)))] := hD
  refine lv_aload_n hx hb dX1_init_12 rfl (lv_at hl 0 rfl) ?_
  refine lv_bipush (v := 64) hx hb dX1_init_13 (by decide) ?_
  refine va_newa (atype := .int) hx hb (hts _ q99) (ty := .int) rfl hK hP hD hS hA (N' := 64) (a0 := (64, .inl (fun _ => 0))) (fun _ => rfl) (by decide) (by decide) (by decide) (by show 1 + 1 ≤ 2; decide) (by show 64 + 64 ≤ 128; decide) dX1_init_15 (fun q2 d2 H hK hP hD hS => ?_)
  have e2 := sc_same hK
  subst e2
  have hK : va_K D vwCl [(d, .int)] s := hK.sub [0] rfl
  have hP : va_P D vwCl [(o, .inr (1, [.ref q1, .null, .int 0, .int 0, .int 0])), (q1, .inl (d, 64, .inl (fun _ => 0))), (q2, .inl (d, 64, .inl (fun _ => 0)))] H := hP
  have hD : va_D A [(o, .inr (1, [.ref q1, .null, .int 0, .int 0, .int 0])), (q1, .inl (d, 64, .inl (fun _ => 0))), (q2, .inl (d, 64, .inl (fun _ => 0)))] := hD
  refine W.widen (k := 2) (n := 128) (Nat.le_of_ble_eq_true rfl) (Nat.le_of_ble_eq_true rfl) ?_
  refine va_putF (D := D) (ci := 1) (v := .ref q2) (ty := .array .int) (C := RX1) (T := TX1) (N := 5) hx hb hts in_X1 tyX1 tyX1_ok nmX1 hown hK hP hD hS 0 rfl rfl 1 (by decide) (hts _ q259) (fun _ h9 => h9) rfl hin rfl (by decide +kernel) rfl rfl (Nat.le_of_ble_eq_true rfl) dX1_init_17 (fun H locs hP hD hS => ?_)
  have hP : va_P D vwCl [(o, .inr (1, [.ref q1, .ref q2, .int 0, .int 0, .int 0])), (q1, .inl (d, 64, .inl (fun _ => 0))), (q2, .inl (d, 64, .inl (fun _ => 0)))] H := hP
  have hD : va_D A [(o, .inr (1, [.ref q1, .ref q2, .int 0, .int 0, .int 0])), (q1, .inl (d, 64, .inl (fun _ => 0))), (q2, .inl (d, 64, .inl (fun _ => 0)))] := hD
  have hP9 : va_P D vwCl (xw1 (fun k => match k with | 0 => q1 | 1 => q2 | _ => o) d if1 ia1) H := hP
  have hD9 : va_D A (xw1 (fun k => match k with | 0 => q1 | 1 => q2 | _ => o) d if1 ia1) := hD
  exact W.vret hx hb hr (fun t ht hW => ⟨⟨(d, fun k => match k with | 0 => q1 | 1 => q2 | _ => o), rfl, rfl, by rw [ht]; exact hP9, va_K.moved hW.alike hK, hD9⟩, hS.F ht⟩) hS.2.2 dX1_init_20
end
section
set_option maxRecDepth 100000
/-! THE CLAIM OUT OF ONE WALK OF THE LAW'S BODY. Your part is whole_start (and what it stands on); all else here is the same for every law, but numbers. -/
def R_law : String := "SeriesCodecLaw"
def lw_P (b : Addr) (xs : List Int32) (args : Array Value) (s : State) : Prop := args = #[.ref b] ∧ s.IntsAt b xs ∧ xs.length ≤ 320 ∧ (Jvm.Cond.and given_1 narrow_1).before args s = true
def lw_Q (_ : Array Value) (s : State) (o : Outcome) (t : State) : Prop := o = .returned (some (.int 1)) ∧ Framed s o t [] 600000 7290000
def lw_Z (below : List Frame) (a : Array Value) (s : State) : State → Prop := fun t => ∃ o, t.status = .running ∧ Ended t below o ∧ lw_Q a s o t
/-- the law's own end, with 1 on the stack, nothing written that was there before, its room as the claim has it -/
theorem lw_ret {p : Program} {l : Launch} {e : Env} {s : State} {m : MethodId} {below : List Frame} {meth : Method} {c : Code} {b : Nat} (hx : p.tables.exec = Jvm.exec) (hb : c.code = code) (hr : meth.sig.returnType = ret) (hlocks : meth.locks = false) {pc : Nat} {H : Heap} {ls : Array Slot} (hdg : decode code pc = .ok (.ireturn, 1)) : W p l e room_1 s m #[Value.ref b] below meth c H [] 600000 7290000 (lw_Z below #[Value.ref b] s) (F0 m pc ls [.int 1]) := by
  intro T hT X
  obtain ⟨fs, hret, hrun, hended, hW, hframe⟩ := X.leave (v := some (.int 1)) (hlocks := hlocks) (fun h => by rw [hr] at h; cases h)
  have hmeth' : T.vm.method? m = some meth := X.method'
  refine ⟨T.setFrames fs, ?_, .returned (some (.int 1)), hrun, hended, rfl, ⟨_, rfl⟩, hW, hframe⟩
  jvm_step X.here [X.here.top, hx, hb, hdg, hmeth', hr, ret, narrow_b1]
  (try refine ⟨rfl, ?_⟩); (try refine ⟨rfl, ?_⟩)
  first | (intro acts; rw [hret _ acts rfl rfl rfl]) | rw [hret _ _ rfl rfl rfl]
  exact Steps.refl _
/-- what holds at the law's entry: the machine, the code, the tables' words (any of lw_tbl by 'hts w (by decide +kernel)'), the script of L ints xs at the cell b, what the Statement gives of the start (any of its parts by flat_of_before) -/
def lw_At (p : Program) (s : State) (m : MethodId) (meth : Method) (c : Code) (b L : Nat) (xs : Nat → Int32) : Prop :=
  p.tables.exec = Jvm.exec ∧ c.code = code ∧ meth.sig.returnType = ret ∧ c.maxLocals = 4 ∧ s.vm.findClass R_law = some m.cls ∧ (∀ w ∈ lw_tbl, w.before #[Value.ref b] s = true) ∧ va_X b L xs s s.heap ∧ b < s.heap.size ∧ meth.locks = false ∧ (Jvm.Cond.and given_1 narrow_1).before #[Value.ref b] s = true
def sc_X (K : sc_K) (b L : Nat) (xs : Nat → Int32) : Prop := match K with
  | (_, _, _, _, s, _, _, _, _, _, A, _, _, _, _, _) => va_X b L xs s s.heap ∧ b < s.heap.size ∧ ¬ A b
section LR
variable {K : sc_K} {cc : ByteArray} {own : String} {d : ClassId} {nl dp : Nat} {ws : va_W} {pc : Nat} {lv : List (Nat × Value)} {st : List Value}
theorem sc_sld (hC : sc_C K cc own d nl dp) {b L : Nat} {xs : Nat → Int32} (hX : sc_X K b L xs) (hL : L < 2147483648) (j : Nat) {i : Int32} (hi : i = nI j) (hj : j < L) (hd : decode cc pc = .ok (.iaload, 1)) (kk : sc_W K ws (pc + 1) lv (.int (xs j) :: st)) : sc_W K ws pc lv (.int i :: .ref b :: st) := by
  obtain ⟨p, l, e, R, s, m, args, below, meth, c, A, D, nL, cells, slots, Q⟩ := K
  obtain ⟨hx, hb, hml, ho, hts, hK, hA, hnl, hR⟩ := hC
  obtain ⟨hX, hbl, hbA⟩ := hX
  intro H locs ls hP hD hS hl
  subst hi
  have hcl : (nI j).toNatClampNeg = j := nI_clamp (by omega)
  refine va_sld hx hb hX hbl hbA hS (vp_in_nI hj (by omega)) hd ?_
  rw [hcl]
  exact kk H locs ls hP hD hS hl
theorem sc_slen (hC : sc_C K cc own d nl dp) {b L : Nat} {xs : Nat → Int32} (hX : sc_X K b L xs) (hd : decode cc pc = .ok (.arraylength, 1)) (kk : sc_W K ws (pc + 1) lv (.int (nI L) :: st)) : sc_W K ws pc lv (.ref b :: st) := by
  obtain ⟨p, l, e, R, s, m, args, below, meth, c, A, D, nL, cells, slots, Q⟩ := K
  obtain ⟨hx, hb, hml, ho, hts, hK, hA, hnl, hR⟩ := hC
  obtain ⟨hX, hbl, hbA⟩ := hX
  intro H locs ls hP hD hS hl
  exact va_slen hx hb hX hbl hbA hS hd (kk H locs ls hP hD hS hl)
theorem sc_tin (hC : sc_C K cc own d nl dp) {dflt lo hi : Int} {offs : Array Int} {len : Nat} {x : Int32} {off : Int} {tgt : Nat} (hd : decode cc pc = .ok (.tableswitch dflt lo hi offs, len)) (h1 : ¬ x.toInt < lo) (h2 : ¬ hi < x.toInt) (ho : offs[(x.toInt - lo).toNat]? = some off) (ht : (pc : Int) + off = (tgt : Int)) (kk : sc_W K ws tgt lv st) : sc_W K ws pc lv (.int x :: st) := by
  obtain ⟨p, l, e, R, s, m, args, below, meth, c, A, D, nL, cells, slots, Q⟩ := K
  obtain ⟨hx, hb, hml, hon, hts, hK, hA, hnl, hR⟩ := hC
  intro H locs ls hP hD hS hl
  exact lv_tableIn hx hb hd h1 h2 ho ht (kk H locs ls hP hD hS hl)
theorem sc_tout (hC : sc_C K cc own d nl dp) {dflt lo hi : Int} {offs : Array Int} {len : Nat} {x : Int32} {tgt : Nat} (hd : decode cc pc = .ok (.tableswitch dflt lo hi offs, len)) (h : x.toInt < lo ∨ hi < x.toInt) (ht : (pc : Int) + dflt = (tgt : Int)) (kk : sc_W K ws tgt lv st) : sc_W K ws pc lv (.int x :: st) := by
  obtain ⟨p, l, e, R, s, m, args, below, meth, c, A, D, nL, cells, slots, Q⟩ := K
  obtain ⟨hx, hb, hml, hon, hts, hK, hA, hnl, hR⟩ := hC
  intro H locs ls hP hD hS hl
  exact lv_tableOut hx hb hd h ht (kk H locs ls hP hD hS hl)
end LR
theorem sc_lcall0 {K : sc_K} {cc : ByteArray} {own : String} {d : ClassId} {nl dp : Nat} {h g : Nat → Nat} {f : Nat → Int32} {a : Nat → Nat → Int32} {u : Nat → Int32} {w : Nat → Nat → Int32} {pc : Nat} {lv : List (Nat × Value)} {st : List Value} {y : MethodName} {bytes : ByteArray} {maxL dq ix n : Nat} {ret : Option FieldType} {As : List Value} {post : Int32 → (Nat → Int32) → (Nat → Nat → Int32) → Prop} {stk : List Value} (hC : sc_C K cc own d nl dp) (hM : sc_I0 y bytes maxL ret dq As f a post) (hw : GoodIn lw_all (wsV own ix RX0 y (ws_ y bytes maxL ret)) ∧ (y.cls = RX0 ∧ y.cls ≠ "java/lang/invoke/MethodHandle" ∧ y.cls ≠ "java/lang/invoke/VarHandle" ∧ (parseMethodDescriptor y.desc).map (fun d => d.parameters.length) = some n)) (hn : As.length = n) (hdq : dq < dp) (hmx : maxL ≤ 11) (hd : decode cc pc = .ok (.invokevirtual ix, 3)) (hst : stk = As.reverse ++ .ref (h 20) :: st) (hcat : (st.map fun v => v.category).sum ≤ 8) (kk : ∀ (r : Int32) (f' : Nat → Int32) (a' : Nat → Nat → Int32), post r f' a' → sc_W K (xw0 h d f' a' ++ xw1 g d u w) (pc + 3) lv (.int r :: st)) : sc_W K (xw0 h d f a ++ xw1 g d u w) pc lv stk := by
  subst hst
  obtain ⟨p, l, e, R, s, m, args, below, meth, c, A, D, nL, cells, slots, Q⟩ := K
  obtain ⟨hx, hb, hml, ho, hts, hK, hA, hnl, hR⟩ := hC
  intro H locs ls hP hD hS hl
  obtain ⟨hR1, hR2, hR3, hR4⟩ := hR
  have hPc : va_P D vwCl (xw0 h d f a) H := hP.sub [0, 1, 2, 3, 4, 5, 6, 7, 8, 9] rfl
  have hDc : va_D A (xw0 h d f a) := hD.sub [0, 1, 2, 3, 4, 5, 6, 7, 8, 9] (by decide) rfl
  have hFc := va_free (wc := xw0 h d f a) hD hS hA [0, 1, 2, 3, 4, 5, 6, 7, 8, 9] rfl
  rw [xA0_eq] at hFc
  refine va_calli (va_runV (As := As) (rest := st) ⟨hx, hb, hml, ho, hts⟩ (hM l D d h H.size) (cwV n hts hw.1 rfl rfl rfl hw.2 ⟨by show dq + 1 ≤ R.frames; omega, by show 8 + (maxL + 11) + 30 * dq ≤ R.locals; omega⟩) ⟨fun a U g mk q => by obtain ⟨q0, q1, qP, qK, qD⟩ := q; exact ⟨q0, q1, qP, va_K.moved (u := U) (U := U.calling g mk a) (Vm.Alike.refl U.vm) qK, qD⟩, va_recv hK hPc (ci := 0) (q0 := 0) rfl rfl, fun U hU hW => ⟨rfl, by rw [hU], by rw [hU]; exact hPc, va_K.moved hW.alike hK, hDc.weaken (fun _ _ _ _ => trivial)⟩⟩ rfl hn hl.1 rfl (lv_room hcat) hd ⟨hR3, hR4⟩) hS (fun q _ hq => hFc q hq) hFc (fun r z t H1 locs1 ht hvm hw1 hB hz1 hk1 hS1 => ?_)
  obtain ⟨f', a'⟩ := z
  obtain ⟨hP1, hK1, hD1⟩ := hB
  rw [ht] at hP1
  have hP1 : va_P D vwCl (xw0 h d f' a') H1 := hP1
  rw [← xA0_eq (d := d) (f := f) (a := a)] at hD1 hk1 hFc
  obtain ⟨hP2, hD2⟩ := va_join (wr := xw1 g d u w) (w1 := xw0 h d f' a') hP hD [0, 1, 2, 3, 4, 5, 6, 7, 8, 9] [10, 11, 12] rfl rfl (by decide) (by decide) hk1 hFc hP1 hD1
  exact kk r f' a' hw1 H1 locs1 ls (hP2.sub [3, 4, 5, 6, 7, 8, 9, 10, 11, 12, 0, 1, 2] rfl) (hD2.sub [3, 4, 5, 6, 7, 8, 9, 10, 11, 12, 0, 1, 2] (by decide) rfl) hS1 hl
theorem sc_lcall1 {K : sc_K} {cc : ByteArray} {own : String} {d : ClassId} {nl dp : Nat} {h g : Nat → Nat} {f : Nat → Int32} {a : Nat → Nat → Int32} {u : Nat → Int32} {w : Nat → Nat → Int32} {pc : Nat} {lv : List (Nat × Value)} {st : List Value} {y : MethodName} {bytes : ByteArray} {maxL dq ix n : Nat} {ret : Option FieldType} {As : List Value} {post : Int32 → (Nat → Int32) → (Nat → Nat → Int32) → Prop} {stk : List Value} (hC : sc_C K cc own d nl dp) (hM : sc_I1 y bytes maxL ret dq As u w post) (hw : GoodIn lw_all (wsV own ix RX1 y (ws_ y bytes maxL ret)) ∧ (y.cls = RX1 ∧ y.cls ≠ "java/lang/invoke/MethodHandle" ∧ y.cls ≠ "java/lang/invoke/VarHandle" ∧ (parseMethodDescriptor y.desc).map (fun d => d.parameters.length) = some n)) (hn : As.length = n) (hdq : dq < dp) (hmx : maxL ≤ 11) (hd : decode cc pc = .ok (.invokevirtual ix, 3)) (hst : stk = As.reverse ++ .ref (g 5) :: st) (hcat : (st.map fun v => v.category).sum ≤ 8) (kk : ∀ (r : Int32) (f' : Nat → Int32) (a' : Nat → Nat → Int32), post r f' a' → sc_W K (xw0 h d f a ++ xw1 g d f' a') (pc + 3) lv (.int r :: st)) : sc_W K (xw0 h d f a ++ xw1 g d u w) pc lv stk := by
  subst hst
  obtain ⟨p, l, e, R, s, m, args, below, meth, c, A, D, nL, cells, slots, Q⟩ := K
  obtain ⟨hx, hb, hml, ho, hts, hK, hA, hnl, hR⟩ := hC
  intro H locs ls hP hD hS hl
  obtain ⟨hR1, hR2, hR3, hR4⟩ := hR
  have hPc : va_P D vwCl (xw1 g d u w) H := hP.sub [10, 11, 12] rfl
  have hDc : va_D A (xw1 g d u w) := hD.sub [10, 11, 12] (by decide) rfl
  have hFc := va_free (wc := xw1 g d u w) hD hS hA [10, 11, 12] rfl
  rw [xA1_eq] at hFc
  refine va_calli (va_runV (As := As) (rest := st) ⟨hx, hb, hml, ho, hts⟩ (hM l D d g H.size) (cwV n hts hw.1 rfl rfl rfl hw.2 ⟨by show dq + 1 ≤ R.frames; omega, by show 8 + (maxL + 11) + 30 * dq ≤ R.locals; omega⟩) ⟨fun a U g mk q => by obtain ⟨q0, q1, qP, qK, qD⟩ := q; exact ⟨q0, q1, qP, va_K.moved (u := U) (U := U.calling g mk a) (Vm.Alike.refl U.vm) qK, qD⟩, va_recv hK hPc (ci := 1) (q0 := 0) rfl rfl, fun U hU hW => ⟨rfl, by rw [hU], by rw [hU]; exact hPc, va_K.moved hW.alike hK, hDc.weaken (fun _ _ _ _ => trivial)⟩⟩ rfl hn hl.1 rfl (lv_room hcat) hd ⟨hR3, hR4⟩) hS (fun q _ hq => hFc q hq) hFc (fun r z t H1 locs1 ht hvm hw1 hB hz1 hk1 hS1 => ?_)
  obtain ⟨f', a'⟩ := z
  obtain ⟨hP1, hK1, hD1⟩ := hB
  rw [ht] at hP1
  have hP1 : va_P D vwCl (xw1 g d f' a') H1 := hP1
  rw [← xA1_eq (d := d) (f := u) (a := w)] at hD1 hk1 hFc
  obtain ⟨hP2, hD2⟩ := va_join (wr := xw0 h d f a) (w1 := xw1 g d f' a') hP hD [10, 11, 12] [0, 1, 2, 3, 4, 5, 6, 7, 8, 9] rfl rfl (by decide) (by decide) hk1 hFc hP1 hD1
  exact kk r f' a' hw1 H1 locs1 ls (hP2.sub [0, 1, 2, 3, 4, 5, 6, 7, 8, 9, 10, 11, 12] rfl) (hD2.sub [0, 1, 2, 3, 4, 5, 6, 7, 8, 9, 10, 11, 12] (by decide) rfl) hS1 hl
theorem kl0_append : GoodIn lw_all (wsV R_law 13 RX0 yX0_append (ws_ yX0_append cX0_append 3 (some .int))) ∧ (yX0_append.cls = RX0 ∧ yX0_append.cls ≠ "java/lang/invoke/MethodHandle" ∧ yX0_append.cls ≠ "java/lang/invoke/VarHandle" ∧ (parseMethodDescriptor yX0_append.desc).map (fun d => d.parameters.length) = some 2) := ⟨lw_V q100 q101 q102 q28 q103, by decide +kernel⟩
theorem kl0_steady : GoodIn lw_all (wsV R_law 18 RX0 yX0_steady (ws_ yX0_steady cX0_steady 6 (some .int))) ∧ (yX0_steady.cls = RX0 ∧ yX0_steady.cls ≠ "java/lang/invoke/MethodHandle" ∧ yX0_steady.cls ≠ "java/lang/invoke/VarHandle" ∧ (parseMethodDescriptor yX0_steady.desc).map (fun d => d.parameters.length) = some 4) := ⟨lw_V q162 q163 q164 q28 q165, by decide +kernel⟩
theorem kl0_dropOldest : GoodIn lw_all (wsV R_law 23 RX0 yX0_dropOldest (ws_ yX0_dropOldest cX0_dropOldest 2 (some .int))) ∧ (yX0_dropOldest.cls = RX0 ∧ yX0_dropOldest.cls ≠ "java/lang/invoke/MethodHandle" ∧ yX0_dropOldest.cls ≠ "java/lang/invoke/VarHandle" ∧ (parseMethodDescriptor yX0_dropOldest.desc).map (fun d => d.parameters.length) = some 0) := ⟨lw_V q167 q168 q169 q28 q170, by decide +kernel⟩
theorem kl0_unappend : GoodIn lw_all (wsV R_law 28 RX0 yX0_unappend (ws_ yX0_unappend cX0_unappend 6 (some .int))) ∧ (yX0_unappend.cls = RX0 ∧ yX0_unappend.cls ≠ "java/lang/invoke/MethodHandle" ∧ yX0_unappend.cls ≠ "java/lang/invoke/VarHandle" ∧ (parseMethodDescriptor yX0_unappend.desc).map (fun d => d.parameters.length) = some 0) := ⟨lw_V q171 q172 q173 q28 q174, by decide +kernel⟩
theorem kl0_points : GoodIn lw_all (wsV R_law 32 RX0 yX0_points (ws_ yX0_points cX0_points 1 (some .int))) ∧ (yX0_points.cls = RX0 ∧ yX0_points.cls ≠ "java/lang/invoke/MethodHandle" ∧ yX0_points.cls ≠ "java/lang/invoke/VarHandle" ∧ (parseMethodDescriptor yX0_points.desc).map (fun d => d.parameters.length) = some 0) := ⟨lw_V q175 q176 q177 q28 q178, by decide +kernel⟩
theorem kl0_time : GoodIn lw_all (wsV R_law 36 RX0 yX0_time (ws_ yX0_time cX0_time 2 (some .int))) ∧ (yX0_time.cls = RX0 ∧ yX0_time.cls ≠ "java/lang/invoke/MethodHandle" ∧ yX0_time.cls ≠ "java/lang/invoke/VarHandle" ∧ (parseMethodDescriptor yX0_time.desc).map (fun d => d.parameters.length) = some 1) := ⟨lw_V q179 q180 q181 q28 q182, by decide +kernel⟩
theorem kl0_value : GoodIn lw_all (wsV R_law 41 RX0 yX0_value (ws_ yX0_value cX0_value 2 (some .int))) ∧ (yX0_value.cls = RX0 ∧ yX0_value.cls ≠ "java/lang/invoke/MethodHandle" ∧ yX0_value.cls ≠ "java/lang/invoke/VarHandle" ∧ (parseMethodDescriptor yX0_value.desc).map (fun d => d.parameters.length) = some 1) := ⟨lw_V q187 q188 q189 q28 q190, by decide +kernel⟩
theorem kl0_size : GoodIn lw_all (wsV R_law 45 RX0 yX0_size (ws_ yX0_size cX0_size 2 (some .int))) ∧ (yX0_size.cls = RX0 ∧ yX0_size.cls ≠ "java/lang/invoke/MethodHandle" ∧ yX0_size.cls ≠ "java/lang/invoke/VarHandle" ∧ (parseMethodDescriptor yX0_size.desc).map (fun d => d.parameters.length) = some 1) := ⟨lw_V q191 q192 q193 q28 q194, by decide +kernel⟩
theorem kl0_packed : GoodIn lw_all (wsV R_law 49 RX0 yX0_packed (ws_ yX0_packed cX0_packed 3 (some .int))) ∧ (yX0_packed.cls = RX0 ∧ yX0_packed.cls ≠ "java/lang/invoke/MethodHandle" ∧ yX0_packed.cls ≠ "java/lang/invoke/VarHandle" ∧ (parseMethodDescriptor yX0_packed.desc).map (fun d => d.parameters.length) = some 0) := ⟨lw_V q199 q200 q201 q28 q202, by decide +kernel⟩
theorem kl0_firstFrom : GoodIn lw_all (wsV R_law 53 RX0 yX0_firstFrom (ws_ yX0_firstFrom cX0_firstFrom 6 (some .int))) ∧ (yX0_firstFrom.cls = RX0 ∧ yX0_firstFrom.cls ≠ "java/lang/invoke/MethodHandle" ∧ yX0_firstFrom.cls ≠ "java/lang/invoke/VarHandle" ∧ (parseMethodDescriptor yX0_firstFrom.desc).map (fun d => d.parameters.length) = some 1) := ⟨lw_V q203 q204 q205 q28 q206, by decide +kernel⟩
theorem kl0_count : GoodIn lw_all (wsV R_law 57 RX0 yX0_count (ws_ yX0_count cX0_count 3 (some .int))) ∧ (yX0_count.cls = RX0 ∧ yX0_count.cls ≠ "java/lang/invoke/MethodHandle" ∧ yX0_count.cls ≠ "java/lang/invoke/VarHandle" ∧ (parseMethodDescriptor yX0_count.desc).map (fun d => d.parameters.length) = some 2) := ⟨lw_V q207 q208 q209 q28 q210, by decide +kernel⟩
theorem kl0_sum : GoodIn lw_all (wsV R_law 61 RX0 yX0_sum (ws_ yX0_sum cX0_sum 3 (some .int))) ∧ (yX0_sum.cls = RX0 ∧ yX0_sum.cls ≠ "java/lang/invoke/MethodHandle" ∧ yX0_sum.cls ≠ "java/lang/invoke/VarHandle" ∧ (parseMethodDescriptor yX0_sum.desc).map (fun d => d.parameters.length) = some 2) := ⟨lw_V q228 q229 q230 q28 q231, by decide +kernel⟩
theorem kl0_greatest : GoodIn lw_all (wsV R_law 65 RX0 yX0_greatest (ws_ yX0_greatest cX0_greatest 3 (some .int))) ∧ (yX0_greatest.cls = RX0 ∧ yX0_greatest.cls ≠ "java/lang/invoke/MethodHandle" ∧ yX0_greatest.cls ≠ "java/lang/invoke/VarHandle" ∧ (parseMethodDescriptor yX0_greatest.desc).map (fun d => d.parameters.length) = some 2) := ⟨lw_V q232 q233 q234 q28 q235, by decide +kernel⟩
theorem kl0_least : GoodIn lw_all (wsV R_law 69 RX0 yX0_least (ws_ yX0_least cX0_least 3 (some .int))) ∧ (yX0_least.cls = RX0 ∧ yX0_least.cls ≠ "java/lang/invoke/MethodHandle" ∧ yX0_least.cls ≠ "java/lang/invoke/VarHandle" ∧ (parseMethodDescriptor yX0_least.desc).map (fun d => d.parameters.length) = some 2) := ⟨lw_V q236 q237 q238 q28 q239, by decide +kernel⟩
theorem kl0_valueAt : GoodIn lw_all (wsV R_law 73 RX0 yX0_valueAt (ws_ yX0_valueAt cX0_valueAt 7 (some .int))) ∧ (yX0_valueAt.cls = RX0 ∧ yX0_valueAt.cls ≠ "java/lang/invoke/MethodHandle" ∧ yX0_valueAt.cls ≠ "java/lang/invoke/VarHandle" ∧ (parseMethodDescriptor yX0_valueAt.desc).map (fun d => d.parameters.length) = some 1) := ⟨lw_V q240 q241 q242 q28 q243, by decide +kernel⟩
theorem kl0_rises : GoodIn lw_all (wsV R_law 77 RX0 yX0_rises (ws_ yX0_rises cX0_rises 7 (some .int))) ∧ (yX0_rises.cls = RX0 ∧ yX0_rises.cls ≠ "java/lang/invoke/MethodHandle" ∧ yX0_rises.cls ≠ "java/lang/invoke/VarHandle" ∧ (parseMethodDescriptor yX0_rises.desc).map (fun d => d.parameters.length) = some 0) := ⟨lw_V q244 q245 q246 q28 q247, by decide +kernel⟩
theorem kl0_widestGap : GoodIn lw_all (wsV R_law 81 RX0 yX0_widestGap (ws_ yX0_widestGap cX0_widestGap 7 (some .int))) ∧ (yX0_widestGap.cls = RX0 ∧ yX0_widestGap.cls ≠ "java/lang/invoke/MethodHandle" ∧ yX0_widestGap.cls ≠ "java/lang/invoke/VarHandle" ∧ (parseMethodDescriptor yX0_widestGap.desc).map (fun d => d.parameters.length) = some 0) := ⟨lw_V q248 q249 q250 q28 q251, by decide +kernel⟩
theorem kl1_append : GoodIn lw_all (wsV R_law 17 RX1 yX1_append (ws_ yX1_append cX1_append 3 (some .int))) ∧ (yX1_append.cls = RX1 ∧ yX1_append.cls ≠ "java/lang/invoke/MethodHandle" ∧ yX1_append.cls ≠ "java/lang/invoke/VarHandle" ∧ (parseMethodDescriptor yX1_append.desc).map (fun d => d.parameters.length) = some 2) := ⟨lw_V q274 q275 q276 q29 q277, by decide +kernel⟩
theorem kl1_steady : GoodIn lw_all (wsV R_law 22 RX1 yX1_steady (ws_ yX1_steady cX1_steady 7 (some .int))) ∧ (yX1_steady.cls = RX1 ∧ yX1_steady.cls ≠ "java/lang/invoke/MethodHandle" ∧ yX1_steady.cls ≠ "java/lang/invoke/VarHandle" ∧ (parseMethodDescriptor yX1_steady.desc).map (fun d => d.parameters.length) = some 4) := ⟨lw_V q288 q289 q290 q29 q291, by decide +kernel⟩
theorem kl1_dropOldest : GoodIn lw_all (wsV R_law 27 RX1 yX1_dropOldest (ws_ yX1_dropOldest cX1_dropOldest 2 (some .int))) ∧ (yX1_dropOldest.cls = RX1 ∧ yX1_dropOldest.cls ≠ "java/lang/invoke/MethodHandle" ∧ yX1_dropOldest.cls ≠ "java/lang/invoke/VarHandle" ∧ (parseMethodDescriptor yX1_dropOldest.desc).map (fun d => d.parameters.length) = some 0) := ⟨lw_V q294 q295 q296 q29 q297, by decide +kernel⟩
theorem kl1_unappend : GoodIn lw_all (wsV R_law 31 RX1 yX1_unappend (ws_ yX1_unappend cX1_unappend 1 (some .int))) ∧ (yX1_unappend.cls = RX1 ∧ yX1_unappend.cls ≠ "java/lang/invoke/MethodHandle" ∧ yX1_unappend.cls ≠ "java/lang/invoke/VarHandle" ∧ (parseMethodDescriptor yX1_unappend.desc).map (fun d => d.parameters.length) = some 0) := ⟨lw_V q298 q299 q300 q29 q301, by decide +kernel⟩
theorem kl1_points : GoodIn lw_all (wsV R_law 35 RX1 yX1_points (ws_ yX1_points cX1_points 1 (some .int))) ∧ (yX1_points.cls = RX1 ∧ yX1_points.cls ≠ "java/lang/invoke/MethodHandle" ∧ yX1_points.cls ≠ "java/lang/invoke/VarHandle" ∧ (parseMethodDescriptor yX1_points.desc).map (fun d => d.parameters.length) = some 0) := ⟨lw_V q302 q303 q304 q29 q305, by decide +kernel⟩
theorem kl1_time : GoodIn lw_all (wsV R_law 40 RX1 yX1_time (ws_ yX1_time cX1_time 2 (some .int))) ∧ (yX1_time.cls = RX1 ∧ yX1_time.cls ≠ "java/lang/invoke/MethodHandle" ∧ yX1_time.cls ≠ "java/lang/invoke/VarHandle" ∧ (parseMethodDescriptor yX1_time.desc).map (fun d => d.parameters.length) = some 1) := ⟨lw_V q306 q307 q308 q29 q309, by decide +kernel⟩
theorem kl1_value : GoodIn lw_all (wsV R_law 44 RX1 yX1_value (ws_ yX1_value cX1_value 2 (some .int))) ∧ (yX1_value.cls = RX1 ∧ yX1_value.cls ≠ "java/lang/invoke/MethodHandle" ∧ yX1_value.cls ≠ "java/lang/invoke/VarHandle" ∧ (parseMethodDescriptor yX1_value.desc).map (fun d => d.parameters.length) = some 1) := ⟨lw_V q314 q315 q316 q29 q317, by decide +kernel⟩
theorem kl1_size : GoodIn lw_all (wsV R_law 48 RX1 yX1_size (ws_ yX1_size cX1_size 4 (some .int))) ∧ (yX1_size.cls = RX1 ∧ yX1_size.cls ≠ "java/lang/invoke/MethodHandle" ∧ yX1_size.cls ≠ "java/lang/invoke/VarHandle" ∧ (parseMethodDescriptor yX1_size.desc).map (fun d => d.parameters.length) = some 1) := ⟨lw_V q318 q319 q320 q29 q321, by decide +kernel⟩
theorem kl1_packed : GoodIn lw_all (wsV R_law 52 RX1 yX1_packed (ws_ yX1_packed cX1_packed 3 (some .int))) ∧ (yX1_packed.cls = RX1 ∧ yX1_packed.cls ≠ "java/lang/invoke/MethodHandle" ∧ yX1_packed.cls ≠ "java/lang/invoke/VarHandle" ∧ (parseMethodDescriptor yX1_packed.desc).map (fun d => d.parameters.length) = some 0) := ⟨lw_V q330 q331 q332 q29 q333, by decide +kernel⟩
theorem kl1_firstFrom : GoodIn lw_all (wsV R_law 56 RX1 yX1_firstFrom (ws_ yX1_firstFrom cX1_firstFrom 3 (some .int))) ∧ (yX1_firstFrom.cls = RX1 ∧ yX1_firstFrom.cls ≠ "java/lang/invoke/MethodHandle" ∧ yX1_firstFrom.cls ≠ "java/lang/invoke/VarHandle" ∧ (parseMethodDescriptor yX1_firstFrom.desc).map (fun d => d.parameters.length) = some 1) := ⟨lw_V q335 q336 q337 q29 q338, by decide +kernel⟩
theorem kl1_count : GoodIn lw_all (wsV R_law 60 RX1 yX1_count (ws_ yX1_count cX1_count 5 (some .int))) ∧ (yX1_count.cls = RX1 ∧ yX1_count.cls ≠ "java/lang/invoke/MethodHandle" ∧ yX1_count.cls ≠ "java/lang/invoke/VarHandle" ∧ (parseMethodDescriptor yX1_count.desc).map (fun d => d.parameters.length) = some 2) := ⟨lw_V q339 q340 q341 q29 q342, by decide +kernel⟩
theorem kl1_sum : GoodIn lw_all (wsV R_law 64 RX1 yX1_sum (ws_ yX1_sum cX1_sum 5 (some .int))) ∧ (yX1_sum.cls = RX1 ∧ yX1_sum.cls ≠ "java/lang/invoke/MethodHandle" ∧ yX1_sum.cls ≠ "java/lang/invoke/VarHandle" ∧ (parseMethodDescriptor yX1_sum.desc).map (fun d => d.parameters.length) = some 2) := ⟨lw_V q351 q352 q353 q29 q354, by decide +kernel⟩
theorem kl1_greatest : GoodIn lw_all (wsV R_law 68 RX1 yX1_greatest (ws_ yX1_greatest cX1_greatest 5 (some .int))) ∧ (yX1_greatest.cls = RX1 ∧ yX1_greatest.cls ≠ "java/lang/invoke/MethodHandle" ∧ yX1_greatest.cls ≠ "java/lang/invoke/VarHandle" ∧ (parseMethodDescriptor yX1_greatest.desc).map (fun d => d.parameters.length) = some 2) := ⟨lw_V q355 q356 q357 q29 q358, by decide +kernel⟩
theorem kl1_least : GoodIn lw_all (wsV R_law 72 RX1 yX1_least (ws_ yX1_least cX1_least 5 (some .int))) ∧ (yX1_least.cls = RX1 ∧ yX1_least.cls ≠ "java/lang/invoke/MethodHandle" ∧ yX1_least.cls ≠ "java/lang/invoke/VarHandle" ∧ (parseMethodDescriptor yX1_least.desc).map (fun d => d.parameters.length) = some 2) := ⟨lw_V q359 q360 q361 q29 q362, by decide +kernel⟩
theorem kl1_valueAt : GoodIn lw_all (wsV R_law 76 RX1 yX1_valueAt (ws_ yX1_valueAt cX1_valueAt 4 (some .int))) ∧ (yX1_valueAt.cls = RX1 ∧ yX1_valueAt.cls ≠ "java/lang/invoke/MethodHandle" ∧ yX1_valueAt.cls ≠ "java/lang/invoke/VarHandle" ∧ (parseMethodDescriptor yX1_valueAt.desc).map (fun d => d.parameters.length) = some 1) := ⟨lw_V q363 q364 q365 q29 q366, by decide +kernel⟩
theorem kl1_rises : GoodIn lw_all (wsV R_law 80 RX1 yX1_rises (ws_ yX1_rises cX1_rises 3 (some .int))) ∧ (yX1_rises.cls = RX1 ∧ yX1_rises.cls ≠ "java/lang/invoke/MethodHandle" ∧ yX1_rises.cls ≠ "java/lang/invoke/VarHandle" ∧ (parseMethodDescriptor yX1_rises.desc).map (fun d => d.parameters.length) = some 0) := ⟨lw_V q367 q368 q369 q29 q370, by decide +kernel⟩
theorem kl1_widestGap : GoodIn lw_all (wsV R_law 84 RX1 yX1_widestGap (ws_ yX1_widestGap cX1_widestGap 3 (some .int))) ∧ (yX1_widestGap.cls = RX1 ∧ yX1_widestGap.cls ≠ "java/lang/invoke/MethodHandle" ∧ yX1_widestGap.cls ≠ "java/lang/invoke/VarHandle" ∧ (parseMethodDescriptor yX1_widestGap.desc).map (fun d => d.parameters.length) = some 0) := ⟨lw_V q371 q372 q373 q29 q374, by decide +kernel⟩
end
section
set_option maxRecDepth 100000
/-! the law's cases: each call on both sides, the same answer, one state again -/
section LC
variable {K : sc_K} {d : ClassId} {h g : Nat → Nat} {b L k n : Nat} {xs : Nat → Int32} {t v : Nat → Nat} {f : Nat → Int32} {a : Nat → Nat → Int32} {u : Nat → Int32} {w : Nat → Nat → Int32}
theorem law_0 (hC : sc_C K code R_law d 4 8) (hX : sc_X K b L xs) (hL : L ≤ 320) (hk : k + 5 ≤ L) (hP : pu_PI n t v) (hI : pu_CI n t v f a) (hM : pu_MS (n, t, v) u w) (k527 : ∀ (S : pu_S) (f' : Nat → Int32) (a' : Nat → Nat → Int32) (u' : Nat → Int32) (w' : Nat → Nat → Int32), pu_PS S → pu_CS S f' a' → pu_MS S u' w' → sc_W K (xw0 h d f' a' ++ xw1 g d u' w') 527 [(0, .ref b), (1, .ref (h 20)), (2, .ref (g 5)), (3, .int (nI k))] []) : sc_W K (xw0 h d f a ++ xw1 g d u w) 116 [(0, .ref b), (1, .ref (h 20)), (2, .ref (g 5)), (3, .int (nI k))] [] := by
  refine sc_aload_n hC dL_law_116 rfl ?_
  refine sc_aload_n hC dL_law_117 rfl ?_
  refine sc_iload_n hC dL_law_118 rfl ?_
  refine sc_iconst (v := 1) hC dL_law_119 (by decide) ?_
  refine sc_iadd hC dL_law_120 ?_
  refine sc_top (nI_1 k) ?_
  refine sc_sld hC hX (by omega) (k + 1) (rfl) (by omega) dL_law_121 ?_
  refine sc_aload_n hC dL_law_122 rfl ?_
  refine sc_iload_n hC dL_law_123 rfl ?_
  refine sc_iconst (v := 2) hC dL_law_124 (by decide) ?_
  refine sc_iadd hC dL_law_125 ?_
  refine sc_top ((nI_add k 2 : nI k + 2 = nI (k + 2))) ?_
  refine sc_sld hC hX (by omega) (k + 2) (rfl) (by omega) dL_law_126 ?_
  refine sc_lcall0 hC (c0_append hP hI (xs (k + 1)) (xs (k + 2))) kl0_append rfl (by decide) (by decide) dL_law_127 rfl (Nat.le_of_ble_eq_true rfl) (fun r0 f0 a0 hp0 => ?_)
  refine sc_aload_n hC dL_law_130 rfl ?_
  refine sc_aload_n hC dL_law_131 rfl ?_
  refine sc_iload_n hC dL_law_132 rfl ?_
  refine sc_iconst (v := 1) hC dL_law_133 (by decide) ?_
  refine sc_iadd hC dL_law_134 ?_
  refine sc_top (nI_1 k) ?_
  refine sc_sld hC hX (by omega) (k + 1) (rfl) (by omega) dL_law_135 ?_
  refine sc_aload_n hC dL_law_136 rfl ?_
  refine sc_iload_n hC dL_law_137 rfl ?_
  refine sc_iconst (v := 2) hC dL_law_138 (by decide) ?_
  refine sc_iadd hC dL_law_139 ?_
  refine sc_top ((nI_add k 2 : nI k + 2 = nI (k + 2))) ?_
  refine sc_sld hC hX (by omega) (k + 2) (rfl) (by omega) dL_law_140 ?_
  refine sc_lcall1 hC (m1_append hP hM (xs (k + 1)) (xs (k + 2))) kl1_append rfl (by decide) (by decide) dL_law_141 rfl (Nat.le_of_ble_eq_true rfl) (fun r1 u0 w0 hp1 => ?_)
  refine sc_icmp_eq (tgt := 527) hC dL_law_144 (by decide) (fun c1 => ?_) (fun c1 => ?_)
  · exact k527 (pu_apN (n, t, v) (xs (k + 1)) (xs (k + 2))) f0 a0 u0 w0 (pu_PS_ap hP) hp0.2 hp1.2
  · exact absurd (hp0.1.trans hp1.1.symm) c1
theorem law_1 (hC : sc_C K code R_law d 4 8) (hX : sc_X K b L xs) (hL : L ≤ 320) (hk : k + 5 ≤ L) (hP : pu_PI n t v) (hI : pu_CI n t v f a) (hM : pu_MS (n, t, v) u w) (k527 : ∀ (S : pu_S) (f' : Nat → Int32) (a' : Nat → Nat → Int32) (u' : Nat → Int32) (w' : Nat → Nat → Int32), pu_PS S → pu_CS S f' a' → pu_MS S u' w' → sc_W K (xw0 h d f' a' ++ xw1 g d u' w') 527 [(0, .ref b), (1, .ref (h 20)), (2, .ref (g 5)), (3, .int (nI k))] []) : sc_W K (xw0 h d f a ++ xw1 g d u w) 149 [(0, .ref b), (1, .ref (h 20)), (2, .ref (g 5)), (3, .int (nI k))] [] := by
  refine sc_aload_n hC dL_law_149 rfl ?_
  refine sc_aload_n hC dL_law_150 rfl ?_
  refine sc_iload_n hC dL_law_151 rfl ?_
  refine sc_iconst (v := 1) hC dL_law_152 (by decide) ?_
  refine sc_iadd hC dL_law_153 ?_
  refine sc_top (nI_1 k) ?_
  refine sc_sld hC hX (by omega) (k + 1) (rfl) (by omega) dL_law_154 ?_
  refine sc_aload_n hC dL_law_155 rfl ?_
  refine sc_iload_n hC dL_law_156 rfl ?_
  refine sc_iconst (v := 2) hC dL_law_157 (by decide) ?_
  refine sc_iadd hC dL_law_158 ?_
  refine sc_top ((nI_add k 2 : nI k + 2 = nI (k + 2))) ?_
  refine sc_sld hC hX (by omega) (k + 2) (rfl) (by omega) dL_law_159 ?_
  refine sc_aload_n hC dL_law_160 rfl ?_
  refine sc_iload_n hC dL_law_161 rfl ?_
  refine sc_iconst (v := 3) hC dL_law_162 (by decide) ?_
  refine sc_iadd hC dL_law_163 ?_
  refine sc_top ((nI_add k 3 : nI k + 3 = nI (k + 3))) ?_
  refine sc_sld hC hX (by omega) (k + 3) (rfl) (by omega) dL_law_164 ?_
  refine sc_aload_n hC dL_law_165 rfl ?_
  refine sc_iload_n hC dL_law_166 rfl ?_
  refine sc_iconst (v := 4) hC dL_law_167 (by decide) ?_
  refine sc_iadd hC dL_law_168 ?_
  refine sc_top ((nI_add k 4 : nI k + 4 = nI (k + 4))) ?_
  refine sc_sld hC hX (by omega) (k + 4) (rfl) (by omega) dL_law_169 ?_
  refine sc_lcall0 hC (c0_steady hP hI (xs (k + 1)) (xs (k + 2)) (xs (k + 3)) (xs (k + 4))) kl0_steady rfl (by decide) (by decide) dL_law_170 rfl (Nat.le_of_ble_eq_true rfl) (fun r0 f0 a0 hp0 => ?_)
  refine sc_aload_n hC dL_law_173 rfl ?_
  refine sc_aload_n hC dL_law_174 rfl ?_
  refine sc_iload_n hC dL_law_175 rfl ?_
  refine sc_iconst (v := 1) hC dL_law_176 (by decide) ?_
  refine sc_iadd hC dL_law_177 ?_
  refine sc_top (nI_1 k) ?_
  refine sc_sld hC hX (by omega) (k + 1) (rfl) (by omega) dL_law_178 ?_
  refine sc_aload_n hC dL_law_179 rfl ?_
  refine sc_iload_n hC dL_law_180 rfl ?_
  refine sc_iconst (v := 2) hC dL_law_181 (by decide) ?_
  refine sc_iadd hC dL_law_182 ?_
  refine sc_top ((nI_add k 2 : nI k + 2 = nI (k + 2))) ?_
  refine sc_sld hC hX (by omega) (k + 2) (rfl) (by omega) dL_law_183 ?_
  refine sc_aload_n hC dL_law_184 rfl ?_
  refine sc_iload_n hC dL_law_185 rfl ?_
  refine sc_iconst (v := 3) hC dL_law_186 (by decide) ?_
  refine sc_iadd hC dL_law_187 ?_
  refine sc_top ((nI_add k 3 : nI k + 3 = nI (k + 3))) ?_
  refine sc_sld hC hX (by omega) (k + 3) (rfl) (by omega) dL_law_188 ?_
  refine sc_aload_n hC dL_law_189 rfl ?_
  refine sc_iload_n hC dL_law_190 rfl ?_
  refine sc_iconst (v := 4) hC dL_law_191 (by decide) ?_
  refine sc_iadd hC dL_law_192 ?_
  refine sc_top ((nI_add k 4 : nI k + 4 = nI (k + 4))) ?_
  refine sc_sld hC hX (by omega) (k + 4) (rfl) (by omega) dL_law_193 ?_
  refine sc_lcall1 hC (m1_steady hP hM (xs (k + 1)) (xs (k + 2)) (xs (k + 3)) (xs (k + 4))) kl1_steady rfl (by decide) (by decide) dL_law_194 rfl (Nat.le_of_ble_eq_true rfl) (fun r1 u0 w0 hp1 => ?_)
  refine sc_icmp_eq (tgt := 527) hC dL_law_197 (by decide) (fun c1 => ?_) (fun c1 => ?_)
  · exact k527 (pu_syN (n, t, v) (xs (k + 1)) (xs (k + 2)) (xs (k + 3)) (xs (k + 4))) f0 a0 u0 w0 (pu_PS_sy hP) hp0.2 hp1.2
  · exact absurd (hp0.1.trans hp1.1.symm) c1
theorem law_2 (hC : sc_C K code R_law d 4 8) (hX : sc_X K b L xs) (hL : L ≤ 320) (hk : k + 5 ≤ L) (hP : pu_PI n t v) (hI : pu_CI n t v f a) (hM : pu_MS (n, t, v) u w) (k527 : ∀ (S : pu_S) (f' : Nat → Int32) (a' : Nat → Nat → Int32) (u' : Nat → Int32) (w' : Nat → Nat → Int32), pu_PS S → pu_CS S f' a' → pu_MS S u' w' → sc_W K (xw0 h d f' a' ++ xw1 g d u' w') 527 [(0, .ref b), (1, .ref (h 20)), (2, .ref (g 5)), (3, .int (nI k))] []) : sc_W K (xw0 h d f a ++ xw1 g d u w) 202 [(0, .ref b), (1, .ref (h 20)), (2, .ref (g 5)), (3, .int (nI k))] [] := by
  refine sc_aload_n hC dL_law_202 rfl ?_
  refine sc_lcall0 hC (c0_dropOldest hP hI) kl0_dropOldest rfl (by decide) (by decide) dL_law_203 rfl (Nat.le_of_ble_eq_true rfl) (fun r0 f0 a0 hp0 => ?_)
  refine sc_aload_n hC dL_law_206 rfl ?_
  refine sc_lcall1 hC (m1_dropOldest hP hM) kl1_dropOldest rfl (by decide) (by decide) dL_law_207 rfl (Nat.le_of_ble_eq_true rfl) (fun r1 u0 w0 hp1 => ?_)
  refine sc_icmp_eq (tgt := 527) hC dL_law_210 (by decide) (fun c1 => ?_) (fun c1 => ?_)
  · exact k527 (pu_drN (n, t, v)) f0 a0 u0 w0 (pu_PS_dr hP) hp0.2 hp1.2
  · exact absurd (hp0.1.trans hp1.1.symm) c1
theorem law_3 (hC : sc_C K code R_law d 4 8) (hX : sc_X K b L xs) (hL : L ≤ 320) (hk : k + 5 ≤ L) (hP : pu_PI n t v) (hI : pu_CI n t v f a) (hM : pu_MS (n, t, v) u w) (k527 : ∀ (S : pu_S) (f' : Nat → Int32) (a' : Nat → Nat → Int32) (u' : Nat → Int32) (w' : Nat → Nat → Int32), pu_PS S → pu_CS S f' a' → pu_MS S u' w' → sc_W K (xw0 h d f' a' ++ xw1 g d u' w') 527 [(0, .ref b), (1, .ref (h 20)), (2, .ref (g 5)), (3, .int (nI k))] []) : sc_W K (xw0 h d f a ++ xw1 g d u w) 215 [(0, .ref b), (1, .ref (h 20)), (2, .ref (g 5)), (3, .int (nI k))] [] := by
  refine sc_aload_n hC dL_law_215 rfl ?_
  refine sc_lcall0 hC (c0_unappend hP hI) kl0_unappend rfl (by decide) (by decide) dL_law_216 rfl (Nat.le_of_ble_eq_true rfl) (fun r0 f0 a0 hp0 => ?_)
  refine sc_aload_n hC dL_law_219 rfl ?_
  refine sc_lcall1 hC (m1_unappend hP hM) kl1_unappend rfl (by decide) (by decide) dL_law_220 rfl (Nat.le_of_ble_eq_true rfl) (fun r1 u0 w0 hp1 => ?_)
  refine sc_icmp_eq (tgt := 527) hC dL_law_223 (by decide) (fun c1 => ?_) (fun c1 => ?_)
  · exact k527 (pu_uaN (n, t, v)) f0 a0 u0 w0 (pu_PS_ua hP) hp0.2 hp1.2
  · exact absurd (hp0.1.trans hp1.1.symm) c1
theorem law_4 (hC : sc_C K code R_law d 4 8) (hX : sc_X K b L xs) (hL : L ≤ 320) (hk : k + 5 ≤ L) (hP : pu_PI n t v) (hI : pu_CI n t v f a) (hM : pu_MS (n, t, v) u w) (k527 : ∀ (S : pu_S) (f' : Nat → Int32) (a' : Nat → Nat → Int32) (u' : Nat → Int32) (w' : Nat → Nat → Int32), pu_PS S → pu_CS S f' a' → pu_MS S u' w' → sc_W K (xw0 h d f' a' ++ xw1 g d u' w') 527 [(0, .ref b), (1, .ref (h 20)), (2, .ref (g 5)), (3, .int (nI k))] []) : sc_W K (xw0 h d f a ++ xw1 g d u w) 228 [(0, .ref b), (1, .ref (h 20)), (2, .ref (g 5)), (3, .int (nI k))] [] := by
  refine sc_aload_n hC dL_law_228 rfl ?_
  refine sc_lcall0 hC (c0_points hI) kl0_points rfl (by decide) (by decide) dL_law_229 rfl (Nat.le_of_ble_eq_true rfl) (fun r0 f0 a0 hp0 => ?_)
  refine sc_aload_n hC dL_law_232 rfl ?_
  refine sc_lcall1 hC (m1_points hM) kl1_points rfl (by decide) (by decide) dL_law_233 rfl (Nat.le_of_ble_eq_true rfl) (fun r1 u0 w0 hp1 => ?_)
  refine sc_icmp_eq (tgt := 527) hC dL_law_236 (by decide) (fun c1 => ?_) (fun c1 => ?_)
  · exact k527 (n, t, v) f0 a0 u0 w0 hP hp0.2 hp1.2
  · exact absurd (hp0.1.trans hp1.1.symm) c1
theorem law_5 (hC : sc_C K code R_law d 4 8) (hX : sc_X K b L xs) (hL : L ≤ 320) (hk : k + 5 ≤ L) (hP : pu_PI n t v) (hI : pu_CI n t v f a) (hM : pu_MS (n, t, v) u w) (k527 : ∀ (S : pu_S) (f' : Nat → Int32) (a' : Nat → Nat → Int32) (u' : Nat → Int32) (w' : Nat → Nat → Int32), pu_PS S → pu_CS S f' a' → pu_MS S u' w' → sc_W K (xw0 h d f' a' ++ xw1 g d u' w') 527 [(0, .ref b), (1, .ref (h 20)), (2, .ref (g 5)), (3, .int (nI k))] []) : sc_W K (xw0 h d f a ++ xw1 g d u w) 241 [(0, .ref b), (1, .ref (h 20)), (2, .ref (g 5)), (3, .int (nI k))] [] := by
  refine sc_aload_n hC dL_law_241 rfl ?_
  refine sc_aload_n hC dL_law_242 rfl ?_
  refine sc_iload_n hC dL_law_243 rfl ?_
  refine sc_iconst (v := 1) hC dL_law_244 (by decide) ?_
  refine sc_iadd hC dL_law_245 ?_
  refine sc_top (nI_1 k) ?_
  refine sc_sld hC hX (by omega) (k + 1) (rfl) (by omega) dL_law_246 ?_
  refine sc_lcall0 hC (c0_time hP hI (xs (k + 1))) kl0_time rfl (by decide) (by decide) dL_law_247 rfl (Nat.le_of_ble_eq_true rfl) (fun r0 f0 a0 hp0 => ?_)
  refine sc_aload_n hC dL_law_250 rfl ?_
  refine sc_aload_n hC dL_law_251 rfl ?_
  refine sc_iload_n hC dL_law_252 rfl ?_
  refine sc_iconst (v := 1) hC dL_law_253 (by decide) ?_
  refine sc_iadd hC dL_law_254 ?_
  refine sc_top (nI_1 k) ?_
  refine sc_sld hC hX (by omega) (k + 1) (rfl) (by omega) dL_law_255 ?_
  refine sc_lcall1 hC (m1_time hP hM (xs (k + 1))) kl1_time rfl (by decide) (by decide) dL_law_256 rfl (Nat.le_of_ble_eq_true rfl) (fun r1 u0 w0 hp1 => ?_)
  refine sc_icmp_eq (tgt := 527) hC dL_law_259 (by decide) (fun c1 => ?_) (fun c1 => ?_)
  · exact k527 (n, t, v) f0 a0 u0 w0 hP hp0.2 hp1.2
  · exact absurd (hp0.1.trans hp1.1.symm) c1
theorem law_6 (hC : sc_C K code R_law d 4 8) (hX : sc_X K b L xs) (hL : L ≤ 320) (hk : k + 5 ≤ L) (hP : pu_PI n t v) (hI : pu_CI n t v f a) (hM : pu_MS (n, t, v) u w) (k527 : ∀ (S : pu_S) (f' : Nat → Int32) (a' : Nat → Nat → Int32) (u' : Nat → Int32) (w' : Nat → Nat → Int32), pu_PS S → pu_CS S f' a' → pu_MS S u' w' → sc_W K (xw0 h d f' a' ++ xw1 g d u' w') 527 [(0, .ref b), (1, .ref (h 20)), (2, .ref (g 5)), (3, .int (nI k))] []) : sc_W K (xw0 h d f a ++ xw1 g d u w) 264 [(0, .ref b), (1, .ref (h 20)), (2, .ref (g 5)), (3, .int (nI k))] [] := by
  refine sc_aload_n hC dL_law_264 rfl ?_
  refine sc_aload_n hC dL_law_265 rfl ?_
  refine sc_iload_n hC dL_law_266 rfl ?_
  refine sc_iconst (v := 1) hC dL_law_267 (by decide) ?_
  refine sc_iadd hC dL_law_268 ?_
  refine sc_top (nI_1 k) ?_
  refine sc_sld hC hX (by omega) (k + 1) (rfl) (by omega) dL_law_269 ?_
  refine sc_lcall0 hC (c0_value hP hI (xs (k + 1))) kl0_value rfl (by decide) (by decide) dL_law_270 rfl (Nat.le_of_ble_eq_true rfl) (fun r0 f0 a0 hp0 => ?_)
  refine sc_aload_n hC dL_law_273 rfl ?_
  refine sc_aload_n hC dL_law_274 rfl ?_
  refine sc_iload_n hC dL_law_275 rfl ?_
  refine sc_iconst (v := 1) hC dL_law_276 (by decide) ?_
  refine sc_iadd hC dL_law_277 ?_
  refine sc_top (nI_1 k) ?_
  refine sc_sld hC hX (by omega) (k + 1) (rfl) (by omega) dL_law_278 ?_
  refine sc_lcall1 hC (m1_value hP hM (xs (k + 1))) kl1_value rfl (by decide) (by decide) dL_law_279 rfl (Nat.le_of_ble_eq_true rfl) (fun r1 u0 w0 hp1 => ?_)
  refine sc_icmp_eq (tgt := 527) hC dL_law_282 (by decide) (fun c1 => ?_) (fun c1 => ?_)
  · exact k527 (n, t, v) f0 a0 u0 w0 hP hp0.2 hp1.2
  · exact absurd (hp0.1.trans hp1.1.symm) c1
theorem law_7 (hC : sc_C K code R_law d 4 8) (hX : sc_X K b L xs) (hL : L ≤ 320) (hk : k + 5 ≤ L) (hP : pu_PI n t v) (hI : pu_CI n t v f a) (hM : pu_MS (n, t, v) u w) (k527 : ∀ (S : pu_S) (f' : Nat → Int32) (a' : Nat → Nat → Int32) (u' : Nat → Int32) (w' : Nat → Nat → Int32), pu_PS S → pu_CS S f' a' → pu_MS S u' w' → sc_W K (xw0 h d f' a' ++ xw1 g d u' w') 527 [(0, .ref b), (1, .ref (h 20)), (2, .ref (g 5)), (3, .int (nI k))] []) : sc_W K (xw0 h d f a ++ xw1 g d u w) 287 [(0, .ref b), (1, .ref (h 20)), (2, .ref (g 5)), (3, .int (nI k))] [] := by
  refine sc_aload_n hC dL_law_287 rfl ?_
  refine sc_aload_n hC dL_law_288 rfl ?_
  refine sc_iload_n hC dL_law_289 rfl ?_
  refine sc_iconst (v := 1) hC dL_law_290 (by decide) ?_
  refine sc_iadd hC dL_law_291 ?_
  refine sc_top (nI_1 k) ?_
  refine sc_sld hC hX (by omega) (k + 1) (rfl) (by omega) dL_law_292 ?_
  refine sc_lcall0 hC (c0_size hP hI (xs (k + 1))) kl0_size rfl (by decide) (by decide) dL_law_293 rfl (Nat.le_of_ble_eq_true rfl) (fun r0 f0 a0 hp0 => ?_)
  refine sc_aload_n hC dL_law_296 rfl ?_
  refine sc_aload_n hC dL_law_297 rfl ?_
  refine sc_iload_n hC dL_law_298 rfl ?_
  refine sc_iconst (v := 1) hC dL_law_299 (by decide) ?_
  refine sc_iadd hC dL_law_300 ?_
  refine sc_top (nI_1 k) ?_
  refine sc_sld hC hX (by omega) (k + 1) (rfl) (by omega) dL_law_301 ?_
  refine sc_lcall1 hC (m1_size hP hM (xs (k + 1))) kl1_size rfl (by decide) (by decide) dL_law_302 rfl (Nat.le_of_ble_eq_true rfl) (fun r1 u0 w0 hp1 => ?_)
  refine sc_icmp_eq (tgt := 527) hC dL_law_305 (by decide) (fun c1 => ?_) (fun c1 => ?_)
  · exact k527 (n, t, v) f0 a0 u0 w0 hP hp0.2 hp1.2
  · exact absurd (hp0.1.trans hp1.1.symm) c1
theorem law_8 (hC : sc_C K code R_law d 4 8) (hX : sc_X K b L xs) (hL : L ≤ 320) (hk : k + 5 ≤ L) (hP : pu_PI n t v) (hI : pu_CI n t v f a) (hM : pu_MS (n, t, v) u w) (k527 : ∀ (S : pu_S) (f' : Nat → Int32) (a' : Nat → Nat → Int32) (u' : Nat → Int32) (w' : Nat → Nat → Int32), pu_PS S → pu_CS S f' a' → pu_MS S u' w' → sc_W K (xw0 h d f' a' ++ xw1 g d u' w') 527 [(0, .ref b), (1, .ref (h 20)), (2, .ref (g 5)), (3, .int (nI k))] []) : sc_W K (xw0 h d f a ++ xw1 g d u w) 310 [(0, .ref b), (1, .ref (h 20)), (2, .ref (g 5)), (3, .int (nI k))] [] := by
  refine sc_aload_n hC dL_law_310 rfl ?_
  refine sc_lcall0 hC (c0_packed hP hI) kl0_packed rfl (by decide) (by decide) dL_law_311 rfl (Nat.le_of_ble_eq_true rfl) (fun r0 f0 a0 hp0 => ?_)
  refine sc_aload_n hC dL_law_314 rfl ?_
  refine sc_lcall1 hC (m1_packed hP hM) kl1_packed rfl (by decide) (by decide) dL_law_315 rfl (Nat.le_of_ble_eq_true rfl) (fun r1 u0 w0 hp1 => ?_)
  refine sc_icmp_eq (tgt := 527) hC dL_law_318 (by decide) (fun c1 => ?_) (fun c1 => ?_)
  · exact k527 (n, t, v) f0 a0 u0 w0 hP hp0.2 hp1.2
  · exact absurd (hp0.1.trans hp1.1.symm) c1
theorem law_9 (hC : sc_C K code R_law d 4 8) (hX : sc_X K b L xs) (hL : L ≤ 320) (hk : k + 5 ≤ L) (hP : pu_PI n t v) (hI : pu_CI n t v f a) (hM : pu_MS (n, t, v) u w) (k527 : ∀ (S : pu_S) (f' : Nat → Int32) (a' : Nat → Nat → Int32) (u' : Nat → Int32) (w' : Nat → Nat → Int32), pu_PS S → pu_CS S f' a' → pu_MS S u' w' → sc_W K (xw0 h d f' a' ++ xw1 g d u' w') 527 [(0, .ref b), (1, .ref (h 20)), (2, .ref (g 5)), (3, .int (nI k))] []) : sc_W K (xw0 h d f a ++ xw1 g d u w) 323 [(0, .ref b), (1, .ref (h 20)), (2, .ref (g 5)), (3, .int (nI k))] [] := by
  refine sc_aload_n hC dL_law_323 rfl ?_
  refine sc_aload_n hC dL_law_324 rfl ?_
  refine sc_iload_n hC dL_law_325 rfl ?_
  refine sc_iconst (v := 1) hC dL_law_326 (by decide) ?_
  refine sc_iadd hC dL_law_327 ?_
  refine sc_top (nI_1 k) ?_
  refine sc_sld hC hX (by omega) (k + 1) (rfl) (by omega) dL_law_328 ?_
  refine sc_lcall0 hC (c0_firstFrom hP hI (xs (k + 1))) kl0_firstFrom rfl (by decide) (by decide) dL_law_329 rfl (Nat.le_of_ble_eq_true rfl) (fun r0 f0 a0 hp0 => ?_)
  refine sc_aload_n hC dL_law_332 rfl ?_
  refine sc_aload_n hC dL_law_333 rfl ?_
  refine sc_iload_n hC dL_law_334 rfl ?_
  refine sc_iconst (v := 1) hC dL_law_335 (by decide) ?_
  refine sc_iadd hC dL_law_336 ?_
  refine sc_top (nI_1 k) ?_
  refine sc_sld hC hX (by omega) (k + 1) (rfl) (by omega) dL_law_337 ?_
  refine sc_lcall1 hC (m1_firstFrom hP hM (xs (k + 1))) kl1_firstFrom rfl (by decide) (by decide) dL_law_338 rfl (Nat.le_of_ble_eq_true rfl) (fun r1 u0 w0 hp1 => ?_)
  refine sc_icmp_eq (tgt := 527) hC dL_law_341 (by decide) (fun c1 => ?_) (fun c1 => ?_)
  · exact k527 (n, t, v) f0 a0 u0 w0 hP hp0.2 hp1.2
  · exact absurd (hp0.1.trans hp1.1.symm) c1
theorem law_10 (hC : sc_C K code R_law d 4 8) (hX : sc_X K b L xs) (hL : L ≤ 320) (hk : k + 5 ≤ L) (hP : pu_PI n t v) (hI : pu_CI n t v f a) (hM : pu_MS (n, t, v) u w) (k527 : ∀ (S : pu_S) (f' : Nat → Int32) (a' : Nat → Nat → Int32) (u' : Nat → Int32) (w' : Nat → Nat → Int32), pu_PS S → pu_CS S f' a' → pu_MS S u' w' → sc_W K (xw0 h d f' a' ++ xw1 g d u' w') 527 [(0, .ref b), (1, .ref (h 20)), (2, .ref (g 5)), (3, .int (nI k))] []) : sc_W K (xw0 h d f a ++ xw1 g d u w) 346 [(0, .ref b), (1, .ref (h 20)), (2, .ref (g 5)), (3, .int (nI k))] [] := by
  refine sc_aload_n hC dL_law_346 rfl ?_
  refine sc_aload_n hC dL_law_347 rfl ?_
  refine sc_iload_n hC dL_law_348 rfl ?_
  refine sc_iconst (v := 1) hC dL_law_349 (by decide) ?_
  refine sc_iadd hC dL_law_350 ?_
  refine sc_top (nI_1 k) ?_
  refine sc_sld hC hX (by omega) (k + 1) (rfl) (by omega) dL_law_351 ?_
  refine sc_aload_n hC dL_law_352 rfl ?_
  refine sc_iload_n hC dL_law_353 rfl ?_
  refine sc_iconst (v := 2) hC dL_law_354 (by decide) ?_
  refine sc_iadd hC dL_law_355 ?_
  refine sc_top ((nI_add k 2 : nI k + 2 = nI (k + 2))) ?_
  refine sc_sld hC hX (by omega) (k + 2) (rfl) (by omega) dL_law_356 ?_
  refine sc_lcall0 hC (c0_count hP hI (xs (k + 1)) (xs (k + 2))) kl0_count rfl (by decide) (by decide) dL_law_357 rfl (Nat.le_of_ble_eq_true rfl) (fun r0 f0 a0 hp0 => ?_)
  refine sc_aload_n hC dL_law_360 rfl ?_
  refine sc_aload_n hC dL_law_361 rfl ?_
  refine sc_iload_n hC dL_law_362 rfl ?_
  refine sc_iconst (v := 1) hC dL_law_363 (by decide) ?_
  refine sc_iadd hC dL_law_364 ?_
  refine sc_top (nI_1 k) ?_
  refine sc_sld hC hX (by omega) (k + 1) (rfl) (by omega) dL_law_365 ?_
  refine sc_aload_n hC dL_law_366 rfl ?_
  refine sc_iload_n hC dL_law_367 rfl ?_
  refine sc_iconst (v := 2) hC dL_law_368 (by decide) ?_
  refine sc_iadd hC dL_law_369 ?_
  refine sc_top ((nI_add k 2 : nI k + 2 = nI (k + 2))) ?_
  refine sc_sld hC hX (by omega) (k + 2) (rfl) (by omega) dL_law_370 ?_
  refine sc_lcall1 hC (m1_count hP hM (xs (k + 1)) (xs (k + 2))) kl1_count rfl (by decide) (by decide) dL_law_371 rfl (Nat.le_of_ble_eq_true rfl) (fun r1 u0 w0 hp1 => ?_)
  refine sc_icmp_eq (tgt := 527) hC dL_law_374 (by decide) (fun c1 => ?_) (fun c1 => ?_)
  · exact k527 (n, t, v) f0 a0 u0 w0 hP hp0.2 hp1.2
  · exact absurd (hp0.1.trans hp1.1.symm) c1
theorem law_11 (hC : sc_C K code R_law d 4 8) (hX : sc_X K b L xs) (hL : L ≤ 320) (hk : k + 5 ≤ L) (hP : pu_PI n t v) (hI : pu_CI n t v f a) (hM : pu_MS (n, t, v) u w) (k527 : ∀ (S : pu_S) (f' : Nat → Int32) (a' : Nat → Nat → Int32) (u' : Nat → Int32) (w' : Nat → Nat → Int32), pu_PS S → pu_CS S f' a' → pu_MS S u' w' → sc_W K (xw0 h d f' a' ++ xw1 g d u' w') 527 [(0, .ref b), (1, .ref (h 20)), (2, .ref (g 5)), (3, .int (nI k))] []) : sc_W K (xw0 h d f a ++ xw1 g d u w) 379 [(0, .ref b), (1, .ref (h 20)), (2, .ref (g 5)), (3, .int (nI k))] [] := by
  refine sc_aload_n hC dL_law_379 rfl ?_
  refine sc_aload_n hC dL_law_380 rfl ?_
  refine sc_iload_n hC dL_law_381 rfl ?_
  refine sc_iconst (v := 1) hC dL_law_382 (by decide) ?_
  refine sc_iadd hC dL_law_383 ?_
  refine sc_top (nI_1 k) ?_
  refine sc_sld hC hX (by omega) (k + 1) (rfl) (by omega) dL_law_384 ?_
  refine sc_aload_n hC dL_law_385 rfl ?_
  refine sc_iload_n hC dL_law_386 rfl ?_
  refine sc_iconst (v := 2) hC dL_law_387 (by decide) ?_
  refine sc_iadd hC dL_law_388 ?_
  refine sc_top ((nI_add k 2 : nI k + 2 = nI (k + 2))) ?_
  refine sc_sld hC hX (by omega) (k + 2) (rfl) (by omega) dL_law_389 ?_
  refine sc_lcall0 hC (c0_sum hP hI (xs (k + 1)) (xs (k + 2))) kl0_sum rfl (by decide) (by decide) dL_law_390 rfl (Nat.le_of_ble_eq_true rfl) (fun r0 f0 a0 hp0 => ?_)
  refine sc_aload_n hC dL_law_393 rfl ?_
  refine sc_aload_n hC dL_law_394 rfl ?_
  refine sc_iload_n hC dL_law_395 rfl ?_
  refine sc_iconst (v := 1) hC dL_law_396 (by decide) ?_
  refine sc_iadd hC dL_law_397 ?_
  refine sc_top (nI_1 k) ?_
  refine sc_sld hC hX (by omega) (k + 1) (rfl) (by omega) dL_law_398 ?_
  refine sc_aload_n hC dL_law_399 rfl ?_
  refine sc_iload_n hC dL_law_400 rfl ?_
  refine sc_iconst (v := 2) hC dL_law_401 (by decide) ?_
  refine sc_iadd hC dL_law_402 ?_
  refine sc_top ((nI_add k 2 : nI k + 2 = nI (k + 2))) ?_
  refine sc_sld hC hX (by omega) (k + 2) (rfl) (by omega) dL_law_403 ?_
  refine sc_lcall1 hC (m1_sum hP hM (xs (k + 1)) (xs (k + 2))) kl1_sum rfl (by decide) (by decide) dL_law_404 rfl (Nat.le_of_ble_eq_true rfl) (fun r1 u0 w0 hp1 => ?_)
  refine sc_icmp_eq (tgt := 527) hC dL_law_407 (by decide) (fun c1 => ?_) (fun c1 => ?_)
  · exact k527 (n, t, v) f0 a0 u0 w0 hP hp0.2 hp1.2
  · exact absurd (hp0.1.trans hp1.1.symm) c1
theorem law_12 (hC : sc_C K code R_law d 4 8) (hX : sc_X K b L xs) (hL : L ≤ 320) (hk : k + 5 ≤ L) (hP : pu_PI n t v) (hI : pu_CI n t v f a) (hM : pu_MS (n, t, v) u w) (k527 : ∀ (S : pu_S) (f' : Nat → Int32) (a' : Nat → Nat → Int32) (u' : Nat → Int32) (w' : Nat → Nat → Int32), pu_PS S → pu_CS S f' a' → pu_MS S u' w' → sc_W K (xw0 h d f' a' ++ xw1 g d u' w') 527 [(0, .ref b), (1, .ref (h 20)), (2, .ref (g 5)), (3, .int (nI k))] []) : sc_W K (xw0 h d f a ++ xw1 g d u w) 412 [(0, .ref b), (1, .ref (h 20)), (2, .ref (g 5)), (3, .int (nI k))] [] := by
  refine sc_aload_n hC dL_law_412 rfl ?_
  refine sc_aload_n hC dL_law_413 rfl ?_
  refine sc_iload_n hC dL_law_414 rfl ?_
  refine sc_iconst (v := 1) hC dL_law_415 (by decide) ?_
  refine sc_iadd hC dL_law_416 ?_
  refine sc_top (nI_1 k) ?_
  refine sc_sld hC hX (by omega) (k + 1) (rfl) (by omega) dL_law_417 ?_
  refine sc_aload_n hC dL_law_418 rfl ?_
  refine sc_iload_n hC dL_law_419 rfl ?_
  refine sc_iconst (v := 2) hC dL_law_420 (by decide) ?_
  refine sc_iadd hC dL_law_421 ?_
  refine sc_top ((nI_add k 2 : nI k + 2 = nI (k + 2))) ?_
  refine sc_sld hC hX (by omega) (k + 2) (rfl) (by omega) dL_law_422 ?_
  refine sc_lcall0 hC (c0_greatest hP hI (xs (k + 1)) (xs (k + 2))) kl0_greatest rfl (by decide) (by decide) dL_law_423 rfl (Nat.le_of_ble_eq_true rfl) (fun r0 f0 a0 hp0 => ?_)
  refine sc_aload_n hC dL_law_426 rfl ?_
  refine sc_aload_n hC dL_law_427 rfl ?_
  refine sc_iload_n hC dL_law_428 rfl ?_
  refine sc_iconst (v := 1) hC dL_law_429 (by decide) ?_
  refine sc_iadd hC dL_law_430 ?_
  refine sc_top (nI_1 k) ?_
  refine sc_sld hC hX (by omega) (k + 1) (rfl) (by omega) dL_law_431 ?_
  refine sc_aload_n hC dL_law_432 rfl ?_
  refine sc_iload_n hC dL_law_433 rfl ?_
  refine sc_iconst (v := 2) hC dL_law_434 (by decide) ?_
  refine sc_iadd hC dL_law_435 ?_
  refine sc_top ((nI_add k 2 : nI k + 2 = nI (k + 2))) ?_
  refine sc_sld hC hX (by omega) (k + 2) (rfl) (by omega) dL_law_436 ?_
  refine sc_lcall1 hC (m1_greatest hP hM (xs (k + 1)) (xs (k + 2))) kl1_greatest rfl (by decide) (by decide) dL_law_437 rfl (Nat.le_of_ble_eq_true rfl) (fun r1 u0 w0 hp1 => ?_)
  refine sc_icmp_eq (tgt := 527) hC dL_law_440 (by decide) (fun c1 => ?_) (fun c1 => ?_)
  · exact k527 (n, t, v) f0 a0 u0 w0 hP hp0.2 hp1.2
  · exact absurd (hp0.1.trans hp1.1.symm) c1
theorem law_13 (hC : sc_C K code R_law d 4 8) (hX : sc_X K b L xs) (hL : L ≤ 320) (hk : k + 5 ≤ L) (hP : pu_PI n t v) (hI : pu_CI n t v f a) (hM : pu_MS (n, t, v) u w) (k527 : ∀ (S : pu_S) (f' : Nat → Int32) (a' : Nat → Nat → Int32) (u' : Nat → Int32) (w' : Nat → Nat → Int32), pu_PS S → pu_CS S f' a' → pu_MS S u' w' → sc_W K (xw0 h d f' a' ++ xw1 g d u' w') 527 [(0, .ref b), (1, .ref (h 20)), (2, .ref (g 5)), (3, .int (nI k))] []) : sc_W K (xw0 h d f a ++ xw1 g d u w) 445 [(0, .ref b), (1, .ref (h 20)), (2, .ref (g 5)), (3, .int (nI k))] [] := by
  refine sc_aload_n hC dL_law_445 rfl ?_
  refine sc_aload_n hC dL_law_446 rfl ?_
  refine sc_iload_n hC dL_law_447 rfl ?_
  refine sc_iconst (v := 1) hC dL_law_448 (by decide) ?_
  refine sc_iadd hC dL_law_449 ?_
  refine sc_top (nI_1 k) ?_
  refine sc_sld hC hX (by omega) (k + 1) (rfl) (by omega) dL_law_450 ?_
  refine sc_aload_n hC dL_law_451 rfl ?_
  refine sc_iload_n hC dL_law_452 rfl ?_
  refine sc_iconst (v := 2) hC dL_law_453 (by decide) ?_
  refine sc_iadd hC dL_law_454 ?_
  refine sc_top ((nI_add k 2 : nI k + 2 = nI (k + 2))) ?_
  refine sc_sld hC hX (by omega) (k + 2) (rfl) (by omega) dL_law_455 ?_
  refine sc_lcall0 hC (c0_least hP hI (xs (k + 1)) (xs (k + 2))) kl0_least rfl (by decide) (by decide) dL_law_456 rfl (Nat.le_of_ble_eq_true rfl) (fun r0 f0 a0 hp0 => ?_)
  refine sc_aload_n hC dL_law_459 rfl ?_
  refine sc_aload_n hC dL_law_460 rfl ?_
  refine sc_iload_n hC dL_law_461 rfl ?_
  refine sc_iconst (v := 1) hC dL_law_462 (by decide) ?_
  refine sc_iadd hC dL_law_463 ?_
  refine sc_top (nI_1 k) ?_
  refine sc_sld hC hX (by omega) (k + 1) (rfl) (by omega) dL_law_464 ?_
  refine sc_aload_n hC dL_law_465 rfl ?_
  refine sc_iload_n hC dL_law_466 rfl ?_
  refine sc_iconst (v := 2) hC dL_law_467 (by decide) ?_
  refine sc_iadd hC dL_law_468 ?_
  refine sc_top ((nI_add k 2 : nI k + 2 = nI (k + 2))) ?_
  refine sc_sld hC hX (by omega) (k + 2) (rfl) (by omega) dL_law_469 ?_
  refine sc_lcall1 hC (m1_least hP hM (xs (k + 1)) (xs (k + 2))) kl1_least rfl (by decide) (by decide) dL_law_470 rfl (Nat.le_of_ble_eq_true rfl) (fun r1 u0 w0 hp1 => ?_)
  refine sc_icmp_eq (tgt := 527) hC dL_law_473 (by decide) (fun c1 => ?_) (fun c1 => ?_)
  · exact k527 (n, t, v) f0 a0 u0 w0 hP hp0.2 hp1.2
  · exact absurd (hp0.1.trans hp1.1.symm) c1
theorem law_14 (hC : sc_C K code R_law d 4 8) (hX : sc_X K b L xs) (hL : L ≤ 320) (hk : k + 5 ≤ L) (hP : pu_PI n t v) (hI : pu_CI n t v f a) (hM : pu_MS (n, t, v) u w) (k527 : ∀ (S : pu_S) (f' : Nat → Int32) (a' : Nat → Nat → Int32) (u' : Nat → Int32) (w' : Nat → Nat → Int32), pu_PS S → pu_CS S f' a' → pu_MS S u' w' → sc_W K (xw0 h d f' a' ++ xw1 g d u' w') 527 [(0, .ref b), (1, .ref (h 20)), (2, .ref (g 5)), (3, .int (nI k))] []) : sc_W K (xw0 h d f a ++ xw1 g d u w) 478 [(0, .ref b), (1, .ref (h 20)), (2, .ref (g 5)), (3, .int (nI k))] [] := by
  refine sc_aload_n hC dL_law_478 rfl ?_
  refine sc_aload_n hC dL_law_479 rfl ?_
  refine sc_iload_n hC dL_law_480 rfl ?_
  refine sc_iconst (v := 1) hC dL_law_481 (by decide) ?_
  refine sc_iadd hC dL_law_482 ?_
  refine sc_top (nI_1 k) ?_
  refine sc_sld hC hX (by omega) (k + 1) (rfl) (by omega) dL_law_483 ?_
  refine sc_lcall0 hC (c0_valueAt hP hI (xs (k + 1))) kl0_valueAt rfl (by decide) (by decide) dL_law_484 rfl (Nat.le_of_ble_eq_true rfl) (fun r0 f0 a0 hp0 => ?_)
  refine sc_aload_n hC dL_law_487 rfl ?_
  refine sc_aload_n hC dL_law_488 rfl ?_
  refine sc_iload_n hC dL_law_489 rfl ?_
  refine sc_iconst (v := 1) hC dL_law_490 (by decide) ?_
  refine sc_iadd hC dL_law_491 ?_
  refine sc_top (nI_1 k) ?_
  refine sc_sld hC hX (by omega) (k + 1) (rfl) (by omega) dL_law_492 ?_
  refine sc_lcall1 hC (m1_valueAt hP hM (xs (k + 1))) kl1_valueAt rfl (by decide) (by decide) dL_law_493 rfl (Nat.le_of_ble_eq_true rfl) (fun r1 u0 w0 hp1 => ?_)
  refine sc_icmp_eq (tgt := 527) hC dL_law_496 (by decide) (fun c1 => ?_) (fun c1 => ?_)
  · exact k527 (n, t, v) f0 a0 u0 w0 hP hp0.2 hp1.2
  · exact absurd (hp0.1.trans hp1.1.symm) c1
theorem law_15 (hC : sc_C K code R_law d 4 8) (hX : sc_X K b L xs) (hL : L ≤ 320) (hk : k + 5 ≤ L) (hP : pu_PI n t v) (hI : pu_CI n t v f a) (hM : pu_MS (n, t, v) u w) (k527 : ∀ (S : pu_S) (f' : Nat → Int32) (a' : Nat → Nat → Int32) (u' : Nat → Int32) (w' : Nat → Nat → Int32), pu_PS S → pu_CS S f' a' → pu_MS S u' w' → sc_W K (xw0 h d f' a' ++ xw1 g d u' w') 527 [(0, .ref b), (1, .ref (h 20)), (2, .ref (g 5)), (3, .int (nI k))] []) : sc_W K (xw0 h d f a ++ xw1 g d u w) 501 [(0, .ref b), (1, .ref (h 20)), (2, .ref (g 5)), (3, .int (nI k))] [] := by
  refine sc_aload_n hC dL_law_501 rfl ?_
  refine sc_lcall0 hC (c0_rises hP hI) kl0_rises rfl (by decide) (by decide) dL_law_502 rfl (Nat.le_of_ble_eq_true rfl) (fun r0 f0 a0 hp0 => ?_)
  refine sc_aload_n hC dL_law_505 rfl ?_
  refine sc_lcall1 hC (m1_rises hP hM) kl1_rises rfl (by decide) (by decide) dL_law_506 rfl (Nat.le_of_ble_eq_true rfl) (fun r1 u0 w0 hp1 => ?_)
  refine sc_icmp_eq (tgt := 527) hC dL_law_509 (by decide) (fun c1 => ?_) (fun c1 => ?_)
  · exact k527 (n, t, v) f0 a0 u0 w0 hP hp0.2 hp1.2
  · exact absurd (hp0.1.trans hp1.1.symm) c1
theorem law_16 (hC : sc_C K code R_law d 4 8) (hX : sc_X K b L xs) (hL : L ≤ 320) (hk : k + 5 ≤ L) (hP : pu_PI n t v) (hI : pu_CI n t v f a) (hM : pu_MS (n, t, v) u w) (k527 : ∀ (S : pu_S) (f' : Nat → Int32) (a' : Nat → Nat → Int32) (u' : Nat → Int32) (w' : Nat → Nat → Int32), pu_PS S → pu_CS S f' a' → pu_MS S u' w' → sc_W K (xw0 h d f' a' ++ xw1 g d u' w') 527 [(0, .ref b), (1, .ref (h 20)), (2, .ref (g 5)), (3, .int (nI k))] []) : sc_W K (xw0 h d f a ++ xw1 g d u w) 514 [(0, .ref b), (1, .ref (h 20)), (2, .ref (g 5)), (3, .int (nI k))] [] := by
  refine sc_aload_n hC dL_law_514 rfl ?_
  refine sc_lcall0 hC (c0_widestGap hP hI) kl0_widestGap rfl (by decide) (by decide) dL_law_515 rfl (Nat.le_of_ble_eq_true rfl) (fun r0 f0 a0 hp0 => ?_)
  refine sc_aload_n hC dL_law_518 rfl ?_
  refine sc_lcall1 hC (m1_widestGap hP hM) kl1_widestGap rfl (by decide) (by decide) dL_law_519 rfl (Nat.le_of_ble_eq_true rfl) (fun r1 u0 w0 hp1 => ?_)
  refine sc_icmp_eq (tgt := 527) hC dL_law_522 (by decide) (fun c1 => ?_) (fun c1 => ?_)
  · exact k527 (n, t, v) f0 a0 u0 w0 hP hp0.2 hp1.2
  · exact absurd (hp0.1.trans hp1.1.symm) c1
end LC
end
section
set_option maxRecDepth 100000
/-! the law's loop -/
theorem law_loop {K : sc_K} {d : ClassId} {h g : Nat → Nat} {b L : Nat} {xs : Nat → Int32} (hC : sc_C K code R_law d 4 8) (hX : sc_X K b L xs) (hL : L ≤ 320) (hk : ∀ (ws : va_W) (lv : List (Nat × Value)), sc_W K ws 534 lv [.int 1]) :
    ∀ (j k : Nat) (S : pu_S) (f : Nat → Int32) (a : Nat → Nat → Int32) (u : Nat → Int32) (w : Nat → Nat → Int32), L + 1 ≤ k + j → k ≤ 640 → pu_PS S → pu_CS S f a → pu_MS S u w → sc_W K (xw0 h d f a ++ xw1 g d u w) 18 [(0, .ref b), (1, .ref (h 20)), (2, .ref (g 5)), (3, .int (nI k))] [] := by
  have ti : (nI L - 5).toInt = (L : Int) - 5 := pk_sub_toInt (b := 5) (by omega) (by decide)
  intro j
  induction j with
  | zero =>
    intro k S f a u w hkj hkl hP hI hM
    refine sc_iload_n hC dL_law_18 rfl ?_
    refine sc_aload_n hC dL_law_19 rfl ?_
    refine sc_slen hC hX dL_law_20 ?_
    refine sc_iconst (v := 5) hC dL_law_21 (by decide) ?_
    refine sc_isub hC dL_law_22 ?_
    refine sc_icmp_gt (tgt := 533) hC dL_law_23 (by decide) (fun c1 => ?_) (fun c1 => ?_)
    · refine sc_iconst (v := 1) hC dL_law_533 (by decide) ?_
      exact hk _ _
    · exact absurd ((pu_lt ti (nI_toInt (by omega))).mpr (by omega)) c1
  | succ j ih =>
    intro k S f a u w hkj hkl hP hI hM
    obtain ⟨n, t, v⟩ := S
    have hP : pu_PI n t v := hP
    have hI : pu_CI n t v f a := hI
    refine sc_iload_n hC dL_law_18 rfl ?_
    refine sc_aload_n hC dL_law_19 rfl ?_
    refine sc_slen hC hX dL_law_20 ?_
    refine sc_iconst (v := 5) hC dL_law_21 (by decide) ?_
    refine sc_isub hC dL_law_22 ?_
    refine sc_icmp_gt (tgt := 533) hC dL_law_23 (by decide) (fun c1 => ?_) (fun c1 => ?_)
    · refine sc_iconst (v := 1) hC dL_law_533 (by decide) ?_
      exact hk _ _
    · have c1 : ¬ (L : Int) - 5 < (k : Int) := fun q => c1 ((pu_lt ti (nI_toInt (by omega))).mpr q)
      have hk5 : k + 5 ≤ L := by omega
      have k527 : ∀ (S : pu_S) (f' : Nat → Int32) (a' : Nat → Nat → Int32) (u' : Nat → Int32) (w' : Nat → Nat → Int32), pu_PS S → pu_CS S f' a' → pu_MS S u' w' → sc_W K (xw0 h d f' a' ++ xw1 g d u' w') 527 [(0, .ref b), (1, .ref (h 20)), (2, .ref (g 5)), (3, .int (nI k))] [] := by
        intro S f' a' u' w' hP' hI' hM'
        refine sc_iinc (v := 5) hC dL_law_527 (by decide) rfl rfl (by decide) ?_
        refine sc_goto (tgt := 18) hC dL_law_530 (by decide) ?_
        rw [show nI k + 5 = nI (k + 5) from nI_add k 5]
        exact ih (k + 5) S f' a' u' w' (by omega) (by omega) hP' hI' hM'
      refine sc_aload_n hC dL_law_26 rfl ?_
      refine sc_iload_n hC dL_law_27 rfl ?_
      refine sc_sld hC hX (by omega) (k) (rfl) (by omega) dL_law_28 ?_
      refine sc_bipush (v := 31) hC dL_law_29 (by decide) ?_
      refine sc_iand hC dL_law_31 ?_
      obtain ⟨o, ho, eo⟩ := pk_andE (xs k) (m := 31) 5 (by decide)
      refine sc_top eo ?_
      by_cases h16 : o ≤ 16
      · rcases (show o = 0 ∨ o = 1 ∨ o = 2 ∨ o = 3 ∨ o = 4 ∨ o = 5 ∨ o = 6 ∨ o = 7 ∨ o = 8 ∨ o = 9 ∨ o = 10 ∨ o = 11 ∨ o = 12 ∨ o = 13 ∨ o = 14 ∨ o = 15 ∨ o = 16 by omega) with rfl | rfl | rfl | rfl | rfl | rfl | rfl | rfl | rfl | rfl | rfl | rfl | rfl | rfl | rfl | rfl | rfl
        · exact sc_tin (tgt := 116) (off := 84) hC dL_law_32 (by decide) (by decide) (by decide) (by decide) (law_0 hC hX hL hk5 hP hI hM k527)
        · exact sc_tin (tgt := 149) (off := 117) hC dL_law_32 (by decide) (by decide) (by decide) (by decide) (law_1 hC hX hL hk5 hP hI hM k527)
        · exact sc_tin (tgt := 202) (off := 170) hC dL_law_32 (by decide) (by decide) (by decide) (by decide) (law_2 hC hX hL hk5 hP hI hM k527)
        · exact sc_tin (tgt := 215) (off := 183) hC dL_law_32 (by decide) (by decide) (by decide) (by decide) (law_3 hC hX hL hk5 hP hI hM k527)
        · exact sc_tin (tgt := 228) (off := 196) hC dL_law_32 (by decide) (by decide) (by decide) (by decide) (law_4 hC hX hL hk5 hP hI hM k527)
        · exact sc_tin (tgt := 241) (off := 209) hC dL_law_32 (by decide) (by decide) (by decide) (by decide) (law_5 hC hX hL hk5 hP hI hM k527)
        · exact sc_tin (tgt := 264) (off := 232) hC dL_law_32 (by decide) (by decide) (by decide) (by decide) (law_6 hC hX hL hk5 hP hI hM k527)
        · exact sc_tin (tgt := 287) (off := 255) hC dL_law_32 (by decide) (by decide) (by decide) (by decide) (law_7 hC hX hL hk5 hP hI hM k527)
        · exact sc_tin (tgt := 310) (off := 278) hC dL_law_32 (by decide) (by decide) (by decide) (by decide) (law_8 hC hX hL hk5 hP hI hM k527)
        · exact sc_tin (tgt := 323) (off := 291) hC dL_law_32 (by decide) (by decide) (by decide) (by decide) (law_9 hC hX hL hk5 hP hI hM k527)
        · exact sc_tin (tgt := 346) (off := 314) hC dL_law_32 (by decide) (by decide) (by decide) (by decide) (law_10 hC hX hL hk5 hP hI hM k527)
        · exact sc_tin (tgt := 379) (off := 347) hC dL_law_32 (by decide) (by decide) (by decide) (by decide) (law_11 hC hX hL hk5 hP hI hM k527)
        · exact sc_tin (tgt := 412) (off := 380) hC dL_law_32 (by decide) (by decide) (by decide) (by decide) (law_12 hC hX hL hk5 hP hI hM k527)
        · exact sc_tin (tgt := 445) (off := 413) hC dL_law_32 (by decide) (by decide) (by decide) (by decide) (law_13 hC hX hL hk5 hP hI hM k527)
        · exact sc_tin (tgt := 478) (off := 446) hC dL_law_32 (by decide) (by decide) (by decide) (by decide) (law_14 hC hX hL hk5 hP hI hM k527)
        · exact sc_tin (tgt := 501) (off := 469) hC dL_law_32 (by decide) (by decide) (by decide) (by decide) (law_15 hC hX hL hk5 hP hI hM k527)
        · exact sc_tin (tgt := 514) (off := 482) hC dL_law_32 (by decide) (by decide) (by decide) (by decide) (law_16 hC hX hL hk5 hP hI hM k527)
      · refine sc_tout (tgt := 527) hC dL_law_32 (Or.inr ?_) (by decide) (k527 (n, t, v) f a u w hP hI hM)
        rw [nI_toInt (by omega)]
        omega
end
section
set_option maxRecDepth 100000
theorem hfs0 : ∀ j, j < 20 → defaultValue (tyX0 j) = vp_V fs0 j := by
  intro j hj
  rcases (show j = 0 ∨ j = 1 ∨ j = 2 ∨ j = 3 ∨ j = 4 ∨ j = 5 ∨ j = 6 ∨ j = 7 ∨ j = 8 ∨ j = 9 ∨ j = 10 ∨ j = 11 ∨ j = 12 ∨ j = 13 ∨ j = 14 ∨ j = 15 ∨ j = 16 ∨ j = 17 ∨ j = 18 ∨ j = 19 by omega) with rfl | rfl | rfl | rfl | rfl | rfl | rfl | rfl | rfl | rfl | rfl | rfl | rfl | rfl | rfl | rfl | rfl | rfl | rfl | rfl <;> rfl
theorem hfs1 : ∀ j, j < 5 → defaultValue (tyX1 j) = vp_V fs1 j := by
  intro j hj
  rcases (show j = 0 ∨ j = 1 ∨ j = 2 ∨ j = 3 ∨ j = 4 by omega) with rfl | rfl | rfl | rfl | rfl <;> rfl
/-- from the entry, for every script of at most 320 ints, the law comes to its end with true -/
theorem whole_start {p : Program} {e : Env} {s : State} {m : MethodId} {below : List Frame} {meth : Method} {c : Code} (l : Launch) {b L : Nat} {xs : Nat → Int32} (hL : L ≤ 320) (C0 : lw_At p s m meth c b L xs) : W p l e room_1 s m #[Value.ref b] below meth c s.heap [] 0 0 (lw_Z below #[Value.ref b] s) (entryFrame m ([Value.ref b] : List Value).toArray 4) := by
  obtain ⟨hx, hb, hr, hml, hown, hts0, hX, hbl, hlocks, -⟩ := C0
  have hts : ∀ w ∈ lw_all, w.before #[Value.ref b] s = true := fun w h => hts0 w (lw_all_tbl h)
  obtain ⟨c0_, iS0, hKn0⟩ := u_known (C := RX0) (T := TX0) (N := 20) (n := 20) hts in_X0 (hts _ q31)
  obtain ⟨c1_, iS1, hKn1⟩ := u_known (C := RX1) (T := TX1) (N := 5) (n := 5) hts in_X1 (hts _ q253)
  obtain ⟨D, hn0, hn1⟩ : ∃ D : va_G, u_Kn s RX0 TX0 20 (D.1 0) (D.2 0) ∧ u_Kn s RX1 TX1 5 (D.1 1) (D.2 1) := ⟨(fun k => if k = 0 then c0_ else c1_, fun k => if k = 0 then iS0 else iS1), hKn0, hKn1⟩
  have hK : va_K D vwCl [] s := by
    refine ⟨fun k q hq => ?_, fun k q hq => by simp at hq⟩
    match k, hq with
    | 0, hq => cases hq; exact hn0
    | 1, hq => cases hq; exact hn1
    | k + 2, hq => simp [vwCl] at hq
  obtain ⟨A, hAe⟩ : ∃ A : Nat → Prop, A = fun q => s.heap.size ≤ q := ⟨_, rfl⟩
  have hA : ∀ q : Nat, s.heap.size ≤ q → A q := fun q h => by rw [hAe]; exact h
  have hP : va_P D vwCl [] s.heap := fun k q h => by simp at h
  have hD : va_D A [] := ⟨fun i j p q h => by simp at h, fun k q h => by simp at h⟩
  have hS : va_S A s.heap s.heap [] := va_S.rf
  have hl := lv_entry ([.ref b]) (n := 4) (Nat.le_of_ble_eq_true rfl)
  rw [lg_entry_eq]
  generalize (lg_sl ([.ref b]) ++ List.replicate (4 - (lg_sl ([.ref b])).length) Slot.unset).toArray = ls at hl ⊢
  have hl : lv_has ls 4 [(0, .ref b)] := hl
  refine va_new (ci := 0) (fs := fs0) (C := RX0) (T := TX0) (N := 20) hx hb hts in_X0 tyX0 tyX0_ok hown (hts _ q30) (hts _ q31) (hts _ q28) hK hP hD hS hA rfl hfs0 (Nat.le_of_ble_eq_true rfl) (Nat.le_of_ble_eq_true rfl) dL_law_0 (fun o1 H hP hD hS => ?_)
  have hP : va_P D vwCl [(o1, .inr (0, fs0))] H := hP
  have hD : va_D A [(o1, .inr (0, fs0))] := hD
  refine lv_dup hx hb dL_law_3 rfl ?_
  have hFc := va_free (wc := [(o1, .inr (0, fs0))]) hD hS hA [0] rfl
  refine va_callv (va_runI (As := []) (rest := [.ref o1]) ⟨hx, hb, hml, hown, hts⟩ (c0_init l D o1 H.size) (cwI 0 hts (lw_meth q34) rfl rfl rfl (hts _ q28) (hts _ q32) (hts _ q33) rfl (by decide +kernel) ⟨Nat.le_of_ble_eq_true rfl, Nat.le_of_ble_eq_true rfl⟩) ⟨fun a U g mk q => by obtain ⟨q0, q1, qP, qK, qD⟩ := q; exact ⟨q0, q1, qP, va_K.moved (u := U) (U := U.calling g mk a) (Vm.Alike.refl U.vm) qK, qD⟩, fun U hU hW => ⟨rfl, by rw [hU], by rw [hU]; exact hP, va_K.moved hW.alike hK, hD.weaken (fun _ _ _ _ => trivial)⟩⟩ rfl rfl hl.1 rfl (lv_room (Nat.le_of_ble_eq_true rfl)) dL_law_4 ⟨Nat.le_of_ble_eq_true rfl, Nat.le_of_ble_eq_true rfl⟩) hS (fun q _ h => hFc q h) hFc (fun z t H1 locs ht hvm hw1 hB hz1 hk1 hS => ?_)
  obtain ⟨d, h⟩ := z
  have hw1 : h 20 = o1 := hw1
  obtain ⟨hPa, hKa, hDa⟩ := hB
  rw [ht] at hPa
  have hP1 : va_P D vwCl (xw0 h d if0 ia0) H1 := hPa
  have hD1 : va_D A (xw0 h d if0 ia0) := hDa.weaken (fun _ q _ hq => hFc q.1 hq)
  have hK1 : va_K D vwCl [(d, .int)] s := va_K.moved hvm.symm hKa
  clear hPa hDa hKa hFc hk1 hP hD
  subst hw1
  generalize H1 = H at hP1 hS ⊢
  refine lv_astore_n (lv' := [(1, .ref (h 20)), (0, .ref b)]) hx hb dL_law_7 rfl hl (by decide) rfl (fun ls hl => ?_)
  refine va_new (ci := 1) (fs := fs1) (C := RX1) (T := TX1) (N := 5) hx hb hts in_X1 tyX1 tyX1_ok hown (hts _ q252) (hts _ q253) (hts _ q29) hK1 hP1 hD1 hS hA rfl hfs1 (Nat.le_of_ble_eq_true rfl) (Nat.le_of_ble_eq_true rfl) dL_law_8 (fun o2 H hP hD hS => ?_)
  refine lv_dup hx hb dL_law_11 rfl ?_
  have hPc : va_P D vwCl [(o2, .inr (1, fs1))] H := hP.sub [10] rfl
  have hDc : va_D A [(o2, .inr (1, fs1))] := hD.sub [10] (by decide) rfl
  have hFc := va_free (wc := [(o2, .inr (1, fs1))]) hD hS hA [10] rfl
  refine va_callv (va_runI (As := []) (rest := [.ref o2]) ⟨hx, hb, hml, hown, hts⟩ (c1_init l D o2 H.size) (cwI 0 hts (lw_meth q256) rfl rfl rfl (hts _ q29) (hts _ q254) (hts _ q255) rfl (by decide +kernel) ⟨Nat.le_of_ble_eq_true rfl, Nat.le_of_ble_eq_true rfl⟩) ⟨fun a U g mk q => by obtain ⟨q0, q1, qP, qK, qD⟩ := q; exact ⟨q0, q1, qP, va_K.moved (u := U) (U := U.calling g mk a) (Vm.Alike.refl U.vm) qK, qD⟩, fun U hU hW => ⟨rfl, by rw [hU], by rw [hU]; exact hPc, va_K.moved hW.alike hK, hDc.weaken (fun _ _ _ _ => trivial)⟩⟩ rfl rfl hl.1 rfl (lv_room (Nat.le_of_ble_eq_true rfl)) dL_law_12 ⟨Nat.le_of_ble_eq_true rfl, Nat.le_of_ble_eq_true rfl⟩) hS (fun q _ h => hFc q h) hFc (fun z t H1 locs ht hvm hw1 hB hz1 hk1 hS => ?_)
  obtain ⟨d2, g⟩ := z
  have hw1 : g 5 = o2 := hw1
  obtain ⟨hPb, hKb, hDb⟩ := hB
  rw [ht] at hPb
  have hP2 : va_P D vwCl (xw1 g d2 if1 ia1) H1 := hPb
  have hD2 : va_D _ (xw1 g d2 if1 ia1) := hDb
  have hK2 : va_K D vwCl [(d2, .int)] s := va_K.moved hvm.symm hKb
  have e2 := sc_same (c1 := d) (c2 := d2) (hK1.app hK2)
  subst e2
  subst hw1
  obtain ⟨hP3, hD3⟩ := va_join (wr := xw0 h d if0 ia0) (w1 := xw1 g d if1 ia1) hP hD [10] [0, 1, 2, 3, 4, 5, 6, 7, 8, 9] rfl rfl (by decide) (by decide) hk1 hFc hP2 hD2
  generalize H1 = H at hP3 hS ⊢
  refine lv_astore_n (lv' := [(2, .ref (g 5)), (1, .ref (h 20)), (0, .ref b)]) hx hb dL_law_15 rfl hl (by decide) rfl (fun ls hl => ?_)
  refine lv_iconst (v := 0) hx hb dL_law_16 (by decide) ?_
  refine lv_istore_n (lv' := [(3, .int 0), (2, .ref (g 5)), (1, .ref (h 20)), (0, .ref b)]) hx hb dL_law_17 rfl hl (by decide) rfl (fun ls hl => ?_)
  refine W.widen (k := 600000) (n := 7290000) (Nat.le_of_ble_eq_true rfl) (Nat.le_of_ble_eq_true rfl) ?_
  have hl : lv_has ls 4 [(0, .ref b), (1, .ref (h 20)), (2, .ref (g 5)), (3, .int (nI 0))] := lv_sub hl [3, 2, 1, 0] rfl
  refine law_loop (K := (p, l, e, room_1, s, m, #[Value.ref b], below, meth, c, A, D, 4, 600000, 7290000, lw_Z below #[Value.ref b] s)) (d := d) (h := h) (g := g) (b := b) (L := L) (xs := xs) ?_ ?_ hL ?_ (L + 1) 0 (0, fun _ => 0, fun _ => 0) if0 ia0 if1 ia1 (by omega) (by omega) ?_ ?_ ?_ H locs ls hP3 hD3 hS hl
  · exact ⟨hx, hb, hml, hown, hts, hK1, hA, rfl, by decide, by decide, Nat.le_refl _, Nat.le_refl _⟩
  · exact ⟨hX, hbl, fun q => by rw [hAe] at q; omega⟩
  · intro ws lv H locs ls hP hD hS hl
    refine va_forget (fun q hq => ?_) (lw_ret hx hb hr hlocks dL_law_534)
    have := hS.2.2 q hq
    rw [hAe] at this
    exact this
  · exact ⟨by decide, fun i hi => absurd hi (Nat.not_lt_zero _), fun i hi => absurd hi (Nat.not_lt_zero _), fun i hi => absurd hi (Nat.not_lt_zero _)⟩
  · exact ⟨rfl, fun c hc => absurd hc (Nat.not_lt_zero _)⟩
  · exact ⟨rfl, fun i hi => absurd hi (Nat.not_lt_zero _)⟩
set_option maxHeartbeats 4000000 in
theorem lw_walk (l : Launch) (b : Addr) (xs : List Int32) : MetFree l x (headSpec (Jvm.Cond.code x code maxLocals ret :: tables_1) room_1) (lw_P b xs) (fun _ _ _ _ _ => True) lw_Q := by
  refine MetFree.of_bodyS (code := code) (maxLocals := maxLocals) (ret := ret) (by decide) ?_ ?_
  · intro args s m h hn
    obtain ⟨meth, c, h1, h2, h3, h4, h5, h6, -, -⟩ := Cond.code_spec hn (atoms_spec (ws := Jvm.Cond.code x code maxLocals ret :: tables_1) h _ List.mem_cons_self)
    exact ⟨meth, c, h1, h2, h3, h4, h5, h6⟩
  · intro p e s m args below meth c s₁ B hml0 hP _
    obtain ⟨rfl, hx, hbd, hgv⟩ := hP
    obtain ⟨scr, harrAt, hlist, hof, hsmall⟩ := hx
    obtain ⟨hcb, hkn, -, -⟩ := State.arrayAt?_spec harrAt
    have hown : s.vm.findClass R_law = some m.cls := findClass_of_methodNamed B.named
    have hts0 : ∀ c ∈ (Jvm.Cond.code x code maxLocals ret :: tables_1), c.before #[Value.ref b] s = true := atoms_spec (ws := Jvm.Cond.code x code maxLocals ret :: tables_1) B.pre
    have hts : ∀ w ∈ lw_tbl, w.before #[Value.ref b] s = true := k2_hts_sels lw_privs (fun w hw => hts0 w (List.mem_cons_of_mem _ hw)) lw_privs_ok
    have hml : c.maxLocals = 4 := B.maxLocals_eq (hts0 _ List.mem_cons_self)
    have X₀ : Stand p l e room_1 s m #[Value.ref b] below meth c s₁ [] 0 0 := Stand.of_body B
    have hh0 : s₁.heap = s.heap := by rw [B.state]; rfl
    have hsz : scr.slots.size = xs.length := by rw [← Array.length_toList, hlist, List.length_map]
    have hval : ∀ j : Nat, j < xs.length → scr.slots[j]? = some (.int (xs.getD j 0)) := fun j hj => by
      rw [← Array.getElem?_toList, hlist]
      simp [hj]
    have hbl : b < s.heap.size := (Array.getElem?_eq_some_iff.mp hcb).1
    have hX : va_X b xs.length (fun j => xs.getD j 0) s s.heap := ⟨scr, hcb, hof, hkn, hsz, hval⟩
    have K : W p l e room_1 s m #[Value.ref b] below meth c s₁.heap [] 0 0 (lw_Z below #[Value.ref b] s) (entryFrame m ([Value.ref b] : List Value).toArray 4) := by
      rw [hh0]
      exact whole_start l hbd ⟨B.exec, B.bytes, B.returns, hml, hown, hts, hX, hbl, B.notSynchronized, hgv⟩
    obtain ⟨t, a1, o, b1, b2, b3⟩ := K s₁ rfl X₀
    exact ⟨t, o, a1, b1, b2, b3⟩
theorem lw_pre_spec {args : Array Value} {s : State} (h : (Jvm.Cond.and given_1 narrow_1).before args s = true) (hr : rest_1_c.before args s = true) : ∃ (b : Addr) (xs : List Int32), lw_P b xs args s := by
  have hs := flat_of_before _ h
  have hq := flat_of_before _ hr
  have hc : (Cond.count 1).before args s = true := hs _ (by decide +kernel)
  have harr : (Cond.arrayOf (.arg 0) .int).before args s = true := hs _ (by decide +kernel)
  have hle : (Cond.le (.length (.arg 0)) (.int 320)).before args s = true := hs _ (by decide +kernel)
  have hlen : (Cond.isInt (.length (.arg 0))).before args s = true := hq _ (by decide +kernel)
  have hall : (Cond.all (.arg 0) (.isInt (.elem (.arg 0) (.index 0)))).before args s = true := hq _ (by decide +kernel)
  obtain ⟨b, xs, hb, hx⟩ := State.ints_of_pre rfl harr hlen hall
  have hsm : xs.length < 2 ^ 31 := hx.choose_spec.2.2.2
  have hev : (Term.length (.arg 0)).eval args s none [] s = some (.int xs.length.toInt32) := hx.length_eval hb
  have hv := Cond.le_ints hev (show (Term.int 320).eval args s none [] s = some (.int 320) from rfl)
  have hd : xs.length.toInt32 ≤ 320 := by
    simpa [Cond.before, Cond.holds, hv] using hle
  have hN : xs.length ≤ 320 := (Int32.ofNat_le_ofNat hsm (by decide)).mp (show Int32.ofNat xs.length ≤ Int32.ofNat 320 from hd)
  exact ⟨b, xs, Cond.one_arg hc (show args[0]? = some (.ref b) from hb), hx, hN, h⟩
theorem lw_comes (l : Launch) : Comes l x (Jvm.Cond.code x code maxLocals ret :: tables_1) room_1 (fun tb e args s => Calls_1 tb e args s ∧ rest_1 tb e args s ∧ Pre_1 tb e args s)
    (fun _ _ args s o t => lw_Q args s o t) := by
  intro p e ha hc hk s m args below hf hfit hheap happ hpre
  obtain ⟨b, xs, hP⟩ := lw_pre_spec hpre.2.2 hpre.2.1
  obtain ⟨k, o, h1, h2, h3, hQ⟩ := lw_walk l b xs p e ha hc hk s m args below hf ((Spec.applies_iff_loose hf).mp happ).1 hP trivial
  exact ⟨k, o, h1, h2, h3, hQ⟩
theorem lw_frame {s t : State} {o : Outcome} {args : Array Value} (h : Framed s o t [] 600000 7290000) :
    Framed s o t (fieldLocs frame_1_writes args s ++ arrayLocs frame_1_arrays args s ++ staticLocs frame_1_statics s) 600000 7290000 := h
theorem lw_limb (L : Cond) (hL : ∀ (args : Array Value) (s t : State), L.after args s (.returned (some (.int 1))) t = true) :
    ArmFor flags0 classFile x code maxLocals ret World_1 tables_1 room_1 Calls_1 rest_1 Pre_1
      (fun tb e a s o t => postC L tb e a s o t ∧ Framed s o t (fieldLocs frame_1_writes a s ++ arrayLocs frame_1_arrays a s ++ staticLocs frame_1_statics s) 600000 7290000) := by
  intro l _ _ _ p e ha hc hk s m args below hf hfit hheap happ hpre
  obtain ⟨k, o, h1, h2, h3, rfl, hF⟩ := lw_comes l p e ha hc hk s m args below hf hfit hheap happ hpre
  exact ⟨k, _, h1, h2, h3, hL args s _, lw_frame hF⟩
theorem i_vc : Claimed_1_1 ∧ Claimed_1_2 := ⟨lw_limb limb_1_1 (fun args s t => by simp [limb_1_1, Cond.after, Cond.holds, Cond.value]), lw_limb limb_1_2 (fun args s t => Cond.after_iff.mpr (by
  first | (rw [show limb_1_2 = Cond.eq .result (.int 1) from rfl, Cond.eq_ints (x := 1) (y := 1) rfl rfl]; simp; done) | (simp [limb_1_2, Cond.value, Term.eval]; done)))⟩
end
