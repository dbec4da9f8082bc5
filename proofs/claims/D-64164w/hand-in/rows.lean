section
-- ===== PART A: goes FIRST, ahead of the names: the tables' words, and 'selects' of the private methods out of them =====
/-- a private method of a class that the tables say can be made, by its rows of tables_1 -/
def lw_okq (q : MethodName × Nat) : Prop := (q.1.cls ≠ "java/lang/invoke/MethodHandle" ∧ q.1.cls ≠ "java/lang/invoke/VarHandle") ∧ Cond.instantiable q.1.cls q.2 ∈ tables_1 ∧ Cond.privateMethod q.1 ∈ tables_1 ∧ Cond.instanceMethod q.1 ∈ tables_1
set_option maxRecDepth 100000
theorem lw_t1 {w : Cond} (h : w ∈ tables_1_1) : w ∈ tables_1 := List.mem_append_left _ h
theorem lw_t2 {w : Cond} (h : w ∈ tables_1_2) : w ∈ tables_1 := List.mem_append_right _ h
theorem lw_p0 : lw_okq (⟨"TruthSpectrum", "bad", "(I)Z"⟩, 3) := ⟨⟨by decide +kernel, by decide +kernel⟩, lw_t1 (List.mem_of_getElem? (i := 4) rfl), lw_t1 (List.mem_of_getElem? (i := 34) rfl), lw_t1 (List.mem_of_getElem? (i := 35) rfl)⟩
theorem lw_p1 : lw_okq (⟨"TruthSpectrum", "badPoint", "(I)Z"⟩, 3) := ⟨⟨by decide +kernel, by decide +kernel⟩, lw_t1 (List.mem_of_getElem? (i := 4) rfl), lw_t1 (List.mem_of_getElem? (i := 38) rfl), lw_t1 (List.mem_of_getElem? (i := 39) rfl)⟩
theorem lw_p2 : lw_okq (⟨"TruthSpectrum", "digit", "(JI)I"⟩, 3) := ⟨⟨by decide +kernel, by decide +kernel⟩, lw_t1 (List.mem_of_getElem? (i := 4) rfl), lw_t1 (List.mem_of_getElem? (i := 42) rfl), lw_t1 (List.mem_of_getElem? (i := 43) rfl)⟩
theorem lw_p3 : lw_okq (⟨"TruthSpectrum", "transformed", "(J)J"⟩, 3) := ⟨⟨by decide +kernel, by decide +kernel⟩, lw_t1 (List.mem_of_getElem? (i := 4) rfl), lw_t1 (List.mem_of_getElem? (i := 50) rfl), lw_t1 (List.mem_of_getElem? (i := 51) rfl)⟩
theorem lw_p4 : lw_okq (⟨"TruthSpectrum", "onesOf", "(J)I"⟩, 3) := ⟨⟨by decide +kernel, by decide +kernel⟩, lw_t1 (List.mem_of_getElem? (i := 4) rfl), lw_t1 (List.mem_of_getElem? (i := 54) rfl), lw_t1 (List.mem_of_getElem? (i := 55) rfl)⟩
theorem lw_p5 : lw_okq (⟨"TruthSpectrum", "moved", "(JI)J"⟩, 3) := ⟨⟨by decide +kernel, by decide +kernel⟩, lw_t1 (List.mem_of_getElem? (i := 4) rfl), lw_t1 (List.mem_of_getElem? (i := 68) rfl), lw_t1 (List.mem_of_getElem? (i := 69) rfl)⟩
theorem lw_p6 : lw_okq (⟨"TruthSpectrum", "linear", "(I)J"⟩, 3) := ⟨⟨by decide +kernel, by decide +kernel⟩, lw_t1 (List.mem_of_getElem? (i := 4) rfl), lw_t1 (List.mem_of_getElem? (i := 72) rfl), lw_t1 (List.mem_of_getElem? (i := 73) rfl)⟩
theorem lw_p7 : lw_okq (⟨"TruthSpectrum", "sizeOf", "(I)I"⟩, 3) := ⟨⟨by decide +kernel, by decide +kernel⟩, lw_t1 (List.mem_of_getElem? (i := 4) rfl), lw_t1 (List.mem_of_getElem? (i := 92) rfl), lw_t1 (List.mem_of_getElem? (i := 93) rfl)⟩
theorem lw_p8 : lw_okq (⟨"TruthSpectrum", "spectrumOf", "(I)V"⟩, 3) := ⟨⟨by decide +kernel, by decide +kernel⟩, lw_t1 (List.mem_of_getElem? (i := 4) rfl), lw_t1 (List.mem_of_getElem? (i := 100) rfl), lw_t1 (List.mem_of_getElem? (i := 101) rfl)⟩
theorem lw_p9 : lw_okq (⟨"TruthSpectrum", "spread", "()V"⟩, 3) := ⟨⟨by decide +kernel, by decide +kernel⟩, lw_t1 (List.mem_of_getElem? (i := 4) rfl), lw_t1 (List.mem_of_getElem? (i := 104) rfl), lw_t1 (List.mem_of_getElem? (i := 105) rfl)⟩
theorem lw_p10 : lw_okq (⟨"TruthSpectrum", "peak", "()I"⟩, 3) := ⟨⟨by decide +kernel, by decide +kernel⟩, lw_t1 (List.mem_of_getElem? (i := 4) rfl), lw_t1 (List.mem_of_getElem? (i := 112) rfl), lw_t1 (List.mem_of_getElem? (i := 113) rfl)⟩
theorem lw_p11 : lw_okq (⟨"TruthSpectrum", "magnitude", "(I)I"⟩, 3) := ⟨⟨by decide +kernel, by decide +kernel⟩, lw_t1 (List.mem_of_getElem? (i := 4) rfl), lw_t1 (List.mem_of_getElem? (i := 116) rfl), lw_t1 (List.mem_of_getElem? (i := 117) rfl)⟩
theorem lw_p12 : lw_okq (⟨"TruthSpectrum", "correlate", "(I)V"⟩, 3) := ⟨⟨by decide +kernel, by decide +kernel⟩, lw_t1 (List.mem_of_getElem? (i := 4) rfl), lw_t1 (List.mem_of_getElem? (i := 132) rfl), lw_t1 (List.mem_of_getElem? (i := 133) rfl)⟩
theorem lw_p13 : lw_okq (⟨"TruthSpectrumModel", "isTable", "(I)Z"⟩, 2) := ⟨⟨by decide +kernel, by decide +kernel⟩, lw_t1 (List.mem_of_getElem? (i := 148) rfl), lw_t1 (List.mem_of_getElem? (i := 165) rfl), lw_t1 (List.mem_of_getElem? (i := 166) rfl)⟩
theorem lw_p14 : lw_okq (⟨"TruthSpectrumModel", "isPoint", "(I)Z"⟩, 2) := ⟨⟨by decide +kernel, by decide +kernel⟩, lw_t1 (List.mem_of_getElem? (i := 148) rfl), lw_t1 (List.mem_of_getElem? (i := 169) rfl), lw_t1 (List.mem_of_getElem? (i := 170) rfl)⟩
theorem lw_p15 : lw_okq (⟨"TruthSpectrumModel", "countOnes", "(I)I"⟩, 2) := ⟨⟨by decide +kernel, by decide +kernel⟩, lw_t1 (List.mem_of_getElem? (i := 148) rfl), lw_t1 (List.mem_of_getElem? (i := 177) rfl), lw_t1 (List.mem_of_getElem? (i := 178) rfl)⟩
def lw_privs_1 : List (MethodName × Nat) := [(⟨"TruthSpectrum", "bad", "(I)Z"⟩, 3), (⟨"TruthSpectrum", "badPoint", "(I)Z"⟩, 3), (⟨"TruthSpectrum", "digit", "(JI)I"⟩, 3), (⟨"TruthSpectrum", "transformed", "(J)J"⟩, 3), (⟨"TruthSpectrum", "onesOf", "(J)I"⟩, 3), (⟨"TruthSpectrum", "moved", "(JI)J"⟩, 3), (⟨"TruthSpectrum", "linear", "(I)J"⟩, 3), (⟨"TruthSpectrum", "sizeOf", "(I)I"⟩, 3), (⟨"TruthSpectrum", "spectrumOf", "(I)V"⟩, 3), (⟨"TruthSpectrum", "spread", "()V"⟩, 3), (⟨"TruthSpectrum", "peak", "()I"⟩, 3), (⟨"TruthSpectrum", "magnitude", "(I)I"⟩, 3), (⟨"TruthSpectrum", "correlate", "(I)V"⟩, 3), (⟨"TruthSpectrumModel", "isTable", "(I)Z"⟩, 2), (⟨"TruthSpectrumModel", "isPoint", "(I)Z"⟩, 2), (⟨"TruthSpectrumModel", "countOnes", "(I)I"⟩, 2)]
theorem lw_r1 : ∀ q ∈ lw_privs_1, lw_okq q := List.forall_mem_cons.mpr ⟨lw_p0, List.forall_mem_cons.mpr ⟨lw_p1, List.forall_mem_cons.mpr ⟨lw_p2, List.forall_mem_cons.mpr ⟨lw_p3, List.forall_mem_cons.mpr ⟨lw_p4, List.forall_mem_cons.mpr ⟨lw_p5, List.forall_mem_cons.mpr ⟨lw_p6, List.forall_mem_cons.mpr ⟨lw_p7, List.forall_mem_cons.mpr ⟨lw_p8, List.forall_mem_cons.mpr ⟨lw_p9, List.forall_mem_cons.mpr ⟨lw_p10, List.forall_mem_cons.mpr ⟨lw_p11, List.forall_mem_cons.mpr ⟨lw_p12, List.forall_mem_cons.mpr ⟨lw_p13, List.forall_mem_cons.mpr ⟨lw_p14, List.forall_mem_cons.mpr ⟨lw_p15, fun _ h => absurd h List.not_mem_nil⟩⟩⟩⟩⟩⟩⟩⟩⟩⟩⟩⟩⟩⟩⟩⟩
theorem lw_p16 : lw_okq (⟨"TruthSpectrumModel", "takeMade", "(I)I"⟩, 2) := ⟨⟨by decide +kernel, by decide +kernel⟩, lw_t1 (List.mem_of_getElem? (i := 148) rfl), lw_t1 (List.mem_of_getElem? (i := 185) rfl), lw_t1 (List.mem_of_getElem? (i := 186) rfl)⟩
theorem lw_p17 : lw_okq (⟨"TruthSpectrumModel", "product", "(II)I"⟩, 2) := ⟨⟨by decide +kernel, by decide +kernel⟩, lw_t1 (List.mem_of_getElem? (i := 148) rfl), lw_t1 (List.mem_of_getElem? (i := 193) rfl), lw_t1 (List.mem_of_getElem? (i := 194) rfl)⟩
theorem lw_p18 : lw_okq (⟨"TruthSpectrumModel", "sizeOf", "(I)I"⟩, 2) := ⟨⟨by decide +kernel, by decide +kernel⟩, lw_t1 (List.mem_of_getElem? (i := 148) rfl), lw_t1 (List.mem_of_getElem? (i := 197) rfl), lw_t1 (List.mem_of_getElem? (i := 198) rfl)⟩
theorem lw_p19 : lw_okq (⟨"TruthSpectrumModel", "formAt", "(II)I"⟩, 2) := ⟨⟨by decide +kernel, by decide +kernel⟩, lw_t1 (List.mem_of_getElem? (i := 148) rfl), lw_t1 (List.mem_of_getElem? (i := 213) rfl), lw_t1 (List.mem_of_getElem? (i := 214) rfl)⟩
theorem lw_p20 : lw_okq (⟨"TruthSpectrumModel", "spectrumAt", "(II)I"⟩, 2) := ⟨⟨by decide +kernel, by decide +kernel⟩, lw_t1 (List.mem_of_getElem? (i := 148) rfl), lw_t1 (List.mem_of_getElem? (i := 225) rfl), lw_t1 (List.mem_of_getElem? (i := 226) rfl)⟩
theorem lw_p21 : lw_okq (⟨"TruthSpectrumModel", "changes", "(II)I"⟩, 2) := ⟨⟨by decide +kernel, by decide +kernel⟩, lw_t1 (List.mem_of_getElem? (i := 148) rfl), lw_t1 (List.mem_of_getElem? (i := 233) rfl), lw_t1 (List.mem_of_getElem? (i := 234) rfl)⟩
theorem lw_p22 : lw_okq (⟨"TruthSpectrumModel", "sames", "(II)I"⟩, 2) := ⟨⟨by decide +kernel, by decide +kernel⟩, lw_t1 (List.mem_of_getElem? (i := 148) rfl), lw_t2 (List.mem_of_getElem? (i := 9) rfl), lw_t2 (List.mem_of_getElem? (i := 10) rfl)⟩
theorem lw_p23 : lw_okq (⟨"TruthSpectrumModel", "comesBy", "(IIII)Z"⟩, 2) := ⟨⟨by decide +kernel, by decide +kernel⟩, lw_t1 (List.mem_of_getElem? (i := 148) rfl), lw_t2 (List.mem_of_getElem? (i := 25) rfl), lw_t2 (List.mem_of_getElem? (i := 26) rfl)⟩
def lw_privs_2 : List (MethodName × Nat) := [(⟨"TruthSpectrumModel", "takeMade", "(I)I"⟩, 2), (⟨"TruthSpectrumModel", "product", "(II)I"⟩, 2), (⟨"TruthSpectrumModel", "sizeOf", "(I)I"⟩, 2), (⟨"TruthSpectrumModel", "formAt", "(II)I"⟩, 2), (⟨"TruthSpectrumModel", "spectrumAt", "(II)I"⟩, 2), (⟨"TruthSpectrumModel", "changes", "(II)I"⟩, 2), (⟨"TruthSpectrumModel", "sames", "(II)I"⟩, 2), (⟨"TruthSpectrumModel", "comesBy", "(IIII)Z"⟩, 2)]
theorem lw_r2 : ∀ q ∈ lw_privs_2, lw_okq q := List.forall_mem_cons.mpr ⟨lw_p16, List.forall_mem_cons.mpr ⟨lw_p17, List.forall_mem_cons.mpr ⟨lw_p18, List.forall_mem_cons.mpr ⟨lw_p19, List.forall_mem_cons.mpr ⟨lw_p20, List.forall_mem_cons.mpr ⟨lw_p21, List.forall_mem_cons.mpr ⟨lw_p22, List.forall_mem_cons.mpr ⟨lw_p23, fun _ h => absurd h List.not_mem_nil⟩⟩⟩⟩⟩⟩⟩⟩
def lw_privs : List (MethodName × Nat) := lw_privs_1 ++ (lw_privs_2)
def lw_tbl : List Cond := k2_sels lw_privs ++ tables_1
theorem lw_privs_ok : ∀ q ∈ lw_privs, lw_okq q := by
  show ∀ q ∈ lw_privs_1 ++ (lw_privs_2), lw_okq q
  exact List.forall_mem_append.mpr ⟨lw_r1, lw_r2⟩
-- ===== ONE list of words for every method: the tables' words that hold all through a run =====
def lw_all : List Cond := lw_tbl.filter goodWord
/-- a word of the tables by its place: claim/WORDS.tsv -/
theorem lw_w {w : Cond} (i : Nat) (h : lw_tbl[i]? = some w) (g : goodWord w = true) : w ∈ lw_all := List.mem_filter.mpr ⟨List.mem_of_getElem? h, g⟩
theorem lw_all_tbl {w : Cond} (h : w ∈ lw_all) : w ∈ lw_tbl := (List.mem_filter.mp h).1
theorem lw_self : GoodIn lw_all lw_all := fun w h => ⟨h, good_of_word (List.mem_filter.mp h).2⟩
/-- a class's field words, by their places -/
theorem lw_in (ws : List Cond) (ps : List Nat) (hp : ws = ps.filterMap (fun i => lw_tbl[i]?)) (hg : ws.all goodWord = true) : ∀ w ∈ ws, w ∈ lw_all := by
  intro w h
  have h1 := List.all_eq_true.mp hg w h
  rw [hp] at h
  obtain ⟨i, -, hi⟩ := List.mem_filterMap.mp h
  exact lw_w i hi h1
/-- the words of a contract for the method y with code b, L locals, answer r -/
abbrev ws_ (y : MethodName) (b : ByteArray) (L : Nat) (r : Option FieldType) : List Cond := Cond.code y b L r :: lw_all
theorem lw_meth {y : MethodName} {b : ByteArray} {L : Nat} {r : Option FieldType} (h : Cond.code y b L r ∈ lw_all) : GoodIn lw_all (ws_ y b L r) := by
  intro w hw
  rcases List.mem_cons.mp hw with e | e
  · rw [e]
    exact lw_self _ h
  · exact lw_self _ e
theorem lw_app {a c : List Cond} (ha : ∀ w ∈ a, w ∈ lw_all) (hc : GoodIn lw_all c) : GoodIn lw_all (a ++ c) := by
  intro w hw
  rcases List.mem_append.mp hw with e | e
  · exact lw_self w (ha w e)
  · exact hc w e
/-- what a call through an object asks: cwV n hts (lw_V ..) -/
theorem lw_V {own : String} {idx : Nat} {C : String} {y : MethodName} {b : ByteArray} {L : Nat} {r : Option FieldType} (h1 : Cond.methodLink own idx y ∈ lw_all) (h2 : Cond.instanceMethod y ∈ lw_all) (h3 : Cond.selects C y y ∈ lw_all) (h4 : Cond.initialized C ∈ lw_all) (h5 : Cond.code y b L r ∈ lw_all) : GoodIn lw_all (wsV own idx C y (ws_ y b L r)) := by
  refine lw_app ?_ (lw_meth h5)
  intro w hw
  simp only [List.mem_cons, List.not_mem_nil, or_false] at hw
  rcases hw with e | e | e | e
  · rw [e]; exact h1
  · rw [e]; exact h2
  · rw [e]; exact h3
  · rw [e]; exact h4
/-- what a static call asks: va_cwS n hts (lw_S ..) -/
theorem lw_S {own : String} {idx : Nat} {y : MethodName} {b : ByteArray} {L : Nat} {r : Option FieldType} (h1 : Cond.methodLink own idx y ∈ lw_all) (h2 : Cond.static y ∈ lw_all) (h3 : Cond.initialized y.cls ∈ lw_all) (h4 : Cond.code y b L r ∈ lw_all) : GoodIn lw_all (va_wsS own idx y (ws_ y b L r)) := by
  refine lw_app ?_ (lw_meth h4)
  intro w hw
  simp only [List.mem_cons, List.not_mem_nil, or_false] at hw
  rcases hw with e | e | e
  · rw [e]; exact h1
  · rw [e]; exact h2
  · rw [e]; exact h3
/-- the words of a contract for a method WITH HANDLERS (hh: its table) -/
abbrev wsW_ (y : MethodName) (b : ByteArray) (L : Nat) (r : Option FieldType) (hh : List (Nat × Nat × Nat × Nat)) : List Cond := Cond.codeWith y b L r hh :: lw_all
theorem lw_methW {y : MethodName} {b : ByteArray} {L : Nat} {r : Option FieldType} {hh : List (Nat × Nat × Nat × Nat)} (h : Cond.codeWith y b L r hh ∈ lw_all) : GoodIn lw_all (wsW_ y b L r hh) := by
  intro w hw
  rcases List.mem_cons.mp hw with e | e
  · rw [e]
    exact lw_self _ h
  · exact lw_self _ e
/-- any list of words by their places (lw_in), good -/
theorem lw_good {ws : List Cond} (h : ∀ w ∈ ws, w ∈ lw_all) : GoodIn lw_all ws := fun w hw => lw_self w (h w hw)
/-- what a call of a method with handlers asks: vx_cwVW n hts (lw_VW ..), vx_cwSW n hts (lw_SW ..) -/
theorem lw_VW {own : String} {idx : Nat} {C : String} {y : MethodName} {b : ByteArray} {L : Nat} {r : Option FieldType} {hh : List (Nat × Nat × Nat × Nat)} (h1 : Cond.methodLink own idx y ∈ lw_all) (h2 : Cond.instanceMethod y ∈ lw_all) (h3 : Cond.selects C y y ∈ lw_all) (h4 : Cond.initialized C ∈ lw_all) (h5 : Cond.codeWith y b L r hh ∈ lw_all) : GoodIn lw_all (wsV own idx C y (wsW_ y b L r hh)) := by
  refine lw_app ?_ (lw_methW h5)
  intro w hw
  simp only [List.mem_cons, List.not_mem_nil, or_false] at hw
  rcases hw with e | e | e | e
  · rw [e]; exact h1
  · rw [e]; exact h2
  · rw [e]; exact h3
  · rw [e]; exact h4
theorem lw_SW {own : String} {idx : Nat} {y : MethodName} {b : ByteArray} {L : Nat} {r : Option FieldType} {hh : List (Nat × Nat × Nat × Nat)} (h1 : Cond.methodLink own idx y ∈ lw_all) (h2 : Cond.static y ∈ lw_all) (h3 : Cond.initialized y.cls ∈ lw_all) (h4 : Cond.codeWith y b L r hh ∈ lw_all) : GoodIn lw_all (va_wsS own idx y (wsW_ y b L r hh)) := by
  refine lw_app ?_ (lw_methW h4)
  intro w hw
  simp only [List.mem_cons, List.not_mem_nil, or_false] at hw
  rcases hw with e | e | e
  · rw [e]; exact h1
  · rw [e]; exact h2
  · rw [e]; exact h3
/-- a word by its place in its run of the tables -/
theorem lw_at {r : List Cond} (hr : ∀ w ∈ r, w ∈ lw_tbl) {w : Cond} (i : Nat) (h : r[i]? = some w) : w ∈ lw_tbl := hr w (List.mem_of_getElem? h)
theorem lw_g {w : Cond} (h : w ∈ lw_tbl) (g : goodWord w = true) : w ∈ lw_all := List.mem_filter.mpr ⟨h, g⟩
theorem lw_ms : ∀ w ∈ k2_sels lw_privs, w ∈ lw_tbl := fun w h => show w ∈ k2_sels lw_privs ++ tables_1 from List.mem_append_left _ h
theorem lw_m1 : ∀ w ∈ tables_1_1, w ∈ lw_tbl := fun w h => show w ∈ k2_sels lw_privs ++ tables_1 from List.mem_append_right (k2_sels lw_privs) (show w ∈ tables_1 from List.mem_append_left _ h)
theorem lw_m2 : ∀ w ∈ tables_1_2, w ∈ lw_tbl := fun w h => show w ∈ k2_sels lw_privs ++ tables_1 from List.mem_append_right (k2_sels lw_privs) (show w ∈ tables_1 from List.mem_append_right _ h)
theorem qs0 : (Cond.selects "TruthSpectrum" ⟨"TruthSpectrum", "bad", "(I)Z"⟩ ⟨"TruthSpectrum", "bad", "(I)Z"⟩) ∈ lw_all := lw_g (lw_at lw_ms 0 rfl) rfl
theorem qs1 : (Cond.selects "TruthSpectrum" ⟨"TruthSpectrum", "badPoint", "(I)Z"⟩ ⟨"TruthSpectrum", "badPoint", "(I)Z"⟩) ∈ lw_all := lw_g (lw_at lw_ms 1 rfl) rfl
theorem qs2 : (Cond.selects "TruthSpectrum" ⟨"TruthSpectrum", "digit", "(JI)I"⟩ ⟨"TruthSpectrum", "digit", "(JI)I"⟩) ∈ lw_all := lw_g (lw_at lw_ms 2 rfl) rfl
theorem qs3 : (Cond.selects "TruthSpectrum" ⟨"TruthSpectrum", "transformed", "(J)J"⟩ ⟨"TruthSpectrum", "transformed", "(J)J"⟩) ∈ lw_all := lw_g (lw_at lw_ms 3 rfl) rfl
theorem qs4 : (Cond.selects "TruthSpectrum" ⟨"TruthSpectrum", "onesOf", "(J)I"⟩ ⟨"TruthSpectrum", "onesOf", "(J)I"⟩) ∈ lw_all := lw_g (lw_at lw_ms 4 rfl) rfl
theorem qs5 : (Cond.selects "TruthSpectrum" ⟨"TruthSpectrum", "moved", "(JI)J"⟩ ⟨"TruthSpectrum", "moved", "(JI)J"⟩) ∈ lw_all := lw_g (lw_at lw_ms 5 rfl) rfl
theorem qs6 : (Cond.selects "TruthSpectrum" ⟨"TruthSpectrum", "linear", "(I)J"⟩ ⟨"TruthSpectrum", "linear", "(I)J"⟩) ∈ lw_all := lw_g (lw_at lw_ms 6 rfl) rfl
theorem qs7 : (Cond.selects "TruthSpectrum" ⟨"TruthSpectrum", "sizeOf", "(I)I"⟩ ⟨"TruthSpectrum", "sizeOf", "(I)I"⟩) ∈ lw_all := lw_g (lw_at lw_ms 7 rfl) rfl
theorem qs8 : (Cond.selects "TruthSpectrum" ⟨"TruthSpectrum", "spectrumOf", "(I)V"⟩ ⟨"TruthSpectrum", "spectrumOf", "(I)V"⟩) ∈ lw_all := lw_g (lw_at lw_ms 8 rfl) rfl
theorem qs9 : (Cond.selects "TruthSpectrum" ⟨"TruthSpectrum", "spread", "()V"⟩ ⟨"TruthSpectrum", "spread", "()V"⟩) ∈ lw_all := lw_g (lw_at lw_ms 9 rfl) rfl
theorem qs10 : (Cond.selects "TruthSpectrum" ⟨"TruthSpectrum", "peak", "()I"⟩ ⟨"TruthSpectrum", "peak", "()I"⟩) ∈ lw_all := lw_g (lw_at lw_ms 10 rfl) rfl
theorem qs11 : (Cond.selects "TruthSpectrum" ⟨"TruthSpectrum", "magnitude", "(I)I"⟩ ⟨"TruthSpectrum", "magnitude", "(I)I"⟩) ∈ lw_all := lw_g (lw_at lw_ms 11 rfl) rfl
theorem qs12 : (Cond.selects "TruthSpectrum" ⟨"TruthSpectrum", "correlate", "(I)V"⟩ ⟨"TruthSpectrum", "correlate", "(I)V"⟩) ∈ lw_all := lw_g (lw_at lw_ms 12 rfl) rfl
theorem qs13 : (Cond.selects "TruthSpectrumModel" ⟨"TruthSpectrumModel", "isTable", "(I)Z"⟩ ⟨"TruthSpectrumModel", "isTable", "(I)Z"⟩) ∈ lw_all := lw_g (lw_at lw_ms 13 rfl) rfl
theorem qs14 : (Cond.selects "TruthSpectrumModel" ⟨"TruthSpectrumModel", "isPoint", "(I)Z"⟩ ⟨"TruthSpectrumModel", "isPoint", "(I)Z"⟩) ∈ lw_all := lw_g (lw_at lw_ms 14 rfl) rfl
theorem qs15 : (Cond.selects "TruthSpectrumModel" ⟨"TruthSpectrumModel", "countOnes", "(I)I"⟩ ⟨"TruthSpectrumModel", "countOnes", "(I)I"⟩) ∈ lw_all := lw_g (lw_at lw_ms 15 rfl) rfl
theorem qs16 : (Cond.selects "TruthSpectrumModel" ⟨"TruthSpectrumModel", "takeMade", "(I)I"⟩ ⟨"TruthSpectrumModel", "takeMade", "(I)I"⟩) ∈ lw_all := lw_g (lw_at lw_ms 16 rfl) rfl
theorem qs17 : (Cond.selects "TruthSpectrumModel" ⟨"TruthSpectrumModel", "product", "(II)I"⟩ ⟨"TruthSpectrumModel", "product", "(II)I"⟩) ∈ lw_all := lw_g (lw_at lw_ms 17 rfl) rfl
theorem qs18 : (Cond.selects "TruthSpectrumModel" ⟨"TruthSpectrumModel", "sizeOf", "(I)I"⟩ ⟨"TruthSpectrumModel", "sizeOf", "(I)I"⟩) ∈ lw_all := lw_g (lw_at lw_ms 18 rfl) rfl
theorem qs19 : (Cond.selects "TruthSpectrumModel" ⟨"TruthSpectrumModel", "formAt", "(II)I"⟩ ⟨"TruthSpectrumModel", "formAt", "(II)I"⟩) ∈ lw_all := lw_g (lw_at lw_ms 19 rfl) rfl
theorem qs20 : (Cond.selects "TruthSpectrumModel" ⟨"TruthSpectrumModel", "spectrumAt", "(II)I"⟩ ⟨"TruthSpectrumModel", "spectrumAt", "(II)I"⟩) ∈ lw_all := lw_g (lw_at lw_ms 20 rfl) rfl
theorem qs21 : (Cond.selects "TruthSpectrumModel" ⟨"TruthSpectrumModel", "changes", "(II)I"⟩ ⟨"TruthSpectrumModel", "changes", "(II)I"⟩) ∈ lw_all := lw_g (lw_at lw_ms 21 rfl) rfl
theorem qs22 : (Cond.selects "TruthSpectrumModel" ⟨"TruthSpectrumModel", "sames", "(II)I"⟩ ⟨"TruthSpectrumModel", "sames", "(II)I"⟩) ∈ lw_all := lw_g (lw_at lw_ms 22 rfl) rfl
theorem qs23 : (Cond.selects "TruthSpectrumModel" ⟨"TruthSpectrumModel", "comesBy", "(IIII)Z"⟩ ⟨"TruthSpectrumModel", "comesBy", "(IIII)Z"⟩) ∈ lw_all := lw_g (lw_at lw_ms 23 rfl) rfl
end
section
/-! TruthSpectrum -/
set_option maxRecDepth 100000
def RX0 : String := "TruthSpectrum"
def TX0 : u_T := fun k => match k with
  | 0 => ("TruthSpectrum", "tables", "[J", true)
  | 1 => ("TruthSpectrum", "low", "[J", true)
  | _ => ("TruthSpectrum", "sums", "[I", true)
def tyX0 : Nat → FieldType := fun k => match k with
  | 0 => .array .long
  | 1 => .array .long
  | _ => .array .int
abbrev wsX00 : List Cond := u_ws RX0 TX0 3
theorem nmX0 : ∀ a, a < 3 → ∀ b, b < 3 → a ≠ b → (TX0 a).2.1 ≠ (TX0 b).2.1 := by decide +kernel
theorem tyX0_ok : ∀ k, k < 3 → parseFieldDescriptor (TX0 k).2.2.1 = some (tyX0 k) := by decide +kernel
abbrev cX0_init : ByteArray := prog_1_method_1_code
def yX0_init : MethodName := ⟨RX0, "<init>", "()V"⟩
abbrev cX0_put : ByteArray := prog_1_method_10_code
def yX0_put : MethodName := ⟨RX0, "put", "(III)I"⟩
abbrev cX0_bad : ByteArray := prog_1_method_2_code
def yX0_bad : MethodName := ⟨RX0, "bad", "(I)Z"⟩
abbrev cX0_badPoint : ByteArray := prog_1_method_3_code
def yX0_badPoint : MethodName := ⟨RX0, "badPoint", "(I)Z"⟩
abbrev cX0_digit : ByteArray := prog_1_method_4_code
def yX0_digit : MethodName := ⟨RX0, "digit", "(JI)I"⟩
abbrev cX0_turnForm : ByteArray := prog_1_method_11_code
def yX0_turnForm : MethodName := ⟨RX0, "turnForm", "(II)I"⟩
abbrev cX0_transformed : ByteArray := prog_1_method_7_code
def yX0_transformed : MethodName := ⟨RX0, "transformed", "(J)J"⟩
abbrev cX0_onesOf : ByteArray := prog_1_method_5_code
def yX0_onesOf : MethodName := ⟨RX0, "onesOf", "(J)I"⟩
abbrev cX0_combine : ByteArray := prog_1_method_12_code
def yX0_combine : MethodName := ⟨RX0, "combine", "(IIII)I"⟩
abbrev cX0_shift : ByteArray := prog_1_method_13_code
def yX0_shift : MethodName := ⟨RX0, "shift", "(IIII)I"⟩
abbrev cX0_moved : ByteArray := prog_1_method_8_code
def yX0_moved : MethodName := ⟨RX0, "moved", "(JI)J"⟩
abbrev cX0_linear : ByteArray := prog_1_method_9_code
def yX0_linear : MethodName := ⟨RX0, "linear", "(I)J"⟩
abbrev cX0_value : ByteArray := prog_1_method_14_code
def yX0_value : MethodName := ⟨RX0, "value", "(II)I"⟩
abbrev cX0_ones : ByteArray := prog_1_method_15_code
def yX0_ones : MethodName := ⟨RX0, "ones", "(I)I"⟩
abbrev cX0_form : ByteArray := prog_1_method_16_code
def yX0_form : MethodName := ⟨RX0, "form", "(II)I"⟩
abbrev cX0_degree : ByteArray := prog_1_method_17_code
def yX0_degree : MethodName := ⟨RX0, "degree", "(I)I"⟩
abbrev cX0_sizeOf : ByteArray := prog_1_method_6_code
def yX0_sizeOf : MethodName := ⟨RX0, "sizeOf", "(I)I"⟩
abbrev cX0_spectrum : ByteArray := prog_1_method_21_code
def yX0_spectrum : MethodName := ⟨RX0, "spectrum", "(II)I"⟩
abbrev cX0_spectrumOf : ByteArray := prog_1_method_19_code
def yX0_spectrumOf : MethodName := ⟨RX0, "spectrumOf", "(I)V"⟩
abbrev cX0_spread : ByteArray := prog_1_method_18_code
def yX0_spread : MethodName := ⟨RX0, "spread", "()V"⟩
abbrev cX0_distance : ByteArray := prog_1_method_23_code
def yX0_distance : MethodName := ⟨RX0, "distance", "(I)I"⟩
abbrev cX0_peak : ByteArray := prog_1_method_22_code
def yX0_peak : MethodName := ⟨RX0, "peak", "()I"⟩
abbrev cX0_magnitude : ByteArray := prog_1_method_20_code
def yX0_magnitude : MethodName := ⟨RX0, "magnitude", "(I)I"⟩
abbrev cX0_nearest : ByteArray := prog_1_method_24_code
def yX0_nearest : MethodName := ⟨RX0, "nearest", "(I)I"⟩
abbrev cX0_immunity : ByteArray := prog_1_method_25_code
def yX0_immunity : MethodName := ⟨RX0, "immunity", "(I)I"⟩
abbrev cX0_autocorrelation : ByteArray := prog_1_method_27_code
def yX0_autocorrelation : MethodName := ⟨RX0, "autocorrelation", "(II)I"⟩
abbrev cX0_correlate : ByteArray := prog_1_method_26_code
def yX0_correlate : MethodName := ⟨RX0, "correlate", "(I)V"⟩
abbrev cX0_variables : ByteArray := prog_1_method_28_code
def yX0_variables : MethodName := ⟨RX0, "variables", "(I)I"⟩
abbrev cX0_structures : ByteArray := prog_1_method_29_code
def yX0_structures : MethodName := ⟨RX0, "structures", "(I)I"⟩
abbrev cX0_shifted : ByteArray := prog_1_method_30_code
def yX0_shifted : MethodName := ⟨RX0, "shifted", "(II)Z"⟩
theorem q25 : (Jvm.Cond.initialized "TruthSpectrum") ∈ lw_all := lw_g (lw_at lw_m1 1 rfl) rfl
theorem q28 : (Jvm.Cond.instantiable "TruthSpectrum" (3 : Nat)) ∈ lw_all := lw_g (lw_at lw_m1 4 rfl) rfl
theorem q30 : (Jvm.Cond.instanceMethod ({ cls := "TruthSpectrum", name := "<init>", desc := "()V" } : Jvm.MethodName)) ∈ lw_all := lw_g (lw_at lw_m1 6 rfl) rfl
theorem q31 : (Jvm.Cond.code ({ cls := "TruthSpectrum", name := "<init>", desc := "()V" } : Jvm.MethodName) prog_1_method_1_code (1 : Nat) (Option.none : Option Jvm.ClassFile.FieldType)) ∈ lw_all := lw_g (lw_at lw_m1 7 rfl) rfl
theorem q32 : (Jvm.Cond.methodLink "TruthSpectrum" (1 : Nat) ({ cls := "java/lang/Object", name := "<init>", desc := "()V" } : Jvm.MethodName)) ∈ lw_all := lw_g (lw_at lw_m1 8 rfl) rfl
theorem q35 : (Jvm.Cond.constantLong "TruthSpectrum" (20 : Nat) (6148914691236517205 : Int64)) ∈ lw_all := lw_g (lw_at lw_m1 11 rfl) rfl
theorem q36 : (Jvm.Cond.constantLong "TruthSpectrum" (22 : Nat) (3689348814741910323 : Int64)) ∈ lw_all := lw_g (lw_at lw_m1 12 rfl) rfl
theorem q37 : (Jvm.Cond.constantLong "TruthSpectrum" (24 : Nat) (1085102592571150095 : Int64)) ∈ lw_all := lw_g (lw_at lw_m1 13 rfl) rfl
theorem q38 : (Jvm.Cond.constantLong "TruthSpectrum" (26 : Nat) (71777214294589695 : Int64)) ∈ lw_all := lw_g (lw_at lw_m1 14 rfl) rfl
theorem q39 : (Jvm.Cond.constantLong "TruthSpectrum" (28 : Nat) (281470681808895 : Int64)) ∈ lw_all := lw_g (lw_at lw_m1 15 rfl) rfl
theorem q40 : (Jvm.Cond.constantLong "TruthSpectrum" (30 : Nat) (4294967295 : Int64)) ∈ lw_all := lw_g (lw_at lw_m1 16 rfl) rfl
theorem q41 : (Jvm.Cond.fieldLink "TruthSpectrum" (7 : Nat) "TruthSpectrum" "tables" "[J") ∈ lw_all := lw_g (lw_at lw_m1 17 rfl) rfl
theorem q42 : (Jvm.Cond.fieldLink "TruthSpectrum" (13 : Nat) "TruthSpectrum" "low" "[J") ∈ lw_all := lw_g (lw_at lw_m1 18 rfl) rfl
theorem q43 : (Jvm.Cond.fieldLink "TruthSpectrum" (16 : Nat) "TruthSpectrum" "sums" "[I") ∈ lw_all := lw_g (lw_at lw_m1 19 rfl) rfl
theorem q44 : (Jvm.Cond.laysFinal "TruthSpectrum" "TruthSpectrum" "tables" "[J") ∈ lw_all := lw_g (lw_at lw_m1 20 rfl) rfl
theorem q45 : (Jvm.Cond.soleField "TruthSpectrum" "tables") ∈ lw_all := lw_g (lw_at lw_m1 21 rfl) rfl
theorem q46 : (Jvm.Cond.laysFinal "TruthSpectrum" "TruthSpectrum" "low" "[J") ∈ lw_all := lw_g (lw_at lw_m1 22 rfl) rfl
theorem q47 : (Jvm.Cond.soleField "TruthSpectrum" "low") ∈ lw_all := lw_g (lw_at lw_m1 23 rfl) rfl
theorem q48 : (Jvm.Cond.laysFinal "TruthSpectrum" "TruthSpectrum" "sums" "[I") ∈ lw_all := lw_g (lw_at lw_m1 24 rfl) rfl
theorem q49 : (Jvm.Cond.soleField "TruthSpectrum" "sums") ∈ lw_all := lw_g (lw_at lw_m1 25 rfl) rfl
theorem q50 : (Jvm.Cond.superclass "TruthSpectrum" "java/lang/Object") ∈ lw_all := lw_g (lw_at lw_m1 26 rfl) rfl
theorem q54 : (Jvm.Cond.instanceMethod ({ cls := "TruthSpectrum", name := "put", desc := "(III)I" } : Jvm.MethodName)) ∈ lw_all := lw_g (lw_at lw_m1 30 rfl) rfl
theorem q55 : (Jvm.Cond.selects "TruthSpectrum" ({ cls := "TruthSpectrum", name := "put", desc := "(III)I" } : Jvm.MethodName) ({ cls := "TruthSpectrum", name := "put", desc := "(III)I" } : Jvm.MethodName)) ∈ lw_all := lw_g (lw_at lw_m1 31 rfl) rfl
theorem q56 : (Jvm.Cond.code ({ cls := "TruthSpectrum", name := "put", desc := "(III)I" } : Jvm.MethodName) prog_1_method_10_code (5 : Nat) (Option.some Jvm.ClassFile.FieldType.int)) ∈ lw_all := lw_g (lw_at lw_m1 32 rfl) rfl
theorem q57 : (Jvm.Cond.methodLink "TruthSpectrum" (36 : Nat) ({ cls := "TruthSpectrum", name := "bad", desc := "(I)Z" } : Jvm.MethodName)) ∈ lw_all := lw_g (lw_at lw_m1 33 rfl) rfl
theorem q58 : (Jvm.Cond.privateMethod ({ cls := "TruthSpectrum", name := "bad", desc := "(I)Z" } : Jvm.MethodName)) ∈ lw_tbl := lw_at lw_m1 34 rfl
theorem q59 : (Jvm.Cond.instanceMethod ({ cls := "TruthSpectrum", name := "bad", desc := "(I)Z" } : Jvm.MethodName)) ∈ lw_all := lw_g (lw_at lw_m1 35 rfl) rfl
theorem q60 : (Jvm.Cond.code ({ cls := "TruthSpectrum", name := "bad", desc := "(I)Z" } : Jvm.MethodName) prog_1_method_2_code (2 : Nat) (Option.some Jvm.ClassFile.FieldType.boolean)) ∈ lw_all := lw_g (lw_at lw_m1 36 rfl) rfl
theorem q61 : (Jvm.Cond.methodLink "TruthSpectrum" (40 : Nat) ({ cls := "TruthSpectrum", name := "badPoint", desc := "(I)Z" } : Jvm.MethodName)) ∈ lw_all := lw_g (lw_at lw_m1 37 rfl) rfl
theorem q62 : (Jvm.Cond.privateMethod ({ cls := "TruthSpectrum", name := "badPoint", desc := "(I)Z" } : Jvm.MethodName)) ∈ lw_tbl := lw_at lw_m1 38 rfl
theorem q63 : (Jvm.Cond.instanceMethod ({ cls := "TruthSpectrum", name := "badPoint", desc := "(I)Z" } : Jvm.MethodName)) ∈ lw_all := lw_g (lw_at lw_m1 39 rfl) rfl
theorem q64 : (Jvm.Cond.code ({ cls := "TruthSpectrum", name := "badPoint", desc := "(I)Z" } : Jvm.MethodName) prog_1_method_3_code (2 : Nat) (Option.some Jvm.ClassFile.FieldType.boolean)) ∈ lw_all := lw_g (lw_at lw_m1 40 rfl) rfl
theorem q65 : (Jvm.Cond.methodLink "TruthSpectrum" (43 : Nat) ({ cls := "TruthSpectrum", name := "digit", desc := "(JI)I" } : Jvm.MethodName)) ∈ lw_all := lw_g (lw_at lw_m1 41 rfl) rfl
theorem q66 : (Jvm.Cond.privateMethod ({ cls := "TruthSpectrum", name := "digit", desc := "(JI)I" } : Jvm.MethodName)) ∈ lw_tbl := lw_at lw_m1 42 rfl
theorem q67 : (Jvm.Cond.instanceMethod ({ cls := "TruthSpectrum", name := "digit", desc := "(JI)I" } : Jvm.MethodName)) ∈ lw_all := lw_g (lw_at lw_m1 43 rfl) rfl
theorem q68 : (Jvm.Cond.code ({ cls := "TruthSpectrum", name := "digit", desc := "(JI)I" } : Jvm.MethodName) prog_1_method_4_code (4 : Nat) (Option.some Jvm.ClassFile.FieldType.int)) ∈ lw_all := lw_g (lw_at lw_m1 44 rfl) rfl
theorem q70 : (Jvm.Cond.instanceMethod ({ cls := "TruthSpectrum", name := "turnForm", desc := "(II)I" } : Jvm.MethodName)) ∈ lw_all := lw_g (lw_at lw_m1 46 rfl) rfl
theorem q71 : (Jvm.Cond.selects "TruthSpectrum" ({ cls := "TruthSpectrum", name := "turnForm", desc := "(II)I" } : Jvm.MethodName) ({ cls := "TruthSpectrum", name := "turnForm", desc := "(II)I" } : Jvm.MethodName)) ∈ lw_all := lw_g (lw_at lw_m1 47 rfl) rfl
theorem q72 : (Jvm.Cond.code ({ cls := "TruthSpectrum", name := "turnForm", desc := "(II)I" } : Jvm.MethodName) prog_1_method_11_code (5 : Nat) (Option.some Jvm.ClassFile.FieldType.int)) ∈ lw_all := lw_g (lw_at lw_m1 48 rfl) rfl
theorem q73 : (Jvm.Cond.methodLink "TruthSpectrum" (47 : Nat) ({ cls := "TruthSpectrum", name := "transformed", desc := "(J)J" } : Jvm.MethodName)) ∈ lw_all := lw_g (lw_at lw_m1 49 rfl) rfl
theorem q74 : (Jvm.Cond.privateMethod ({ cls := "TruthSpectrum", name := "transformed", desc := "(J)J" } : Jvm.MethodName)) ∈ lw_tbl := lw_at lw_m1 50 rfl
theorem q75 : (Jvm.Cond.instanceMethod ({ cls := "TruthSpectrum", name := "transformed", desc := "(J)J" } : Jvm.MethodName)) ∈ lw_all := lw_g (lw_at lw_m1 51 rfl) rfl
theorem q76 : (Jvm.Cond.code ({ cls := "TruthSpectrum", name := "transformed", desc := "(J)J" } : Jvm.MethodName) prog_1_method_7_code (6 : Nat) (Option.some Jvm.ClassFile.FieldType.long)) ∈ lw_all := lw_g (lw_at lw_m1 52 rfl) rfl
theorem q77 : (Jvm.Cond.methodLink "TruthSpectrum" (51 : Nat) ({ cls := "TruthSpectrum", name := "onesOf", desc := "(J)I" } : Jvm.MethodName)) ∈ lw_all := lw_g (lw_at lw_m1 53 rfl) rfl
theorem q78 : (Jvm.Cond.privateMethod ({ cls := "TruthSpectrum", name := "onesOf", desc := "(J)I" } : Jvm.MethodName)) ∈ lw_tbl := lw_at lw_m1 54 rfl
theorem q79 : (Jvm.Cond.instanceMethod ({ cls := "TruthSpectrum", name := "onesOf", desc := "(J)I" } : Jvm.MethodName)) ∈ lw_all := lw_g (lw_at lw_m1 55 rfl) rfl
theorem q80 : (Jvm.Cond.code ({ cls := "TruthSpectrum", name := "onesOf", desc := "(J)I" } : Jvm.MethodName) prog_1_method_5_code (9 : Nat) (Option.some Jvm.ClassFile.FieldType.int)) ∈ lw_all := lw_g (lw_at lw_m1 56 rfl) rfl
theorem q81 : (Jvm.Cond.constantLong "TruthSpectrum" (32 : Nat) (72340172838076673 : Int64)) ∈ lw_all := lw_g (lw_at lw_m1 57 rfl) rfl
theorem q83 : (Jvm.Cond.instanceMethod ({ cls := "TruthSpectrum", name := "combine", desc := "(IIII)I" } : Jvm.MethodName)) ∈ lw_all := lw_g (lw_at lw_m1 59 rfl) rfl
theorem q84 : (Jvm.Cond.selects "TruthSpectrum" ({ cls := "TruthSpectrum", name := "combine", desc := "(IIII)I" } : Jvm.MethodName) ({ cls := "TruthSpectrum", name := "combine", desc := "(IIII)I" } : Jvm.MethodName)) ∈ lw_all := lw_g (lw_at lw_m1 60 rfl) rfl
theorem q85 : (Jvm.Cond.code ({ cls := "TruthSpectrum", name := "combine", desc := "(IIII)I" } : Jvm.MethodName) prog_1_method_12_code (9 : Nat) (Option.some Jvm.ClassFile.FieldType.int)) ∈ lw_all := lw_g (lw_at lw_m1 61 rfl) rfl
theorem q86 : (Jvm.Cond.constantLong "TruthSpectrum" (34 : Nat) (-1 : Int64)) ∈ lw_all := lw_g (lw_at lw_m1 62 rfl) rfl
theorem q88 : (Jvm.Cond.instanceMethod ({ cls := "TruthSpectrum", name := "shift", desc := "(IIII)I" } : Jvm.MethodName)) ∈ lw_all := lw_g (lw_at lw_m1 64 rfl) rfl
theorem q89 : (Jvm.Cond.selects "TruthSpectrum" ({ cls := "TruthSpectrum", name := "shift", desc := "(IIII)I" } : Jvm.MethodName) ({ cls := "TruthSpectrum", name := "shift", desc := "(IIII)I" } : Jvm.MethodName)) ∈ lw_all := lw_g (lw_at lw_m1 65 rfl) rfl
theorem q90 : (Jvm.Cond.code ({ cls := "TruthSpectrum", name := "shift", desc := "(IIII)I" } : Jvm.MethodName) prog_1_method_13_code (9 : Nat) (Option.some Jvm.ClassFile.FieldType.int)) ∈ lw_all := lw_g (lw_at lw_m1 66 rfl) rfl
theorem q91 : (Jvm.Cond.methodLink "TruthSpectrum" (55 : Nat) ({ cls := "TruthSpectrum", name := "moved", desc := "(JI)J" } : Jvm.MethodName)) ∈ lw_all := lw_g (lw_at lw_m1 67 rfl) rfl
theorem q92 : (Jvm.Cond.privateMethod ({ cls := "TruthSpectrum", name := "moved", desc := "(JI)J" } : Jvm.MethodName)) ∈ lw_tbl := lw_at lw_m1 68 rfl
theorem q93 : (Jvm.Cond.instanceMethod ({ cls := "TruthSpectrum", name := "moved", desc := "(JI)J" } : Jvm.MethodName)) ∈ lw_all := lw_g (lw_at lw_m1 69 rfl) rfl
theorem q94 : (Jvm.Cond.code ({ cls := "TruthSpectrum", name := "moved", desc := "(JI)J" } : Jvm.MethodName) prog_1_method_8_code (8 : Nat) (Option.some Jvm.ClassFile.FieldType.long)) ∈ lw_all := lw_g (lw_at lw_m1 70 rfl) rfl
theorem q95 : (Jvm.Cond.methodLink "TruthSpectrum" (59 : Nat) ({ cls := "TruthSpectrum", name := "linear", desc := "(I)J" } : Jvm.MethodName)) ∈ lw_all := lw_g (lw_at lw_m1 71 rfl) rfl
theorem q96 : (Jvm.Cond.privateMethod ({ cls := "TruthSpectrum", name := "linear", desc := "(I)J" } : Jvm.MethodName)) ∈ lw_tbl := lw_at lw_m1 72 rfl
theorem q97 : (Jvm.Cond.instanceMethod ({ cls := "TruthSpectrum", name := "linear", desc := "(I)J" } : Jvm.MethodName)) ∈ lw_all := lw_g (lw_at lw_m1 73 rfl) rfl
theorem q98 : (Jvm.Cond.code ({ cls := "TruthSpectrum", name := "linear", desc := "(I)J" } : Jvm.MethodName) prog_1_method_9_code (5 : Nat) (Option.some Jvm.ClassFile.FieldType.long)) ∈ lw_all := lw_g (lw_at lw_m1 74 rfl) rfl
theorem q100 : (Jvm.Cond.instanceMethod ({ cls := "TruthSpectrum", name := "value", desc := "(II)I" } : Jvm.MethodName)) ∈ lw_all := lw_g (lw_at lw_m1 76 rfl) rfl
theorem q101 : (Jvm.Cond.selects "TruthSpectrum" ({ cls := "TruthSpectrum", name := "value", desc := "(II)I" } : Jvm.MethodName) ({ cls := "TruthSpectrum", name := "value", desc := "(II)I" } : Jvm.MethodName)) ∈ lw_all := lw_g (lw_at lw_m1 77 rfl) rfl
theorem q102 : (Jvm.Cond.code ({ cls := "TruthSpectrum", name := "value", desc := "(II)I" } : Jvm.MethodName) prog_1_method_14_code (3 : Nat) (Option.some Jvm.ClassFile.FieldType.int)) ∈ lw_all := lw_g (lw_at lw_m1 78 rfl) rfl
theorem q104 : (Jvm.Cond.instanceMethod ({ cls := "TruthSpectrum", name := "ones", desc := "(I)I" } : Jvm.MethodName)) ∈ lw_all := lw_g (lw_at lw_m1 80 rfl) rfl
theorem q105 : (Jvm.Cond.selects "TruthSpectrum" ({ cls := "TruthSpectrum", name := "ones", desc := "(I)I" } : Jvm.MethodName) ({ cls := "TruthSpectrum", name := "ones", desc := "(I)I" } : Jvm.MethodName)) ∈ lw_all := lw_g (lw_at lw_m1 81 rfl) rfl
theorem q106 : (Jvm.Cond.code ({ cls := "TruthSpectrum", name := "ones", desc := "(I)I" } : Jvm.MethodName) prog_1_method_15_code (2 : Nat) (Option.some Jvm.ClassFile.FieldType.int)) ∈ lw_all := lw_g (lw_at lw_m1 82 rfl) rfl
theorem q108 : (Jvm.Cond.instanceMethod ({ cls := "TruthSpectrum", name := "form", desc := "(II)I" } : Jvm.MethodName)) ∈ lw_all := lw_g (lw_at lw_m1 84 rfl) rfl
theorem q109 : (Jvm.Cond.selects "TruthSpectrum" ({ cls := "TruthSpectrum", name := "form", desc := "(II)I" } : Jvm.MethodName) ({ cls := "TruthSpectrum", name := "form", desc := "(II)I" } : Jvm.MethodName)) ∈ lw_all := lw_g (lw_at lw_m1 85 rfl) rfl
theorem q110 : (Jvm.Cond.code ({ cls := "TruthSpectrum", name := "form", desc := "(II)I" } : Jvm.MethodName) prog_1_method_16_code (5 : Nat) (Option.some Jvm.ClassFile.FieldType.int)) ∈ lw_all := lw_g (lw_at lw_m1 86 rfl) rfl
theorem q112 : (Jvm.Cond.instanceMethod ({ cls := "TruthSpectrum", name := "degree", desc := "(I)I" } : Jvm.MethodName)) ∈ lw_all := lw_g (lw_at lw_m1 88 rfl) rfl
theorem q113 : (Jvm.Cond.selects "TruthSpectrum" ({ cls := "TruthSpectrum", name := "degree", desc := "(I)I" } : Jvm.MethodName) ({ cls := "TruthSpectrum", name := "degree", desc := "(I)I" } : Jvm.MethodName)) ∈ lw_all := lw_g (lw_at lw_m1 89 rfl) rfl
theorem q114 : (Jvm.Cond.code ({ cls := "TruthSpectrum", name := "degree", desc := "(I)I" } : Jvm.MethodName) prog_1_method_17_code (7 : Nat) (Option.some Jvm.ClassFile.FieldType.int)) ∈ lw_all := lw_g (lw_at lw_m1 90 rfl) rfl
theorem q115 : (Jvm.Cond.methodLink "TruthSpectrum" (63 : Nat) ({ cls := "TruthSpectrum", name := "sizeOf", desc := "(I)I" } : Jvm.MethodName)) ∈ lw_all := lw_g (lw_at lw_m1 91 rfl) rfl
theorem q116 : (Jvm.Cond.privateMethod ({ cls := "TruthSpectrum", name := "sizeOf", desc := "(I)I" } : Jvm.MethodName)) ∈ lw_tbl := lw_at lw_m1 92 rfl
theorem q117 : (Jvm.Cond.instanceMethod ({ cls := "TruthSpectrum", name := "sizeOf", desc := "(I)I" } : Jvm.MethodName)) ∈ lw_all := lw_g (lw_at lw_m1 93 rfl) rfl
theorem q118 : (Jvm.Cond.code ({ cls := "TruthSpectrum", name := "sizeOf", desc := "(I)I" } : Jvm.MethodName) prog_1_method_6_code (4 : Nat) (Option.some Jvm.ClassFile.FieldType.int)) ∈ lw_all := lw_g (lw_at lw_m1 94 rfl) rfl
theorem q120 : (Jvm.Cond.instanceMethod ({ cls := "TruthSpectrum", name := "spectrum", desc := "(II)I" } : Jvm.MethodName)) ∈ lw_all := lw_g (lw_at lw_m1 96 rfl) rfl
theorem q121 : (Jvm.Cond.selects "TruthSpectrum" ({ cls := "TruthSpectrum", name := "spectrum", desc := "(II)I" } : Jvm.MethodName) ({ cls := "TruthSpectrum", name := "spectrum", desc := "(II)I" } : Jvm.MethodName)) ∈ lw_all := lw_g (lw_at lw_m1 97 rfl) rfl
theorem q122 : (Jvm.Cond.code ({ cls := "TruthSpectrum", name := "spectrum", desc := "(II)I" } : Jvm.MethodName) prog_1_method_21_code (3 : Nat) (Option.some Jvm.ClassFile.FieldType.int)) ∈ lw_all := lw_g (lw_at lw_m1 98 rfl) rfl
theorem q123 : (Jvm.Cond.methodLink "TruthSpectrum" (70 : Nat) ({ cls := "TruthSpectrum", name := "spectrumOf", desc := "(I)V" } : Jvm.MethodName)) ∈ lw_all := lw_g (lw_at lw_m1 99 rfl) rfl
theorem q124 : (Jvm.Cond.privateMethod ({ cls := "TruthSpectrum", name := "spectrumOf", desc := "(I)V" } : Jvm.MethodName)) ∈ lw_tbl := lw_at lw_m1 100 rfl
theorem q125 : (Jvm.Cond.instanceMethod ({ cls := "TruthSpectrum", name := "spectrumOf", desc := "(I)V" } : Jvm.MethodName)) ∈ lw_all := lw_g (lw_at lw_m1 101 rfl) rfl
theorem q126 : (Jvm.Cond.code ({ cls := "TruthSpectrum", name := "spectrumOf", desc := "(I)V" } : Jvm.MethodName) prog_1_method_19_code (3 : Nat) (Option.none : Option Jvm.ClassFile.FieldType)) ∈ lw_all := lw_g (lw_at lw_m1 102 rfl) rfl
theorem q127 : (Jvm.Cond.methodLink "TruthSpectrum" (67 : Nat) ({ cls := "TruthSpectrum", name := "spread", desc := "()V" } : Jvm.MethodName)) ∈ lw_all := lw_g (lw_at lw_m1 103 rfl) rfl
theorem q128 : (Jvm.Cond.privateMethod ({ cls := "TruthSpectrum", name := "spread", desc := "()V" } : Jvm.MethodName)) ∈ lw_tbl := lw_at lw_m1 104 rfl
theorem q129 : (Jvm.Cond.instanceMethod ({ cls := "TruthSpectrum", name := "spread", desc := "()V" } : Jvm.MethodName)) ∈ lw_all := lw_g (lw_at lw_m1 105 rfl) rfl
theorem q130 : (Jvm.Cond.code ({ cls := "TruthSpectrum", name := "spread", desc := "()V" } : Jvm.MethodName) prog_1_method_18_code (6 : Nat) (Option.none : Option Jvm.ClassFile.FieldType)) ∈ lw_all := lw_g (lw_at lw_m1 106 rfl) rfl
theorem q132 : (Jvm.Cond.instanceMethod ({ cls := "TruthSpectrum", name := "distance", desc := "(I)I" } : Jvm.MethodName)) ∈ lw_all := lw_g (lw_at lw_m1 108 rfl) rfl
theorem q133 : (Jvm.Cond.selects "TruthSpectrum" ({ cls := "TruthSpectrum", name := "distance", desc := "(I)I" } : Jvm.MethodName) ({ cls := "TruthSpectrum", name := "distance", desc := "(I)I" } : Jvm.MethodName)) ∈ lw_all := lw_g (lw_at lw_m1 109 rfl) rfl
theorem q134 : (Jvm.Cond.code ({ cls := "TruthSpectrum", name := "distance", desc := "(I)I" } : Jvm.MethodName) prog_1_method_23_code (3 : Nat) (Option.some Jvm.ClassFile.FieldType.int)) ∈ lw_all := lw_g (lw_at lw_m1 110 rfl) rfl
theorem q135 : (Jvm.Cond.methodLink "TruthSpectrum" (77 : Nat) ({ cls := "TruthSpectrum", name := "peak", desc := "()I" } : Jvm.MethodName)) ∈ lw_all := lw_g (lw_at lw_m1 111 rfl) rfl
theorem q136 : (Jvm.Cond.privateMethod ({ cls := "TruthSpectrum", name := "peak", desc := "()I" } : Jvm.MethodName)) ∈ lw_tbl := lw_at lw_m1 112 rfl
theorem q137 : (Jvm.Cond.instanceMethod ({ cls := "TruthSpectrum", name := "peak", desc := "()I" } : Jvm.MethodName)) ∈ lw_all := lw_g (lw_at lw_m1 113 rfl) rfl
theorem q138 : (Jvm.Cond.code ({ cls := "TruthSpectrum", name := "peak", desc := "()I" } : Jvm.MethodName) prog_1_method_22_code (3 : Nat) (Option.some Jvm.ClassFile.FieldType.int)) ∈ lw_all := lw_g (lw_at lw_m1 114 rfl) rfl
theorem q139 : (Jvm.Cond.methodLink "TruthSpectrum" (74 : Nat) ({ cls := "TruthSpectrum", name := "magnitude", desc := "(I)I" } : Jvm.MethodName)) ∈ lw_all := lw_g (lw_at lw_m1 115 rfl) rfl
theorem q140 : (Jvm.Cond.privateMethod ({ cls := "TruthSpectrum", name := "magnitude", desc := "(I)I" } : Jvm.MethodName)) ∈ lw_tbl := lw_at lw_m1 116 rfl
theorem q141 : (Jvm.Cond.instanceMethod ({ cls := "TruthSpectrum", name := "magnitude", desc := "(I)I" } : Jvm.MethodName)) ∈ lw_all := lw_g (lw_at lw_m1 117 rfl) rfl
theorem q142 : (Jvm.Cond.code ({ cls := "TruthSpectrum", name := "magnitude", desc := "(I)I" } : Jvm.MethodName) prog_1_method_20_code (2 : Nat) (Option.some Jvm.ClassFile.FieldType.int)) ∈ lw_all := lw_g (lw_at lw_m1 118 rfl) rfl
theorem q144 : (Jvm.Cond.instanceMethod ({ cls := "TruthSpectrum", name := "nearest", desc := "(I)I" } : Jvm.MethodName)) ∈ lw_all := lw_g (lw_at lw_m1 120 rfl) rfl
theorem q145 : (Jvm.Cond.selects "TruthSpectrum" ({ cls := "TruthSpectrum", name := "nearest", desc := "(I)I" } : Jvm.MethodName) ({ cls := "TruthSpectrum", name := "nearest", desc := "(I)I" } : Jvm.MethodName)) ∈ lw_all := lw_g (lw_at lw_m1 121 rfl) rfl
theorem q146 : (Jvm.Cond.code ({ cls := "TruthSpectrum", name := "nearest", desc := "(I)I" } : Jvm.MethodName) prog_1_method_24_code (2 : Nat) (Option.some Jvm.ClassFile.FieldType.int)) ∈ lw_all := lw_g (lw_at lw_m1 122 rfl) rfl
theorem q148 : (Jvm.Cond.instanceMethod ({ cls := "TruthSpectrum", name := "immunity", desc := "(I)I" } : Jvm.MethodName)) ∈ lw_all := lw_g (lw_at lw_m1 124 rfl) rfl
theorem q149 : (Jvm.Cond.selects "TruthSpectrum" ({ cls := "TruthSpectrum", name := "immunity", desc := "(I)I" } : Jvm.MethodName) ({ cls := "TruthSpectrum", name := "immunity", desc := "(I)I" } : Jvm.MethodName)) ∈ lw_all := lw_g (lw_at lw_m1 125 rfl) rfl
theorem q150 : (Jvm.Cond.code ({ cls := "TruthSpectrum", name := "immunity", desc := "(I)I" } : Jvm.MethodName) prog_1_method_25_code (5 : Nat) (Option.some Jvm.ClassFile.FieldType.int)) ∈ lw_all := lw_g (lw_at lw_m1 126 rfl) rfl
theorem q152 : (Jvm.Cond.instanceMethod ({ cls := "TruthSpectrum", name := "autocorrelation", desc := "(II)I" } : Jvm.MethodName)) ∈ lw_all := lw_g (lw_at lw_m1 128 rfl) rfl
theorem q153 : (Jvm.Cond.selects "TruthSpectrum" ({ cls := "TruthSpectrum", name := "autocorrelation", desc := "(II)I" } : Jvm.MethodName) ({ cls := "TruthSpectrum", name := "autocorrelation", desc := "(II)I" } : Jvm.MethodName)) ∈ lw_all := lw_g (lw_at lw_m1 129 rfl) rfl
theorem q154 : (Jvm.Cond.code ({ cls := "TruthSpectrum", name := "autocorrelation", desc := "(II)I" } : Jvm.MethodName) prog_1_method_27_code (3 : Nat) (Option.some Jvm.ClassFile.FieldType.int)) ∈ lw_all := lw_g (lw_at lw_m1 130 rfl) rfl
theorem q155 : (Jvm.Cond.methodLink "TruthSpectrum" (81 : Nat) ({ cls := "TruthSpectrum", name := "correlate", desc := "(I)V" } : Jvm.MethodName)) ∈ lw_all := lw_g (lw_at lw_m1 131 rfl) rfl
theorem q156 : (Jvm.Cond.privateMethod ({ cls := "TruthSpectrum", name := "correlate", desc := "(I)V" } : Jvm.MethodName)) ∈ lw_tbl := lw_at lw_m1 132 rfl
theorem q157 : (Jvm.Cond.instanceMethod ({ cls := "TruthSpectrum", name := "correlate", desc := "(I)V" } : Jvm.MethodName)) ∈ lw_all := lw_g (lw_at lw_m1 133 rfl) rfl
theorem q158 : (Jvm.Cond.code ({ cls := "TruthSpectrum", name := "correlate", desc := "(I)V" } : Jvm.MethodName) prog_1_method_26_code (3 : Nat) (Option.none : Option Jvm.ClassFile.FieldType)) ∈ lw_all := lw_g (lw_at lw_m1 134 rfl) rfl
theorem q160 : (Jvm.Cond.instanceMethod ({ cls := "TruthSpectrum", name := "variables", desc := "(I)I" } : Jvm.MethodName)) ∈ lw_all := lw_g (lw_at lw_m1 136 rfl) rfl
theorem q161 : (Jvm.Cond.selects "TruthSpectrum" ({ cls := "TruthSpectrum", name := "variables", desc := "(I)I" } : Jvm.MethodName) ({ cls := "TruthSpectrum", name := "variables", desc := "(I)I" } : Jvm.MethodName)) ∈ lw_all := lw_g (lw_at lw_m1 137 rfl) rfl
theorem q162 : (Jvm.Cond.code ({ cls := "TruthSpectrum", name := "variables", desc := "(I)I" } : Jvm.MethodName) prog_1_method_28_code (6 : Nat) (Option.some Jvm.ClassFile.FieldType.int)) ∈ lw_all := lw_g (lw_at lw_m1 138 rfl) rfl
theorem q164 : (Jvm.Cond.instanceMethod ({ cls := "TruthSpectrum", name := "structures", desc := "(I)I" } : Jvm.MethodName)) ∈ lw_all := lw_g (lw_at lw_m1 140 rfl) rfl
theorem q165 : (Jvm.Cond.selects "TruthSpectrum" ({ cls := "TruthSpectrum", name := "structures", desc := "(I)I" } : Jvm.MethodName) ({ cls := "TruthSpectrum", name := "structures", desc := "(I)I" } : Jvm.MethodName)) ∈ lw_all := lw_g (lw_at lw_m1 141 rfl) rfl
theorem q166 : (Jvm.Cond.code ({ cls := "TruthSpectrum", name := "structures", desc := "(I)I" } : Jvm.MethodName) prog_1_method_29_code (4 : Nat) (Option.some Jvm.ClassFile.FieldType.int)) ∈ lw_all := lw_g (lw_at lw_m1 142 rfl) rfl
theorem q168 : (Jvm.Cond.instanceMethod ({ cls := "TruthSpectrum", name := "shifted", desc := "(II)Z" } : Jvm.MethodName)) ∈ lw_all := lw_g (lw_at lw_m1 144 rfl) rfl
theorem q169 : (Jvm.Cond.selects "TruthSpectrum" ({ cls := "TruthSpectrum", name := "shifted", desc := "(II)Z" } : Jvm.MethodName) ({ cls := "TruthSpectrum", name := "shifted", desc := "(II)Z" } : Jvm.MethodName)) ∈ lw_all := lw_g (lw_at lw_m1 145 rfl) rfl
theorem q170 : (Jvm.Cond.code ({ cls := "TruthSpectrum", name := "shifted", desc := "(II)Z" } : Jvm.MethodName) prog_1_method_30_code (12 : Nat) (Option.some Jvm.ClassFile.FieldType.boolean)) ∈ lw_all := lw_g (lw_at lw_m1 146 rfl) rfl
theorem in_X0 : ∀ w ∈ wsX00, w ∈ lw_all := lw_in wsX00 [44, 46, 48] (by decide +kernel) (by decide +kernel)
theorem dX0_init_0 : decode cX0_init 0 = .ok (.aload_n 0, 1) := by decide +kernel
theorem dX0_init_1 : decode cX0_init 1 = .ok (.invokespecial 1, 3) := by decide +kernel
theorem dX0_init_4 : decode cX0_init 4 = .ok (.aload_n 0, 1) := by decide +kernel
theorem dX0_init_5 : decode cX0_init 5 = .ok (.iconst 4, 1) := by decide +kernel
theorem dX0_init_6 : decode cX0_init 6 = .ok (.newarray .long, 2) := by decide +kernel
theorem dX0_init_8 : decode cX0_init 8 = .ok (.putfield 7, 3) := by decide +kernel
theorem dX0_init_11 : decode cX0_init 11 = .ok (.aload_n 0, 1) := by decide +kernel
theorem dX0_init_12 : decode cX0_init 12 = .ok (.bipush 6, 2) := by decide +kernel
theorem dX0_init_14 : decode cX0_init 14 = .ok (.newarray .long, 2) := by decide +kernel
theorem dX0_init_16 : decode cX0_init 16 = .ok (.putfield 13, 3) := by decide +kernel
theorem dX0_init_19 : decode cX0_init 19 = .ok (.aload_n 0, 1) := by decide +kernel
theorem dX0_init_20 : decode cX0_init 20 = .ok (.bipush 64, 2) := by decide +kernel
theorem dX0_init_22 : decode cX0_init 22 = .ok (.newarray .int, 2) := by decide +kernel
theorem dX0_init_24 : decode cX0_init 24 = .ok (.putfield 16, 3) := by decide +kernel
theorem dX0_init_27 : decode cX0_init 27 = .ok (.aload_n 0, 1) := by decide +kernel
theorem dX0_init_28 : decode cX0_init 28 = .ok (.getfield 13, 3) := by decide +kernel
theorem dX0_init_31 : decode cX0_init 31 = .ok (.iconst 0, 1) := by decide +kernel
theorem dX0_init_32 : decode cX0_init 32 = .ok (.ldc2_w 20, 3) := by decide +kernel
theorem dX0_init_35 : decode cX0_init 35 = .ok (.lastore, 1) := by decide +kernel
theorem dX0_init_36 : decode cX0_init 36 = .ok (.aload_n 0, 1) := by decide +kernel
theorem dX0_init_37 : decode cX0_init 37 = .ok (.getfield 13, 3) := by decide +kernel
theorem dX0_init_40 : decode cX0_init 40 = .ok (.iconst 1, 1) := by decide +kernel
theorem dX0_init_41 : decode cX0_init 41 = .ok (.ldc2_w 22, 3) := by decide +kernel
theorem dX0_init_44 : decode cX0_init 44 = .ok (.lastore, 1) := by decide +kernel
theorem dX0_init_45 : decode cX0_init 45 = .ok (.aload_n 0, 1) := by decide +kernel
theorem dX0_init_46 : decode cX0_init 46 = .ok (.getfield 13, 3) := by decide +kernel
theorem dX0_init_49 : decode cX0_init 49 = .ok (.iconst 2, 1) := by decide +kernel
theorem dX0_init_50 : decode cX0_init 50 = .ok (.ldc2_w 24, 3) := by decide +kernel
theorem dX0_init_53 : decode cX0_init 53 = .ok (.lastore, 1) := by decide +kernel
theorem dX0_init_54 : decode cX0_init 54 = .ok (.aload_n 0, 1) := by decide +kernel
theorem dX0_init_55 : decode cX0_init 55 = .ok (.getfield 13, 3) := by decide +kernel
theorem dX0_init_58 : decode cX0_init 58 = .ok (.iconst 3, 1) := by decide +kernel
theorem dX0_init_59 : decode cX0_init 59 = .ok (.ldc2_w 26, 3) := by decide +kernel
theorem dX0_init_62 : decode cX0_init 62 = .ok (.lastore, 1) := by decide +kernel
theorem dX0_init_63 : decode cX0_init 63 = .ok (.aload_n 0, 1) := by decide +kernel
theorem dX0_init_64 : decode cX0_init 64 = .ok (.getfield 13, 3) := by decide +kernel
theorem dX0_init_67 : decode cX0_init 67 = .ok (.iconst 4, 1) := by decide +kernel
theorem dX0_init_68 : decode cX0_init 68 = .ok (.ldc2_w 28, 3) := by decide +kernel
theorem dX0_init_71 : decode cX0_init 71 = .ok (.lastore, 1) := by decide +kernel
theorem dX0_init_72 : decode cX0_init 72 = .ok (.aload_n 0, 1) := by decide +kernel
theorem dX0_init_73 : decode cX0_init 73 = .ok (.getfield 13, 3) := by decide +kernel
theorem dX0_init_76 : decode cX0_init 76 = .ok (.iconst 5, 1) := by decide +kernel
theorem dX0_init_77 : decode cX0_init 77 = .ok (.ldc2_w 30, 3) := by decide +kernel
theorem dX0_init_80 : decode cX0_init 80 = .ok (.lastore, 1) := by decide +kernel
theorem dX0_init_81 : decode cX0_init 81 = .ok (.return_, 1) := by decide +kernel
theorem dX0_put_0 : decode cX0_put 0 = .ok (.aload_n 0, 1) := by decide +kernel
theorem dX0_put_1 : decode cX0_put 1 = .ok (.iload_n 1, 1) := by decide +kernel
theorem dX0_put_2 : decode cX0_put 2 = .ok (.invokevirtual 36, 3) := by decide +kernel
theorem dX0_put_5 : decode cX0_put 5 = .ok (.ifCond .ne 20, 3) := by decide +kernel
theorem dX0_put_8 : decode cX0_put 8 = .ok (.aload_n 0, 1) := by decide +kernel
theorem dX0_put_9 : decode cX0_put 9 = .ok (.iload_n 2, 1) := by decide +kernel
theorem dX0_put_10 : decode cX0_put 10 = .ok (.invokevirtual 40, 3) := by decide +kernel
theorem dX0_put_13 : decode cX0_put 13 = .ok (.ifCond .ne 12, 3) := by decide +kernel
theorem dX0_put_16 : decode cX0_put 16 = .ok (.iload_n 3, 1) := by decide +kernel
theorem dX0_put_17 : decode cX0_put 17 = .ok (.ifCond .lt 8, 3) := by decide +kernel
theorem dX0_put_20 : decode cX0_put 20 = .ok (.iload_n 3, 1) := by decide +kernel
theorem dX0_put_21 : decode cX0_put 21 = .ok (.iconst 1, 1) := by decide +kernel
theorem dX0_put_22 : decode cX0_put 22 = .ok (.if_icmp .le 7, 3) := by decide +kernel
theorem dX0_put_25 : decode cX0_put 25 = .ok (.sipush (-1000), 3) := by decide +kernel
theorem dX0_put_28 : decode cX0_put 28 = .ok (.ireturn, 1) := by decide +kernel
theorem dX0_put_29 : decode cX0_put 29 = .ok (.aload_n 0, 1) := by decide +kernel
theorem dX0_put_30 : decode cX0_put 30 = .ok (.aload_n 0, 1) := by decide +kernel
theorem dX0_put_31 : decode cX0_put 31 = .ok (.getfield 7, 3) := by decide +kernel
theorem dX0_put_34 : decode cX0_put 34 = .ok (.iload_n 1, 1) := by decide +kernel
theorem dX0_put_35 : decode cX0_put 35 = .ok (.laload, 1) := by decide +kernel
theorem dX0_put_36 : decode cX0_put 36 = .ok (.iload_n 2, 1) := by decide +kernel
theorem dX0_put_37 : decode cX0_put 37 = .ok (.invokevirtual 43, 3) := by decide +kernel
theorem dX0_put_40 : decode cX0_put 40 = .ok (.istore 4, 2) := by decide +kernel
theorem dX0_put_42 : decode cX0_put 42 = .ok (.iload 4, 2) := by decide +kernel
theorem dX0_put_44 : decode cX0_put 44 = .ok (.iload_n 3, 1) := by decide +kernel
theorem dX0_put_45 : decode cX0_put 45 = .ok (.if_icmp .eq 19, 3) := by decide +kernel
theorem dX0_put_48 : decode cX0_put 48 = .ok (.aload_n 0, 1) := by decide +kernel
theorem dX0_put_49 : decode cX0_put 49 = .ok (.getfield 7, 3) := by decide +kernel
theorem dX0_put_52 : decode cX0_put 52 = .ok (.iload_n 1, 1) := by decide +kernel
theorem dX0_put_53 : decode cX0_put 53 = .ok (.aload_n 0, 1) := by decide +kernel
theorem dX0_put_54 : decode cX0_put 54 = .ok (.getfield 7, 3) := by decide +kernel
theorem dX0_put_57 : decode cX0_put 57 = .ok (.iload_n 1, 1) := by decide +kernel
theorem dX0_put_58 : decode cX0_put 58 = .ok (.laload, 1) := by decide +kernel
theorem dX0_put_59 : decode cX0_put 59 = .ok (.lconst 1, 1) := by decide +kernel
theorem dX0_put_60 : decode cX0_put 60 = .ok (.iload_n 2, 1) := by decide +kernel
theorem dX0_put_61 : decode cX0_put 61 = .ok (.lshl, 1) := by decide +kernel
theorem dX0_put_62 : decode cX0_put 62 = .ok (.lxor, 1) := by decide +kernel
theorem dX0_put_63 : decode cX0_put 63 = .ok (.lastore, 1) := by decide +kernel
theorem dX0_put_64 : decode cX0_put 64 = .ok (.iload 4, 2) := by decide +kernel
theorem dX0_put_66 : decode cX0_put 66 = .ok (.ireturn, 1) := by decide +kernel
theorem dX0_bad_0 : decode cX0_bad 0 = .ok (.iload_n 1, 1) := by decide +kernel
theorem dX0_bad_1 : decode cX0_bad 1 = .ok (.ifCond .lt 8, 3) := by decide +kernel
theorem dX0_bad_4 : decode cX0_bad 4 = .ok (.iload_n 1, 1) := by decide +kernel
theorem dX0_bad_5 : decode cX0_bad 5 = .ok (.iconst 4, 1) := by decide +kernel
theorem dX0_bad_6 : decode cX0_bad 6 = .ok (.if_icmp .lt 7, 3) := by decide +kernel
theorem dX0_bad_9 : decode cX0_bad 9 = .ok (.iconst 1, 1) := by decide +kernel
theorem dX0_bad_10 : decode cX0_bad 10 = .ok (.goto 4, 3) := by decide +kernel
theorem dX0_bad_13 : decode cX0_bad 13 = .ok (.iconst 0, 1) := by decide +kernel
theorem dX0_bad_14 : decode cX0_bad 14 = .ok (.ireturn, 1) := by decide +kernel
theorem dX0_badPoint_0 : decode cX0_badPoint 0 = .ok (.iload_n 1, 1) := by decide +kernel
theorem dX0_badPoint_1 : decode cX0_badPoint 1 = .ok (.ifCond .lt 9, 3) := by decide +kernel
theorem dX0_badPoint_4 : decode cX0_badPoint 4 = .ok (.iload_n 1, 1) := by decide +kernel
theorem dX0_badPoint_5 : decode cX0_badPoint 5 = .ok (.bipush 64, 2) := by decide +kernel
theorem dX0_badPoint_7 : decode cX0_badPoint 7 = .ok (.if_icmp .lt 7, 3) := by decide +kernel
theorem dX0_badPoint_10 : decode cX0_badPoint 10 = .ok (.iconst 1, 1) := by decide +kernel
theorem dX0_badPoint_11 : decode cX0_badPoint 11 = .ok (.goto 4, 3) := by decide +kernel
theorem dX0_badPoint_14 : decode cX0_badPoint 14 = .ok (.iconst 0, 1) := by decide +kernel
theorem dX0_badPoint_15 : decode cX0_badPoint 15 = .ok (.ireturn, 1) := by decide +kernel
theorem dX0_digit_0 : decode cX0_digit 0 = .ok (.lload_n 1, 1) := by decide +kernel
theorem dX0_digit_1 : decode cX0_digit 1 = .ok (.iload_n 3, 1) := by decide +kernel
theorem dX0_digit_2 : decode cX0_digit 2 = .ok (.lushr, 1) := by decide +kernel
theorem dX0_digit_3 : decode cX0_digit 3 = .ok (.lconst 1, 1) := by decide +kernel
theorem dX0_digit_4 : decode cX0_digit 4 = .ok (.land, 1) := by decide +kernel
theorem dX0_digit_5 : decode cX0_digit 5 = .ok (.l2i, 1) := by decide +kernel
theorem dX0_digit_6 : decode cX0_digit 6 = .ok (.ireturn, 1) := by decide +kernel
theorem dX0_turnForm_0 : decode cX0_turnForm 0 = .ok (.aload_n 0, 1) := by decide +kernel
theorem dX0_turnForm_1 : decode cX0_turnForm 1 = .ok (.iload_n 1, 1) := by decide +kernel
theorem dX0_turnForm_2 : decode cX0_turnForm 2 = .ok (.invokevirtual 36, 3) := by decide +kernel
theorem dX0_turnForm_5 : decode cX0_turnForm 5 = .ok (.ifCond .ne 11, 3) := by decide +kernel
theorem dX0_turnForm_8 : decode cX0_turnForm 8 = .ok (.aload_n 0, 1) := by decide +kernel
theorem dX0_turnForm_9 : decode cX0_turnForm 9 = .ok (.iload_n 2, 1) := by decide +kernel
theorem dX0_turnForm_10 : decode cX0_turnForm 10 = .ok (.invokevirtual 40, 3) := by decide +kernel
theorem dX0_turnForm_13 : decode cX0_turnForm 13 = .ok (.ifCond .eq 7, 3) := by decide +kernel
theorem dX0_turnForm_16 : decode cX0_turnForm 16 = .ok (.sipush (-1000), 3) := by decide +kernel
theorem dX0_turnForm_19 : decode cX0_turnForm 19 = .ok (.ireturn, 1) := by decide +kernel
theorem dX0_turnForm_20 : decode cX0_turnForm 20 = .ok (.aload_n 0, 1) := by decide +kernel
theorem dX0_turnForm_21 : decode cX0_turnForm 21 = .ok (.lconst 1, 1) := by decide +kernel
theorem dX0_turnForm_22 : decode cX0_turnForm 22 = .ok (.iload_n 2, 1) := by decide +kernel
theorem dX0_turnForm_23 : decode cX0_turnForm 23 = .ok (.lshl, 1) := by decide +kernel
theorem dX0_turnForm_24 : decode cX0_turnForm 24 = .ok (.invokevirtual 47, 3) := by decide +kernel
theorem dX0_turnForm_27 : decode cX0_turnForm 27 = .ok (.lstore_n 3, 1) := by decide +kernel
theorem dX0_turnForm_28 : decode cX0_turnForm 28 = .ok (.aload_n 0, 1) := by decide +kernel
theorem dX0_turnForm_29 : decode cX0_turnForm 29 = .ok (.getfield 7, 3) := by decide +kernel
theorem dX0_turnForm_32 : decode cX0_turnForm 32 = .ok (.iload_n 1, 1) := by decide +kernel
theorem dX0_turnForm_33 : decode cX0_turnForm 33 = .ok (.aload_n 0, 1) := by decide +kernel
theorem dX0_turnForm_34 : decode cX0_turnForm 34 = .ok (.getfield 7, 3) := by decide +kernel
theorem dX0_turnForm_37 : decode cX0_turnForm 37 = .ok (.iload_n 1, 1) := by decide +kernel
theorem dX0_turnForm_38 : decode cX0_turnForm 38 = .ok (.laload, 1) := by decide +kernel
theorem dX0_turnForm_39 : decode cX0_turnForm 39 = .ok (.lload_n 3, 1) := by decide +kernel
theorem dX0_turnForm_40 : decode cX0_turnForm 40 = .ok (.lxor, 1) := by decide +kernel
theorem dX0_turnForm_41 : decode cX0_turnForm 41 = .ok (.lastore, 1) := by decide +kernel
theorem dX0_turnForm_42 : decode cX0_turnForm 42 = .ok (.aload_n 0, 1) := by decide +kernel
theorem dX0_turnForm_43 : decode cX0_turnForm 43 = .ok (.aload_n 0, 1) := by decide +kernel
theorem dX0_turnForm_44 : decode cX0_turnForm 44 = .ok (.getfield 7, 3) := by decide +kernel
theorem dX0_turnForm_47 : decode cX0_turnForm 47 = .ok (.iload_n 1, 1) := by decide +kernel
theorem dX0_turnForm_48 : decode cX0_turnForm 48 = .ok (.laload, 1) := by decide +kernel
theorem dX0_turnForm_49 : decode cX0_turnForm 49 = .ok (.invokevirtual 51, 3) := by decide +kernel
theorem dX0_turnForm_52 : decode cX0_turnForm 52 = .ok (.ireturn, 1) := by decide +kernel
theorem dX0_transformed_0 : decode cX0_transformed 0 = .ok (.lload_n 1, 1) := by decide +kernel
theorem dX0_transformed_1 : decode cX0_transformed 1 = .ok (.lstore_n 3, 1) := by decide +kernel
theorem dX0_transformed_2 : decode cX0_transformed 2 = .ok (.iconst 0, 1) := by decide +kernel
theorem dX0_transformed_3 : decode cX0_transformed 3 = .ok (.istore 5, 2) := by decide +kernel
theorem dX0_transformed_5 : decode cX0_transformed 5 = .ok (.iload 5, 2) := by decide +kernel
theorem dX0_transformed_7 : decode cX0_transformed 7 = .ok (.bipush 6, 2) := by decide +kernel
theorem dX0_transformed_9 : decode cX0_transformed 9 = .ok (.if_icmp .ge 26, 3) := by decide +kernel
theorem dX0_transformed_12 : decode cX0_transformed 12 = .ok (.lload_n 3, 1) := by decide +kernel
theorem dX0_transformed_13 : decode cX0_transformed 13 = .ok (.lload_n 3, 1) := by decide +kernel
theorem dX0_transformed_14 : decode cX0_transformed 14 = .ok (.aload_n 0, 1) := by decide +kernel
theorem dX0_transformed_15 : decode cX0_transformed 15 = .ok (.getfield 13, 3) := by decide +kernel
theorem dX0_transformed_18 : decode cX0_transformed 18 = .ok (.iload 5, 2) := by decide +kernel
theorem dX0_transformed_20 : decode cX0_transformed 20 = .ok (.laload, 1) := by decide +kernel
theorem dX0_transformed_21 : decode cX0_transformed 21 = .ok (.land, 1) := by decide +kernel
theorem dX0_transformed_22 : decode cX0_transformed 22 = .ok (.iconst 1, 1) := by decide +kernel
theorem dX0_transformed_23 : decode cX0_transformed 23 = .ok (.iload 5, 2) := by decide +kernel
theorem dX0_transformed_25 : decode cX0_transformed 25 = .ok (.ishl, 1) := by decide +kernel
theorem dX0_transformed_26 : decode cX0_transformed 26 = .ok (.lshl, 1) := by decide +kernel
theorem dX0_transformed_27 : decode cX0_transformed 27 = .ok (.lxor, 1) := by decide +kernel
theorem dX0_transformed_28 : decode cX0_transformed 28 = .ok (.lstore_n 3, 1) := by decide +kernel
theorem dX0_transformed_29 : decode cX0_transformed 29 = .ok (.iinc 5 1, 3) := by decide +kernel
theorem dX0_transformed_32 : decode cX0_transformed 32 = .ok (.goto (-27), 3) := by decide +kernel
theorem dX0_transformed_35 : decode cX0_transformed 35 = .ok (.lload_n 3, 1) := by decide +kernel
theorem dX0_transformed_36 : decode cX0_transformed 36 = .ok (.lreturn, 1) := by decide +kernel
theorem dX0_onesOf_0 : decode cX0_onesOf 0 = .ok (.lload_n 1, 1) := by decide +kernel
theorem dX0_onesOf_1 : decode cX0_onesOf 1 = .ok (.lload_n 1, 1) := by decide +kernel
theorem dX0_onesOf_2 : decode cX0_onesOf 2 = .ok (.iconst 1, 1) := by decide +kernel
theorem dX0_onesOf_3 : decode cX0_onesOf 3 = .ok (.lushr, 1) := by decide +kernel
theorem dX0_onesOf_4 : decode cX0_onesOf 4 = .ok (.aload_n 0, 1) := by decide +kernel
theorem dX0_onesOf_5 : decode cX0_onesOf 5 = .ok (.getfield 13, 3) := by decide +kernel
theorem dX0_onesOf_8 : decode cX0_onesOf 8 = .ok (.iconst 0, 1) := by decide +kernel
theorem dX0_onesOf_9 : decode cX0_onesOf 9 = .ok (.laload, 1) := by decide +kernel
theorem dX0_onesOf_10 : decode cX0_onesOf 10 = .ok (.land, 1) := by decide +kernel
theorem dX0_onesOf_11 : decode cX0_onesOf 11 = .ok (.lsub, 1) := by decide +kernel
theorem dX0_onesOf_12 : decode cX0_onesOf 12 = .ok (.lstore_n 3, 1) := by decide +kernel
theorem dX0_onesOf_13 : decode cX0_onesOf 13 = .ok (.lload_n 3, 1) := by decide +kernel
theorem dX0_onesOf_14 : decode cX0_onesOf 14 = .ok (.aload_n 0, 1) := by decide +kernel
theorem dX0_onesOf_15 : decode cX0_onesOf 15 = .ok (.getfield 13, 3) := by decide +kernel
theorem dX0_onesOf_18 : decode cX0_onesOf 18 = .ok (.iconst 1, 1) := by decide +kernel
theorem dX0_onesOf_19 : decode cX0_onesOf 19 = .ok (.laload, 1) := by decide +kernel
theorem dX0_onesOf_20 : decode cX0_onesOf 20 = .ok (.land, 1) := by decide +kernel
theorem dX0_onesOf_21 : decode cX0_onesOf 21 = .ok (.lload_n 3, 1) := by decide +kernel
theorem dX0_onesOf_22 : decode cX0_onesOf 22 = .ok (.iconst 2, 1) := by decide +kernel
theorem dX0_onesOf_23 : decode cX0_onesOf 23 = .ok (.lushr, 1) := by decide +kernel
theorem dX0_onesOf_24 : decode cX0_onesOf 24 = .ok (.aload_n 0, 1) := by decide +kernel
theorem dX0_onesOf_25 : decode cX0_onesOf 25 = .ok (.getfield 13, 3) := by decide +kernel
theorem dX0_onesOf_28 : decode cX0_onesOf 28 = .ok (.iconst 1, 1) := by decide +kernel
theorem dX0_onesOf_29 : decode cX0_onesOf 29 = .ok (.laload, 1) := by decide +kernel
theorem dX0_onesOf_30 : decode cX0_onesOf 30 = .ok (.land, 1) := by decide +kernel
theorem dX0_onesOf_31 : decode cX0_onesOf 31 = .ok (.ladd, 1) := by decide +kernel
theorem dX0_onesOf_32 : decode cX0_onesOf 32 = .ok (.lstore 5, 2) := by decide +kernel
theorem dX0_onesOf_34 : decode cX0_onesOf 34 = .ok (.lload 5, 2) := by decide +kernel
theorem dX0_onesOf_36 : decode cX0_onesOf 36 = .ok (.lload 5, 2) := by decide +kernel
theorem dX0_onesOf_38 : decode cX0_onesOf 38 = .ok (.iconst 4, 1) := by decide +kernel
theorem dX0_onesOf_39 : decode cX0_onesOf 39 = .ok (.lushr, 1) := by decide +kernel
theorem dX0_onesOf_40 : decode cX0_onesOf 40 = .ok (.ladd, 1) := by decide +kernel
theorem dX0_onesOf_41 : decode cX0_onesOf 41 = .ok (.aload_n 0, 1) := by decide +kernel
theorem dX0_onesOf_42 : decode cX0_onesOf 42 = .ok (.getfield 13, 3) := by decide +kernel
theorem dX0_onesOf_45 : decode cX0_onesOf 45 = .ok (.iconst 2, 1) := by decide +kernel
theorem dX0_onesOf_46 : decode cX0_onesOf 46 = .ok (.laload, 1) := by decide +kernel
theorem dX0_onesOf_47 : decode cX0_onesOf 47 = .ok (.land, 1) := by decide +kernel
theorem dX0_onesOf_48 : decode cX0_onesOf 48 = .ok (.lstore 7, 2) := by decide +kernel
theorem dX0_onesOf_50 : decode cX0_onesOf 50 = .ok (.lload 7, 2) := by decide +kernel
theorem dX0_onesOf_52 : decode cX0_onesOf 52 = .ok (.ldc2_w 32, 3) := by decide +kernel
theorem dX0_onesOf_55 : decode cX0_onesOf 55 = .ok (.lmul, 1) := by decide +kernel
theorem dX0_onesOf_56 : decode cX0_onesOf 56 = .ok (.bipush 56, 2) := by decide +kernel
theorem dX0_onesOf_58 : decode cX0_onesOf 58 = .ok (.lushr, 1) := by decide +kernel
theorem dX0_onesOf_59 : decode cX0_onesOf 59 = .ok (.l2i, 1) := by decide +kernel
theorem dX0_onesOf_60 : decode cX0_onesOf 60 = .ok (.ireturn, 1) := by decide +kernel
theorem dX0_combine_0 : decode cX0_combine 0 = .ok (.aload_n 0, 1) := by decide +kernel
theorem dX0_combine_1 : decode cX0_combine 1 = .ok (.iload_n 1, 1) := by decide +kernel
theorem dX0_combine_2 : decode cX0_combine 2 = .ok (.invokevirtual 36, 3) := by decide +kernel
theorem dX0_combine_5 : decode cX0_combine 5 = .ok (.ifCond .ne 29, 3) := by decide +kernel
theorem dX0_combine_8 : decode cX0_combine 8 = .ok (.iload_n 2, 1) := by decide +kernel
theorem dX0_combine_9 : decode cX0_combine 9 = .ok (.ifCond .lt 25, 3) := by decide +kernel
theorem dX0_combine_12 : decode cX0_combine 12 = .ok (.iload_n 2, 1) := by decide +kernel
theorem dX0_combine_13 : decode cX0_combine 13 = .ok (.iconst 3, 1) := by decide +kernel
theorem dX0_combine_14 : decode cX0_combine 14 = .ok (.if_icmp .gt 20, 3) := by decide +kernel
theorem dX0_combine_17 : decode cX0_combine 17 = .ok (.aload_n 0, 1) := by decide +kernel
theorem dX0_combine_18 : decode cX0_combine 18 = .ok (.iload_n 3, 1) := by decide +kernel
theorem dX0_combine_19 : decode cX0_combine 19 = .ok (.invokevirtual 36, 3) := by decide +kernel
theorem dX0_combine_22 : decode cX0_combine 22 = .ok (.ifCond .ne 12, 3) := by decide +kernel
theorem dX0_combine_25 : decode cX0_combine 25 = .ok (.aload_n 0, 1) := by decide +kernel
theorem dX0_combine_26 : decode cX0_combine 26 = .ok (.iload 4, 2) := by decide +kernel
theorem dX0_combine_28 : decode cX0_combine 28 = .ok (.invokevirtual 36, 3) := by decide +kernel
theorem dX0_combine_31 : decode cX0_combine 31 = .ok (.ifCond .eq 7, 3) := by decide +kernel
theorem dX0_combine_34 : decode cX0_combine 34 = .ok (.sipush (-1000), 3) := by decide +kernel
theorem dX0_combine_37 : decode cX0_combine 37 = .ok (.ireturn, 1) := by decide +kernel
theorem dX0_combine_38 : decode cX0_combine 38 = .ok (.aload_n 0, 1) := by decide +kernel
theorem dX0_combine_39 : decode cX0_combine 39 = .ok (.getfield 7, 3) := by decide +kernel
theorem dX0_combine_42 : decode cX0_combine 42 = .ok (.iload_n 3, 1) := by decide +kernel
theorem dX0_combine_43 : decode cX0_combine 43 = .ok (.laload, 1) := by decide +kernel
theorem dX0_combine_44 : decode cX0_combine 44 = .ok (.lstore 5, 2) := by decide +kernel
theorem dX0_combine_46 : decode cX0_combine 46 = .ok (.aload_n 0, 1) := by decide +kernel
theorem dX0_combine_47 : decode cX0_combine 47 = .ok (.getfield 7, 3) := by decide +kernel
theorem dX0_combine_50 : decode cX0_combine 50 = .ok (.iload 4, 2) := by decide +kernel
theorem dX0_combine_52 : decode cX0_combine 52 = .ok (.laload, 1) := by decide +kernel
theorem dX0_combine_53 : decode cX0_combine 53 = .ok (.lstore 7, 2) := by decide +kernel
theorem dX0_combine_55 : decode cX0_combine 55 = .ok (.iload_n 2, 1) := by decide +kernel
theorem dX0_combine_56 : decode cX0_combine 56 = .ok (.ifCond .ne 17, 3) := by decide +kernel
theorem dX0_combine_59 : decode cX0_combine 59 = .ok (.aload_n 0, 1) := by decide +kernel
theorem dX0_combine_60 : decode cX0_combine 60 = .ok (.getfield 7, 3) := by decide +kernel
theorem dX0_combine_63 : decode cX0_combine 63 = .ok (.iload_n 1, 1) := by decide +kernel
theorem dX0_combine_64 : decode cX0_combine 64 = .ok (.lload 5, 2) := by decide +kernel
theorem dX0_combine_66 : decode cX0_combine 66 = .ok (.lload 7, 2) := by decide +kernel
theorem dX0_combine_68 : decode cX0_combine 68 = .ok (.lxor, 1) := by decide +kernel
theorem dX0_combine_69 : decode cX0_combine 69 = .ok (.lastore, 1) := by decide +kernel
theorem dX0_combine_70 : decode cX0_combine 70 = .ok (.goto 56, 3) := by decide +kernel
theorem dX0_combine_73 : decode cX0_combine 73 = .ok (.iload_n 2, 1) := by decide +kernel
theorem dX0_combine_74 : decode cX0_combine 74 = .ok (.iconst 1, 1) := by decide +kernel
theorem dX0_combine_75 : decode cX0_combine 75 = .ok (.if_icmp .ne 17, 3) := by decide +kernel
theorem dX0_combine_78 : decode cX0_combine 78 = .ok (.aload_n 0, 1) := by decide +kernel
theorem dX0_combine_79 : decode cX0_combine 79 = .ok (.getfield 7, 3) := by decide +kernel
theorem dX0_combine_82 : decode cX0_combine 82 = .ok (.iload_n 1, 1) := by decide +kernel
theorem dX0_combine_83 : decode cX0_combine 83 = .ok (.lload 5, 2) := by decide +kernel
theorem dX0_combine_85 : decode cX0_combine 85 = .ok (.lload 7, 2) := by decide +kernel
theorem dX0_combine_87 : decode cX0_combine 87 = .ok (.land, 1) := by decide +kernel
theorem dX0_combine_88 : decode cX0_combine 88 = .ok (.lastore, 1) := by decide +kernel
theorem dX0_combine_89 : decode cX0_combine 89 = .ok (.goto 37, 3) := by decide +kernel
theorem dX0_combine_92 : decode cX0_combine 92 = .ok (.iload_n 2, 1) := by decide +kernel
theorem dX0_combine_93 : decode cX0_combine 93 = .ok (.iconst 2, 1) := by decide +kernel
theorem dX0_combine_94 : decode cX0_combine 94 = .ok (.if_icmp .ne 17, 3) := by decide +kernel
theorem dX0_combine_97 : decode cX0_combine 97 = .ok (.aload_n 0, 1) := by decide +kernel
theorem dX0_combine_98 : decode cX0_combine 98 = .ok (.getfield 7, 3) := by decide +kernel
theorem dX0_combine_101 : decode cX0_combine 101 = .ok (.iload_n 1, 1) := by decide +kernel
theorem dX0_combine_102 : decode cX0_combine 102 = .ok (.lload 5, 2) := by decide +kernel
theorem dX0_combine_104 : decode cX0_combine 104 = .ok (.lload 7, 2) := by decide +kernel
theorem dX0_combine_106 : decode cX0_combine 106 = .ok (.lor, 1) := by decide +kernel
theorem dX0_combine_107 : decode cX0_combine 107 = .ok (.lastore, 1) := by decide +kernel
theorem dX0_combine_108 : decode cX0_combine 108 = .ok (.goto 18, 3) := by decide +kernel
theorem dX0_combine_111 : decode cX0_combine 111 = .ok (.aload_n 0, 1) := by decide +kernel
theorem dX0_combine_112 : decode cX0_combine 112 = .ok (.getfield 7, 3) := by decide +kernel
theorem dX0_combine_115 : decode cX0_combine 115 = .ok (.iload_n 1, 1) := by decide +kernel
theorem dX0_combine_116 : decode cX0_combine 116 = .ok (.lload 5, 2) := by decide +kernel
theorem dX0_combine_118 : decode cX0_combine 118 = .ok (.lload 7, 2) := by decide +kernel
theorem dX0_combine_120 : decode cX0_combine 120 = .ok (.lxor, 1) := by decide +kernel
theorem dX0_combine_121 : decode cX0_combine 121 = .ok (.ldc2_w 34, 3) := by decide +kernel
theorem dX0_combine_124 : decode cX0_combine 124 = .ok (.lxor, 1) := by decide +kernel
theorem dX0_combine_125 : decode cX0_combine 125 = .ok (.lastore, 1) := by decide +kernel
theorem dX0_combine_126 : decode cX0_combine 126 = .ok (.aload_n 0, 1) := by decide +kernel
theorem dX0_combine_127 : decode cX0_combine 127 = .ok (.aload_n 0, 1) := by decide +kernel
theorem dX0_combine_128 : decode cX0_combine 128 = .ok (.getfield 7, 3) := by decide +kernel
theorem dX0_combine_131 : decode cX0_combine 131 = .ok (.iload_n 1, 1) := by decide +kernel
theorem dX0_combine_132 : decode cX0_combine 132 = .ok (.laload, 1) := by decide +kernel
theorem dX0_combine_133 : decode cX0_combine 133 = .ok (.invokevirtual 51, 3) := by decide +kernel
theorem dX0_combine_136 : decode cX0_combine 136 = .ok (.ireturn, 1) := by decide +kernel
theorem dX0_shift_0 : decode cX0_shift 0 = .ok (.aload_n 0, 1) := by decide +kernel
theorem dX0_shift_1 : decode cX0_shift 1 = .ok (.iload_n 1, 1) := by decide +kernel
theorem dX0_shift_2 : decode cX0_shift 2 = .ok (.invokevirtual 36, 3) := by decide +kernel
theorem dX0_shift_5 : decode cX0_shift 5 = .ok (.ifCond .ne 28, 3) := by decide +kernel
theorem dX0_shift_8 : decode cX0_shift 8 = .ok (.aload_n 0, 1) := by decide +kernel
theorem dX0_shift_9 : decode cX0_shift 9 = .ok (.iload_n 2, 1) := by decide +kernel
theorem dX0_shift_10 : decode cX0_shift 10 = .ok (.invokevirtual 36, 3) := by decide +kernel
theorem dX0_shift_13 : decode cX0_shift 13 = .ok (.ifCond .ne 20, 3) := by decide +kernel
theorem dX0_shift_16 : decode cX0_shift 16 = .ok (.aload_n 0, 1) := by decide +kernel
theorem dX0_shift_17 : decode cX0_shift 17 = .ok (.iload_n 3, 1) := by decide +kernel
theorem dX0_shift_18 : decode cX0_shift 18 = .ok (.invokevirtual 40, 3) := by decide +kernel
theorem dX0_shift_21 : decode cX0_shift 21 = .ok (.ifCond .ne 12, 3) := by decide +kernel
theorem dX0_shift_24 : decode cX0_shift 24 = .ok (.aload_n 0, 1) := by decide +kernel
theorem dX0_shift_25 : decode cX0_shift 25 = .ok (.iload 4, 2) := by decide +kernel
theorem dX0_shift_27 : decode cX0_shift 27 = .ok (.invokevirtual 40, 3) := by decide +kernel
theorem dX0_shift_30 : decode cX0_shift 30 = .ok (.ifCond .eq 7, 3) := by decide +kernel
theorem dX0_shift_33 : decode cX0_shift 33 = .ok (.sipush (-1000), 3) := by decide +kernel
theorem dX0_shift_36 : decode cX0_shift 36 = .ok (.ireturn, 1) := by decide +kernel
theorem dX0_shift_37 : decode cX0_shift 37 = .ok (.aload_n 0, 1) := by decide +kernel
theorem dX0_shift_38 : decode cX0_shift 38 = .ok (.aload_n 0, 1) := by decide +kernel
theorem dX0_shift_39 : decode cX0_shift 39 = .ok (.getfield 7, 3) := by decide +kernel
theorem dX0_shift_42 : decode cX0_shift 42 = .ok (.iload_n 2, 1) := by decide +kernel
theorem dX0_shift_43 : decode cX0_shift 43 = .ok (.laload, 1) := by decide +kernel
theorem dX0_shift_44 : decode cX0_shift 44 = .ok (.iload_n 3, 1) := by decide +kernel
theorem dX0_shift_45 : decode cX0_shift 45 = .ok (.invokevirtual 55, 3) := by decide +kernel
theorem dX0_shift_48 : decode cX0_shift 48 = .ok (.lstore 5, 2) := by decide +kernel
theorem dX0_shift_50 : decode cX0_shift 50 = .ok (.aload_n 0, 1) := by decide +kernel
theorem dX0_shift_51 : decode cX0_shift 51 = .ok (.iload 4, 2) := by decide +kernel
theorem dX0_shift_53 : decode cX0_shift 53 = .ok (.invokevirtual 59, 3) := by decide +kernel
theorem dX0_shift_56 : decode cX0_shift 56 = .ok (.lstore 7, 2) := by decide +kernel
theorem dX0_shift_58 : decode cX0_shift 58 = .ok (.aload_n 0, 1) := by decide +kernel
theorem dX0_shift_59 : decode cX0_shift 59 = .ok (.getfield 7, 3) := by decide +kernel
theorem dX0_shift_62 : decode cX0_shift 62 = .ok (.iload_n 1, 1) := by decide +kernel
theorem dX0_shift_63 : decode cX0_shift 63 = .ok (.lload 5, 2) := by decide +kernel
theorem dX0_shift_65 : decode cX0_shift 65 = .ok (.lload 7, 2) := by decide +kernel
theorem dX0_shift_67 : decode cX0_shift 67 = .ok (.lxor, 1) := by decide +kernel
theorem dX0_shift_68 : decode cX0_shift 68 = .ok (.lastore, 1) := by decide +kernel
theorem dX0_shift_69 : decode cX0_shift 69 = .ok (.aload_n 0, 1) := by decide +kernel
theorem dX0_shift_70 : decode cX0_shift 70 = .ok (.aload_n 0, 1) := by decide +kernel
theorem dX0_shift_71 : decode cX0_shift 71 = .ok (.getfield 7, 3) := by decide +kernel
theorem dX0_shift_74 : decode cX0_shift 74 = .ok (.iload_n 1, 1) := by decide +kernel
theorem dX0_shift_75 : decode cX0_shift 75 = .ok (.laload, 1) := by decide +kernel
theorem dX0_shift_76 : decode cX0_shift 76 = .ok (.invokevirtual 51, 3) := by decide +kernel
theorem dX0_shift_79 : decode cX0_shift 79 = .ok (.ireturn, 1) := by decide +kernel
theorem dX0_moved_0 : decode cX0_moved 0 = .ok (.lload_n 1, 1) := by decide +kernel
theorem dX0_moved_1 : decode cX0_moved 1 = .ok (.lstore 4, 2) := by decide +kernel
theorem dX0_moved_3 : decode cX0_moved 3 = .ok (.iconst 0, 1) := by decide +kernel
theorem dX0_moved_4 : decode cX0_moved 4 = .ok (.istore 6, 2) := by decide +kernel
theorem dX0_moved_6 : decode cX0_moved 6 = .ok (.iload 6, 2) := by decide +kernel
theorem dX0_moved_8 : decode cX0_moved 8 = .ok (.bipush 6, 2) := by decide +kernel
theorem dX0_moved_10 : decode cX0_moved 10 = .ok (.if_icmp .ge 54, 3) := by decide +kernel
theorem dX0_moved_13 : decode cX0_moved 13 = .ok (.iload_n 3, 1) := by decide +kernel
theorem dX0_moved_14 : decode cX0_moved 14 = .ok (.iload 6, 2) := by decide +kernel
theorem dX0_moved_16 : decode cX0_moved 16 = .ok (.ishr, 1) := by decide +kernel
theorem dX0_moved_17 : decode cX0_moved 17 = .ok (.iconst 1, 1) := by decide +kernel
theorem dX0_moved_18 : decode cX0_moved 18 = .ok (.iand, 1) := by decide +kernel
theorem dX0_moved_19 : decode cX0_moved 19 = .ok (.iconst 1, 1) := by decide +kernel
theorem dX0_moved_20 : decode cX0_moved 20 = .ok (.if_icmp .ne 38, 3) := by decide +kernel
theorem dX0_moved_23 : decode cX0_moved 23 = .ok (.iconst 1, 1) := by decide +kernel
theorem dX0_moved_24 : decode cX0_moved 24 = .ok (.iload 6, 2) := by decide +kernel
theorem dX0_moved_26 : decode cX0_moved 26 = .ok (.ishl, 1) := by decide +kernel
theorem dX0_moved_27 : decode cX0_moved 27 = .ok (.istore 7, 2) := by decide +kernel
theorem dX0_moved_29 : decode cX0_moved 29 = .ok (.lload 4, 2) := by decide +kernel
theorem dX0_moved_31 : decode cX0_moved 31 = .ok (.aload_n 0, 1) := by decide +kernel
theorem dX0_moved_32 : decode cX0_moved 32 = .ok (.getfield 13, 3) := by decide +kernel
theorem dX0_moved_35 : decode cX0_moved 35 = .ok (.iload 6, 2) := by decide +kernel
theorem dX0_moved_37 : decode cX0_moved 37 = .ok (.laload, 1) := by decide +kernel
theorem dX0_moved_38 : decode cX0_moved 38 = .ok (.land, 1) := by decide +kernel
theorem dX0_moved_39 : decode cX0_moved 39 = .ok (.iload 7, 2) := by decide +kernel
theorem dX0_moved_41 : decode cX0_moved 41 = .ok (.lshl, 1) := by decide +kernel
theorem dX0_moved_42 : decode cX0_moved 42 = .ok (.lload 4, 2) := by decide +kernel
theorem dX0_moved_44 : decode cX0_moved 44 = .ok (.iload 7, 2) := by decide +kernel
theorem dX0_moved_46 : decode cX0_moved 46 = .ok (.lushr, 1) := by decide +kernel
theorem dX0_moved_47 : decode cX0_moved 47 = .ok (.aload_n 0, 1) := by decide +kernel
theorem dX0_moved_48 : decode cX0_moved 48 = .ok (.getfield 13, 3) := by decide +kernel
theorem dX0_moved_51 : decode cX0_moved 51 = .ok (.iload 6, 2) := by decide +kernel
theorem dX0_moved_53 : decode cX0_moved 53 = .ok (.laload, 1) := by decide +kernel
theorem dX0_moved_54 : decode cX0_moved 54 = .ok (.land, 1) := by decide +kernel
theorem dX0_moved_55 : decode cX0_moved 55 = .ok (.lor, 1) := by decide +kernel
theorem dX0_moved_56 : decode cX0_moved 56 = .ok (.lstore 4, 2) := by decide +kernel
theorem dX0_moved_58 : decode cX0_moved 58 = .ok (.iinc 6 1, 3) := by decide +kernel
theorem dX0_moved_61 : decode cX0_moved 61 = .ok (.goto (-55), 3) := by decide +kernel
theorem dX0_moved_64 : decode cX0_moved 64 = .ok (.lload 4, 2) := by decide +kernel
theorem dX0_moved_66 : decode cX0_moved 66 = .ok (.lreturn, 1) := by decide +kernel
theorem dX0_linear_0 : decode cX0_linear 0 = .ok (.lconst 0, 1) := by decide +kernel
theorem dX0_linear_1 : decode cX0_linear 1 = .ok (.lstore_n 2, 1) := by decide +kernel
theorem dX0_linear_2 : decode cX0_linear 2 = .ok (.iconst 0, 1) := by decide +kernel
theorem dX0_linear_3 : decode cX0_linear 3 = .ok (.istore 4, 2) := by decide +kernel
theorem dX0_linear_5 : decode cX0_linear 5 = .ok (.iload 4, 2) := by decide +kernel
theorem dX0_linear_7 : decode cX0_linear 7 = .ok (.bipush 6, 2) := by decide +kernel
theorem dX0_linear_9 : decode cX0_linear 9 = .ok (.if_icmp .ge 33, 3) := by decide +kernel
theorem dX0_linear_12 : decode cX0_linear 12 = .ok (.iload_n 1, 1) := by decide +kernel
theorem dX0_linear_13 : decode cX0_linear 13 = .ok (.iload 4, 2) := by decide +kernel
theorem dX0_linear_15 : decode cX0_linear 15 = .ok (.ishr, 1) := by decide +kernel
theorem dX0_linear_16 : decode cX0_linear 16 = .ok (.iconst 1, 1) := by decide +kernel
theorem dX0_linear_17 : decode cX0_linear 17 = .ok (.iand, 1) := by decide +kernel
theorem dX0_linear_18 : decode cX0_linear 18 = .ok (.iconst 1, 1) := by decide +kernel
theorem dX0_linear_19 : decode cX0_linear 19 = .ok (.if_icmp .ne 17, 3) := by decide +kernel
theorem dX0_linear_22 : decode cX0_linear 22 = .ok (.lload_n 2, 1) := by decide +kernel
theorem dX0_linear_23 : decode cX0_linear 23 = .ok (.aload_n 0, 1) := by decide +kernel
theorem dX0_linear_24 : decode cX0_linear 24 = .ok (.getfield 13, 3) := by decide +kernel
theorem dX0_linear_27 : decode cX0_linear 27 = .ok (.iload 4, 2) := by decide +kernel
theorem dX0_linear_29 : decode cX0_linear 29 = .ok (.laload, 1) := by decide +kernel
theorem dX0_linear_30 : decode cX0_linear 30 = .ok (.ldc2_w 34, 3) := by decide +kernel
theorem dX0_linear_33 : decode cX0_linear 33 = .ok (.lxor, 1) := by decide +kernel
theorem dX0_linear_34 : decode cX0_linear 34 = .ok (.lxor, 1) := by decide +kernel
theorem dX0_linear_35 : decode cX0_linear 35 = .ok (.lstore_n 2, 1) := by decide +kernel
theorem dX0_linear_36 : decode cX0_linear 36 = .ok (.iinc 4 1, 3) := by decide +kernel
theorem dX0_linear_39 : decode cX0_linear 39 = .ok (.goto (-34), 3) := by decide +kernel
theorem dX0_linear_42 : decode cX0_linear 42 = .ok (.lload_n 2, 1) := by decide +kernel
theorem dX0_linear_43 : decode cX0_linear 43 = .ok (.lreturn, 1) := by decide +kernel
theorem dX0_value_0 : decode cX0_value 0 = .ok (.aload_n 0, 1) := by decide +kernel
theorem dX0_value_1 : decode cX0_value 1 = .ok (.iload_n 1, 1) := by decide +kernel
theorem dX0_value_2 : decode cX0_value 2 = .ok (.invokevirtual 36, 3) := by decide +kernel
theorem dX0_value_5 : decode cX0_value 5 = .ok (.ifCond .ne 11, 3) := by decide +kernel
theorem dX0_value_8 : decode cX0_value 8 = .ok (.aload_n 0, 1) := by decide +kernel
theorem dX0_value_9 : decode cX0_value 9 = .ok (.iload_n 2, 1) := by decide +kernel
theorem dX0_value_10 : decode cX0_value 10 = .ok (.invokevirtual 40, 3) := by decide +kernel
theorem dX0_value_13 : decode cX0_value 13 = .ok (.ifCond .eq 9, 3) := by decide +kernel
theorem dX0_value_16 : decode cX0_value 16 = .ok (.sipush (-1000), 3) := by decide +kernel
theorem dX0_value_19 : decode cX0_value 19 = .ok (.goto 14, 3) := by decide +kernel
theorem dX0_value_22 : decode cX0_value 22 = .ok (.aload_n 0, 1) := by decide +kernel
theorem dX0_value_23 : decode cX0_value 23 = .ok (.aload_n 0, 1) := by decide +kernel
theorem dX0_value_24 : decode cX0_value 24 = .ok (.getfield 7, 3) := by decide +kernel
theorem dX0_value_27 : decode cX0_value 27 = .ok (.iload_n 1, 1) := by decide +kernel
theorem dX0_value_28 : decode cX0_value 28 = .ok (.laload, 1) := by decide +kernel
theorem dX0_value_29 : decode cX0_value 29 = .ok (.iload_n 2, 1) := by decide +kernel
theorem dX0_value_30 : decode cX0_value 30 = .ok (.invokevirtual 43, 3) := by decide +kernel
theorem dX0_value_33 : decode cX0_value 33 = .ok (.ireturn, 1) := by decide +kernel
theorem dX0_ones_0 : decode cX0_ones 0 = .ok (.aload_n 0, 1) := by decide +kernel
theorem dX0_ones_1 : decode cX0_ones 1 = .ok (.iload_n 1, 1) := by decide +kernel
theorem dX0_ones_2 : decode cX0_ones 2 = .ok (.invokevirtual 36, 3) := by decide +kernel
theorem dX0_ones_5 : decode cX0_ones 5 = .ok (.ifCond .eq 9, 3) := by decide +kernel
theorem dX0_ones_8 : decode cX0_ones 8 = .ok (.sipush (-1000), 3) := by decide +kernel
theorem dX0_ones_11 : decode cX0_ones 11 = .ok (.goto 13, 3) := by decide +kernel
theorem dX0_ones_14 : decode cX0_ones 14 = .ok (.aload_n 0, 1) := by decide +kernel
theorem dX0_ones_15 : decode cX0_ones 15 = .ok (.aload_n 0, 1) := by decide +kernel
theorem dX0_ones_16 : decode cX0_ones 16 = .ok (.getfield 7, 3) := by decide +kernel
theorem dX0_ones_19 : decode cX0_ones 19 = .ok (.iload_n 1, 1) := by decide +kernel
theorem dX0_ones_20 : decode cX0_ones 20 = .ok (.laload, 1) := by decide +kernel
theorem dX0_ones_21 : decode cX0_ones 21 = .ok (.invokevirtual 51, 3) := by decide +kernel
theorem dX0_ones_24 : decode cX0_ones 24 = .ok (.ireturn, 1) := by decide +kernel
theorem dX0_form_0 : decode cX0_form 0 = .ok (.aload_n 0, 1) := by decide +kernel
theorem dX0_form_1 : decode cX0_form 1 = .ok (.iload_n 1, 1) := by decide +kernel
theorem dX0_form_2 : decode cX0_form 2 = .ok (.invokevirtual 36, 3) := by decide +kernel
theorem dX0_form_5 : decode cX0_form 5 = .ok (.ifCond .ne 11, 3) := by decide +kernel
theorem dX0_form_8 : decode cX0_form 8 = .ok (.aload_n 0, 1) := by decide +kernel
theorem dX0_form_9 : decode cX0_form 9 = .ok (.iload_n 2, 1) := by decide +kernel
theorem dX0_form_10 : decode cX0_form 10 = .ok (.invokevirtual 40, 3) := by decide +kernel
theorem dX0_form_13 : decode cX0_form 13 = .ok (.ifCond .eq 7, 3) := by decide +kernel
theorem dX0_form_16 : decode cX0_form 16 = .ok (.sipush (-1000), 3) := by decide +kernel
theorem dX0_form_19 : decode cX0_form 19 = .ok (.ireturn, 1) := by decide +kernel
theorem dX0_form_20 : decode cX0_form 20 = .ok (.aload_n 0, 1) := by decide +kernel
theorem dX0_form_21 : decode cX0_form 21 = .ok (.aload_n 0, 1) := by decide +kernel
theorem dX0_form_22 : decode cX0_form 22 = .ok (.getfield 7, 3) := by decide +kernel
theorem dX0_form_25 : decode cX0_form 25 = .ok (.iload_n 1, 1) := by decide +kernel
theorem dX0_form_26 : decode cX0_form 26 = .ok (.laload, 1) := by decide +kernel
theorem dX0_form_27 : decode cX0_form 27 = .ok (.invokevirtual 47, 3) := by decide +kernel
theorem dX0_form_30 : decode cX0_form 30 = .ok (.lstore_n 3, 1) := by decide +kernel
theorem dX0_form_31 : decode cX0_form 31 = .ok (.aload_n 0, 1) := by decide +kernel
theorem dX0_form_32 : decode cX0_form 32 = .ok (.lload_n 3, 1) := by decide +kernel
theorem dX0_form_33 : decode cX0_form 33 = .ok (.iload_n 2, 1) := by decide +kernel
theorem dX0_form_34 : decode cX0_form 34 = .ok (.invokevirtual 43, 3) := by decide +kernel
theorem dX0_form_37 : decode cX0_form 37 = .ok (.ireturn, 1) := by decide +kernel
theorem dX0_degree_0 : decode cX0_degree 0 = .ok (.aload_n 0, 1) := by decide +kernel
theorem dX0_degree_1 : decode cX0_degree 1 = .ok (.iload_n 1, 1) := by decide +kernel
theorem dX0_degree_2 : decode cX0_degree 2 = .ok (.invokevirtual 36, 3) := by decide +kernel
theorem dX0_degree_5 : decode cX0_degree 5 = .ok (.ifCond .eq 7, 3) := by decide +kernel
theorem dX0_degree_8 : decode cX0_degree 8 = .ok (.sipush (-1000), 3) := by decide +kernel
theorem dX0_degree_11 : decode cX0_degree 11 = .ok (.ireturn, 1) := by decide +kernel
theorem dX0_degree_12 : decode cX0_degree 12 = .ok (.aload_n 0, 1) := by decide +kernel
theorem dX0_degree_13 : decode cX0_degree 13 = .ok (.aload_n 0, 1) := by decide +kernel
theorem dX0_degree_14 : decode cX0_degree 14 = .ok (.getfield 7, 3) := by decide +kernel
theorem dX0_degree_17 : decode cX0_degree 17 = .ok (.iload_n 1, 1) := by decide +kernel
theorem dX0_degree_18 : decode cX0_degree 18 = .ok (.laload, 1) := by decide +kernel
theorem dX0_degree_19 : decode cX0_degree 19 = .ok (.invokevirtual 47, 3) := by decide +kernel
theorem dX0_degree_22 : decode cX0_degree 22 = .ok (.lstore_n 2, 1) := by decide +kernel
theorem dX0_degree_23 : decode cX0_degree 23 = .ok (.iconst 0, 1) := by decide +kernel
theorem dX0_degree_24 : decode cX0_degree 24 = .ok (.istore 4, 2) := by decide +kernel
theorem dX0_degree_26 : decode cX0_degree 26 = .ok (.iconst 0, 1) := by decide +kernel
theorem dX0_degree_27 : decode cX0_degree 27 = .ok (.istore 5, 2) := by decide +kernel
theorem dX0_degree_29 : decode cX0_degree 29 = .ok (.iload 5, 2) := by decide +kernel
theorem dX0_degree_31 : decode cX0_degree 31 = .ok (.bipush 64, 2) := by decide +kernel
theorem dX0_degree_33 : decode cX0_degree 33 = .ok (.if_icmp .ge 44, 3) := by decide +kernel
theorem dX0_degree_36 : decode cX0_degree 36 = .ok (.aload_n 0, 1) := by decide +kernel
theorem dX0_degree_37 : decode cX0_degree 37 = .ok (.iload 5, 2) := by decide +kernel
theorem dX0_degree_39 : decode cX0_degree 39 = .ok (.invokevirtual 63, 3) := by decide +kernel
theorem dX0_degree_42 : decode cX0_degree 42 = .ok (.istore 6, 2) := by decide +kernel
theorem dX0_degree_44 : decode cX0_degree 44 = .ok (.aload_n 0, 1) := by decide +kernel
theorem dX0_degree_45 : decode cX0_degree 45 = .ok (.lload_n 2, 1) := by decide +kernel
theorem dX0_degree_46 : decode cX0_degree 46 = .ok (.iload 5, 2) := by decide +kernel
theorem dX0_degree_48 : decode cX0_degree 48 = .ok (.invokevirtual 43, 3) := by decide +kernel
theorem dX0_degree_51 : decode cX0_degree 51 = .ok (.iconst 1, 1) := by decide +kernel
theorem dX0_degree_52 : decode cX0_degree 52 = .ok (.if_icmp .ne 15, 3) := by decide +kernel
theorem dX0_degree_55 : decode cX0_degree 55 = .ok (.iload 6, 2) := by decide +kernel
theorem dX0_degree_57 : decode cX0_degree 57 = .ok (.iload 4, 2) := by decide +kernel
theorem dX0_degree_59 : decode cX0_degree 59 = .ok (.if_icmp .le 8, 3) := by decide +kernel
theorem dX0_degree_62 : decode cX0_degree 62 = .ok (.iload 6, 2) := by decide +kernel
theorem dX0_degree_64 : decode cX0_degree 64 = .ok (.goto 5, 3) := by decide +kernel
theorem dX0_degree_67 : decode cX0_degree 67 = .ok (.iload 4, 2) := by decide +kernel
theorem dX0_degree_69 : decode cX0_degree 69 = .ok (.istore 4, 2) := by decide +kernel
theorem dX0_degree_71 : decode cX0_degree 71 = .ok (.iinc 5 1, 3) := by decide +kernel
theorem dX0_degree_74 : decode cX0_degree 74 = .ok (.goto (-45), 3) := by decide +kernel
theorem dX0_degree_77 : decode cX0_degree 77 = .ok (.iload 4, 2) := by decide +kernel
theorem dX0_degree_79 : decode cX0_degree 79 = .ok (.ireturn, 1) := by decide +kernel
theorem dX0_sizeOf_0 : decode cX0_sizeOf 0 = .ok (.iconst 0, 1) := by decide +kernel
theorem dX0_sizeOf_1 : decode cX0_sizeOf 1 = .ok (.istore_n 2, 1) := by decide +kernel
theorem dX0_sizeOf_2 : decode cX0_sizeOf 2 = .ok (.iconst 0, 1) := by decide +kernel
theorem dX0_sizeOf_3 : decode cX0_sizeOf 3 = .ok (.istore_n 3, 1) := by decide +kernel
theorem dX0_sizeOf_4 : decode cX0_sizeOf 4 = .ok (.iload_n 3, 1) := by decide +kernel
theorem dX0_sizeOf_5 : decode cX0_sizeOf 5 = .ok (.bipush 6, 2) := by decide +kernel
end
section
set_option maxRecDepth 100000
theorem dX0_sizeOf_7 : decode cX0_sizeOf 7 = .ok (.if_icmp .ge 17, 3) := by decide +kernel
theorem dX0_sizeOf_10 : decode cX0_sizeOf 10 = .ok (.iload_n 2, 1) := by decide +kernel
theorem dX0_sizeOf_11 : decode cX0_sizeOf 11 = .ok (.iload_n 1, 1) := by decide +kernel
theorem dX0_sizeOf_12 : decode cX0_sizeOf 12 = .ok (.iload_n 3, 1) := by decide +kernel
theorem dX0_sizeOf_13 : decode cX0_sizeOf 13 = .ok (.ishr, 1) := by decide +kernel
theorem dX0_sizeOf_14 : decode cX0_sizeOf 14 = .ok (.iconst 1, 1) := by decide +kernel
theorem dX0_sizeOf_15 : decode cX0_sizeOf 15 = .ok (.iand, 1) := by decide +kernel
theorem dX0_sizeOf_16 : decode cX0_sizeOf 16 = .ok (.iadd, 1) := by decide +kernel
theorem dX0_sizeOf_17 : decode cX0_sizeOf 17 = .ok (.istore_n 2, 1) := by decide +kernel
theorem dX0_sizeOf_18 : decode cX0_sizeOf 18 = .ok (.iinc 3 1, 3) := by decide +kernel
theorem dX0_sizeOf_21 : decode cX0_sizeOf 21 = .ok (.goto (-17), 3) := by decide +kernel
theorem dX0_sizeOf_24 : decode cX0_sizeOf 24 = .ok (.iload_n 2, 1) := by decide +kernel
theorem dX0_sizeOf_25 : decode cX0_sizeOf 25 = .ok (.ireturn, 1) := by decide +kernel
theorem dX0_spectrum_0 : decode cX0_spectrum 0 = .ok (.aload_n 0, 1) := by decide +kernel
theorem dX0_spectrum_1 : decode cX0_spectrum 1 = .ok (.iload_n 1, 1) := by decide +kernel
theorem dX0_spectrum_2 : decode cX0_spectrum 2 = .ok (.invokevirtual 36, 3) := by decide +kernel
theorem dX0_spectrum_5 : decode cX0_spectrum 5 = .ok (.ifCond .ne 11, 3) := by decide +kernel
theorem dX0_spectrum_8 : decode cX0_spectrum 8 = .ok (.aload_n 0, 1) := by decide +kernel
theorem dX0_spectrum_9 : decode cX0_spectrum 9 = .ok (.iload_n 2, 1) := by decide +kernel
theorem dX0_spectrum_10 : decode cX0_spectrum 10 = .ok (.invokevirtual 40, 3) := by decide +kernel
theorem dX0_spectrum_13 : decode cX0_spectrum 13 = .ok (.ifCond .eq 7, 3) := by decide +kernel
theorem dX0_spectrum_16 : decode cX0_spectrum 16 = .ok (.sipush (-1000), 3) := by decide +kernel
theorem dX0_spectrum_19 : decode cX0_spectrum 19 = .ok (.ireturn, 1) := by decide +kernel
theorem dX0_spectrum_20 : decode cX0_spectrum 20 = .ok (.aload_n 0, 1) := by decide +kernel
theorem dX0_spectrum_21 : decode cX0_spectrum 21 = .ok (.iload_n 1, 1) := by decide +kernel
theorem dX0_spectrum_22 : decode cX0_spectrum 22 = .ok (.invokevirtual 70, 3) := by decide +kernel
theorem dX0_spectrum_25 : decode cX0_spectrum 25 = .ok (.aload_n 0, 1) := by decide +kernel
theorem dX0_spectrum_26 : decode cX0_spectrum 26 = .ok (.getfield 16, 3) := by decide +kernel
theorem dX0_spectrum_29 : decode cX0_spectrum 29 = .ok (.iload_n 2, 1) := by decide +kernel
theorem dX0_spectrum_30 : decode cX0_spectrum 30 = .ok (.iaload, 1) := by decide +kernel
theorem dX0_spectrum_31 : decode cX0_spectrum 31 = .ok (.ireturn, 1) := by decide +kernel
theorem dX0_spectrumOf_0 : decode cX0_spectrumOf 0 = .ok (.iconst 0, 1) := by decide +kernel
theorem dX0_spectrumOf_1 : decode cX0_spectrumOf 1 = .ok (.istore_n 2, 1) := by decide +kernel
theorem dX0_spectrumOf_2 : decode cX0_spectrumOf 2 = .ok (.iload_n 2, 1) := by decide +kernel
theorem dX0_spectrumOf_3 : decode cX0_spectrumOf 3 = .ok (.bipush 64, 2) := by decide +kernel
theorem dX0_spectrumOf_5 : decode cX0_spectrumOf 5 = .ok (.if_icmp .ge 30, 3) := by decide +kernel
theorem dX0_spectrumOf_8 : decode cX0_spectrumOf 8 = .ok (.aload_n 0, 1) := by decide +kernel
theorem dX0_spectrumOf_9 : decode cX0_spectrumOf 9 = .ok (.getfield 16, 3) := by decide +kernel
theorem dX0_spectrumOf_12 : decode cX0_spectrumOf 12 = .ok (.iload_n 2, 1) := by decide +kernel
theorem dX0_spectrumOf_13 : decode cX0_spectrumOf 13 = .ok (.iconst 1, 1) := by decide +kernel
theorem dX0_spectrumOf_14 : decode cX0_spectrumOf 14 = .ok (.iconst 2, 1) := by decide +kernel
theorem dX0_spectrumOf_15 : decode cX0_spectrumOf 15 = .ok (.aload_n 0, 1) := by decide +kernel
theorem dX0_spectrumOf_16 : decode cX0_spectrumOf 16 = .ok (.aload_n 0, 1) := by decide +kernel
theorem dX0_spectrumOf_17 : decode cX0_spectrumOf 17 = .ok (.getfield 7, 3) := by decide +kernel
theorem dX0_spectrumOf_20 : decode cX0_spectrumOf 20 = .ok (.iload_n 1, 1) := by decide +kernel
theorem dX0_spectrumOf_21 : decode cX0_spectrumOf 21 = .ok (.laload, 1) := by decide +kernel
theorem dX0_spectrumOf_22 : decode cX0_spectrumOf 22 = .ok (.iload_n 2, 1) := by decide +kernel
theorem dX0_spectrumOf_23 : decode cX0_spectrumOf 23 = .ok (.invokevirtual 43, 3) := by decide +kernel
theorem dX0_spectrumOf_26 : decode cX0_spectrumOf 26 = .ok (.imul, 1) := by decide +kernel
theorem dX0_spectrumOf_27 : decode cX0_spectrumOf 27 = .ok (.isub, 1) := by decide +kernel
theorem dX0_spectrumOf_28 : decode cX0_spectrumOf 28 = .ok (.iastore, 1) := by decide +kernel
theorem dX0_spectrumOf_29 : decode cX0_spectrumOf 29 = .ok (.iinc 2 1, 3) := by decide +kernel
theorem dX0_spectrumOf_32 : decode cX0_spectrumOf 32 = .ok (.goto (-30), 3) := by decide +kernel
theorem dX0_spectrumOf_35 : decode cX0_spectrumOf 35 = .ok (.aload_n 0, 1) := by decide +kernel
theorem dX0_spectrumOf_36 : decode cX0_spectrumOf 36 = .ok (.invokevirtual 67, 3) := by decide +kernel
theorem dX0_spectrumOf_39 : decode cX0_spectrumOf 39 = .ok (.return_, 1) := by decide +kernel
theorem dX0_spread_0 : decode cX0_spread 0 = .ok (.iconst 0, 1) := by decide +kernel
theorem dX0_spread_1 : decode cX0_spread 1 = .ok (.istore_n 1, 1) := by decide +kernel
theorem dX0_spread_2 : decode cX0_spread 2 = .ok (.iload_n 1, 1) := by decide +kernel
theorem dX0_spread_3 : decode cX0_spread 3 = .ok (.bipush 6, 2) := by decide +kernel
theorem dX0_spread_5 : decode cX0_spread 5 = .ok (.if_icmp .ge 77, 3) := by decide +kernel
theorem dX0_spread_8 : decode cX0_spread 8 = .ok (.iconst 1, 1) := by decide +kernel
theorem dX0_spread_9 : decode cX0_spread 9 = .ok (.iload_n 1, 1) := by decide +kernel
theorem dX0_spread_10 : decode cX0_spread 10 = .ok (.ishl, 1) := by decide +kernel
theorem dX0_spread_11 : decode cX0_spread 11 = .ok (.istore_n 2, 1) := by decide +kernel
theorem dX0_spread_12 : decode cX0_spread 12 = .ok (.iconst 0, 1) := by decide +kernel
theorem dX0_spread_13 : decode cX0_spread 13 = .ok (.istore_n 3, 1) := by decide +kernel
theorem dX0_spread_14 : decode cX0_spread 14 = .ok (.iload_n 3, 1) := by decide +kernel
theorem dX0_spread_15 : decode cX0_spread 15 = .ok (.bipush 64, 2) := by decide +kernel
theorem dX0_spread_17 : decode cX0_spread 17 = .ok (.if_icmp .ge 59, 3) := by decide +kernel
theorem dX0_spread_20 : decode cX0_spread 20 = .ok (.iload_n 3, 1) := by decide +kernel
theorem dX0_spread_21 : decode cX0_spread 21 = .ok (.iload_n 1, 1) := by decide +kernel
theorem dX0_spread_22 : decode cX0_spread 22 = .ok (.ishr, 1) := by decide +kernel
theorem dX0_spread_23 : decode cX0_spread 23 = .ok (.iconst 1, 1) := by decide +kernel
theorem dX0_spread_24 : decode cX0_spread 24 = .ok (.iand, 1) := by decide +kernel
theorem dX0_spread_25 : decode cX0_spread 25 = .ok (.ifCond .ne 45, 3) := by decide +kernel
theorem dX0_spread_28 : decode cX0_spread 28 = .ok (.aload_n 0, 1) := by decide +kernel
theorem dX0_spread_29 : decode cX0_spread 29 = .ok (.getfield 16, 3) := by decide +kernel
theorem dX0_spread_32 : decode cX0_spread 32 = .ok (.iload_n 3, 1) := by decide +kernel
theorem dX0_spread_33 : decode cX0_spread 33 = .ok (.iaload, 1) := by decide +kernel
theorem dX0_spread_34 : decode cX0_spread 34 = .ok (.istore 4, 2) := by decide +kernel
theorem dX0_spread_36 : decode cX0_spread 36 = .ok (.aload_n 0, 1) := by decide +kernel
theorem dX0_spread_37 : decode cX0_spread 37 = .ok (.getfield 16, 3) := by decide +kernel
theorem dX0_spread_40 : decode cX0_spread 40 = .ok (.iload_n 3, 1) := by decide +kernel
theorem dX0_spread_41 : decode cX0_spread 41 = .ok (.iload_n 2, 1) := by decide +kernel
theorem dX0_spread_42 : decode cX0_spread 42 = .ok (.iadd, 1) := by decide +kernel
theorem dX0_spread_43 : decode cX0_spread 43 = .ok (.iaload, 1) := by decide +kernel
theorem dX0_spread_44 : decode cX0_spread 44 = .ok (.istore 5, 2) := by decide +kernel
theorem dX0_spread_46 : decode cX0_spread 46 = .ok (.aload_n 0, 1) := by decide +kernel
theorem dX0_spread_47 : decode cX0_spread 47 = .ok (.getfield 16, 3) := by decide +kernel
theorem dX0_spread_50 : decode cX0_spread 50 = .ok (.iload_n 3, 1) := by decide +kernel
theorem dX0_spread_51 : decode cX0_spread 51 = .ok (.iload 4, 2) := by decide +kernel
theorem dX0_spread_53 : decode cX0_spread 53 = .ok (.iload 5, 2) := by decide +kernel
theorem dX0_spread_55 : decode cX0_spread 55 = .ok (.iadd, 1) := by decide +kernel
theorem dX0_spread_56 : decode cX0_spread 56 = .ok (.iastore, 1) := by decide +kernel
theorem dX0_spread_57 : decode cX0_spread 57 = .ok (.aload_n 0, 1) := by decide +kernel
theorem dX0_spread_58 : decode cX0_spread 58 = .ok (.getfield 16, 3) := by decide +kernel
theorem dX0_spread_61 : decode cX0_spread 61 = .ok (.iload_n 3, 1) := by decide +kernel
theorem dX0_spread_62 : decode cX0_spread 62 = .ok (.iload_n 2, 1) := by decide +kernel
theorem dX0_spread_63 : decode cX0_spread 63 = .ok (.iadd, 1) := by decide +kernel
theorem dX0_spread_64 : decode cX0_spread 64 = .ok (.iload 4, 2) := by decide +kernel
theorem dX0_spread_66 : decode cX0_spread 66 = .ok (.iload 5, 2) := by decide +kernel
theorem dX0_spread_68 : decode cX0_spread 68 = .ok (.isub, 1) := by decide +kernel
theorem dX0_spread_69 : decode cX0_spread 69 = .ok (.iastore, 1) := by decide +kernel
theorem dX0_spread_70 : decode cX0_spread 70 = .ok (.iinc 3 1, 3) := by decide +kernel
theorem dX0_spread_73 : decode cX0_spread 73 = .ok (.goto (-59), 3) := by decide +kernel
theorem dX0_spread_76 : decode cX0_spread 76 = .ok (.iinc 1 1, 3) := by decide +kernel
theorem dX0_spread_79 : decode cX0_spread 79 = .ok (.goto (-77), 3) := by decide +kernel
theorem dX0_spread_82 : decode cX0_spread 82 = .ok (.return_, 1) := by decide +kernel
theorem dX0_distance_0 : decode cX0_distance 0 = .ok (.aload_n 0, 1) := by decide +kernel
theorem dX0_distance_1 : decode cX0_distance 1 = .ok (.iload_n 1, 1) := by decide +kernel
theorem dX0_distance_2 : decode cX0_distance 2 = .ok (.invokevirtual 36, 3) := by decide +kernel
theorem dX0_distance_5 : decode cX0_distance 5 = .ok (.ifCond .eq 7, 3) := by decide +kernel
theorem dX0_distance_8 : decode cX0_distance 8 = .ok (.sipush (-1000), 3) := by decide +kernel
theorem dX0_distance_11 : decode cX0_distance 11 = .ok (.ireturn, 1) := by decide +kernel
theorem dX0_distance_12 : decode cX0_distance 12 = .ok (.aload_n 0, 1) := by decide +kernel
theorem dX0_distance_13 : decode cX0_distance 13 = .ok (.iload_n 1, 1) := by decide +kernel
theorem dX0_distance_14 : decode cX0_distance 14 = .ok (.invokevirtual 70, 3) := by decide +kernel
theorem dX0_distance_17 : decode cX0_distance 17 = .ok (.aload_n 0, 1) := by decide +kernel
theorem dX0_distance_18 : decode cX0_distance 18 = .ok (.invokevirtual 77, 3) := by decide +kernel
theorem dX0_distance_21 : decode cX0_distance 21 = .ok (.istore_n 2, 1) := by decide +kernel
theorem dX0_distance_22 : decode cX0_distance 22 = .ok (.bipush 32, 2) := by decide +kernel
theorem dX0_distance_24 : decode cX0_distance 24 = .ok (.aload_n 0, 1) := by decide +kernel
theorem dX0_distance_25 : decode cX0_distance 25 = .ok (.aload_n 0, 1) := by decide +kernel
theorem dX0_distance_26 : decode cX0_distance 26 = .ok (.getfield 16, 3) := by decide +kernel
theorem dX0_distance_29 : decode cX0_distance 29 = .ok (.iload_n 2, 1) := by decide +kernel
theorem dX0_distance_30 : decode cX0_distance 30 = .ok (.iaload, 1) := by decide +kernel
theorem dX0_distance_31 : decode cX0_distance 31 = .ok (.invokevirtual 74, 3) := by decide +kernel
theorem dX0_distance_34 : decode cX0_distance 34 = .ok (.iconst 2, 1) := by decide +kernel
theorem dX0_distance_35 : decode cX0_distance 35 = .ok (.idiv, 1) := by decide +kernel
theorem dX0_distance_36 : decode cX0_distance 36 = .ok (.isub, 1) := by decide +kernel
theorem dX0_distance_37 : decode cX0_distance 37 = .ok (.ireturn, 1) := by decide +kernel
theorem dX0_peak_0 : decode cX0_peak 0 = .ok (.iconst 0, 1) := by decide +kernel
theorem dX0_peak_1 : decode cX0_peak 1 = .ok (.istore_n 1, 1) := by decide +kernel
theorem dX0_peak_2 : decode cX0_peak 2 = .ok (.iconst 1, 1) := by decide +kernel
theorem dX0_peak_3 : decode cX0_peak 3 = .ok (.istore_n 2, 1) := by decide +kernel
theorem dX0_peak_4 : decode cX0_peak 4 = .ok (.iload_n 2, 1) := by decide +kernel
theorem dX0_peak_5 : decode cX0_peak 5 = .ok (.bipush 64, 2) := by decide +kernel
theorem dX0_peak_7 : decode cX0_peak 7 = .ok (.if_icmp .ge 38, 3) := by decide +kernel
theorem dX0_peak_10 : decode cX0_peak 10 = .ok (.aload_n 0, 1) := by decide +kernel
theorem dX0_peak_11 : decode cX0_peak 11 = .ok (.aload_n 0, 1) := by decide +kernel
theorem dX0_peak_12 : decode cX0_peak 12 = .ok (.getfield 16, 3) := by decide +kernel
theorem dX0_peak_15 : decode cX0_peak 15 = .ok (.iload_n 2, 1) := by decide +kernel
theorem dX0_peak_16 : decode cX0_peak 16 = .ok (.iaload, 1) := by decide +kernel
theorem dX0_peak_17 : decode cX0_peak 17 = .ok (.invokevirtual 74, 3) := by decide +kernel
theorem dX0_peak_20 : decode cX0_peak 20 = .ok (.aload_n 0, 1) := by decide +kernel
theorem dX0_peak_21 : decode cX0_peak 21 = .ok (.aload_n 0, 1) := by decide +kernel
theorem dX0_peak_22 : decode cX0_peak 22 = .ok (.getfield 16, 3) := by decide +kernel
theorem dX0_peak_25 : decode cX0_peak 25 = .ok (.iload_n 1, 1) := by decide +kernel
theorem dX0_peak_26 : decode cX0_peak 26 = .ok (.iaload, 1) := by decide +kernel
theorem dX0_peak_27 : decode cX0_peak 27 = .ok (.invokevirtual 74, 3) := by decide +kernel
theorem dX0_peak_30 : decode cX0_peak 30 = .ok (.if_icmp .le 7, 3) := by decide +kernel
theorem dX0_peak_33 : decode cX0_peak 33 = .ok (.iload_n 2, 1) := by decide +kernel
theorem dX0_peak_34 : decode cX0_peak 34 = .ok (.goto 4, 3) := by decide +kernel
theorem dX0_peak_37 : decode cX0_peak 37 = .ok (.iload_n 1, 1) := by decide +kernel
theorem dX0_peak_38 : decode cX0_peak 38 = .ok (.istore_n 1, 1) := by decide +kernel
theorem dX0_peak_39 : decode cX0_peak 39 = .ok (.iinc 2 1, 3) := by decide +kernel
theorem dX0_peak_42 : decode cX0_peak 42 = .ok (.goto (-38), 3) := by decide +kernel
theorem dX0_peak_45 : decode cX0_peak 45 = .ok (.iload_n 1, 1) := by decide +kernel
theorem dX0_peak_46 : decode cX0_peak 46 = .ok (.ireturn, 1) := by decide +kernel
theorem dX0_magnitude_0 : decode cX0_magnitude 0 = .ok (.iload_n 1, 1) := by decide +kernel
theorem dX0_magnitude_1 : decode cX0_magnitude 1 = .ok (.ifCond .ge 8, 3) := by decide +kernel
theorem dX0_magnitude_4 : decode cX0_magnitude 4 = .ok (.iload_n 1, 1) := by decide +kernel
theorem dX0_magnitude_5 : decode cX0_magnitude 5 = .ok (.ineg, 1) := by decide +kernel
theorem dX0_magnitude_6 : decode cX0_magnitude 6 = .ok (.goto 4, 3) := by decide +kernel
theorem dX0_magnitude_9 : decode cX0_magnitude 9 = .ok (.iload_n 1, 1) := by decide +kernel
theorem dX0_magnitude_10 : decode cX0_magnitude 10 = .ok (.ireturn, 1) := by decide +kernel
theorem dX0_nearest_0 : decode cX0_nearest 0 = .ok (.aload_n 0, 1) := by decide +kernel
theorem dX0_nearest_1 : decode cX0_nearest 1 = .ok (.iload_n 1, 1) := by decide +kernel
theorem dX0_nearest_2 : decode cX0_nearest 2 = .ok (.invokevirtual 36, 3) := by decide +kernel
theorem dX0_nearest_5 : decode cX0_nearest 5 = .ok (.ifCond .eq 7, 3) := by decide +kernel
theorem dX0_nearest_8 : decode cX0_nearest 8 = .ok (.sipush (-1000), 3) := by decide +kernel
theorem dX0_nearest_11 : decode cX0_nearest 11 = .ok (.ireturn, 1) := by decide +kernel
theorem dX0_nearest_12 : decode cX0_nearest 12 = .ok (.aload_n 0, 1) := by decide +kernel
theorem dX0_nearest_13 : decode cX0_nearest 13 = .ok (.iload_n 1, 1) := by decide +kernel
theorem dX0_nearest_14 : decode cX0_nearest 14 = .ok (.invokevirtual 70, 3) := by decide +kernel
theorem dX0_nearest_17 : decode cX0_nearest 17 = .ok (.aload_n 0, 1) := by decide +kernel
theorem dX0_nearest_18 : decode cX0_nearest 18 = .ok (.invokevirtual 77, 3) := by decide +kernel
theorem dX0_nearest_21 : decode cX0_nearest 21 = .ok (.ireturn, 1) := by decide +kernel
theorem dX0_immunity_0 : decode cX0_immunity 0 = .ok (.aload_n 0, 1) := by decide +kernel
theorem dX0_immunity_1 : decode cX0_immunity 1 = .ok (.iload_n 1, 1) := by decide +kernel
theorem dX0_immunity_2 : decode cX0_immunity 2 = .ok (.invokevirtual 36, 3) := by decide +kernel
theorem dX0_immunity_5 : decode cX0_immunity 5 = .ok (.ifCond .eq 7, 3) := by decide +kernel
theorem dX0_immunity_8 : decode cX0_immunity 8 = .ok (.sipush (-1000), 3) := by decide +kernel
theorem dX0_immunity_11 : decode cX0_immunity 11 = .ok (.ireturn, 1) := by decide +kernel
theorem dX0_immunity_12 : decode cX0_immunity 12 = .ok (.aload_n 0, 1) := by decide +kernel
theorem dX0_immunity_13 : decode cX0_immunity 13 = .ok (.iload_n 1, 1) := by decide +kernel
theorem dX0_immunity_14 : decode cX0_immunity 14 = .ok (.invokevirtual 70, 3) := by decide +kernel
theorem dX0_immunity_17 : decode cX0_immunity 17 = .ok (.bipush 7, 2) := by decide +kernel
theorem dX0_immunity_19 : decode cX0_immunity 19 = .ok (.istore_n 2, 1) := by decide +kernel
theorem dX0_immunity_20 : decode cX0_immunity 20 = .ok (.iconst 1, 1) := by decide +kernel
theorem dX0_immunity_21 : decode cX0_immunity 21 = .ok (.istore_n 3, 1) := by decide +kernel
theorem dX0_immunity_22 : decode cX0_immunity 22 = .ok (.iload_n 3, 1) := by decide +kernel
theorem dX0_immunity_23 : decode cX0_immunity 23 = .ok (.bipush 64, 2) := by decide +kernel
theorem dX0_immunity_25 : decode cX0_immunity 25 = .ok (.if_icmp .ge 38, 3) := by decide +kernel
theorem dX0_immunity_28 : decode cX0_immunity 28 = .ok (.aload_n 0, 1) := by decide +kernel
theorem dX0_immunity_29 : decode cX0_immunity 29 = .ok (.iload_n 3, 1) := by decide +kernel
theorem dX0_immunity_30 : decode cX0_immunity 30 = .ok (.invokevirtual 63, 3) := by decide +kernel
theorem dX0_immunity_33 : decode cX0_immunity 33 = .ok (.istore 4, 2) := by decide +kernel
theorem dX0_immunity_35 : decode cX0_immunity 35 = .ok (.aload_n 0, 1) := by decide +kernel
theorem dX0_immunity_36 : decode cX0_immunity 36 = .ok (.getfield 16, 3) := by decide +kernel
theorem dX0_immunity_39 : decode cX0_immunity 39 = .ok (.iload_n 3, 1) := by decide +kernel
theorem dX0_immunity_40 : decode cX0_immunity 40 = .ok (.iaload, 1) := by decide +kernel
theorem dX0_immunity_41 : decode cX0_immunity 41 = .ok (.ifCond .eq 14, 3) := by decide +kernel
theorem dX0_immunity_44 : decode cX0_immunity 44 = .ok (.iload 4, 2) := by decide +kernel
theorem dX0_immunity_46 : decode cX0_immunity 46 = .ok (.iload_n 2, 1) := by decide +kernel
theorem dX0_immunity_47 : decode cX0_immunity 47 = .ok (.if_icmp .ge 8, 3) := by decide +kernel
theorem dX0_immunity_50 : decode cX0_immunity 50 = .ok (.iload 4, 2) := by decide +kernel
theorem dX0_immunity_52 : decode cX0_immunity 52 = .ok (.goto 4, 3) := by decide +kernel
theorem dX0_immunity_55 : decode cX0_immunity 55 = .ok (.iload_n 2, 1) := by decide +kernel
theorem dX0_immunity_56 : decode cX0_immunity 56 = .ok (.istore_n 2, 1) := by decide +kernel
theorem dX0_immunity_57 : decode cX0_immunity 57 = .ok (.iinc 3 1, 3) := by decide +kernel
theorem dX0_immunity_60 : decode cX0_immunity 60 = .ok (.goto (-38), 3) := by decide +kernel
theorem dX0_immunity_63 : decode cX0_immunity 63 = .ok (.iload_n 2, 1) := by decide +kernel
theorem dX0_immunity_64 : decode cX0_immunity 64 = .ok (.iconst 1, 1) := by decide +kernel
theorem dX0_immunity_65 : decode cX0_immunity 65 = .ok (.isub, 1) := by decide +kernel
theorem dX0_immunity_66 : decode cX0_immunity 66 = .ok (.ireturn, 1) := by decide +kernel
theorem dX0_autocorrelation_0 : decode cX0_autocorrelation 0 = .ok (.aload_n 0, 1) := by decide +kernel
theorem dX0_autocorrelation_1 : decode cX0_autocorrelation 1 = .ok (.iload_n 1, 1) := by decide +kernel
theorem dX0_autocorrelation_2 : decode cX0_autocorrelation 2 = .ok (.invokevirtual 36, 3) := by decide +kernel
theorem dX0_autocorrelation_5 : decode cX0_autocorrelation 5 = .ok (.ifCond .ne 11, 3) := by decide +kernel
theorem dX0_autocorrelation_8 : decode cX0_autocorrelation 8 = .ok (.aload_n 0, 1) := by decide +kernel
theorem dX0_autocorrelation_9 : decode cX0_autocorrelation 9 = .ok (.iload_n 2, 1) := by decide +kernel
theorem dX0_autocorrelation_10 : decode cX0_autocorrelation 10 = .ok (.invokevirtual 40, 3) := by decide +kernel
theorem dX0_autocorrelation_13 : decode cX0_autocorrelation 13 = .ok (.ifCond .eq 7, 3) := by decide +kernel
theorem dX0_autocorrelation_16 : decode cX0_autocorrelation 16 = .ok (.sipush (-1000), 3) := by decide +kernel
theorem dX0_autocorrelation_19 : decode cX0_autocorrelation 19 = .ok (.ireturn, 1) := by decide +kernel
theorem dX0_autocorrelation_20 : decode cX0_autocorrelation 20 = .ok (.aload_n 0, 1) := by decide +kernel
theorem dX0_autocorrelation_21 : decode cX0_autocorrelation 21 = .ok (.iload_n 1, 1) := by decide +kernel
theorem dX0_autocorrelation_22 : decode cX0_autocorrelation 22 = .ok (.invokevirtual 81, 3) := by decide +kernel
theorem dX0_autocorrelation_25 : decode cX0_autocorrelation 25 = .ok (.aload_n 0, 1) := by decide +kernel
theorem dX0_autocorrelation_26 : decode cX0_autocorrelation 26 = .ok (.getfield 16, 3) := by decide +kernel
theorem dX0_autocorrelation_29 : decode cX0_autocorrelation 29 = .ok (.iload_n 2, 1) := by decide +kernel
theorem dX0_autocorrelation_30 : decode cX0_autocorrelation 30 = .ok (.iaload, 1) := by decide +kernel
theorem dX0_autocorrelation_31 : decode cX0_autocorrelation 31 = .ok (.ireturn, 1) := by decide +kernel
theorem dX0_correlate_0 : decode cX0_correlate 0 = .ok (.aload_n 0, 1) := by decide +kernel
theorem dX0_correlate_1 : decode cX0_correlate 1 = .ok (.iload_n 1, 1) := by decide +kernel
theorem dX0_correlate_2 : decode cX0_correlate 2 = .ok (.invokevirtual 70, 3) := by decide +kernel
theorem dX0_correlate_5 : decode cX0_correlate 5 = .ok (.iconst 0, 1) := by decide +kernel
theorem dX0_correlate_6 : decode cX0_correlate 6 = .ok (.istore_n 2, 1) := by decide +kernel
theorem dX0_correlate_7 : decode cX0_correlate 7 = .ok (.iload_n 2, 1) := by decide +kernel
theorem dX0_correlate_8 : decode cX0_correlate 8 = .ok (.bipush 64, 2) := by decide +kernel
theorem dX0_correlate_10 : decode cX0_correlate 10 = .ok (.if_icmp .ge 28, 3) := by decide +kernel
theorem dX0_correlate_13 : decode cX0_correlate 13 = .ok (.aload_n 0, 1) := by decide +kernel
theorem dX0_correlate_14 : decode cX0_correlate 14 = .ok (.getfield 16, 3) := by decide +kernel
theorem dX0_correlate_17 : decode cX0_correlate 17 = .ok (.iload_n 2, 1) := by decide +kernel
theorem dX0_correlate_18 : decode cX0_correlate 18 = .ok (.aload_n 0, 1) := by decide +kernel
theorem dX0_correlate_19 : decode cX0_correlate 19 = .ok (.getfield 16, 3) := by decide +kernel
theorem dX0_correlate_22 : decode cX0_correlate 22 = .ok (.iload_n 2, 1) := by decide +kernel
theorem dX0_correlate_23 : decode cX0_correlate 23 = .ok (.iaload, 1) := by decide +kernel
theorem dX0_correlate_24 : decode cX0_correlate 24 = .ok (.aload_n 0, 1) := by decide +kernel
theorem dX0_correlate_25 : decode cX0_correlate 25 = .ok (.getfield 16, 3) := by decide +kernel
theorem dX0_correlate_28 : decode cX0_correlate 28 = .ok (.iload_n 2, 1) := by decide +kernel
theorem dX0_correlate_29 : decode cX0_correlate 29 = .ok (.iaload, 1) := by decide +kernel
theorem dX0_correlate_30 : decode cX0_correlate 30 = .ok (.imul, 1) := by decide +kernel
theorem dX0_correlate_31 : decode cX0_correlate 31 = .ok (.iastore, 1) := by decide +kernel
theorem dX0_correlate_32 : decode cX0_correlate 32 = .ok (.iinc 2 1, 3) := by decide +kernel
theorem dX0_correlate_35 : decode cX0_correlate 35 = .ok (.goto (-28), 3) := by decide +kernel
theorem dX0_correlate_38 : decode cX0_correlate 38 = .ok (.aload_n 0, 1) := by decide +kernel
theorem dX0_correlate_39 : decode cX0_correlate 39 = .ok (.invokevirtual 67, 3) := by decide +kernel
theorem dX0_correlate_42 : decode cX0_correlate 42 = .ok (.iconst 0, 1) := by decide +kernel
theorem dX0_correlate_43 : decode cX0_correlate 43 = .ok (.istore_n 2, 1) := by decide +kernel
theorem dX0_correlate_44 : decode cX0_correlate 44 = .ok (.iload_n 2, 1) := by decide +kernel
theorem dX0_correlate_45 : decode cX0_correlate 45 = .ok (.bipush 64, 2) := by decide +kernel
theorem dX0_correlate_47 : decode cX0_correlate 47 = .ok (.if_icmp .ge 24, 3) := by decide +kernel
theorem dX0_correlate_50 : decode cX0_correlate 50 = .ok (.aload_n 0, 1) := by decide +kernel
theorem dX0_correlate_51 : decode cX0_correlate 51 = .ok (.getfield 16, 3) := by decide +kernel
theorem dX0_correlate_54 : decode cX0_correlate 54 = .ok (.iload_n 2, 1) := by decide +kernel
theorem dX0_correlate_55 : decode cX0_correlate 55 = .ok (.aload_n 0, 1) := by decide +kernel
theorem dX0_correlate_56 : decode cX0_correlate 56 = .ok (.getfield 16, 3) := by decide +kernel
theorem dX0_correlate_59 : decode cX0_correlate 59 = .ok (.iload_n 2, 1) := by decide +kernel
theorem dX0_correlate_60 : decode cX0_correlate 60 = .ok (.iaload, 1) := by decide +kernel
theorem dX0_correlate_61 : decode cX0_correlate 61 = .ok (.bipush 64, 2) := by decide +kernel
theorem dX0_correlate_63 : decode cX0_correlate 63 = .ok (.idiv, 1) := by decide +kernel
theorem dX0_correlate_64 : decode cX0_correlate 64 = .ok (.iastore, 1) := by decide +kernel
theorem dX0_correlate_65 : decode cX0_correlate 65 = .ok (.iinc 2 1, 3) := by decide +kernel
theorem dX0_correlate_68 : decode cX0_correlate 68 = .ok (.goto (-24), 3) := by decide +kernel
theorem dX0_correlate_71 : decode cX0_correlate 71 = .ok (.return_, 1) := by decide +kernel
theorem dX0_variables_0 : decode cX0_variables 0 = .ok (.aload_n 0, 1) := by decide +kernel
theorem dX0_variables_1 : decode cX0_variables 1 = .ok (.iload_n 1, 1) := by decide +kernel
theorem dX0_variables_2 : decode cX0_variables 2 = .ok (.invokevirtual 36, 3) := by decide +kernel
theorem dX0_variables_5 : decode cX0_variables 5 = .ok (.ifCond .eq 7, 3) := by decide +kernel
theorem dX0_variables_8 : decode cX0_variables 8 = .ok (.sipush (-1000), 3) := by decide +kernel
theorem dX0_variables_11 : decode cX0_variables 11 = .ok (.ireturn, 1) := by decide +kernel
theorem dX0_variables_12 : decode cX0_variables 12 = .ok (.iconst 0, 1) := by decide +kernel
theorem dX0_variables_13 : decode cX0_variables 13 = .ok (.istore_n 2, 1) := by decide +kernel
theorem dX0_variables_14 : decode cX0_variables 14 = .ok (.iconst 0, 1) := by decide +kernel
theorem dX0_variables_15 : decode cX0_variables 15 = .ok (.istore_n 3, 1) := by decide +kernel
theorem dX0_variables_16 : decode cX0_variables 16 = .ok (.iload_n 3, 1) := by decide +kernel
theorem dX0_variables_17 : decode cX0_variables 17 = .ok (.bipush 6, 2) := by decide +kernel
theorem dX0_variables_19 : decode cX0_variables 19 = .ok (.if_icmp .ge 46, 3) := by decide +kernel
theorem dX0_variables_22 : decode cX0_variables 22 = .ok (.aload_n 0, 1) := by decide +kernel
theorem dX0_variables_23 : decode cX0_variables 23 = .ok (.aload_n 0, 1) := by decide +kernel
theorem dX0_variables_24 : decode cX0_variables 24 = .ok (.getfield 7, 3) := by decide +kernel
theorem dX0_variables_27 : decode cX0_variables 27 = .ok (.iload_n 1, 1) := by decide +kernel
theorem dX0_variables_28 : decode cX0_variables 28 = .ok (.laload, 1) := by decide +kernel
theorem dX0_variables_29 : decode cX0_variables 29 = .ok (.iconst 1, 1) := by decide +kernel
theorem dX0_variables_30 : decode cX0_variables 30 = .ok (.iload_n 3, 1) := by decide +kernel
theorem dX0_variables_31 : decode cX0_variables 31 = .ok (.ishl, 1) := by decide +kernel
theorem dX0_variables_32 : decode cX0_variables 32 = .ok (.invokevirtual 55, 3) := by decide +kernel
theorem dX0_variables_35 : decode cX0_variables 35 = .ok (.lstore 4, 2) := by decide +kernel
theorem dX0_variables_37 : decode cX0_variables 37 = .ok (.lload 4, 2) := by decide +kernel
theorem dX0_variables_39 : decode cX0_variables 39 = .ok (.aload_n 0, 1) := by decide +kernel
theorem dX0_variables_40 : decode cX0_variables 40 = .ok (.getfield 7, 3) := by decide +kernel
theorem dX0_variables_43 : decode cX0_variables 43 = .ok (.iload_n 1, 1) := by decide +kernel
theorem dX0_variables_44 : decode cX0_variables 44 = .ok (.laload, 1) := by decide +kernel
theorem dX0_variables_45 : decode cX0_variables 45 = .ok (.lcmp, 1) := by decide +kernel
theorem dX0_variables_46 : decode cX0_variables 46 = .ok (.ifCond .eq 11, 3) := by decide +kernel
theorem dX0_variables_49 : decode cX0_variables 49 = .ok (.iload_n 2, 1) := by decide +kernel
theorem dX0_variables_50 : decode cX0_variables 50 = .ok (.iconst 1, 1) := by decide +kernel
theorem dX0_variables_51 : decode cX0_variables 51 = .ok (.iload_n 3, 1) := by decide +kernel
theorem dX0_variables_52 : decode cX0_variables 52 = .ok (.ishl, 1) := by decide +kernel
theorem dX0_variables_53 : decode cX0_variables 53 = .ok (.ior, 1) := by decide +kernel
theorem dX0_variables_54 : decode cX0_variables 54 = .ok (.goto 4, 3) := by decide +kernel
theorem dX0_variables_57 : decode cX0_variables 57 = .ok (.iload_n 2, 1) := by decide +kernel
theorem dX0_variables_58 : decode cX0_variables 58 = .ok (.istore_n 2, 1) := by decide +kernel
theorem dX0_variables_59 : decode cX0_variables 59 = .ok (.iinc 3 1, 3) := by decide +kernel
theorem dX0_variables_62 : decode cX0_variables 62 = .ok (.goto (-46), 3) := by decide +kernel
theorem dX0_variables_65 : decode cX0_variables 65 = .ok (.iload_n 2, 1) := by decide +kernel
theorem dX0_variables_66 : decode cX0_variables 66 = .ok (.ireturn, 1) := by decide +kernel
theorem dX0_structures_0 : decode cX0_structures 0 = .ok (.aload_n 0, 1) := by decide +kernel
theorem dX0_structures_1 : decode cX0_structures 1 = .ok (.iload_n 1, 1) := by decide +kernel
theorem dX0_structures_2 : decode cX0_structures 2 = .ok (.invokevirtual 36, 3) := by decide +kernel
theorem dX0_structures_5 : decode cX0_structures 5 = .ok (.ifCond .eq 7, 3) := by decide +kernel
theorem dX0_structures_8 : decode cX0_structures 8 = .ok (.sipush (-1000), 3) := by decide +kernel
theorem dX0_structures_11 : decode cX0_structures 11 = .ok (.ireturn, 1) := by decide +kernel
theorem dX0_structures_12 : decode cX0_structures 12 = .ok (.aload_n 0, 1) := by decide +kernel
theorem dX0_structures_13 : decode cX0_structures 13 = .ok (.iload_n 1, 1) := by decide +kernel
theorem dX0_structures_14 : decode cX0_structures 14 = .ok (.invokevirtual 81, 3) := by decide +kernel
theorem dX0_structures_17 : decode cX0_structures 17 = .ok (.iconst 0, 1) := by decide +kernel
theorem dX0_structures_18 : decode cX0_structures 18 = .ok (.istore_n 2, 1) := by decide +kernel
theorem dX0_structures_19 : decode cX0_structures 19 = .ok (.iconst 0, 1) := by decide +kernel
theorem dX0_structures_20 : decode cX0_structures 20 = .ok (.istore_n 3, 1) := by decide +kernel
theorem dX0_structures_21 : decode cX0_structures 21 = .ok (.iload_n 3, 1) := by decide +kernel
theorem dX0_structures_22 : decode cX0_structures 22 = .ok (.bipush 64, 2) := by decide +kernel
theorem dX0_structures_24 : decode cX0_structures 24 = .ok (.if_icmp .ge 32, 3) := by decide +kernel
theorem dX0_structures_27 : decode cX0_structures 27 = .ok (.aload_n 0, 1) := by decide +kernel
theorem dX0_structures_28 : decode cX0_structures 28 = .ok (.aload_n 0, 1) := by decide +kernel
theorem dX0_structures_29 : decode cX0_structures 29 = .ok (.getfield 16, 3) := by decide +kernel
theorem dX0_structures_32 : decode cX0_structures 32 = .ok (.iload_n 3, 1) := by decide +kernel
theorem dX0_structures_33 : decode cX0_structures 33 = .ok (.iaload, 1) := by decide +kernel
theorem dX0_structures_34 : decode cX0_structures 34 = .ok (.invokevirtual 74, 3) := by decide +kernel
theorem dX0_structures_37 : decode cX0_structures 37 = .ok (.bipush 64, 2) := by decide +kernel
theorem dX0_structures_39 : decode cX0_structures 39 = .ok (.if_icmp .ne 9, 3) := by decide +kernel
theorem dX0_structures_42 : decode cX0_structures 42 = .ok (.iload_n 2, 1) := by decide +kernel
theorem dX0_structures_43 : decode cX0_structures 43 = .ok (.iconst 1, 1) := by decide +kernel
theorem dX0_structures_44 : decode cX0_structures 44 = .ok (.iadd, 1) := by decide +kernel
theorem dX0_structures_45 : decode cX0_structures 45 = .ok (.goto 4, 3) := by decide +kernel
theorem dX0_structures_48 : decode cX0_structures 48 = .ok (.iload_n 2, 1) := by decide +kernel
theorem dX0_structures_49 : decode cX0_structures 49 = .ok (.istore_n 2, 1) := by decide +kernel
theorem dX0_structures_50 : decode cX0_structures 50 = .ok (.iinc 3 1, 3) := by decide +kernel
theorem dX0_structures_53 : decode cX0_structures 53 = .ok (.goto (-32), 3) := by decide +kernel
theorem dX0_structures_56 : decode cX0_structures 56 = .ok (.iload_n 2, 1) := by decide +kernel
theorem dX0_structures_57 : decode cX0_structures 57 = .ok (.ireturn, 1) := by decide +kernel
theorem dX0_shifted_0 : decode cX0_shifted 0 = .ok (.aload_n 0, 1) := by decide +kernel
theorem dX0_shifted_1 : decode cX0_shifted 1 = .ok (.iload_n 1, 1) := by decide +kernel
theorem dX0_shifted_2 : decode cX0_shifted 2 = .ok (.invokevirtual 36, 3) := by decide +kernel
theorem dX0_shifted_5 : decode cX0_shifted 5 = .ok (.ifCond .ne 11, 3) := by decide +kernel
theorem dX0_shifted_8 : decode cX0_shifted 8 = .ok (.aload_n 0, 1) := by decide +kernel
theorem dX0_shifted_9 : decode cX0_shifted 9 = .ok (.iload_n 2, 1) := by decide +kernel
theorem dX0_shifted_10 : decode cX0_shifted 10 = .ok (.invokevirtual 36, 3) := by decide +kernel
theorem dX0_shifted_13 : decode cX0_shifted 13 = .ok (.ifCond .eq 5, 3) := by decide +kernel
theorem dX0_shifted_16 : decode cX0_shifted 16 = .ok (.iconst 0, 1) := by decide +kernel
theorem dX0_shifted_17 : decode cX0_shifted 17 = .ok (.ireturn, 1) := by decide +kernel
theorem dX0_shifted_18 : decode cX0_shifted 18 = .ok (.iconst 0, 1) := by decide +kernel
theorem dX0_shifted_19 : decode cX0_shifted 19 = .ok (.istore_n 3, 1) := by decide +kernel
theorem dX0_shifted_20 : decode cX0_shifted 20 = .ok (.iconst 0, 1) := by decide +kernel
theorem dX0_shifted_21 : decode cX0_shifted 21 = .ok (.istore 4, 2) := by decide +kernel
theorem dX0_shifted_23 : decode cX0_shifted 23 = .ok (.iload 4, 2) := by decide +kernel
theorem dX0_shifted_25 : decode cX0_shifted 25 = .ok (.bipush 64, 2) := by decide +kernel
theorem dX0_shifted_27 : decode cX0_shifted 27 = .ok (.if_icmp .ge 97, 3) := by decide +kernel
theorem dX0_shifted_30 : decode cX0_shifted 30 = .ok (.iload_n 3, 1) := by decide +kernel
theorem dX0_shifted_31 : decode cX0_shifted 31 = .ok (.ifCond .ne 93, 3) := by decide +kernel
theorem dX0_shifted_34 : decode cX0_shifted 34 = .ok (.aload_n 0, 1) := by decide +kernel
theorem dX0_shifted_35 : decode cX0_shifted 35 = .ok (.aload_n 0, 1) := by decide +kernel
theorem dX0_shifted_36 : decode cX0_shifted 36 = .ok (.getfield 7, 3) := by decide +kernel
theorem dX0_shifted_39 : decode cX0_shifted 39 = .ok (.iload_n 2, 1) := by decide +kernel
theorem dX0_shifted_40 : decode cX0_shifted 40 = .ok (.laload, 1) := by decide +kernel
theorem dX0_shifted_41 : decode cX0_shifted 41 = .ok (.iload 4, 2) := by decide +kernel
theorem dX0_shifted_43 : decode cX0_shifted 43 = .ok (.invokevirtual 55, 3) := by decide +kernel
theorem dX0_shifted_46 : decode cX0_shifted 46 = .ok (.lstore 5, 2) := by decide +kernel
theorem dX0_shifted_48 : decode cX0_shifted 48 = .ok (.lload 5, 2) := by decide +kernel
theorem dX0_shifted_50 : decode cX0_shifted 50 = .ok (.aload_n 0, 1) := by decide +kernel
theorem dX0_shifted_51 : decode cX0_shifted 51 = .ok (.getfield 7, 3) := by decide +kernel
theorem dX0_shifted_54 : decode cX0_shifted 54 = .ok (.iload_n 1, 1) := by decide +kernel
theorem dX0_shifted_55 : decode cX0_shifted 55 = .ok (.laload, 1) := by decide +kernel
theorem dX0_shifted_56 : decode cX0_shifted 56 = .ok (.lxor, 1) := by decide +kernel
theorem dX0_shifted_57 : decode cX0_shifted 57 = .ok (.lstore 7, 2) := by decide +kernel
theorem dX0_shifted_59 : decode cX0_shifted 59 = .ok (.iconst 0, 1) := by decide +kernel
theorem dX0_shifted_60 : decode cX0_shifted 60 = .ok (.istore 9, 2) := by decide +kernel
theorem dX0_shifted_62 : decode cX0_shifted 62 = .ok (.iconst 0, 1) := by decide +kernel
theorem dX0_shifted_63 : decode cX0_shifted 63 = .ok (.istore 10, 2) := by decide +kernel
theorem dX0_shifted_65 : decode cX0_shifted 65 = .ok (.iload 10, 2) := by decide +kernel
theorem dX0_shifted_67 : decode cX0_shifted 67 = .ok (.bipush 6, 2) := by decide +kernel
theorem dX0_shifted_69 : decode cX0_shifted 69 = .ok (.if_icmp .ge 27, 3) := by decide +kernel
theorem dX0_shifted_72 : decode cX0_shifted 72 = .ok (.iload 9, 2) := by decide +kernel
theorem dX0_shifted_74 : decode cX0_shifted 74 = .ok (.aload_n 0, 1) := by decide +kernel
theorem dX0_shifted_75 : decode cX0_shifted 75 = .ok (.lload 7, 2) := by decide +kernel
theorem dX0_shifted_77 : decode cX0_shifted 77 = .ok (.iconst 1, 1) := by decide +kernel
theorem dX0_shifted_78 : decode cX0_shifted 78 = .ok (.iload 10, 2) := by decide +kernel
theorem dX0_shifted_80 : decode cX0_shifted 80 = .ok (.ishl, 1) := by decide +kernel
theorem dX0_shifted_81 : decode cX0_shifted 81 = .ok (.invokevirtual 43, 3) := by decide +kernel
theorem dX0_shifted_84 : decode cX0_shifted 84 = .ok (.iload 10, 2) := by decide +kernel
theorem dX0_shifted_86 : decode cX0_shifted 86 = .ok (.ishl, 1) := by decide +kernel
theorem dX0_shifted_87 : decode cX0_shifted 87 = .ok (.ior, 1) := by decide +kernel
theorem dX0_shifted_88 : decode cX0_shifted 88 = .ok (.istore 9, 2) := by decide +kernel
theorem dX0_shifted_90 : decode cX0_shifted 90 = .ok (.iinc 10 1, 3) := by decide +kernel
theorem dX0_shifted_93 : decode cX0_shifted 93 = .ok (.goto (-28), 3) := by decide +kernel
theorem dX0_shifted_96 : decode cX0_shifted 96 = .ok (.aload_n 0, 1) := by decide +kernel
theorem dX0_shifted_97 : decode cX0_shifted 97 = .ok (.iload 9, 2) := by decide +kernel
theorem dX0_shifted_99 : decode cX0_shifted 99 = .ok (.invokevirtual 59, 3) := by decide +kernel
theorem dX0_shifted_102 : decode cX0_shifted 102 = .ok (.lstore 10, 2) := by decide +kernel
theorem dX0_shifted_104 : decode cX0_shifted 104 = .ok (.lload 7, 2) := by decide +kernel
theorem dX0_shifted_106 : decode cX0_shifted 106 = .ok (.lload 10, 2) := by decide +kernel
theorem dX0_shifted_108 : decode cX0_shifted 108 = .ok (.lcmp, 1) := by decide +kernel
theorem dX0_shifted_109 : decode cX0_shifted 109 = .ok (.ifCond .ne 7, 3) := by decide +kernel
theorem dX0_shifted_112 : decode cX0_shifted 112 = .ok (.iconst 1, 1) := by decide +kernel
theorem dX0_shifted_113 : decode cX0_shifted 113 = .ok (.goto 4, 3) := by decide +kernel
theorem dX0_shifted_116 : decode cX0_shifted 116 = .ok (.iconst 0, 1) := by decide +kernel
theorem dX0_shifted_117 : decode cX0_shifted 117 = .ok (.istore_n 3, 1) := by decide +kernel
theorem dX0_shifted_118 : decode cX0_shifted 118 = .ok (.iinc 4 1, 3) := by decide +kernel
theorem dX0_shifted_121 : decode cX0_shifted 121 = .ok (.goto (-98), 3) := by decide +kernel
theorem dX0_shifted_124 : decode cX0_shifted 124 = .ok (.iload_n 3, 1) := by decide +kernel
theorem dX0_shifted_125 : decode cX0_shifted 125 = .ok (.ireturn, 1) := by decide +kernel
end
section
/-! TruthSpectrumModel -/
set_option maxRecDepth 100000
def RX1 : String := "TruthSpectrumModel"
def TX1 : u_T := fun k => match k with
  | 0 => ("TruthSpectrumModel", "tables", "[I", true)
  | _ => ("TruthSpectrumModel", "made", "[I", true)
def tyX1 : Nat → FieldType := fun k => match k with
  | 0 => .array .int
  | _ => .array .int
abbrev wsX10 : List Cond := u_ws RX1 TX1 2
theorem nmX1 : ∀ a, a < 2 → ∀ b, b < 2 → a ≠ b → (TX1 a).2.1 ≠ (TX1 b).2.1 := by decide +kernel
theorem tyX1_ok : ∀ k, k < 2 → parseFieldDescriptor (TX1 k).2.2.1 = some (tyX1 k) := by decide +kernel
abbrev cX1_init : ByteArray := prog_3_method_1_code
def yX1_init : MethodName := ⟨RX1, "<init>", "()V"⟩
abbrev cX1_put : ByteArray := prog_3_method_7_code
def yX1_put : MethodName := ⟨RX1, "put", "(III)I"⟩
abbrev cX1_isTable : ByteArray := prog_3_method_2_code
def yX1_isTable : MethodName := ⟨RX1, "isTable", "(I)Z"⟩
abbrev cX1_isPoint : ByteArray := prog_3_method_3_code
def yX1_isPoint : MethodName := ⟨RX1, "isPoint", "(I)Z"⟩
abbrev cX1_turnForm : ByteArray := prog_3_method_8_code
def yX1_turnForm : MethodName := ⟨RX1, "turnForm", "(II)I"⟩
abbrev cX1_countOnes : ByteArray := prog_3_method_6_code
def yX1_countOnes : MethodName := ⟨RX1, "countOnes", "(I)I"⟩
abbrev cX1_combine : ByteArray := prog_3_method_10_code
def yX1_combine : MethodName := ⟨RX1, "combine", "(IIII)I"⟩
abbrev cX1_takeMade : ByteArray := prog_3_method_9_code
def yX1_takeMade : MethodName := ⟨RX1, "takeMade", "(I)I"⟩
abbrev cX1_shift : ByteArray := prog_3_method_11_code
def yX1_shift : MethodName := ⟨RX1, "shift", "(IIII)I"⟩
abbrev cX1_product : ByteArray := prog_3_method_5_code
def yX1_product : MethodName := ⟨RX1, "product", "(II)I"⟩
abbrev cX1_sizeOf : ByteArray := prog_3_method_4_code
def yX1_sizeOf : MethodName := ⟨RX1, "sizeOf", "(I)I"⟩
abbrev cX1_value : ByteArray := prog_3_method_12_code
def yX1_value : MethodName := ⟨RX1, "value", "(II)I"⟩
abbrev cX1_ones : ByteArray := prog_3_method_13_code
def yX1_ones : MethodName := ⟨RX1, "ones", "(I)I"⟩
abbrev cX1_form : ByteArray := prog_3_method_15_code
def yX1_form : MethodName := ⟨RX1, "form", "(II)I"⟩
abbrev cX1_formAt : ByteArray := prog_3_method_14_code
def yX1_formAt : MethodName := ⟨RX1, "formAt", "(II)I"⟩
abbrev cX1_degree : ByteArray := prog_3_method_16_code
def yX1_degree : MethodName := ⟨RX1, "degree", "(I)I"⟩
abbrev cX1_spectrum : ByteArray := prog_3_method_18_code
def yX1_spectrum : MethodName := ⟨RX1, "spectrum", "(II)I"⟩
abbrev cX1_spectrumAt : ByteArray := prog_3_method_17_code
def yX1_spectrumAt : MethodName := ⟨RX1, "spectrumAt", "(II)I"⟩
abbrev cX1_distance : ByteArray := prog_3_method_20_code
def yX1_distance : MethodName := ⟨RX1, "distance", "(I)I"⟩
abbrev cX1_changes : ByteArray := prog_3_method_19_code
def yX1_changes : MethodName := ⟨RX1, "changes", "(II)I"⟩
abbrev cX1_nearest : ByteArray := prog_3_method_21_code
def yX1_nearest : MethodName := ⟨RX1, "nearest", "(I)I"⟩
abbrev cX1_immunity : ByteArray := prog_3_method_22_code
def yX1_immunity : MethodName := ⟨RX1, "immunity", "(I)I"⟩
abbrev cX1_autocorrelation : ByteArray := prog_3_method_24_code
def yX1_autocorrelation : MethodName := ⟨RX1, "autocorrelation", "(II)I"⟩
abbrev cX1_sames : ByteArray := prog_3_method_23_code
def yX1_sames : MethodName := ⟨RX1, "sames", "(II)I"⟩
abbrev cX1_variables : ByteArray := prog_3_method_25_code
def yX1_variables : MethodName := ⟨RX1, "variables", "(I)I"⟩
abbrev cX1_structures : ByteArray := prog_3_method_26_code
def yX1_structures : MethodName := ⟨RX1, "structures", "(I)I"⟩
abbrev cX1_shifted : ByteArray := prog_3_method_28_code
def yX1_shifted : MethodName := ⟨RX1, "shifted", "(II)Z"⟩
abbrev cX1_comesBy : ByteArray := prog_3_method_27_code
def yX1_comesBy : MethodName := ⟨RX1, "comesBy", "(IIII)Z"⟩
theorem q26 : (Jvm.Cond.initialized "TruthSpectrumModel") ∈ lw_all := lw_g (lw_at lw_m1 2 rfl) rfl
theorem q172 : (Jvm.Cond.instantiable "TruthSpectrumModel" (2 : Nat)) ∈ lw_all := lw_g (lw_at lw_m1 148 rfl) rfl
theorem q174 : (Jvm.Cond.instanceMethod ({ cls := "TruthSpectrumModel", name := "<init>", desc := "()V" } : Jvm.MethodName)) ∈ lw_all := lw_g (lw_at lw_m1 150 rfl) rfl
theorem q175 : (Jvm.Cond.code ({ cls := "TruthSpectrumModel", name := "<init>", desc := "()V" } : Jvm.MethodName) prog_3_method_1_code (1 : Nat) (Option.none : Option Jvm.ClassFile.FieldType)) ∈ lw_all := lw_g (lw_at lw_m1 151 rfl) rfl
theorem q176 : (Jvm.Cond.methodLink "TruthSpectrumModel" (1 : Nat) ({ cls := "java/lang/Object", name := "<init>", desc := "()V" } : Jvm.MethodName)) ∈ lw_all := lw_g (lw_at lw_m1 152 rfl) rfl
theorem q177 : (Jvm.Cond.fieldLink "TruthSpectrumModel" (7 : Nat) "TruthSpectrumModel" "tables" "[I") ∈ lw_all := lw_g (lw_at lw_m1 153 rfl) rfl
theorem q178 : (Jvm.Cond.fieldLink "TruthSpectrumModel" (13 : Nat) "TruthSpectrumModel" "made" "[I") ∈ lw_all := lw_g (lw_at lw_m1 154 rfl) rfl
theorem q179 : (Jvm.Cond.laysFinal "TruthSpectrumModel" "TruthSpectrumModel" "tables" "[I") ∈ lw_all := lw_g (lw_at lw_m1 155 rfl) rfl
theorem q180 : (Jvm.Cond.soleField "TruthSpectrumModel" "tables") ∈ lw_all := lw_g (lw_at lw_m1 156 rfl) rfl
theorem q181 : (Jvm.Cond.laysFinal "TruthSpectrumModel" "TruthSpectrumModel" "made" "[I") ∈ lw_all := lw_g (lw_at lw_m1 157 rfl) rfl
theorem q182 : (Jvm.Cond.soleField "TruthSpectrumModel" "made") ∈ lw_all := lw_g (lw_at lw_m1 158 rfl) rfl
theorem q183 : (Jvm.Cond.superclass "TruthSpectrumModel" "java/lang/Object") ∈ lw_all := lw_g (lw_at lw_m1 159 rfl) rfl
theorem q185 : (Jvm.Cond.instanceMethod ({ cls := "TruthSpectrumModel", name := "put", desc := "(III)I" } : Jvm.MethodName)) ∈ lw_all := lw_g (lw_at lw_m1 161 rfl) rfl
theorem q186 : (Jvm.Cond.selects "TruthSpectrumModel" ({ cls := "TruthSpectrumModel", name := "put", desc := "(III)I" } : Jvm.MethodName) ({ cls := "TruthSpectrumModel", name := "put", desc := "(III)I" } : Jvm.MethodName)) ∈ lw_all := lw_g (lw_at lw_m1 162 rfl) rfl
theorem q187 : (Jvm.Cond.code ({ cls := "TruthSpectrumModel", name := "put", desc := "(III)I" } : Jvm.MethodName) prog_3_method_7_code (5 : Nat) (Option.some Jvm.ClassFile.FieldType.int)) ∈ lw_all := lw_g (lw_at lw_m1 163 rfl) rfl
theorem q188 : (Jvm.Cond.methodLink "TruthSpectrumModel" (20 : Nat) ({ cls := "TruthSpectrumModel", name := "isTable", desc := "(I)Z" } : Jvm.MethodName)) ∈ lw_all := lw_g (lw_at lw_m1 164 rfl) rfl
theorem q189 : (Jvm.Cond.privateMethod ({ cls := "TruthSpectrumModel", name := "isTable", desc := "(I)Z" } : Jvm.MethodName)) ∈ lw_tbl := lw_at lw_m1 165 rfl
theorem q190 : (Jvm.Cond.instanceMethod ({ cls := "TruthSpectrumModel", name := "isTable", desc := "(I)Z" } : Jvm.MethodName)) ∈ lw_all := lw_g (lw_at lw_m1 166 rfl) rfl
theorem q191 : (Jvm.Cond.code ({ cls := "TruthSpectrumModel", name := "isTable", desc := "(I)Z" } : Jvm.MethodName) prog_3_method_2_code (2 : Nat) (Option.some Jvm.ClassFile.FieldType.boolean)) ∈ lw_all := lw_g (lw_at lw_m1 167 rfl) rfl
theorem q192 : (Jvm.Cond.methodLink "TruthSpectrumModel" (24 : Nat) ({ cls := "TruthSpectrumModel", name := "isPoint", desc := "(I)Z" } : Jvm.MethodName)) ∈ lw_all := lw_g (lw_at lw_m1 168 rfl) rfl
theorem q193 : (Jvm.Cond.privateMethod ({ cls := "TruthSpectrumModel", name := "isPoint", desc := "(I)Z" } : Jvm.MethodName)) ∈ lw_tbl := lw_at lw_m1 169 rfl
theorem q194 : (Jvm.Cond.instanceMethod ({ cls := "TruthSpectrumModel", name := "isPoint", desc := "(I)Z" } : Jvm.MethodName)) ∈ lw_all := lw_g (lw_at lw_m1 170 rfl) rfl
theorem q195 : (Jvm.Cond.code ({ cls := "TruthSpectrumModel", name := "isPoint", desc := "(I)Z" } : Jvm.MethodName) prog_3_method_3_code (2 : Nat) (Option.some Jvm.ClassFile.FieldType.boolean)) ∈ lw_all := lw_g (lw_at lw_m1 171 rfl) rfl
theorem q197 : (Jvm.Cond.instanceMethod ({ cls := "TruthSpectrumModel", name := "turnForm", desc := "(II)I" } : Jvm.MethodName)) ∈ lw_all := lw_g (lw_at lw_m1 173 rfl) rfl
theorem q198 : (Jvm.Cond.selects "TruthSpectrumModel" ({ cls := "TruthSpectrumModel", name := "turnForm", desc := "(II)I" } : Jvm.MethodName) ({ cls := "TruthSpectrumModel", name := "turnForm", desc := "(II)I" } : Jvm.MethodName)) ∈ lw_all := lw_g (lw_at lw_m1 174 rfl) rfl
theorem q199 : (Jvm.Cond.code ({ cls := "TruthSpectrumModel", name := "turnForm", desc := "(II)I" } : Jvm.MethodName) prog_3_method_8_code (4 : Nat) (Option.some Jvm.ClassFile.FieldType.int)) ∈ lw_all := lw_g (lw_at lw_m1 175 rfl) rfl
theorem q200 : (Jvm.Cond.methodLink "TruthSpectrumModel" (27 : Nat) ({ cls := "TruthSpectrumModel", name := "countOnes", desc := "(I)I" } : Jvm.MethodName)) ∈ lw_all := lw_g (lw_at lw_m1 176 rfl) rfl
theorem q201 : (Jvm.Cond.privateMethod ({ cls := "TruthSpectrumModel", name := "countOnes", desc := "(I)I" } : Jvm.MethodName)) ∈ lw_tbl := lw_at lw_m1 177 rfl
theorem q202 : (Jvm.Cond.instanceMethod ({ cls := "TruthSpectrumModel", name := "countOnes", desc := "(I)I" } : Jvm.MethodName)) ∈ lw_all := lw_g (lw_at lw_m1 178 rfl) rfl
theorem q203 : (Jvm.Cond.code ({ cls := "TruthSpectrumModel", name := "countOnes", desc := "(I)I" } : Jvm.MethodName) prog_3_method_6_code (4 : Nat) (Option.some Jvm.ClassFile.FieldType.int)) ∈ lw_all := lw_g (lw_at lw_m1 179 rfl) rfl
theorem q205 : (Jvm.Cond.instanceMethod ({ cls := "TruthSpectrumModel", name := "combine", desc := "(IIII)I" } : Jvm.MethodName)) ∈ lw_all := lw_g (lw_at lw_m1 181 rfl) rfl
theorem q206 : (Jvm.Cond.selects "TruthSpectrumModel" ({ cls := "TruthSpectrumModel", name := "combine", desc := "(IIII)I" } : Jvm.MethodName) ({ cls := "TruthSpectrumModel", name := "combine", desc := "(IIII)I" } : Jvm.MethodName)) ∈ lw_all := lw_g (lw_at lw_m1 182 rfl) rfl
theorem q207 : (Jvm.Cond.code ({ cls := "TruthSpectrumModel", name := "combine", desc := "(IIII)I" } : Jvm.MethodName) prog_3_method_10_code (8 : Nat) (Option.some Jvm.ClassFile.FieldType.int)) ∈ lw_all := lw_g (lw_at lw_m1 183 rfl) rfl
theorem q208 : (Jvm.Cond.methodLink "TruthSpectrumModel" (30 : Nat) ({ cls := "TruthSpectrumModel", name := "takeMade", desc := "(I)I" } : Jvm.MethodName)) ∈ lw_all := lw_g (lw_at lw_m1 184 rfl) rfl
theorem q209 : (Jvm.Cond.privateMethod ({ cls := "TruthSpectrumModel", name := "takeMade", desc := "(I)I" } : Jvm.MethodName)) ∈ lw_tbl := lw_at lw_m1 185 rfl
theorem q210 : (Jvm.Cond.instanceMethod ({ cls := "TruthSpectrumModel", name := "takeMade", desc := "(I)I" } : Jvm.MethodName)) ∈ lw_all := lw_g (lw_at lw_m1 186 rfl) rfl
theorem q211 : (Jvm.Cond.code ({ cls := "TruthSpectrumModel", name := "takeMade", desc := "(I)I" } : Jvm.MethodName) prog_3_method_9_code (3 : Nat) (Option.some Jvm.ClassFile.FieldType.int)) ∈ lw_all := lw_g (lw_at lw_m1 187 rfl) rfl
theorem q213 : (Jvm.Cond.instanceMethod ({ cls := "TruthSpectrumModel", name := "shift", desc := "(IIII)I" } : Jvm.MethodName)) ∈ lw_all := lw_g (lw_at lw_m1 189 rfl) rfl
theorem q214 : (Jvm.Cond.selects "TruthSpectrumModel" ({ cls := "TruthSpectrumModel", name := "shift", desc := "(IIII)I" } : Jvm.MethodName) ({ cls := "TruthSpectrumModel", name := "shift", desc := "(IIII)I" } : Jvm.MethodName)) ∈ lw_all := lw_g (lw_at lw_m1 190 rfl) rfl
theorem q215 : (Jvm.Cond.code ({ cls := "TruthSpectrumModel", name := "shift", desc := "(IIII)I" } : Jvm.MethodName) prog_3_method_11_code (6 : Nat) (Option.some Jvm.ClassFile.FieldType.int)) ∈ lw_all := lw_g (lw_at lw_m1 191 rfl) rfl
theorem q216 : (Jvm.Cond.methodLink "TruthSpectrumModel" (33 : Nat) ({ cls := "TruthSpectrumModel", name := "product", desc := "(II)I" } : Jvm.MethodName)) ∈ lw_all := lw_g (lw_at lw_m1 192 rfl) rfl
theorem q217 : (Jvm.Cond.privateMethod ({ cls := "TruthSpectrumModel", name := "product", desc := "(II)I" } : Jvm.MethodName)) ∈ lw_tbl := lw_at lw_m1 193 rfl
theorem q218 : (Jvm.Cond.instanceMethod ({ cls := "TruthSpectrumModel", name := "product", desc := "(II)I" } : Jvm.MethodName)) ∈ lw_all := lw_g (lw_at lw_m1 194 rfl) rfl
theorem q219 : (Jvm.Cond.code ({ cls := "TruthSpectrumModel", name := "product", desc := "(II)I" } : Jvm.MethodName) prog_3_method_5_code (3 : Nat) (Option.some Jvm.ClassFile.FieldType.int)) ∈ lw_all := lw_g (lw_at lw_m1 195 rfl) rfl
theorem q220 : (Jvm.Cond.methodLink "TruthSpectrumModel" (16 : Nat) ({ cls := "TruthSpectrumModel", name := "sizeOf", desc := "(I)I" } : Jvm.MethodName)) ∈ lw_all := lw_g (lw_at lw_m1 196 rfl) rfl
theorem q221 : (Jvm.Cond.privateMethod ({ cls := "TruthSpectrumModel", name := "sizeOf", desc := "(I)I" } : Jvm.MethodName)) ∈ lw_tbl := lw_at lw_m1 197 rfl
theorem q222 : (Jvm.Cond.instanceMethod ({ cls := "TruthSpectrumModel", name := "sizeOf", desc := "(I)I" } : Jvm.MethodName)) ∈ lw_all := lw_g (lw_at lw_m1 198 rfl) rfl
theorem q223 : (Jvm.Cond.code ({ cls := "TruthSpectrumModel", name := "sizeOf", desc := "(I)I" } : Jvm.MethodName) prog_3_method_4_code (4 : Nat) (Option.some Jvm.ClassFile.FieldType.int)) ∈ lw_all := lw_g (lw_at lw_m1 199 rfl) rfl
theorem q225 : (Jvm.Cond.instanceMethod ({ cls := "TruthSpectrumModel", name := "value", desc := "(II)I" } : Jvm.MethodName)) ∈ lw_all := lw_g (lw_at lw_m1 201 rfl) rfl
theorem q226 : (Jvm.Cond.selects "TruthSpectrumModel" ({ cls := "TruthSpectrumModel", name := "value", desc := "(II)I" } : Jvm.MethodName) ({ cls := "TruthSpectrumModel", name := "value", desc := "(II)I" } : Jvm.MethodName)) ∈ lw_all := lw_g (lw_at lw_m1 202 rfl) rfl
theorem q227 : (Jvm.Cond.code ({ cls := "TruthSpectrumModel", name := "value", desc := "(II)I" } : Jvm.MethodName) prog_3_method_12_code (3 : Nat) (Option.some Jvm.ClassFile.FieldType.int)) ∈ lw_all := lw_g (lw_at lw_m1 203 rfl) rfl
theorem q229 : (Jvm.Cond.instanceMethod ({ cls := "TruthSpectrumModel", name := "ones", desc := "(I)I" } : Jvm.MethodName)) ∈ lw_all := lw_g (lw_at lw_m1 205 rfl) rfl
theorem q230 : (Jvm.Cond.selects "TruthSpectrumModel" ({ cls := "TruthSpectrumModel", name := "ones", desc := "(I)I" } : Jvm.MethodName) ({ cls := "TruthSpectrumModel", name := "ones", desc := "(I)I" } : Jvm.MethodName)) ∈ lw_all := lw_g (lw_at lw_m1 206 rfl) rfl
theorem q231 : (Jvm.Cond.code ({ cls := "TruthSpectrumModel", name := "ones", desc := "(I)I" } : Jvm.MethodName) prog_3_method_13_code (2 : Nat) (Option.some Jvm.ClassFile.FieldType.int)) ∈ lw_all := lw_g (lw_at lw_m1 207 rfl) rfl
theorem q233 : (Jvm.Cond.instanceMethod ({ cls := "TruthSpectrumModel", name := "form", desc := "(II)I" } : Jvm.MethodName)) ∈ lw_all := lw_g (lw_at lw_m1 209 rfl) rfl
theorem q234 : (Jvm.Cond.selects "TruthSpectrumModel" ({ cls := "TruthSpectrumModel", name := "form", desc := "(II)I" } : Jvm.MethodName) ({ cls := "TruthSpectrumModel", name := "form", desc := "(II)I" } : Jvm.MethodName)) ∈ lw_all := lw_g (lw_at lw_m1 210 rfl) rfl
theorem q235 : (Jvm.Cond.code ({ cls := "TruthSpectrumModel", name := "form", desc := "(II)I" } : Jvm.MethodName) prog_3_method_15_code (3 : Nat) (Option.some Jvm.ClassFile.FieldType.int)) ∈ lw_all := lw_g (lw_at lw_m1 211 rfl) rfl
theorem q236 : (Jvm.Cond.methodLink "TruthSpectrumModel" (37 : Nat) ({ cls := "TruthSpectrumModel", name := "formAt", desc := "(II)I" } : Jvm.MethodName)) ∈ lw_all := lw_g (lw_at lw_m1 212 rfl) rfl
theorem q237 : (Jvm.Cond.privateMethod ({ cls := "TruthSpectrumModel", name := "formAt", desc := "(II)I" } : Jvm.MethodName)) ∈ lw_tbl := lw_at lw_m1 213 rfl
theorem q238 : (Jvm.Cond.instanceMethod ({ cls := "TruthSpectrumModel", name := "formAt", desc := "(II)I" } : Jvm.MethodName)) ∈ lw_all := lw_g (lw_at lw_m1 214 rfl) rfl
theorem q239 : (Jvm.Cond.code ({ cls := "TruthSpectrumModel", name := "formAt", desc := "(II)I" } : Jvm.MethodName) prog_3_method_14_code (5 : Nat) (Option.some Jvm.ClassFile.FieldType.int)) ∈ lw_all := lw_g (lw_at lw_m1 215 rfl) rfl
theorem q241 : (Jvm.Cond.instanceMethod ({ cls := "TruthSpectrumModel", name := "degree", desc := "(I)I" } : Jvm.MethodName)) ∈ lw_all := lw_g (lw_at lw_m1 217 rfl) rfl
theorem q242 : (Jvm.Cond.selects "TruthSpectrumModel" ({ cls := "TruthSpectrumModel", name := "degree", desc := "(I)I" } : Jvm.MethodName) ({ cls := "TruthSpectrumModel", name := "degree", desc := "(I)I" } : Jvm.MethodName)) ∈ lw_all := lw_g (lw_at lw_m1 218 rfl) rfl
theorem q243 : (Jvm.Cond.code ({ cls := "TruthSpectrumModel", name := "degree", desc := "(I)I" } : Jvm.MethodName) prog_3_method_16_code (5 : Nat) (Option.some Jvm.ClassFile.FieldType.int)) ∈ lw_all := lw_g (lw_at lw_m1 219 rfl) rfl
theorem q245 : (Jvm.Cond.instanceMethod ({ cls := "TruthSpectrumModel", name := "spectrum", desc := "(II)I" } : Jvm.MethodName)) ∈ lw_all := lw_g (lw_at lw_m1 221 rfl) rfl
theorem q246 : (Jvm.Cond.selects "TruthSpectrumModel" ({ cls := "TruthSpectrumModel", name := "spectrum", desc := "(II)I" } : Jvm.MethodName) ({ cls := "TruthSpectrumModel", name := "spectrum", desc := "(II)I" } : Jvm.MethodName)) ∈ lw_all := lw_g (lw_at lw_m1 222 rfl) rfl
theorem q247 : (Jvm.Cond.code ({ cls := "TruthSpectrumModel", name := "spectrum", desc := "(II)I" } : Jvm.MethodName) prog_3_method_18_code (3 : Nat) (Option.some Jvm.ClassFile.FieldType.int)) ∈ lw_all := lw_g (lw_at lw_m1 223 rfl) rfl
theorem q248 : (Jvm.Cond.methodLink "TruthSpectrumModel" (40 : Nat) ({ cls := "TruthSpectrumModel", name := "spectrumAt", desc := "(II)I" } : Jvm.MethodName)) ∈ lw_all := lw_g (lw_at lw_m1 224 rfl) rfl
theorem q249 : (Jvm.Cond.privateMethod ({ cls := "TruthSpectrumModel", name := "spectrumAt", desc := "(II)I" } : Jvm.MethodName)) ∈ lw_tbl := lw_at lw_m1 225 rfl
theorem q250 : (Jvm.Cond.instanceMethod ({ cls := "TruthSpectrumModel", name := "spectrumAt", desc := "(II)I" } : Jvm.MethodName)) ∈ lw_all := lw_g (lw_at lw_m1 226 rfl) rfl
theorem q251 : (Jvm.Cond.code ({ cls := "TruthSpectrumModel", name := "spectrumAt", desc := "(II)I" } : Jvm.MethodName) prog_3_method_17_code (5 : Nat) (Option.some Jvm.ClassFile.FieldType.int)) ∈ lw_all := lw_g (lw_at lw_m1 227 rfl) rfl
theorem q253 : (Jvm.Cond.instanceMethod ({ cls := "TruthSpectrumModel", name := "distance", desc := "(I)I" } : Jvm.MethodName)) ∈ lw_all := lw_g (lw_at lw_m1 229 rfl) rfl
theorem q254 : (Jvm.Cond.selects "TruthSpectrumModel" ({ cls := "TruthSpectrumModel", name := "distance", desc := "(I)I" } : Jvm.MethodName) ({ cls := "TruthSpectrumModel", name := "distance", desc := "(I)I" } : Jvm.MethodName)) ∈ lw_all := lw_g (lw_at lw_m1 230 rfl) rfl
theorem q255 : (Jvm.Cond.code ({ cls := "TruthSpectrumModel", name := "distance", desc := "(I)I" } : Jvm.MethodName) prog_3_method_20_code (5 : Nat) (Option.some Jvm.ClassFile.FieldType.int)) ∈ lw_all := lw_g (lw_at lw_m1 231 rfl) rfl
theorem q256 : (Jvm.Cond.methodLink "TruthSpectrumModel" (43 : Nat) ({ cls := "TruthSpectrumModel", name := "changes", desc := "(II)I" } : Jvm.MethodName)) ∈ lw_all := lw_g (lw_at lw_m1 232 rfl) rfl
theorem q257 : (Jvm.Cond.privateMethod ({ cls := "TruthSpectrumModel", name := "changes", desc := "(II)I" } : Jvm.MethodName)) ∈ lw_tbl := lw_at lw_m1 233 rfl
theorem q258 : (Jvm.Cond.instanceMethod ({ cls := "TruthSpectrumModel", name := "changes", desc := "(II)I" } : Jvm.MethodName)) ∈ lw_all := lw_g (lw_at lw_m1 234 rfl) rfl
theorem q259 : (Jvm.Cond.code ({ cls := "TruthSpectrumModel", name := "changes", desc := "(II)I" } : Jvm.MethodName) prog_3_method_19_code (5 : Nat) (Option.some Jvm.ClassFile.FieldType.int)) ∈ lw_all := lw_g (lw_at lw_m1 235 rfl) rfl
theorem q261 : (Jvm.Cond.instanceMethod ({ cls := "TruthSpectrumModel", name := "nearest", desc := "(I)I" } : Jvm.MethodName)) ∈ lw_all := lw_g (lw_at lw_m1 237 rfl) rfl
theorem q262 : (Jvm.Cond.selects "TruthSpectrumModel" ({ cls := "TruthSpectrumModel", name := "nearest", desc := "(I)I" } : Jvm.MethodName) ({ cls := "TruthSpectrumModel", name := "nearest", desc := "(I)I" } : Jvm.MethodName)) ∈ lw_all := lw_g (lw_at lw_m1 238 rfl) rfl
theorem q263 : (Jvm.Cond.code ({ cls := "TruthSpectrumModel", name := "nearest", desc := "(I)I" } : Jvm.MethodName) prog_3_method_21_code (4 : Nat) (Option.some Jvm.ClassFile.FieldType.int)) ∈ lw_all := lw_g (lw_at lw_m1 239 rfl) rfl
theorem q265 : (Jvm.Cond.instanceMethod ({ cls := "TruthSpectrumModel", name := "immunity", desc := "(I)I" } : Jvm.MethodName)) ∈ lw_all := lw_g (lw_at lw_m2 1 rfl) rfl
theorem q266 : (Jvm.Cond.selects "TruthSpectrumModel" ({ cls := "TruthSpectrumModel", name := "immunity", desc := "(I)I" } : Jvm.MethodName) ({ cls := "TruthSpectrumModel", name := "immunity", desc := "(I)I" } : Jvm.MethodName)) ∈ lw_all := lw_g (lw_at lw_m2 2 rfl) rfl
theorem q267 : (Jvm.Cond.code ({ cls := "TruthSpectrumModel", name := "immunity", desc := "(I)I" } : Jvm.MethodName) prog_3_method_22_code (5 : Nat) (Option.some Jvm.ClassFile.FieldType.int)) ∈ lw_all := lw_g (lw_at lw_m2 3 rfl) rfl
theorem q269 : (Jvm.Cond.instanceMethod ({ cls := "TruthSpectrumModel", name := "autocorrelation", desc := "(II)I" } : Jvm.MethodName)) ∈ lw_all := lw_g (lw_at lw_m2 5 rfl) rfl
theorem q270 : (Jvm.Cond.selects "TruthSpectrumModel" ({ cls := "TruthSpectrumModel", name := "autocorrelation", desc := "(II)I" } : Jvm.MethodName) ({ cls := "TruthSpectrumModel", name := "autocorrelation", desc := "(II)I" } : Jvm.MethodName)) ∈ lw_all := lw_g (lw_at lw_m2 6 rfl) rfl
theorem q271 : (Jvm.Cond.code ({ cls := "TruthSpectrumModel", name := "autocorrelation", desc := "(II)I" } : Jvm.MethodName) prog_3_method_24_code (3 : Nat) (Option.some Jvm.ClassFile.FieldType.int)) ∈ lw_all := lw_g (lw_at lw_m2 7 rfl) rfl
theorem q272 : (Jvm.Cond.methodLink "TruthSpectrumModel" (46 : Nat) ({ cls := "TruthSpectrumModel", name := "sames", desc := "(II)I" } : Jvm.MethodName)) ∈ lw_all := lw_g (lw_at lw_m2 8 rfl) rfl
theorem q273 : (Jvm.Cond.privateMethod ({ cls := "TruthSpectrumModel", name := "sames", desc := "(II)I" } : Jvm.MethodName)) ∈ lw_tbl := lw_at lw_m2 9 rfl
theorem q274 : (Jvm.Cond.instanceMethod ({ cls := "TruthSpectrumModel", name := "sames", desc := "(II)I" } : Jvm.MethodName)) ∈ lw_all := lw_g (lw_at lw_m2 10 rfl) rfl
theorem q275 : (Jvm.Cond.code ({ cls := "TruthSpectrumModel", name := "sames", desc := "(II)I" } : Jvm.MethodName) prog_3_method_23_code (5 : Nat) (Option.some Jvm.ClassFile.FieldType.int)) ∈ lw_all := lw_g (lw_at lw_m2 11 rfl) rfl
theorem q277 : (Jvm.Cond.instanceMethod ({ cls := "TruthSpectrumModel", name := "variables", desc := "(I)I" } : Jvm.MethodName)) ∈ lw_all := lw_g (lw_at lw_m2 13 rfl) rfl
theorem q278 : (Jvm.Cond.selects "TruthSpectrumModel" ({ cls := "TruthSpectrumModel", name := "variables", desc := "(I)I" } : Jvm.MethodName) ({ cls := "TruthSpectrumModel", name := "variables", desc := "(I)I" } : Jvm.MethodName)) ∈ lw_all := lw_g (lw_at lw_m2 14 rfl) rfl
theorem q279 : (Jvm.Cond.code ({ cls := "TruthSpectrumModel", name := "variables", desc := "(I)I" } : Jvm.MethodName) prog_3_method_25_code (4 : Nat) (Option.some Jvm.ClassFile.FieldType.int)) ∈ lw_all := lw_g (lw_at lw_m2 15 rfl) rfl
theorem q281 : (Jvm.Cond.instanceMethod ({ cls := "TruthSpectrumModel", name := "structures", desc := "(I)I" } : Jvm.MethodName)) ∈ lw_all := lw_g (lw_at lw_m2 17 rfl) rfl
theorem q282 : (Jvm.Cond.selects "TruthSpectrumModel" ({ cls := "TruthSpectrumModel", name := "structures", desc := "(I)I" } : Jvm.MethodName) ({ cls := "TruthSpectrumModel", name := "structures", desc := "(I)I" } : Jvm.MethodName)) ∈ lw_all := lw_g (lw_at lw_m2 18 rfl) rfl
theorem q283 : (Jvm.Cond.code ({ cls := "TruthSpectrumModel", name := "structures", desc := "(I)I" } : Jvm.MethodName) prog_3_method_26_code (5 : Nat) (Option.some Jvm.ClassFile.FieldType.int)) ∈ lw_all := lw_g (lw_at lw_m2 19 rfl) rfl
theorem q285 : (Jvm.Cond.instanceMethod ({ cls := "TruthSpectrumModel", name := "shifted", desc := "(II)Z" } : Jvm.MethodName)) ∈ lw_all := lw_g (lw_at lw_m2 21 rfl) rfl
theorem q286 : (Jvm.Cond.selects "TruthSpectrumModel" ({ cls := "TruthSpectrumModel", name := "shifted", desc := "(II)Z" } : Jvm.MethodName) ({ cls := "TruthSpectrumModel", name := "shifted", desc := "(II)Z" } : Jvm.MethodName)) ∈ lw_all := lw_g (lw_at lw_m2 22 rfl) rfl
theorem q287 : (Jvm.Cond.code ({ cls := "TruthSpectrumModel", name := "shifted", desc := "(II)Z" } : Jvm.MethodName) prog_3_method_28_code (4 : Nat) (Option.some Jvm.ClassFile.FieldType.boolean)) ∈ lw_all := lw_g (lw_at lw_m2 23 rfl) rfl
theorem q288 : (Jvm.Cond.methodLink "TruthSpectrumModel" (49 : Nat) ({ cls := "TruthSpectrumModel", name := "comesBy", desc := "(IIII)Z" } : Jvm.MethodName)) ∈ lw_all := lw_g (lw_at lw_m2 24 rfl) rfl
theorem q289 : (Jvm.Cond.privateMethod ({ cls := "TruthSpectrumModel", name := "comesBy", desc := "(IIII)Z" } : Jvm.MethodName)) ∈ lw_tbl := lw_at lw_m2 25 rfl
theorem q290 : (Jvm.Cond.instanceMethod ({ cls := "TruthSpectrumModel", name := "comesBy", desc := "(IIII)Z" } : Jvm.MethodName)) ∈ lw_all := lw_g (lw_at lw_m2 26 rfl) rfl
theorem q291 : (Jvm.Cond.code ({ cls := "TruthSpectrumModel", name := "comesBy", desc := "(IIII)Z" } : Jvm.MethodName) prog_3_method_27_code (6 : Nat) (Option.some Jvm.ClassFile.FieldType.boolean)) ∈ lw_all := lw_g (lw_at lw_m2 27 rfl) rfl
theorem in_X1 : ∀ w ∈ wsX10, w ∈ lw_all := lw_in wsX10 [179, 181] (by decide +kernel) (by decide +kernel)
theorem dX1_init_0 : decode cX1_init 0 = .ok (.aload_n 0, 1) := by decide +kernel
theorem dX1_init_1 : decode cX1_init 1 = .ok (.invokespecial 1, 3) := by decide +kernel
theorem dX1_init_4 : decode cX1_init 4 = .ok (.aload_n 0, 1) := by decide +kernel
theorem dX1_init_5 : decode cX1_init 5 = .ok (.sipush 256, 3) := by decide +kernel
theorem dX1_init_8 : decode cX1_init 8 = .ok (.newarray .int, 2) := by decide +kernel
theorem dX1_init_10 : decode cX1_init 10 = .ok (.putfield 7, 3) := by decide +kernel
theorem dX1_init_13 : decode cX1_init 13 = .ok (.aload_n 0, 1) := by decide +kernel
theorem dX1_init_14 : decode cX1_init 14 = .ok (.bipush 64, 2) := by decide +kernel
theorem dX1_init_16 : decode cX1_init 16 = .ok (.newarray .int, 2) := by decide +kernel
theorem dX1_init_18 : decode cX1_init 18 = .ok (.putfield 13, 3) := by decide +kernel
theorem dX1_init_21 : decode cX1_init 21 = .ok (.return_, 1) := by decide +kernel
theorem dX1_put_0 : decode cX1_put 0 = .ok (.aload_n 0, 1) := by decide +kernel
theorem dX1_put_1 : decode cX1_put 1 = .ok (.iload_n 1, 1) := by decide +kernel
theorem dX1_put_2 : decode cX1_put 2 = .ok (.invokevirtual 20, 3) := by decide +kernel
theorem dX1_put_5 : decode cX1_put 5 = .ok (.ifCond .eq 20, 3) := by decide +kernel
theorem dX1_put_8 : decode cX1_put 8 = .ok (.aload_n 0, 1) := by decide +kernel
theorem dX1_put_9 : decode cX1_put 9 = .ok (.iload_n 2, 1) := by decide +kernel
theorem dX1_put_10 : decode cX1_put 10 = .ok (.invokevirtual 24, 3) := by decide +kernel
theorem dX1_put_13 : decode cX1_put 13 = .ok (.ifCond .eq 12, 3) := by decide +kernel
theorem dX1_put_16 : decode cX1_put 16 = .ok (.iload_n 3, 1) := by decide +kernel
theorem dX1_put_17 : decode cX1_put 17 = .ok (.ifCond .lt 8, 3) := by decide +kernel
theorem dX1_put_20 : decode cX1_put 20 = .ok (.iload_n 3, 1) := by decide +kernel
theorem dX1_put_21 : decode cX1_put 21 = .ok (.iconst 1, 1) := by decide +kernel
theorem dX1_put_22 : decode cX1_put 22 = .ok (.if_icmp .le 7, 3) := by decide +kernel
theorem dX1_put_25 : decode cX1_put 25 = .ok (.sipush (-1000), 3) := by decide +kernel
theorem dX1_put_28 : decode cX1_put 28 = .ok (.ireturn, 1) := by decide +kernel
theorem dX1_put_29 : decode cX1_put 29 = .ok (.aload_n 0, 1) := by decide +kernel
theorem dX1_put_30 : decode cX1_put 30 = .ok (.getfield 7, 3) := by decide +kernel
theorem dX1_put_33 : decode cX1_put 33 = .ok (.bipush 64, 2) := by decide +kernel
theorem dX1_put_35 : decode cX1_put 35 = .ok (.iload_n 1, 1) := by decide +kernel
theorem dX1_put_36 : decode cX1_put 36 = .ok (.imul, 1) := by decide +kernel
theorem dX1_put_37 : decode cX1_put 37 = .ok (.iload_n 2, 1) := by decide +kernel
theorem dX1_put_38 : decode cX1_put 38 = .ok (.iadd, 1) := by decide +kernel
theorem dX1_put_39 : decode cX1_put 39 = .ok (.iaload, 1) := by decide +kernel
theorem dX1_put_40 : decode cX1_put 40 = .ok (.istore 4, 2) := by decide +kernel
theorem dX1_put_42 : decode cX1_put 42 = .ok (.aload_n 0, 1) := by decide +kernel
theorem dX1_put_43 : decode cX1_put 43 = .ok (.getfield 7, 3) := by decide +kernel
theorem dX1_put_46 : decode cX1_put 46 = .ok (.bipush 64, 2) := by decide +kernel
theorem dX1_put_48 : decode cX1_put 48 = .ok (.iload_n 1, 1) := by decide +kernel
theorem dX1_put_49 : decode cX1_put 49 = .ok (.imul, 1) := by decide +kernel
theorem dX1_put_50 : decode cX1_put 50 = .ok (.iload_n 2, 1) := by decide +kernel
theorem dX1_put_51 : decode cX1_put 51 = .ok (.iadd, 1) := by decide +kernel
theorem dX1_put_52 : decode cX1_put 52 = .ok (.iload_n 3, 1) := by decide +kernel
theorem dX1_put_53 : decode cX1_put 53 = .ok (.iastore, 1) := by decide +kernel
theorem dX1_put_54 : decode cX1_put 54 = .ok (.iload 4, 2) := by decide +kernel
theorem dX1_put_56 : decode cX1_put 56 = .ok (.ireturn, 1) := by decide +kernel
theorem dX1_isTable_0 : decode cX1_isTable 0 = .ok (.iload_n 1, 1) := by decide +kernel
theorem dX1_isTable_1 : decode cX1_isTable 1 = .ok (.ifCond .lt 12, 3) := by decide +kernel
theorem dX1_isTable_4 : decode cX1_isTable 4 = .ok (.iload_n 1, 1) := by decide +kernel
theorem dX1_isTable_5 : decode cX1_isTable 5 = .ok (.iconst 3, 1) := by decide +kernel
theorem dX1_isTable_6 : decode cX1_isTable 6 = .ok (.if_icmp .gt 7, 3) := by decide +kernel
theorem dX1_isTable_9 : decode cX1_isTable 9 = .ok (.iconst 1, 1) := by decide +kernel
theorem dX1_isTable_10 : decode cX1_isTable 10 = .ok (.goto 4, 3) := by decide +kernel
theorem dX1_isTable_13 : decode cX1_isTable 13 = .ok (.iconst 0, 1) := by decide +kernel
theorem dX1_isTable_14 : decode cX1_isTable 14 = .ok (.ireturn, 1) := by decide +kernel
theorem dX1_isPoint_0 : decode cX1_isPoint 0 = .ok (.iload_n 1, 1) := by decide +kernel
theorem dX1_isPoint_1 : decode cX1_isPoint 1 = .ok (.ifCond .lt 13, 3) := by decide +kernel
theorem dX1_isPoint_4 : decode cX1_isPoint 4 = .ok (.iload_n 1, 1) := by decide +kernel
theorem dX1_isPoint_5 : decode cX1_isPoint 5 = .ok (.bipush 63, 2) := by decide +kernel
theorem dX1_isPoint_7 : decode cX1_isPoint 7 = .ok (.if_icmp .gt 7, 3) := by decide +kernel
theorem dX1_isPoint_10 : decode cX1_isPoint 10 = .ok (.iconst 1, 1) := by decide +kernel
theorem dX1_isPoint_11 : decode cX1_isPoint 11 = .ok (.goto 4, 3) := by decide +kernel
theorem dX1_isPoint_14 : decode cX1_isPoint 14 = .ok (.iconst 0, 1) := by decide +kernel
theorem dX1_isPoint_15 : decode cX1_isPoint 15 = .ok (.ireturn, 1) := by decide +kernel
theorem dX1_turnForm_0 : decode cX1_turnForm 0 = .ok (.aload_n 0, 1) := by decide +kernel
theorem dX1_turnForm_1 : decode cX1_turnForm 1 = .ok (.iload_n 1, 1) := by decide +kernel
theorem dX1_turnForm_2 : decode cX1_turnForm 2 = .ok (.invokevirtual 20, 3) := by decide +kernel
theorem dX1_turnForm_5 : decode cX1_turnForm 5 = .ok (.ifCond .eq 11, 3) := by decide +kernel
theorem dX1_turnForm_8 : decode cX1_turnForm 8 = .ok (.aload_n 0, 1) := by decide +kernel
theorem dX1_turnForm_9 : decode cX1_turnForm 9 = .ok (.iload_n 2, 1) := by decide +kernel
theorem dX1_turnForm_10 : decode cX1_turnForm 10 = .ok (.invokevirtual 24, 3) := by decide +kernel
theorem dX1_turnForm_13 : decode cX1_turnForm 13 = .ok (.ifCond .ne 7, 3) := by decide +kernel
theorem dX1_turnForm_16 : decode cX1_turnForm 16 = .ok (.sipush (-1000), 3) := by decide +kernel
theorem dX1_turnForm_19 : decode cX1_turnForm 19 = .ok (.ireturn, 1) := by decide +kernel
theorem dX1_turnForm_20 : decode cX1_turnForm 20 = .ok (.iconst 0, 1) := by decide +kernel
theorem dX1_turnForm_21 : decode cX1_turnForm 21 = .ok (.istore_n 3, 1) := by decide +kernel
theorem dX1_turnForm_22 : decode cX1_turnForm 22 = .ok (.iload_n 3, 1) := by decide +kernel
theorem dX1_turnForm_23 : decode cX1_turnForm 23 = .ok (.bipush 64, 2) := by decide +kernel
theorem dX1_turnForm_25 : decode cX1_turnForm 25 = .ok (.if_icmp .ge 55, 3) := by decide +kernel
theorem dX1_turnForm_28 : decode cX1_turnForm 28 = .ok (.aload_n 0, 1) := by decide +kernel
theorem dX1_turnForm_29 : decode cX1_turnForm 29 = .ok (.getfield 7, 3) := by decide +kernel
theorem dX1_turnForm_32 : decode cX1_turnForm 32 = .ok (.bipush 64, 2) := by decide +kernel
theorem dX1_turnForm_34 : decode cX1_turnForm 34 = .ok (.iload_n 1, 1) := by decide +kernel
theorem dX1_turnForm_35 : decode cX1_turnForm 35 = .ok (.imul, 1) := by decide +kernel
theorem dX1_turnForm_36 : decode cX1_turnForm 36 = .ok (.iload_n 3, 1) := by decide +kernel
theorem dX1_turnForm_37 : decode cX1_turnForm 37 = .ok (.iadd, 1) := by decide +kernel
theorem dX1_turnForm_38 : decode cX1_turnForm 38 = .ok (.iload_n 2, 1) := by decide +kernel
theorem dX1_turnForm_39 : decode cX1_turnForm 39 = .ok (.iload_n 3, 1) := by decide +kernel
theorem dX1_turnForm_40 : decode cX1_turnForm 40 = .ok (.iconst (-1), 1) := by decide +kernel
theorem dX1_turnForm_41 : decode cX1_turnForm 41 = .ok (.ixor, 1) := by decide +kernel
theorem dX1_turnForm_42 : decode cX1_turnForm 42 = .ok (.iand, 1) := by decide +kernel
theorem dX1_turnForm_43 : decode cX1_turnForm 43 = .ok (.ifCond .ne 19, 3) := by decide +kernel
theorem dX1_turnForm_46 : decode cX1_turnForm 46 = .ok (.iconst 1, 1) := by decide +kernel
theorem dX1_turnForm_47 : decode cX1_turnForm 47 = .ok (.aload_n 0, 1) := by decide +kernel
theorem dX1_turnForm_48 : decode cX1_turnForm 48 = .ok (.getfield 7, 3) := by decide +kernel
theorem dX1_turnForm_51 : decode cX1_turnForm 51 = .ok (.bipush 64, 2) := by decide +kernel
theorem dX1_turnForm_53 : decode cX1_turnForm 53 = .ok (.iload_n 1, 1) := by decide +kernel
theorem dX1_turnForm_54 : decode cX1_turnForm 54 = .ok (.imul, 1) := by decide +kernel
theorem dX1_turnForm_55 : decode cX1_turnForm 55 = .ok (.iload_n 3, 1) := by decide +kernel
theorem dX1_turnForm_56 : decode cX1_turnForm 56 = .ok (.iadd, 1) := by decide +kernel
theorem dX1_turnForm_57 : decode cX1_turnForm 57 = .ok (.iaload, 1) := by decide +kernel
theorem dX1_turnForm_58 : decode cX1_turnForm 58 = .ok (.isub, 1) := by decide +kernel
theorem dX1_turnForm_59 : decode cX1_turnForm 59 = .ok (.goto 14, 3) := by decide +kernel
theorem dX1_turnForm_62 : decode cX1_turnForm 62 = .ok (.aload_n 0, 1) := by decide +kernel
theorem dX1_turnForm_63 : decode cX1_turnForm 63 = .ok (.getfield 7, 3) := by decide +kernel
theorem dX1_turnForm_66 : decode cX1_turnForm 66 = .ok (.bipush 64, 2) := by decide +kernel
theorem dX1_turnForm_68 : decode cX1_turnForm 68 = .ok (.iload_n 1, 1) := by decide +kernel
theorem dX1_turnForm_69 : decode cX1_turnForm 69 = .ok (.imul, 1) := by decide +kernel
theorem dX1_turnForm_70 : decode cX1_turnForm 70 = .ok (.iload_n 3, 1) := by decide +kernel
theorem dX1_turnForm_71 : decode cX1_turnForm 71 = .ok (.iadd, 1) := by decide +kernel
theorem dX1_turnForm_72 : decode cX1_turnForm 72 = .ok (.iaload, 1) := by decide +kernel
theorem dX1_turnForm_73 : decode cX1_turnForm 73 = .ok (.iastore, 1) := by decide +kernel
theorem dX1_turnForm_74 : decode cX1_turnForm 74 = .ok (.iinc 3 1, 3) := by decide +kernel
theorem dX1_turnForm_77 : decode cX1_turnForm 77 = .ok (.goto (-55), 3) := by decide +kernel
theorem dX1_turnForm_80 : decode cX1_turnForm 80 = .ok (.aload_n 0, 1) := by decide +kernel
theorem dX1_turnForm_81 : decode cX1_turnForm 81 = .ok (.iload_n 1, 1) := by decide +kernel
theorem dX1_turnForm_82 : decode cX1_turnForm 82 = .ok (.invokevirtual 27, 3) := by decide +kernel
theorem dX1_turnForm_85 : decode cX1_turnForm 85 = .ok (.ireturn, 1) := by decide +kernel
theorem dX1_countOnes_0 : decode cX1_countOnes 0 = .ok (.iconst 0, 1) := by decide +kernel
theorem dX1_countOnes_1 : decode cX1_countOnes 1 = .ok (.istore_n 2, 1) := by decide +kernel
theorem dX1_countOnes_2 : decode cX1_countOnes 2 = .ok (.iconst 0, 1) := by decide +kernel
theorem dX1_countOnes_3 : decode cX1_countOnes 3 = .ok (.istore_n 3, 1) := by decide +kernel
theorem dX1_countOnes_4 : decode cX1_countOnes 4 = .ok (.iload_n 3, 1) := by decide +kernel
theorem dX1_countOnes_5 : decode cX1_countOnes 5 = .ok (.bipush 64, 2) := by decide +kernel
theorem dX1_countOnes_7 : decode cX1_countOnes 7 = .ok (.if_icmp .ge 23, 3) := by decide +kernel
theorem dX1_countOnes_10 : decode cX1_countOnes 10 = .ok (.iload_n 2, 1) := by decide +kernel
theorem dX1_countOnes_11 : decode cX1_countOnes 11 = .ok (.aload_n 0, 1) := by decide +kernel
theorem dX1_countOnes_12 : decode cX1_countOnes 12 = .ok (.getfield 7, 3) := by decide +kernel
theorem dX1_countOnes_15 : decode cX1_countOnes 15 = .ok (.bipush 64, 2) := by decide +kernel
theorem dX1_countOnes_17 : decode cX1_countOnes 17 = .ok (.iload_n 1, 1) := by decide +kernel
theorem dX1_countOnes_18 : decode cX1_countOnes 18 = .ok (.imul, 1) := by decide +kernel
theorem dX1_countOnes_19 : decode cX1_countOnes 19 = .ok (.iload_n 3, 1) := by decide +kernel
theorem dX1_countOnes_20 : decode cX1_countOnes 20 = .ok (.iadd, 1) := by decide +kernel
theorem dX1_countOnes_21 : decode cX1_countOnes 21 = .ok (.iaload, 1) := by decide +kernel
theorem dX1_countOnes_22 : decode cX1_countOnes 22 = .ok (.iadd, 1) := by decide +kernel
theorem dX1_countOnes_23 : decode cX1_countOnes 23 = .ok (.istore_n 2, 1) := by decide +kernel
theorem dX1_countOnes_24 : decode cX1_countOnes 24 = .ok (.iinc 3 1, 3) := by decide +kernel
theorem dX1_countOnes_27 : decode cX1_countOnes 27 = .ok (.goto (-23), 3) := by decide +kernel
theorem dX1_countOnes_30 : decode cX1_countOnes 30 = .ok (.iload_n 2, 1) := by decide +kernel
theorem dX1_countOnes_31 : decode cX1_countOnes 31 = .ok (.ireturn, 1) := by decide +kernel
theorem dX1_combine_0 : decode cX1_combine 0 = .ok (.aload_n 0, 1) := by decide +kernel
theorem dX1_combine_1 : decode cX1_combine 1 = .ok (.iload_n 1, 1) := by decide +kernel
theorem dX1_combine_2 : decode cX1_combine 2 = .ok (.invokevirtual 20, 3) := by decide +kernel
theorem dX1_combine_5 : decode cX1_combine 5 = .ok (.ifCond .eq 29, 3) := by decide +kernel
theorem dX1_combine_8 : decode cX1_combine 8 = .ok (.iload_n 2, 1) := by decide +kernel
theorem dX1_combine_9 : decode cX1_combine 9 = .ok (.ifCond .lt 25, 3) := by decide +kernel
theorem dX1_combine_12 : decode cX1_combine 12 = .ok (.iload_n 2, 1) := by decide +kernel
theorem dX1_combine_13 : decode cX1_combine 13 = .ok (.iconst 3, 1) := by decide +kernel
theorem dX1_combine_14 : decode cX1_combine 14 = .ok (.if_icmp .gt 20, 3) := by decide +kernel
theorem dX1_combine_17 : decode cX1_combine 17 = .ok (.aload_n 0, 1) := by decide +kernel
theorem dX1_combine_18 : decode cX1_combine 18 = .ok (.iload_n 3, 1) := by decide +kernel
theorem dX1_combine_19 : decode cX1_combine 19 = .ok (.invokevirtual 20, 3) := by decide +kernel
theorem dX1_combine_22 : decode cX1_combine 22 = .ok (.ifCond .eq 12, 3) := by decide +kernel
theorem dX1_combine_25 : decode cX1_combine 25 = .ok (.aload_n 0, 1) := by decide +kernel
theorem dX1_combine_26 : decode cX1_combine 26 = .ok (.iload 4, 2) := by decide +kernel
theorem dX1_combine_28 : decode cX1_combine 28 = .ok (.invokevirtual 20, 3) := by decide +kernel
theorem dX1_combine_31 : decode cX1_combine 31 = .ok (.ifCond .ne 7, 3) := by decide +kernel
theorem dX1_combine_34 : decode cX1_combine 34 = .ok (.sipush (-1000), 3) := by decide +kernel
theorem dX1_combine_37 : decode cX1_combine 37 = .ok (.ireturn, 1) := by decide +kernel
theorem dX1_combine_38 : decode cX1_combine 38 = .ok (.iconst 0, 1) := by decide +kernel
theorem dX1_combine_39 : decode cX1_combine 39 = .ok (.istore 5, 2) := by decide +kernel
theorem dX1_combine_41 : decode cX1_combine 41 = .ok (.iload 5, 2) := by decide +kernel
theorem dX1_combine_43 : decode cX1_combine 43 = .ok (.bipush 64, 2) := by decide +kernel
theorem dX1_combine_45 : decode cX1_combine 45 = .ok (.if_icmp .ge 98, 3) := by decide +kernel
theorem dX1_combine_48 : decode cX1_combine 48 = .ok (.aload_n 0, 1) := by decide +kernel
theorem dX1_combine_49 : decode cX1_combine 49 = .ok (.getfield 7, 3) := by decide +kernel
theorem dX1_combine_52 : decode cX1_combine 52 = .ok (.bipush 64, 2) := by decide +kernel
theorem dX1_combine_54 : decode cX1_combine 54 = .ok (.iload_n 3, 1) := by decide +kernel
theorem dX1_combine_55 : decode cX1_combine 55 = .ok (.imul, 1) := by decide +kernel
theorem dX1_combine_56 : decode cX1_combine 56 = .ok (.iload 5, 2) := by decide +kernel
theorem dX1_combine_58 : decode cX1_combine 58 = .ok (.iadd, 1) := by decide +kernel
theorem dX1_combine_59 : decode cX1_combine 59 = .ok (.iaload, 1) := by decide +kernel
theorem dX1_combine_60 : decode cX1_combine 60 = .ok (.istore 6, 2) := by decide +kernel
theorem dX1_combine_62 : decode cX1_combine 62 = .ok (.aload_n 0, 1) := by decide +kernel
theorem dX1_combine_63 : decode cX1_combine 63 = .ok (.getfield 7, 3) := by decide +kernel
theorem dX1_combine_66 : decode cX1_combine 66 = .ok (.bipush 64, 2) := by decide +kernel
theorem dX1_combine_68 : decode cX1_combine 68 = .ok (.iload 4, 2) := by decide +kernel
theorem dX1_combine_70 : decode cX1_combine 70 = .ok (.imul, 1) := by decide +kernel
theorem dX1_combine_71 : decode cX1_combine 71 = .ok (.iload 5, 2) := by decide +kernel
theorem dX1_combine_73 : decode cX1_combine 73 = .ok (.iadd, 1) := by decide +kernel
theorem dX1_combine_74 : decode cX1_combine 74 = .ok (.iaload, 1) := by decide +kernel
theorem dX1_combine_75 : decode cX1_combine 75 = .ok (.istore 7, 2) := by decide +kernel
theorem dX1_combine_77 : decode cX1_combine 77 = .ok (.aload_n 0, 1) := by decide +kernel
theorem dX1_combine_78 : decode cX1_combine 78 = .ok (.getfield 13, 3) := by decide +kernel
theorem dX1_combine_81 : decode cX1_combine 81 = .ok (.iload 5, 2) := by decide +kernel
theorem dX1_combine_83 : decode cX1_combine 83 = .ok (.iload_n 2, 1) := by decide +kernel
theorem dX1_combine_84 : decode cX1_combine 84 = .ok (.ifCond .ne 11, 3) := by decide +kernel
theorem dX1_combine_87 : decode cX1_combine 87 = .ok (.iload 6, 2) := by decide +kernel
theorem dX1_combine_89 : decode cX1_combine 89 = .ok (.iload 7, 2) := by decide +kernel
theorem dX1_combine_91 : decode cX1_combine 91 = .ok (.ixor, 1) := by decide +kernel
theorem dX1_combine_92 : decode cX1_combine 92 = .ok (.goto 44, 3) := by decide +kernel
theorem dX1_combine_95 : decode cX1_combine 95 = .ok (.iload_n 2, 1) := by decide +kernel
theorem dX1_combine_96 : decode cX1_combine 96 = .ok (.iconst 1, 1) := by decide +kernel
theorem dX1_combine_97 : decode cX1_combine 97 = .ok (.if_icmp .ne 11, 3) := by decide +kernel
theorem dX1_combine_100 : decode cX1_combine 100 = .ok (.iload 6, 2) := by decide +kernel
theorem dX1_combine_102 : decode cX1_combine 102 = .ok (.iload 7, 2) := by decide +kernel
theorem dX1_combine_104 : decode cX1_combine 104 = .ok (.iand, 1) := by decide +kernel
theorem dX1_combine_105 : decode cX1_combine 105 = .ok (.goto 31, 3) := by decide +kernel
theorem dX1_combine_108 : decode cX1_combine 108 = .ok (.iload_n 2, 1) := by decide +kernel
theorem dX1_combine_109 : decode cX1_combine 109 = .ok (.iconst 2, 1) := by decide +kernel
theorem dX1_combine_110 : decode cX1_combine 110 = .ok (.if_icmp .ne 11, 3) := by decide +kernel
theorem dX1_combine_113 : decode cX1_combine 113 = .ok (.iload 6, 2) := by decide +kernel
theorem dX1_combine_115 : decode cX1_combine 115 = .ok (.iload 7, 2) := by decide +kernel
theorem dX1_combine_117 : decode cX1_combine 117 = .ok (.ior, 1) := by decide +kernel
theorem dX1_combine_118 : decode cX1_combine 118 = .ok (.goto 18, 3) := by decide +kernel
theorem dX1_combine_121 : decode cX1_combine 121 = .ok (.iload 7, 2) := by decide +kernel
theorem dX1_combine_123 : decode cX1_combine 123 = .ok (.iconst 1, 1) := by decide +kernel
theorem dX1_combine_124 : decode cX1_combine 124 = .ok (.if_icmp .ne 8, 3) := by decide +kernel
theorem dX1_combine_127 : decode cX1_combine 127 = .ok (.iload 6, 2) := by decide +kernel
theorem dX1_combine_129 : decode cX1_combine 129 = .ok (.goto 7, 3) := by decide +kernel
theorem dX1_combine_132 : decode cX1_combine 132 = .ok (.iconst 1, 1) := by decide +kernel
theorem dX1_combine_133 : decode cX1_combine 133 = .ok (.iload 6, 2) := by decide +kernel
theorem dX1_combine_135 : decode cX1_combine 135 = .ok (.isub, 1) := by decide +kernel
theorem dX1_combine_136 : decode cX1_combine 136 = .ok (.iastore, 1) := by decide +kernel
theorem dX1_combine_137 : decode cX1_combine 137 = .ok (.iinc 5 1, 3) := by decide +kernel
theorem dX1_combine_140 : decode cX1_combine 140 = .ok (.goto (-99), 3) := by decide +kernel
theorem dX1_combine_143 : decode cX1_combine 143 = .ok (.aload_n 0, 1) := by decide +kernel
theorem dX1_combine_144 : decode cX1_combine 144 = .ok (.iload_n 1, 1) := by decide +kernel
theorem dX1_combine_145 : decode cX1_combine 145 = .ok (.invokevirtual 30, 3) := by decide +kernel
theorem dX1_combine_148 : decode cX1_combine 148 = .ok (.ireturn, 1) := by decide +kernel
theorem dX1_takeMade_0 : decode cX1_takeMade 0 = .ok (.iconst 0, 1) := by decide +kernel
theorem dX1_takeMade_1 : decode cX1_takeMade 1 = .ok (.istore_n 2, 1) := by decide +kernel
theorem dX1_takeMade_2 : decode cX1_takeMade 2 = .ok (.iload_n 2, 1) := by decide +kernel
theorem dX1_takeMade_3 : decode cX1_takeMade 3 = .ok (.bipush 64, 2) := by decide +kernel
theorem dX1_takeMade_5 : decode cX1_takeMade 5 = .ok (.if_icmp .ge 26, 3) := by decide +kernel
theorem dX1_takeMade_8 : decode cX1_takeMade 8 = .ok (.aload_n 0, 1) := by decide +kernel
theorem dX1_takeMade_9 : decode cX1_takeMade 9 = .ok (.getfield 7, 3) := by decide +kernel
theorem dX1_takeMade_12 : decode cX1_takeMade 12 = .ok (.bipush 64, 2) := by decide +kernel
theorem dX1_takeMade_14 : decode cX1_takeMade 14 = .ok (.iload_n 1, 1) := by decide +kernel
theorem dX1_takeMade_15 : decode cX1_takeMade 15 = .ok (.imul, 1) := by decide +kernel
theorem dX1_takeMade_16 : decode cX1_takeMade 16 = .ok (.iload_n 2, 1) := by decide +kernel
theorem dX1_takeMade_17 : decode cX1_takeMade 17 = .ok (.iadd, 1) := by decide +kernel
theorem dX1_takeMade_18 : decode cX1_takeMade 18 = .ok (.aload_n 0, 1) := by decide +kernel
theorem dX1_takeMade_19 : decode cX1_takeMade 19 = .ok (.getfield 13, 3) := by decide +kernel
theorem dX1_takeMade_22 : decode cX1_takeMade 22 = .ok (.iload_n 2, 1) := by decide +kernel
theorem dX1_takeMade_23 : decode cX1_takeMade 23 = .ok (.iaload, 1) := by decide +kernel
theorem dX1_takeMade_24 : decode cX1_takeMade 24 = .ok (.iastore, 1) := by decide +kernel
theorem dX1_takeMade_25 : decode cX1_takeMade 25 = .ok (.iinc 2 1, 3) := by decide +kernel
theorem dX1_takeMade_28 : decode cX1_takeMade 28 = .ok (.goto (-26), 3) := by decide +kernel
theorem dX1_takeMade_31 : decode cX1_takeMade 31 = .ok (.aload_n 0, 1) := by decide +kernel
theorem dX1_takeMade_32 : decode cX1_takeMade 32 = .ok (.iload_n 1, 1) := by decide +kernel
theorem dX1_takeMade_33 : decode cX1_takeMade 33 = .ok (.invokevirtual 27, 3) := by decide +kernel
theorem dX1_takeMade_36 : decode cX1_takeMade 36 = .ok (.ireturn, 1) := by decide +kernel
theorem dX1_shift_0 : decode cX1_shift 0 = .ok (.aload_n 0, 1) := by decide +kernel
theorem dX1_shift_1 : decode cX1_shift 1 = .ok (.iload_n 1, 1) := by decide +kernel
theorem dX1_shift_2 : decode cX1_shift 2 = .ok (.invokevirtual 20, 3) := by decide +kernel
theorem dX1_shift_5 : decode cX1_shift 5 = .ok (.ifCond .eq 28, 3) := by decide +kernel
theorem dX1_shift_8 : decode cX1_shift 8 = .ok (.aload_n 0, 1) := by decide +kernel
theorem dX1_shift_9 : decode cX1_shift 9 = .ok (.iload_n 2, 1) := by decide +kernel
theorem dX1_shift_10 : decode cX1_shift 10 = .ok (.invokevirtual 20, 3) := by decide +kernel
theorem dX1_shift_13 : decode cX1_shift 13 = .ok (.ifCond .eq 20, 3) := by decide +kernel
theorem dX1_shift_16 : decode cX1_shift 16 = .ok (.aload_n 0, 1) := by decide +kernel
theorem dX1_shift_17 : decode cX1_shift 17 = .ok (.iload_n 3, 1) := by decide +kernel
theorem dX1_shift_18 : decode cX1_shift 18 = .ok (.invokevirtual 24, 3) := by decide +kernel
theorem dX1_shift_21 : decode cX1_shift 21 = .ok (.ifCond .eq 12, 3) := by decide +kernel
theorem dX1_shift_24 : decode cX1_shift 24 = .ok (.aload_n 0, 1) := by decide +kernel
theorem dX1_shift_25 : decode cX1_shift 25 = .ok (.iload 4, 2) := by decide +kernel
theorem dX1_shift_27 : decode cX1_shift 27 = .ok (.invokevirtual 24, 3) := by decide +kernel
theorem dX1_shift_30 : decode cX1_shift 30 = .ok (.ifCond .ne 7, 3) := by decide +kernel
theorem dX1_shift_33 : decode cX1_shift 33 = .ok (.sipush (-1000), 3) := by decide +kernel
theorem dX1_shift_36 : decode cX1_shift 36 = .ok (.ireturn, 1) := by decide +kernel
theorem dX1_shift_37 : decode cX1_shift 37 = .ok (.iconst 0, 1) := by decide +kernel
theorem dX1_shift_38 : decode cX1_shift 38 = .ok (.istore 5, 2) := by decide +kernel
theorem dX1_shift_40 : decode cX1_shift 40 = .ok (.iload 5, 2) := by decide +kernel
theorem dX1_shift_42 : decode cX1_shift 42 = .ok (.bipush 64, 2) := by decide +kernel
theorem dX1_shift_44 : decode cX1_shift 44 = .ok (.if_icmp .ge 39, 3) := by decide +kernel
theorem dX1_shift_47 : decode cX1_shift 47 = .ok (.aload_n 0, 1) := by decide +kernel
theorem dX1_shift_48 : decode cX1_shift 48 = .ok (.getfield 13, 3) := by decide +kernel
theorem dX1_shift_51 : decode cX1_shift 51 = .ok (.iload 5, 2) := by decide +kernel
theorem dX1_shift_53 : decode cX1_shift 53 = .ok (.aload_n 0, 1) := by decide +kernel
theorem dX1_shift_54 : decode cX1_shift 54 = .ok (.getfield 7, 3) := by decide +kernel
theorem dX1_shift_57 : decode cX1_shift 57 = .ok (.bipush 64, 2) := by decide +kernel
theorem dX1_shift_59 : decode cX1_shift 59 = .ok (.iload_n 2, 1) := by decide +kernel
theorem dX1_shift_60 : decode cX1_shift 60 = .ok (.imul, 1) := by decide +kernel
theorem dX1_shift_61 : decode cX1_shift 61 = .ok (.iload 5, 2) := by decide +kernel
theorem dX1_shift_63 : decode cX1_shift 63 = .ok (.iload_n 3, 1) := by decide +kernel
theorem dX1_shift_64 : decode cX1_shift 64 = .ok (.ixor, 1) := by decide +kernel
theorem dX1_shift_65 : decode cX1_shift 65 = .ok (.iadd, 1) := by decide +kernel
theorem dX1_shift_66 : decode cX1_shift 66 = .ok (.iaload, 1) := by decide +kernel
theorem dX1_shift_67 : decode cX1_shift 67 = .ok (.aload_n 0, 1) := by decide +kernel
theorem dX1_shift_68 : decode cX1_shift 68 = .ok (.iload 4, 2) := by decide +kernel
theorem dX1_shift_70 : decode cX1_shift 70 = .ok (.iload 5, 2) := by decide +kernel
theorem dX1_shift_72 : decode cX1_shift 72 = .ok (.invokevirtual 33, 3) := by decide +kernel
theorem dX1_shift_75 : decode cX1_shift 75 = .ok (.ixor, 1) := by decide +kernel
theorem dX1_shift_76 : decode cX1_shift 76 = .ok (.iastore, 1) := by decide +kernel
theorem dX1_shift_77 : decode cX1_shift 77 = .ok (.iinc 5 1, 3) := by decide +kernel
theorem dX1_shift_80 : decode cX1_shift 80 = .ok (.goto (-40), 3) := by decide +kernel
theorem dX1_shift_83 : decode cX1_shift 83 = .ok (.aload_n 0, 1) := by decide +kernel
theorem dX1_shift_84 : decode cX1_shift 84 = .ok (.iload_n 1, 1) := by decide +kernel
theorem dX1_shift_85 : decode cX1_shift 85 = .ok (.invokevirtual 30, 3) := by decide +kernel
theorem dX1_shift_88 : decode cX1_shift 88 = .ok (.ireturn, 1) := by decide +kernel
theorem dX1_product_0 : decode cX1_product 0 = .ok (.aload_n 0, 1) := by decide +kernel
theorem dX1_product_1 : decode cX1_product 1 = .ok (.iload_n 1, 1) := by decide +kernel
theorem dX1_product_2 : decode cX1_product 2 = .ok (.iload_n 2, 1) := by decide +kernel
theorem dX1_product_3 : decode cX1_product 3 = .ok (.iand, 1) := by decide +kernel
theorem dX1_product_4 : decode cX1_product 4 = .ok (.invokevirtual 16, 3) := by decide +kernel
theorem dX1_product_7 : decode cX1_product 7 = .ok (.iconst 1, 1) := by decide +kernel
theorem dX1_product_8 : decode cX1_product 8 = .ok (.iand, 1) := by decide +kernel
theorem dX1_product_9 : decode cX1_product 9 = .ok (.ireturn, 1) := by decide +kernel
theorem dX1_sizeOf_0 : decode cX1_sizeOf 0 = .ok (.iconst 0, 1) := by decide +kernel
theorem dX1_sizeOf_1 : decode cX1_sizeOf 1 = .ok (.istore_n 2, 1) := by decide +kernel
theorem dX1_sizeOf_2 : decode cX1_sizeOf 2 = .ok (.iconst 0, 1) := by decide +kernel
theorem dX1_sizeOf_3 : decode cX1_sizeOf 3 = .ok (.istore_n 3, 1) := by decide +kernel
theorem dX1_sizeOf_4 : decode cX1_sizeOf 4 = .ok (.iload_n 3, 1) := by decide +kernel
theorem dX1_sizeOf_5 : decode cX1_sizeOf 5 = .ok (.bipush 6, 2) := by decide +kernel
theorem dX1_sizeOf_7 : decode cX1_sizeOf 7 = .ok (.if_icmp .ge 17, 3) := by decide +kernel
theorem dX1_sizeOf_10 : decode cX1_sizeOf 10 = .ok (.iload_n 2, 1) := by decide +kernel
theorem dX1_sizeOf_11 : decode cX1_sizeOf 11 = .ok (.iload_n 1, 1) := by decide +kernel
theorem dX1_sizeOf_12 : decode cX1_sizeOf 12 = .ok (.iload_n 3, 1) := by decide +kernel
theorem dX1_sizeOf_13 : decode cX1_sizeOf 13 = .ok (.ishr, 1) := by decide +kernel
theorem dX1_sizeOf_14 : decode cX1_sizeOf 14 = .ok (.iconst 1, 1) := by decide +kernel
theorem dX1_sizeOf_15 : decode cX1_sizeOf 15 = .ok (.iand, 1) := by decide +kernel
theorem dX1_sizeOf_16 : decode cX1_sizeOf 16 = .ok (.iadd, 1) := by decide +kernel
theorem dX1_sizeOf_17 : decode cX1_sizeOf 17 = .ok (.istore_n 2, 1) := by decide +kernel
theorem dX1_sizeOf_18 : decode cX1_sizeOf 18 = .ok (.iinc 3 1, 3) := by decide +kernel
theorem dX1_sizeOf_21 : decode cX1_sizeOf 21 = .ok (.goto (-17), 3) := by decide +kernel
theorem dX1_sizeOf_24 : decode cX1_sizeOf 24 = .ok (.iload_n 2, 1) := by decide +kernel
theorem dX1_sizeOf_25 : decode cX1_sizeOf 25 = .ok (.ireturn, 1) := by decide +kernel
theorem dX1_value_0 : decode cX1_value 0 = .ok (.aload_n 0, 1) := by decide +kernel
theorem dX1_value_1 : decode cX1_value 1 = .ok (.iload_n 1, 1) := by decide +kernel
theorem dX1_value_2 : decode cX1_value 2 = .ok (.invokevirtual 20, 3) := by decide +kernel
theorem dX1_value_5 : decode cX1_value 5 = .ok (.ifCond .eq 25, 3) := by decide +kernel
theorem dX1_value_8 : decode cX1_value 8 = .ok (.aload_n 0, 1) := by decide +kernel
theorem dX1_value_9 : decode cX1_value 9 = .ok (.iload_n 2, 1) := by decide +kernel
theorem dX1_value_10 : decode cX1_value 10 = .ok (.invokevirtual 24, 3) := by decide +kernel
theorem dX1_value_13 : decode cX1_value 13 = .ok (.ifCond .eq 17, 3) := by decide +kernel
theorem dX1_value_16 : decode cX1_value 16 = .ok (.aload_n 0, 1) := by decide +kernel
theorem dX1_value_17 : decode cX1_value 17 = .ok (.getfield 7, 3) := by decide +kernel
theorem dX1_value_20 : decode cX1_value 20 = .ok (.bipush 64, 2) := by decide +kernel
theorem dX1_value_22 : decode cX1_value 22 = .ok (.iload_n 1, 1) := by decide +kernel
theorem dX1_value_23 : decode cX1_value 23 = .ok (.imul, 1) := by decide +kernel
theorem dX1_value_24 : decode cX1_value 24 = .ok (.iload_n 2, 1) := by decide +kernel
theorem dX1_value_25 : decode cX1_value 25 = .ok (.iadd, 1) := by decide +kernel
theorem dX1_value_26 : decode cX1_value 26 = .ok (.iaload, 1) := by decide +kernel
theorem dX1_value_27 : decode cX1_value 27 = .ok (.goto 6, 3) := by decide +kernel
theorem dX1_value_30 : decode cX1_value 30 = .ok (.sipush (-1000), 3) := by decide +kernel
theorem dX1_value_33 : decode cX1_value 33 = .ok (.ireturn, 1) := by decide +kernel
theorem dX1_ones_0 : decode cX1_ones 0 = .ok (.aload_n 0, 1) := by decide +kernel
theorem dX1_ones_1 : decode cX1_ones 1 = .ok (.iload_n 1, 1) := by decide +kernel
theorem dX1_ones_2 : decode cX1_ones 2 = .ok (.invokevirtual 20, 3) := by decide +kernel
theorem dX1_ones_5 : decode cX1_ones 5 = .ok (.ifCond .eq 11, 3) := by decide +kernel
theorem dX1_ones_8 : decode cX1_ones 8 = .ok (.aload_n 0, 1) := by decide +kernel
theorem dX1_ones_9 : decode cX1_ones 9 = .ok (.iload_n 1, 1) := by decide +kernel
theorem dX1_ones_10 : decode cX1_ones 10 = .ok (.invokevirtual 27, 3) := by decide +kernel
theorem dX1_ones_13 : decode cX1_ones 13 = .ok (.goto 6, 3) := by decide +kernel
theorem dX1_ones_16 : decode cX1_ones 16 = .ok (.sipush (-1000), 3) := by decide +kernel
theorem dX1_ones_19 : decode cX1_ones 19 = .ok (.ireturn, 1) := by decide +kernel
theorem dX1_form_0 : decode cX1_form 0 = .ok (.aload_n 0, 1) := by decide +kernel
theorem dX1_form_1 : decode cX1_form 1 = .ok (.iload_n 1, 1) := by decide +kernel
theorem dX1_form_2 : decode cX1_form 2 = .ok (.invokevirtual 20, 3) := by decide +kernel
theorem dX1_form_5 : decode cX1_form 5 = .ok (.ifCond .eq 20, 3) := by decide +kernel
theorem dX1_form_8 : decode cX1_form 8 = .ok (.aload_n 0, 1) := by decide +kernel
theorem dX1_form_9 : decode cX1_form 9 = .ok (.iload_n 2, 1) := by decide +kernel
theorem dX1_form_10 : decode cX1_form 10 = .ok (.invokevirtual 24, 3) := by decide +kernel
theorem dX1_form_13 : decode cX1_form 13 = .ok (.ifCond .eq 12, 3) := by decide +kernel
theorem dX1_form_16 : decode cX1_form 16 = .ok (.aload_n 0, 1) := by decide +kernel
theorem dX1_form_17 : decode cX1_form 17 = .ok (.iload_n 1, 1) := by decide +kernel
theorem dX1_form_18 : decode cX1_form 18 = .ok (.iload_n 2, 1) := by decide +kernel
theorem dX1_form_19 : decode cX1_form 19 = .ok (.invokevirtual 37, 3) := by decide +kernel
theorem dX1_form_22 : decode cX1_form 22 = .ok (.goto 6, 3) := by decide +kernel
theorem dX1_form_25 : decode cX1_form 25 = .ok (.sipush (-1000), 3) := by decide +kernel
theorem dX1_form_28 : decode cX1_form 28 = .ok (.ireturn, 1) := by decide +kernel
theorem dX1_formAt_0 : decode cX1_formAt 0 = .ok (.iconst 0, 1) := by decide +kernel
theorem dX1_formAt_1 : decode cX1_formAt 1 = .ok (.istore_n 3, 1) := by decide +kernel
theorem dX1_formAt_2 : decode cX1_formAt 2 = .ok (.iconst 0, 1) := by decide +kernel
theorem dX1_formAt_3 : decode cX1_formAt 3 = .ok (.istore 4, 2) := by decide +kernel
theorem dX1_formAt_5 : decode cX1_formAt 5 = .ok (.iload 4, 2) := by decide +kernel
theorem dX1_formAt_7 : decode cX1_formAt 7 = .ok (.bipush 64, 2) := by decide +kernel
theorem dX1_formAt_9 : decode cX1_formAt 9 = .ok (.if_icmp .ge 37, 3) := by decide +kernel
theorem dX1_formAt_12 : decode cX1_formAt 12 = .ok (.iload 4, 2) := by decide +kernel
theorem dX1_formAt_14 : decode cX1_formAt 14 = .ok (.iload_n 2, 1) := by decide +kernel
theorem dX1_formAt_15 : decode cX1_formAt 15 = .ok (.iconst (-1), 1) := by decide +kernel
theorem dX1_formAt_16 : decode cX1_formAt 16 = .ok (.ixor, 1) := by decide +kernel
theorem dX1_formAt_17 : decode cX1_formAt 17 = .ok (.iand, 1) := by decide +kernel
theorem dX1_formAt_18 : decode cX1_formAt 18 = .ok (.ifCond .ne 20, 3) := by decide +kernel
theorem dX1_formAt_21 : decode cX1_formAt 21 = .ok (.iload_n 3, 1) := by decide +kernel
theorem dX1_formAt_22 : decode cX1_formAt 22 = .ok (.aload_n 0, 1) := by decide +kernel
theorem dX1_formAt_23 : decode cX1_formAt 23 = .ok (.getfield 7, 3) := by decide +kernel
theorem dX1_formAt_26 : decode cX1_formAt 26 = .ok (.bipush 64, 2) := by decide +kernel
theorem dX1_formAt_28 : decode cX1_formAt 28 = .ok (.iload_n 1, 1) := by decide +kernel
theorem dX1_formAt_29 : decode cX1_formAt 29 = .ok (.imul, 1) := by decide +kernel
theorem dX1_formAt_30 : decode cX1_formAt 30 = .ok (.iload 4, 2) := by decide +kernel
theorem dX1_formAt_32 : decode cX1_formAt 32 = .ok (.iadd, 1) := by decide +kernel
theorem dX1_formAt_33 : decode cX1_formAt 33 = .ok (.iaload, 1) := by decide +kernel
theorem dX1_formAt_34 : decode cX1_formAt 34 = .ok (.ixor, 1) := by decide +kernel
theorem dX1_formAt_35 : decode cX1_formAt 35 = .ok (.goto 4, 3) := by decide +kernel
theorem dX1_formAt_38 : decode cX1_formAt 38 = .ok (.iload_n 3, 1) := by decide +kernel
theorem dX1_formAt_39 : decode cX1_formAt 39 = .ok (.istore_n 3, 1) := by decide +kernel
theorem dX1_formAt_40 : decode cX1_formAt 40 = .ok (.iinc 4 1, 3) := by decide +kernel
theorem dX1_formAt_43 : decode cX1_formAt 43 = .ok (.goto (-38), 3) := by decide +kernel
theorem dX1_formAt_46 : decode cX1_formAt 46 = .ok (.iload_n 3, 1) := by decide +kernel
theorem dX1_formAt_47 : decode cX1_formAt 47 = .ok (.ireturn, 1) := by decide +kernel
theorem dX1_degree_0 : decode cX1_degree 0 = .ok (.aload_n 0, 1) := by decide +kernel
theorem dX1_degree_1 : decode cX1_degree 1 = .ok (.iload_n 1, 1) := by decide +kernel
theorem dX1_degree_2 : decode cX1_degree 2 = .ok (.invokevirtual 20, 3) := by decide +kernel
theorem dX1_degree_5 : decode cX1_degree 5 = .ok (.ifCond .ne 7, 3) := by decide +kernel
theorem dX1_degree_8 : decode cX1_degree 8 = .ok (.sipush (-1000), 3) := by decide +kernel
theorem dX1_degree_11 : decode cX1_degree 11 = .ok (.ireturn, 1) := by decide +kernel
theorem dX1_degree_12 : decode cX1_degree 12 = .ok (.iconst 0, 1) := by decide +kernel
theorem dX1_degree_13 : decode cX1_degree 13 = .ok (.istore_n 2, 1) := by decide +kernel
theorem dX1_degree_14 : decode cX1_degree 14 = .ok (.iconst 0, 1) := by decide +kernel
theorem dX1_degree_15 : decode cX1_degree 15 = .ok (.istore_n 3, 1) := by decide +kernel
theorem dX1_degree_16 : decode cX1_degree 16 = .ok (.iload_n 3, 1) := by decide +kernel
theorem dX1_degree_17 : decode cX1_degree 17 = .ok (.bipush 64, 2) := by decide +kernel
theorem dX1_degree_19 : decode cX1_degree 19 = .ok (.if_icmp .ge 39, 3) := by decide +kernel
theorem dX1_degree_22 : decode cX1_degree 22 = .ok (.aload_n 0, 1) := by decide +kernel
theorem dX1_degree_23 : decode cX1_degree 23 = .ok (.iload_n 3, 1) := by decide +kernel
theorem dX1_degree_24 : decode cX1_degree 24 = .ok (.invokevirtual 16, 3) := by decide +kernel
theorem dX1_degree_27 : decode cX1_degree 27 = .ok (.istore 4, 2) := by decide +kernel
theorem dX1_degree_29 : decode cX1_degree 29 = .ok (.aload_n 0, 1) := by decide +kernel
theorem dX1_degree_30 : decode cX1_degree 30 = .ok (.iload_n 1, 1) := by decide +kernel
theorem dX1_degree_31 : decode cX1_degree 31 = .ok (.iload_n 3, 1) := by decide +kernel
theorem dX1_degree_32 : decode cX1_degree 32 = .ok (.invokevirtual 37, 3) := by decide +kernel
theorem dX1_degree_35 : decode cX1_degree 35 = .ok (.iconst 1, 1) := by decide +kernel
theorem dX1_degree_36 : decode cX1_degree 36 = .ok (.if_icmp .ne 14, 3) := by decide +kernel
theorem dX1_degree_39 : decode cX1_degree 39 = .ok (.iload 4, 2) := by decide +kernel
theorem dX1_degree_41 : decode cX1_degree 41 = .ok (.iload_n 2, 1) := by decide +kernel
theorem dX1_degree_42 : decode cX1_degree 42 = .ok (.if_icmp .le 8, 3) := by decide +kernel
theorem dX1_degree_45 : decode cX1_degree 45 = .ok (.iload 4, 2) := by decide +kernel
theorem dX1_degree_47 : decode cX1_degree 47 = .ok (.goto 4, 3) := by decide +kernel
theorem dX1_degree_50 : decode cX1_degree 50 = .ok (.iload_n 2, 1) := by decide +kernel
theorem dX1_degree_51 : decode cX1_degree 51 = .ok (.istore_n 2, 1) := by decide +kernel
theorem dX1_degree_52 : decode cX1_degree 52 = .ok (.iinc 3 1, 3) := by decide +kernel
theorem dX1_degree_55 : decode cX1_degree 55 = .ok (.goto (-39), 3) := by decide +kernel
theorem dX1_degree_58 : decode cX1_degree 58 = .ok (.iload_n 2, 1) := by decide +kernel
theorem dX1_degree_59 : decode cX1_degree 59 = .ok (.ireturn, 1) := by decide +kernel
theorem dX1_spectrum_0 : decode cX1_spectrum 0 = .ok (.aload_n 0, 1) := by decide +kernel
theorem dX1_spectrum_1 : decode cX1_spectrum 1 = .ok (.iload_n 1, 1) := by decide +kernel
theorem dX1_spectrum_2 : decode cX1_spectrum 2 = .ok (.invokevirtual 20, 3) := by decide +kernel
theorem dX1_spectrum_5 : decode cX1_spectrum 5 = .ok (.ifCond .eq 20, 3) := by decide +kernel
theorem dX1_spectrum_8 : decode cX1_spectrum 8 = .ok (.aload_n 0, 1) := by decide +kernel
theorem dX1_spectrum_9 : decode cX1_spectrum 9 = .ok (.iload_n 2, 1) := by decide +kernel
theorem dX1_spectrum_10 : decode cX1_spectrum 10 = .ok (.invokevirtual 24, 3) := by decide +kernel
theorem dX1_spectrum_13 : decode cX1_spectrum 13 = .ok (.ifCond .eq 12, 3) := by decide +kernel
theorem dX1_spectrum_16 : decode cX1_spectrum 16 = .ok (.aload_n 0, 1) := by decide +kernel
theorem dX1_spectrum_17 : decode cX1_spectrum 17 = .ok (.iload_n 1, 1) := by decide +kernel
theorem dX1_spectrum_18 : decode cX1_spectrum 18 = .ok (.iload_n 2, 1) := by decide +kernel
theorem dX1_spectrum_19 : decode cX1_spectrum 19 = .ok (.invokevirtual 40, 3) := by decide +kernel
theorem dX1_spectrum_22 : decode cX1_spectrum 22 = .ok (.goto 6, 3) := by decide +kernel
theorem dX1_spectrum_25 : decode cX1_spectrum 25 = .ok (.sipush (-1000), 3) := by decide +kernel
theorem dX1_spectrum_28 : decode cX1_spectrum 28 = .ok (.ireturn, 1) := by decide +kernel
theorem dX1_spectrumAt_0 : decode cX1_spectrumAt 0 = .ok (.iconst 0, 1) := by decide +kernel
theorem dX1_spectrumAt_1 : decode cX1_spectrumAt 1 = .ok (.istore_n 3, 1) := by decide +kernel
theorem dX1_spectrumAt_2 : decode cX1_spectrumAt 2 = .ok (.iconst 0, 1) := by decide +kernel
theorem dX1_spectrumAt_3 : decode cX1_spectrumAt 3 = .ok (.istore 4, 2) := by decide +kernel
theorem dX1_spectrumAt_5 : decode cX1_spectrumAt 5 = .ok (.iload 4, 2) := by decide +kernel
theorem dX1_spectrumAt_7 : decode cX1_spectrumAt 7 = .ok (.bipush 64, 2) := by decide +kernel
theorem dX1_spectrumAt_9 : decode cX1_spectrumAt 9 = .ok (.if_icmp .ge 41, 3) := by decide +kernel
theorem dX1_spectrumAt_12 : decode cX1_spectrumAt 12 = .ok (.aload_n 0, 1) := by decide +kernel
theorem dX1_spectrumAt_13 : decode cX1_spectrumAt 13 = .ok (.getfield 7, 3) := by decide +kernel
theorem dX1_spectrumAt_16 : decode cX1_spectrumAt 16 = .ok (.bipush 64, 2) := by decide +kernel
theorem dX1_spectrumAt_18 : decode cX1_spectrumAt 18 = .ok (.iload_n 1, 1) := by decide +kernel
theorem dX1_spectrumAt_19 : decode cX1_spectrumAt 19 = .ok (.imul, 1) := by decide +kernel
theorem dX1_spectrumAt_20 : decode cX1_spectrumAt 20 = .ok (.iload 4, 2) := by decide +kernel
theorem dX1_spectrumAt_22 : decode cX1_spectrumAt 22 = .ok (.iadd, 1) := by decide +kernel
theorem dX1_spectrumAt_23 : decode cX1_spectrumAt 23 = .ok (.iaload, 1) := by decide +kernel
theorem dX1_spectrumAt_24 : decode cX1_spectrumAt 24 = .ok (.aload_n 0, 1) := by decide +kernel
theorem dX1_spectrumAt_25 : decode cX1_spectrumAt 25 = .ok (.iload_n 2, 1) := by decide +kernel
theorem dX1_spectrumAt_26 : decode cX1_spectrumAt 26 = .ok (.iload 4, 2) := by decide +kernel
theorem dX1_spectrumAt_28 : decode cX1_spectrumAt 28 = .ok (.invokevirtual 33, 3) := by decide +kernel
theorem dX1_spectrumAt_31 : decode cX1_spectrumAt 31 = .ok (.if_icmp .ne 9, 3) := by decide +kernel
theorem dX1_spectrumAt_34 : decode cX1_spectrumAt 34 = .ok (.iload_n 3, 1) := by decide +kernel
theorem dX1_spectrumAt_35 : decode cX1_spectrumAt 35 = .ok (.iconst 1, 1) := by decide +kernel
theorem dX1_spectrumAt_36 : decode cX1_spectrumAt 36 = .ok (.iadd, 1) := by decide +kernel
theorem dX1_spectrumAt_37 : decode cX1_spectrumAt 37 = .ok (.goto 6, 3) := by decide +kernel
theorem dX1_spectrumAt_40 : decode cX1_spectrumAt 40 = .ok (.iload_n 3, 1) := by decide +kernel
theorem dX1_spectrumAt_41 : decode cX1_spectrumAt 41 = .ok (.iconst 1, 1) := by decide +kernel
theorem dX1_spectrumAt_42 : decode cX1_spectrumAt 42 = .ok (.isub, 1) := by decide +kernel
theorem dX1_spectrumAt_43 : decode cX1_spectrumAt 43 = .ok (.istore_n 3, 1) := by decide +kernel
theorem dX1_spectrumAt_44 : decode cX1_spectrumAt 44 = .ok (.iinc 4 1, 3) := by decide +kernel
theorem dX1_spectrumAt_47 : decode cX1_spectrumAt 47 = .ok (.goto (-42), 3) := by decide +kernel
theorem dX1_spectrumAt_50 : decode cX1_spectrumAt 50 = .ok (.iload_n 3, 1) := by decide +kernel
theorem dX1_spectrumAt_51 : decode cX1_spectrumAt 51 = .ok (.ireturn, 1) := by decide +kernel
theorem dX1_distance_0 : decode cX1_distance 0 = .ok (.aload_n 0, 1) := by decide +kernel
theorem dX1_distance_1 : decode cX1_distance 1 = .ok (.iload_n 1, 1) := by decide +kernel
theorem dX1_distance_2 : decode cX1_distance 2 = .ok (.invokevirtual 20, 3) := by decide +kernel
theorem dX1_distance_5 : decode cX1_distance 5 = .ok (.ifCond .ne 7, 3) := by decide +kernel
theorem dX1_distance_8 : decode cX1_distance 8 = .ok (.sipush (-1000), 3) := by decide +kernel
theorem dX1_distance_11 : decode cX1_distance 11 = .ok (.ireturn, 1) := by decide +kernel
theorem dX1_distance_12 : decode cX1_distance 12 = .ok (.bipush 64, 2) := by decide +kernel
theorem dX1_distance_14 : decode cX1_distance 14 = .ok (.istore_n 2, 1) := by decide +kernel
theorem dX1_distance_15 : decode cX1_distance 15 = .ok (.iconst 0, 1) := by decide +kernel
theorem dX1_distance_16 : decode cX1_distance 16 = .ok (.istore_n 3, 1) := by decide +kernel
theorem dX1_distance_17 : decode cX1_distance 17 = .ok (.iload_n 3, 1) := by decide +kernel
theorem dX1_distance_18 : decode cX1_distance 18 = .ok (.bipush 64, 2) := by decide +kernel
theorem dX1_distance_20 : decode cX1_distance 20 = .ok (.if_icmp .ge 30, 3) := by decide +kernel
theorem dX1_distance_23 : decode cX1_distance 23 = .ok (.aload_n 0, 1) := by decide +kernel
theorem dX1_distance_24 : decode cX1_distance 24 = .ok (.iload_n 1, 1) := by decide +kernel
theorem dX1_distance_25 : decode cX1_distance 25 = .ok (.iload_n 3, 1) := by decide +kernel
theorem dX1_distance_26 : decode cX1_distance 26 = .ok (.invokevirtual 43, 3) := by decide +kernel
theorem dX1_distance_29 : decode cX1_distance 29 = .ok (.istore 4, 2) := by decide +kernel
theorem dX1_distance_31 : decode cX1_distance 31 = .ok (.iload 4, 2) := by decide +kernel
theorem dX1_distance_33 : decode cX1_distance 33 = .ok (.iload_n 2, 1) := by decide +kernel
theorem dX1_distance_34 : decode cX1_distance 34 = .ok (.if_icmp .ge 8, 3) := by decide +kernel
theorem dX1_distance_37 : decode cX1_distance 37 = .ok (.iload 4, 2) := by decide +kernel
theorem dX1_distance_39 : decode cX1_distance 39 = .ok (.goto 4, 3) := by decide +kernel
theorem dX1_distance_42 : decode cX1_distance 42 = .ok (.iload_n 2, 1) := by decide +kernel
theorem dX1_distance_43 : decode cX1_distance 43 = .ok (.istore_n 2, 1) := by decide +kernel
theorem dX1_distance_44 : decode cX1_distance 44 = .ok (.iinc 3 1, 3) := by decide +kernel
theorem dX1_distance_47 : decode cX1_distance 47 = .ok (.goto (-30), 3) := by decide +kernel
end
section
set_option maxRecDepth 100000
theorem dX1_distance_50 : decode cX1_distance 50 = .ok (.iload_n 2, 1) := by decide +kernel
theorem dX1_distance_51 : decode cX1_distance 51 = .ok (.ireturn, 1) := by decide +kernel
theorem dX1_changes_0 : decode cX1_changes 0 = .ok (.iconst 0, 1) := by decide +kernel
theorem dX1_changes_1 : decode cX1_changes 1 = .ok (.istore_n 3, 1) := by decide +kernel
theorem dX1_changes_2 : decode cX1_changes 2 = .ok (.iconst 0, 1) := by decide +kernel
theorem dX1_changes_3 : decode cX1_changes 3 = .ok (.istore 4, 2) := by decide +kernel
theorem dX1_changes_5 : decode cX1_changes 5 = .ok (.iload 4, 2) := by decide +kernel
theorem dX1_changes_7 : decode cX1_changes 7 = .ok (.bipush 64, 2) := by decide +kernel
theorem dX1_changes_9 : decode cX1_changes 9 = .ok (.if_icmp .ge 39, 3) := by decide +kernel
theorem dX1_changes_12 : decode cX1_changes 12 = .ok (.aload_n 0, 1) := by decide +kernel
theorem dX1_changes_13 : decode cX1_changes 13 = .ok (.getfield 7, 3) := by decide +kernel
theorem dX1_changes_16 : decode cX1_changes 16 = .ok (.bipush 64, 2) := by decide +kernel
theorem dX1_changes_18 : decode cX1_changes 18 = .ok (.iload_n 1, 1) := by decide +kernel
theorem dX1_changes_19 : decode cX1_changes 19 = .ok (.imul, 1) := by decide +kernel
theorem dX1_changes_20 : decode cX1_changes 20 = .ok (.iload 4, 2) := by decide +kernel
theorem dX1_changes_22 : decode cX1_changes 22 = .ok (.iadd, 1) := by decide +kernel
theorem dX1_changes_23 : decode cX1_changes 23 = .ok (.iaload, 1) := by decide +kernel
theorem dX1_changes_24 : decode cX1_changes 24 = .ok (.aload_n 0, 1) := by decide +kernel
theorem dX1_changes_25 : decode cX1_changes 25 = .ok (.iload_n 2, 1) := by decide +kernel
theorem dX1_changes_26 : decode cX1_changes 26 = .ok (.iload 4, 2) := by decide +kernel
theorem dX1_changes_28 : decode cX1_changes 28 = .ok (.invokevirtual 33, 3) := by decide +kernel
theorem dX1_changes_31 : decode cX1_changes 31 = .ok (.if_icmp .eq 9, 3) := by decide +kernel
theorem dX1_changes_34 : decode cX1_changes 34 = .ok (.iload_n 3, 1) := by decide +kernel
theorem dX1_changes_35 : decode cX1_changes 35 = .ok (.iconst 1, 1) := by decide +kernel
theorem dX1_changes_36 : decode cX1_changes 36 = .ok (.iadd, 1) := by decide +kernel
theorem dX1_changes_37 : decode cX1_changes 37 = .ok (.goto 4, 3) := by decide +kernel
theorem dX1_changes_40 : decode cX1_changes 40 = .ok (.iload_n 3, 1) := by decide +kernel
theorem dX1_changes_41 : decode cX1_changes 41 = .ok (.istore_n 3, 1) := by decide +kernel
theorem dX1_changes_42 : decode cX1_changes 42 = .ok (.iinc 4 1, 3) := by decide +kernel
theorem dX1_changes_45 : decode cX1_changes 45 = .ok (.goto (-40), 3) := by decide +kernel
theorem dX1_changes_48 : decode cX1_changes 48 = .ok (.iload_n 3, 1) := by decide +kernel
theorem dX1_changes_49 : decode cX1_changes 49 = .ok (.bipush 64, 2) := by decide +kernel
theorem dX1_changes_51 : decode cX1_changes 51 = .ok (.iload_n 3, 1) := by decide +kernel
theorem dX1_changes_52 : decode cX1_changes 52 = .ok (.isub, 1) := by decide +kernel
theorem dX1_changes_53 : decode cX1_changes 53 = .ok (.if_icmp .ge 7, 3) := by decide +kernel
theorem dX1_changes_56 : decode cX1_changes 56 = .ok (.iload_n 3, 1) := by decide +kernel
theorem dX1_changes_57 : decode cX1_changes 57 = .ok (.goto 7, 3) := by decide +kernel
theorem dX1_changes_60 : decode cX1_changes 60 = .ok (.bipush 64, 2) := by decide +kernel
theorem dX1_changes_62 : decode cX1_changes 62 = .ok (.iload_n 3, 1) := by decide +kernel
theorem dX1_changes_63 : decode cX1_changes 63 = .ok (.isub, 1) := by decide +kernel
theorem dX1_changes_64 : decode cX1_changes 64 = .ok (.ireturn, 1) := by decide +kernel
theorem dX1_nearest_0 : decode cX1_nearest 0 = .ok (.aload_n 0, 1) := by decide +kernel
theorem dX1_nearest_1 : decode cX1_nearest 1 = .ok (.iload_n 1, 1) := by decide +kernel
theorem dX1_nearest_2 : decode cX1_nearest 2 = .ok (.invokevirtual 20, 3) := by decide +kernel
theorem dX1_nearest_5 : decode cX1_nearest 5 = .ok (.ifCond .ne 7, 3) := by decide +kernel
theorem dX1_nearest_8 : decode cX1_nearest 8 = .ok (.sipush (-1000), 3) := by decide +kernel
theorem dX1_nearest_11 : decode cX1_nearest 11 = .ok (.ireturn, 1) := by decide +kernel
theorem dX1_nearest_12 : decode cX1_nearest 12 = .ok (.iconst 0, 1) := by decide +kernel
theorem dX1_nearest_13 : decode cX1_nearest 13 = .ok (.istore_n 2, 1) := by decide +kernel
theorem dX1_nearest_14 : decode cX1_nearest 14 = .ok (.iconst 1, 1) := by decide +kernel
theorem dX1_nearest_15 : decode cX1_nearest 15 = .ok (.istore_n 3, 1) := by decide +kernel
theorem dX1_nearest_16 : decode cX1_nearest 16 = .ok (.iload_n 3, 1) := by decide +kernel
theorem dX1_nearest_17 : decode cX1_nearest 17 = .ok (.bipush 64, 2) := by decide +kernel
theorem dX1_nearest_19 : decode cX1_nearest 19 = .ok (.if_icmp .ge 30, 3) := by decide +kernel
theorem dX1_nearest_22 : decode cX1_nearest 22 = .ok (.aload_n 0, 1) := by decide +kernel
theorem dX1_nearest_23 : decode cX1_nearest 23 = .ok (.iload_n 1, 1) := by decide +kernel
theorem dX1_nearest_24 : decode cX1_nearest 24 = .ok (.iload_n 3, 1) := by decide +kernel
theorem dX1_nearest_25 : decode cX1_nearest 25 = .ok (.invokevirtual 43, 3) := by decide +kernel
theorem dX1_nearest_28 : decode cX1_nearest 28 = .ok (.aload_n 0, 1) := by decide +kernel
theorem dX1_nearest_29 : decode cX1_nearest 29 = .ok (.iload_n 1, 1) := by decide +kernel
theorem dX1_nearest_30 : decode cX1_nearest 30 = .ok (.iload_n 2, 1) := by decide +kernel
theorem dX1_nearest_31 : decode cX1_nearest 31 = .ok (.invokevirtual 43, 3) := by decide +kernel
theorem dX1_nearest_34 : decode cX1_nearest 34 = .ok (.if_icmp .ge 7, 3) := by decide +kernel
theorem dX1_nearest_37 : decode cX1_nearest 37 = .ok (.iload_n 3, 1) := by decide +kernel
theorem dX1_nearest_38 : decode cX1_nearest 38 = .ok (.goto 4, 3) := by decide +kernel
theorem dX1_nearest_41 : decode cX1_nearest 41 = .ok (.iload_n 2, 1) := by decide +kernel
theorem dX1_nearest_42 : decode cX1_nearest 42 = .ok (.istore_n 2, 1) := by decide +kernel
theorem dX1_nearest_43 : decode cX1_nearest 43 = .ok (.iinc 3 1, 3) := by decide +kernel
theorem dX1_nearest_46 : decode cX1_nearest 46 = .ok (.goto (-30), 3) := by decide +kernel
theorem dX1_nearest_49 : decode cX1_nearest 49 = .ok (.iload_n 2, 1) := by decide +kernel
theorem dX1_nearest_50 : decode cX1_nearest 50 = .ok (.ireturn, 1) := by decide +kernel
theorem dX1_immunity_0 : decode cX1_immunity 0 = .ok (.aload_n 0, 1) := by decide +kernel
theorem dX1_immunity_1 : decode cX1_immunity 1 = .ok (.iload_n 1, 1) := by decide +kernel
theorem dX1_immunity_2 : decode cX1_immunity 2 = .ok (.invokevirtual 20, 3) := by decide +kernel
theorem dX1_immunity_5 : decode cX1_immunity 5 = .ok (.ifCond .ne 7, 3) := by decide +kernel
theorem dX1_immunity_8 : decode cX1_immunity 8 = .ok (.sipush (-1000), 3) := by decide +kernel
theorem dX1_immunity_11 : decode cX1_immunity 11 = .ok (.ireturn, 1) := by decide +kernel
theorem dX1_immunity_12 : decode cX1_immunity 12 = .ok (.bipush 7, 2) := by decide +kernel
theorem dX1_immunity_14 : decode cX1_immunity 14 = .ok (.istore_n 2, 1) := by decide +kernel
theorem dX1_immunity_15 : decode cX1_immunity 15 = .ok (.iconst 1, 1) := by decide +kernel
theorem dX1_immunity_16 : decode cX1_immunity 16 = .ok (.istore_n 3, 1) := by decide +kernel
theorem dX1_immunity_17 : decode cX1_immunity 17 = .ok (.iload_n 3, 1) := by decide +kernel
theorem dX1_immunity_18 : decode cX1_immunity 18 = .ok (.bipush 64, 2) := by decide +kernel
theorem dX1_immunity_20 : decode cX1_immunity 20 = .ok (.if_icmp .ge 38, 3) := by decide +kernel
theorem dX1_immunity_23 : decode cX1_immunity 23 = .ok (.aload_n 0, 1) := by decide +kernel
theorem dX1_immunity_24 : decode cX1_immunity 24 = .ok (.iload_n 3, 1) := by decide +kernel
theorem dX1_immunity_25 : decode cX1_immunity 25 = .ok (.invokevirtual 16, 3) := by decide +kernel
theorem dX1_immunity_28 : decode cX1_immunity 28 = .ok (.istore 4, 2) := by decide +kernel
theorem dX1_immunity_30 : decode cX1_immunity 30 = .ok (.aload_n 0, 1) := by decide +kernel
theorem dX1_immunity_31 : decode cX1_immunity 31 = .ok (.iload_n 1, 1) := by decide +kernel
theorem dX1_immunity_32 : decode cX1_immunity 32 = .ok (.iload_n 3, 1) := by decide +kernel
theorem dX1_immunity_33 : decode cX1_immunity 33 = .ok (.invokevirtual 40, 3) := by decide +kernel
theorem dX1_immunity_36 : decode cX1_immunity 36 = .ok (.ifCond .eq 14, 3) := by decide +kernel
theorem dX1_immunity_39 : decode cX1_immunity 39 = .ok (.iload 4, 2) := by decide +kernel
theorem dX1_immunity_41 : decode cX1_immunity 41 = .ok (.iload_n 2, 1) := by decide +kernel
theorem dX1_immunity_42 : decode cX1_immunity 42 = .ok (.if_icmp .ge 8, 3) := by decide +kernel
theorem dX1_immunity_45 : decode cX1_immunity 45 = .ok (.iload 4, 2) := by decide +kernel
theorem dX1_immunity_47 : decode cX1_immunity 47 = .ok (.goto 4, 3) := by decide +kernel
theorem dX1_immunity_50 : decode cX1_immunity 50 = .ok (.iload_n 2, 1) := by decide +kernel
theorem dX1_immunity_51 : decode cX1_immunity 51 = .ok (.istore_n 2, 1) := by decide +kernel
theorem dX1_immunity_52 : decode cX1_immunity 52 = .ok (.iinc 3 1, 3) := by decide +kernel
theorem dX1_immunity_55 : decode cX1_immunity 55 = .ok (.goto (-38), 3) := by decide +kernel
theorem dX1_immunity_58 : decode cX1_immunity 58 = .ok (.iload_n 2, 1) := by decide +kernel
theorem dX1_immunity_59 : decode cX1_immunity 59 = .ok (.iconst 1, 1) := by decide +kernel
theorem dX1_immunity_60 : decode cX1_immunity 60 = .ok (.isub, 1) := by decide +kernel
theorem dX1_immunity_61 : decode cX1_immunity 61 = .ok (.ireturn, 1) := by decide +kernel
theorem dX1_autocorrelation_0 : decode cX1_autocorrelation 0 = .ok (.aload_n 0, 1) := by decide +kernel
theorem dX1_autocorrelation_1 : decode cX1_autocorrelation 1 = .ok (.iload_n 1, 1) := by decide +kernel
theorem dX1_autocorrelation_2 : decode cX1_autocorrelation 2 = .ok (.invokevirtual 20, 3) := by decide +kernel
theorem dX1_autocorrelation_5 : decode cX1_autocorrelation 5 = .ok (.ifCond .eq 25, 3) := by decide +kernel
theorem dX1_autocorrelation_8 : decode cX1_autocorrelation 8 = .ok (.aload_n 0, 1) := by decide +kernel
theorem dX1_autocorrelation_9 : decode cX1_autocorrelation 9 = .ok (.iload_n 2, 1) := by decide +kernel
theorem dX1_autocorrelation_10 : decode cX1_autocorrelation 10 = .ok (.invokevirtual 24, 3) := by decide +kernel
theorem dX1_autocorrelation_13 : decode cX1_autocorrelation 13 = .ok (.ifCond .eq 17, 3) := by decide +kernel
theorem dX1_autocorrelation_16 : decode cX1_autocorrelation 16 = .ok (.iconst 2, 1) := by decide +kernel
theorem dX1_autocorrelation_17 : decode cX1_autocorrelation 17 = .ok (.aload_n 0, 1) := by decide +kernel
theorem dX1_autocorrelation_18 : decode cX1_autocorrelation 18 = .ok (.iload_n 1, 1) := by decide +kernel
theorem dX1_autocorrelation_19 : decode cX1_autocorrelation 19 = .ok (.iload_n 2, 1) := by decide +kernel
theorem dX1_autocorrelation_20 : decode cX1_autocorrelation 20 = .ok (.invokevirtual 46, 3) := by decide +kernel
theorem dX1_autocorrelation_23 : decode cX1_autocorrelation 23 = .ok (.imul, 1) := by decide +kernel
theorem dX1_autocorrelation_24 : decode cX1_autocorrelation 24 = .ok (.bipush 64, 2) := by decide +kernel
theorem dX1_autocorrelation_26 : decode cX1_autocorrelation 26 = .ok (.isub, 1) := by decide +kernel
theorem dX1_autocorrelation_27 : decode cX1_autocorrelation 27 = .ok (.goto 6, 3) := by decide +kernel
theorem dX1_autocorrelation_30 : decode cX1_autocorrelation 30 = .ok (.sipush (-1000), 3) := by decide +kernel
theorem dX1_autocorrelation_33 : decode cX1_autocorrelation 33 = .ok (.ireturn, 1) := by decide +kernel
theorem dX1_sames_0 : decode cX1_sames 0 = .ok (.iconst 0, 1) := by decide +kernel
theorem dX1_sames_1 : decode cX1_sames 1 = .ok (.istore_n 3, 1) := by decide +kernel
theorem dX1_sames_2 : decode cX1_sames 2 = .ok (.iconst 0, 1) := by decide +kernel
theorem dX1_sames_3 : decode cX1_sames 3 = .ok (.istore 4, 2) := by decide +kernel
theorem dX1_sames_5 : decode cX1_sames 5 = .ok (.iload 4, 2) := by decide +kernel
theorem dX1_sames_7 : decode cX1_sames 7 = .ok (.bipush 64, 2) := by decide +kernel
theorem dX1_sames_9 : decode cX1_sames 9 = .ok (.if_icmp .ge 46, 3) := by decide +kernel
theorem dX1_sames_12 : decode cX1_sames 12 = .ok (.aload_n 0, 1) := by decide +kernel
theorem dX1_sames_13 : decode cX1_sames 13 = .ok (.getfield 7, 3) := by decide +kernel
theorem dX1_sames_16 : decode cX1_sames 16 = .ok (.bipush 64, 2) := by decide +kernel
theorem dX1_sames_18 : decode cX1_sames 18 = .ok (.iload_n 1, 1) := by decide +kernel
theorem dX1_sames_19 : decode cX1_sames 19 = .ok (.imul, 1) := by decide +kernel
theorem dX1_sames_20 : decode cX1_sames 20 = .ok (.iload 4, 2) := by decide +kernel
theorem dX1_sames_22 : decode cX1_sames 22 = .ok (.iadd, 1) := by decide +kernel
theorem dX1_sames_23 : decode cX1_sames 23 = .ok (.iaload, 1) := by decide +kernel
theorem dX1_sames_24 : decode cX1_sames 24 = .ok (.aload_n 0, 1) := by decide +kernel
theorem dX1_sames_25 : decode cX1_sames 25 = .ok (.getfield 7, 3) := by decide +kernel
theorem dX1_sames_28 : decode cX1_sames 28 = .ok (.bipush 64, 2) := by decide +kernel
theorem dX1_sames_30 : decode cX1_sames 30 = .ok (.iload_n 1, 1) := by decide +kernel
theorem dX1_sames_31 : decode cX1_sames 31 = .ok (.imul, 1) := by decide +kernel
theorem dX1_sames_32 : decode cX1_sames 32 = .ok (.iload 4, 2) := by decide +kernel
theorem dX1_sames_34 : decode cX1_sames 34 = .ok (.iload_n 2, 1) := by decide +kernel
theorem dX1_sames_35 : decode cX1_sames 35 = .ok (.ixor, 1) := by decide +kernel
theorem dX1_sames_36 : decode cX1_sames 36 = .ok (.iadd, 1) := by decide +kernel
theorem dX1_sames_37 : decode cX1_sames 37 = .ok (.iaload, 1) := by decide +kernel
theorem dX1_sames_38 : decode cX1_sames 38 = .ok (.if_icmp .ne 9, 3) := by decide +kernel
theorem dX1_sames_41 : decode cX1_sames 41 = .ok (.iload_n 3, 1) := by decide +kernel
theorem dX1_sames_42 : decode cX1_sames 42 = .ok (.iconst 1, 1) := by decide +kernel
theorem dX1_sames_43 : decode cX1_sames 43 = .ok (.iadd, 1) := by decide +kernel
theorem dX1_sames_44 : decode cX1_sames 44 = .ok (.goto 4, 3) := by decide +kernel
theorem dX1_sames_47 : decode cX1_sames 47 = .ok (.iload_n 3, 1) := by decide +kernel
theorem dX1_sames_48 : decode cX1_sames 48 = .ok (.istore_n 3, 1) := by decide +kernel
theorem dX1_sames_49 : decode cX1_sames 49 = .ok (.iinc 4 1, 3) := by decide +kernel
theorem dX1_sames_52 : decode cX1_sames 52 = .ok (.goto (-47), 3) := by decide +kernel
theorem dX1_sames_55 : decode cX1_sames 55 = .ok (.iload_n 3, 1) := by decide +kernel
theorem dX1_sames_56 : decode cX1_sames 56 = .ok (.ireturn, 1) := by decide +kernel
theorem dX1_variables_0 : decode cX1_variables 0 = .ok (.aload_n 0, 1) := by decide +kernel
theorem dX1_variables_1 : decode cX1_variables 1 = .ok (.iload_n 1, 1) := by decide +kernel
theorem dX1_variables_2 : decode cX1_variables 2 = .ok (.invokevirtual 20, 3) := by decide +kernel
theorem dX1_variables_5 : decode cX1_variables 5 = .ok (.ifCond .ne 7, 3) := by decide +kernel
theorem dX1_variables_8 : decode cX1_variables 8 = .ok (.sipush (-1000), 3) := by decide +kernel
theorem dX1_variables_11 : decode cX1_variables 11 = .ok (.ireturn, 1) := by decide +kernel
theorem dX1_variables_12 : decode cX1_variables 12 = .ok (.iconst 0, 1) := by decide +kernel
theorem dX1_variables_13 : decode cX1_variables 13 = .ok (.istore_n 2, 1) := by decide +kernel
theorem dX1_variables_14 : decode cX1_variables 14 = .ok (.iconst 0, 1) := by decide +kernel
theorem dX1_variables_15 : decode cX1_variables 15 = .ok (.istore_n 3, 1) := by decide +kernel
theorem dX1_variables_16 : decode cX1_variables 16 = .ok (.iload_n 3, 1) := by decide +kernel
theorem dX1_variables_17 : decode cX1_variables 17 = .ok (.bipush 6, 2) := by decide +kernel
theorem dX1_variables_19 : decode cX1_variables 19 = .ok (.if_icmp .ge 32, 3) := by decide +kernel
theorem dX1_variables_22 : decode cX1_variables 22 = .ok (.aload_n 0, 1) := by decide +kernel
theorem dX1_variables_23 : decode cX1_variables 23 = .ok (.iload_n 1, 1) := by decide +kernel
theorem dX1_variables_24 : decode cX1_variables 24 = .ok (.iconst 1, 1) := by decide +kernel
theorem dX1_variables_25 : decode cX1_variables 25 = .ok (.iload_n 3, 1) := by decide +kernel
theorem dX1_variables_26 : decode cX1_variables 26 = .ok (.ishl, 1) := by decide +kernel
theorem dX1_variables_27 : decode cX1_variables 27 = .ok (.invokevirtual 46, 3) := by decide +kernel
theorem dX1_variables_30 : decode cX1_variables 30 = .ok (.bipush 64, 2) := by decide +kernel
theorem dX1_variables_32 : decode cX1_variables 32 = .ok (.if_icmp .ge 11, 3) := by decide +kernel
theorem dX1_variables_35 : decode cX1_variables 35 = .ok (.iload_n 2, 1) := by decide +kernel
theorem dX1_variables_36 : decode cX1_variables 36 = .ok (.iconst 1, 1) := by decide +kernel
theorem dX1_variables_37 : decode cX1_variables 37 = .ok (.iload_n 3, 1) := by decide +kernel
theorem dX1_variables_38 : decode cX1_variables 38 = .ok (.ishl, 1) := by decide +kernel
theorem dX1_variables_39 : decode cX1_variables 39 = .ok (.ior, 1) := by decide +kernel
theorem dX1_variables_40 : decode cX1_variables 40 = .ok (.goto 4, 3) := by decide +kernel
theorem dX1_variables_43 : decode cX1_variables 43 = .ok (.iload_n 2, 1) := by decide +kernel
theorem dX1_variables_44 : decode cX1_variables 44 = .ok (.istore_n 2, 1) := by decide +kernel
theorem dX1_variables_45 : decode cX1_variables 45 = .ok (.iinc 3 1, 3) := by decide +kernel
theorem dX1_variables_48 : decode cX1_variables 48 = .ok (.goto (-32), 3) := by decide +kernel
theorem dX1_variables_51 : decode cX1_variables 51 = .ok (.iload_n 2, 1) := by decide +kernel
theorem dX1_variables_52 : decode cX1_variables 52 = .ok (.ireturn, 1) := by decide +kernel
theorem dX1_structures_0 : decode cX1_structures 0 = .ok (.aload_n 0, 1) := by decide +kernel
theorem dX1_structures_1 : decode cX1_structures 1 = .ok (.iload_n 1, 1) := by decide +kernel
theorem dX1_structures_2 : decode cX1_structures 2 = .ok (.invokevirtual 20, 3) := by decide +kernel
theorem dX1_structures_5 : decode cX1_structures 5 = .ok (.ifCond .ne 7, 3) := by decide +kernel
theorem dX1_structures_8 : decode cX1_structures 8 = .ok (.sipush (-1000), 3) := by decide +kernel
theorem dX1_structures_11 : decode cX1_structures 11 = .ok (.ireturn, 1) := by decide +kernel
theorem dX1_structures_12 : decode cX1_structures 12 = .ok (.iconst 0, 1) := by decide +kernel
theorem dX1_structures_13 : decode cX1_structures 13 = .ok (.istore_n 2, 1) := by decide +kernel
theorem dX1_structures_14 : decode cX1_structures 14 = .ok (.iconst 0, 1) := by decide +kernel
theorem dX1_structures_15 : decode cX1_structures 15 = .ok (.istore_n 3, 1) := by decide +kernel
theorem dX1_structures_16 : decode cX1_structures 16 = .ok (.iload_n 3, 1) := by decide +kernel
theorem dX1_structures_17 : decode cX1_structures 17 = .ok (.bipush 64, 2) := by decide +kernel
theorem dX1_structures_19 : decode cX1_structures 19 = .ok (.if_icmp .ge 37, 3) := by decide +kernel
theorem dX1_structures_22 : decode cX1_structures 22 = .ok (.aload_n 0, 1) := by decide +kernel
theorem dX1_structures_23 : decode cX1_structures 23 = .ok (.iload_n 1, 1) := by decide +kernel
theorem dX1_structures_24 : decode cX1_structures 24 = .ok (.iload_n 3, 1) := by decide +kernel
theorem dX1_structures_25 : decode cX1_structures 25 = .ok (.invokevirtual 46, 3) := by decide +kernel
theorem dX1_structures_28 : decode cX1_structures 28 = .ok (.istore 4, 2) := by decide +kernel
theorem dX1_structures_30 : decode cX1_structures 30 = .ok (.iload 4, 2) := by decide +kernel
theorem dX1_structures_32 : decode cX1_structures 32 = .ok (.ifCond .eq 10, 3) := by decide +kernel
theorem dX1_structures_35 : decode cX1_structures 35 = .ok (.iload 4, 2) := by decide +kernel
theorem dX1_structures_37 : decode cX1_structures 37 = .ok (.bipush 64, 2) := by decide +kernel
theorem dX1_structures_39 : decode cX1_structures 39 = .ok (.if_icmp .ne 9, 3) := by decide +kernel
theorem dX1_structures_42 : decode cX1_structures 42 = .ok (.iload_n 2, 1) := by decide +kernel
theorem dX1_structures_43 : decode cX1_structures 43 = .ok (.iconst 1, 1) := by decide +kernel
theorem dX1_structures_44 : decode cX1_structures 44 = .ok (.iadd, 1) := by decide +kernel
theorem dX1_structures_45 : decode cX1_structures 45 = .ok (.goto 4, 3) := by decide +kernel
theorem dX1_structures_48 : decode cX1_structures 48 = .ok (.iload_n 2, 1) := by decide +kernel
theorem dX1_structures_49 : decode cX1_structures 49 = .ok (.istore_n 2, 1) := by decide +kernel
theorem dX1_structures_50 : decode cX1_structures 50 = .ok (.iinc 3 1, 3) := by decide +kernel
theorem dX1_structures_53 : decode cX1_structures 53 = .ok (.goto (-37), 3) := by decide +kernel
theorem dX1_structures_56 : decode cX1_structures 56 = .ok (.iload_n 2, 1) := by decide +kernel
theorem dX1_structures_57 : decode cX1_structures 57 = .ok (.ireturn, 1) := by decide +kernel
theorem dX1_shifted_0 : decode cX1_shifted 0 = .ok (.aload_n 0, 1) := by decide +kernel
theorem dX1_shifted_1 : decode cX1_shifted 1 = .ok (.iload_n 1, 1) := by decide +kernel
theorem dX1_shifted_2 : decode cX1_shifted 2 = .ok (.invokevirtual 20, 3) := by decide +kernel
theorem dX1_shifted_5 : decode cX1_shifted 5 = .ok (.ifCond .eq 11, 3) := by decide +kernel
theorem dX1_shifted_8 : decode cX1_shifted 8 = .ok (.aload_n 0, 1) := by decide +kernel
theorem dX1_shifted_9 : decode cX1_shifted 9 = .ok (.iload_n 2, 1) := by decide +kernel
theorem dX1_shifted_10 : decode cX1_shifted 10 = .ok (.invokevirtual 20, 3) := by decide +kernel
theorem dX1_shifted_13 : decode cX1_shifted 13 = .ok (.ifCond .ne 5, 3) := by decide +kernel
theorem dX1_shifted_16 : decode cX1_shifted 16 = .ok (.iconst 0, 1) := by decide +kernel
theorem dX1_shifted_17 : decode cX1_shifted 17 = .ok (.ireturn, 1) := by decide +kernel
theorem dX1_shifted_18 : decode cX1_shifted 18 = .ok (.iconst 0, 1) := by decide +kernel
theorem dX1_shifted_19 : decode cX1_shifted 19 = .ok (.istore_n 3, 1) := by decide +kernel
theorem dX1_shifted_20 : decode cX1_shifted 20 = .ok (.iload_n 3, 1) := by decide +kernel
theorem dX1_shifted_21 : decode cX1_shifted 21 = .ok (.sipush 4096, 3) := by decide +kernel
theorem dX1_shifted_24 : decode cX1_shifted 24 = .ok (.if_icmp .ge 28, 3) := by decide +kernel
theorem dX1_shifted_27 : decode cX1_shifted 27 = .ok (.aload_n 0, 1) := by decide +kernel
theorem dX1_shifted_28 : decode cX1_shifted 28 = .ok (.iload_n 1, 1) := by decide +kernel
theorem dX1_shifted_29 : decode cX1_shifted 29 = .ok (.iload_n 2, 1) := by decide +kernel
theorem dX1_shifted_30 : decode cX1_shifted 30 = .ok (.iload_n 3, 1) := by decide +kernel
theorem dX1_shifted_31 : decode cX1_shifted 31 = .ok (.bipush 64, 2) := by decide +kernel
theorem dX1_shifted_33 : decode cX1_shifted 33 = .ok (.idiv, 1) := by decide +kernel
theorem dX1_shifted_34 : decode cX1_shifted 34 = .ok (.iload_n 3, 1) := by decide +kernel
theorem dX1_shifted_35 : decode cX1_shifted 35 = .ok (.bipush 64, 2) := by decide +kernel
theorem dX1_shifted_37 : decode cX1_shifted 37 = .ok (.irem, 1) := by decide +kernel
theorem dX1_shifted_38 : decode cX1_shifted 38 = .ok (.invokevirtual 49, 3) := by decide +kernel
theorem dX1_shifted_41 : decode cX1_shifted 41 = .ok (.ifCond .eq 5, 3) := by decide +kernel
theorem dX1_shifted_44 : decode cX1_shifted 44 = .ok (.iconst 1, 1) := by decide +kernel
theorem dX1_shifted_45 : decode cX1_shifted 45 = .ok (.ireturn, 1) := by decide +kernel
theorem dX1_shifted_46 : decode cX1_shifted 46 = .ok (.iinc 3 1, 3) := by decide +kernel
theorem dX1_shifted_49 : decode cX1_shifted 49 = .ok (.goto (-29), 3) := by decide +kernel
theorem dX1_shifted_52 : decode cX1_shifted 52 = .ok (.iconst 0, 1) := by decide +kernel
theorem dX1_shifted_53 : decode cX1_shifted 53 = .ok (.ireturn, 1) := by decide +kernel
theorem dX1_comesBy_0 : decode cX1_comesBy 0 = .ok (.iconst 0, 1) := by decide +kernel
theorem dX1_comesBy_1 : decode cX1_comesBy 1 = .ok (.istore 5, 2) := by decide +kernel
theorem dX1_comesBy_3 : decode cX1_comesBy 3 = .ok (.iload 5, 2) := by decide +kernel
theorem dX1_comesBy_5 : decode cX1_comesBy 5 = .ok (.bipush 64, 2) := by decide +kernel
theorem dX1_comesBy_7 : decode cX1_comesBy 7 = .ok (.if_icmp .ge 49, 3) := by decide +kernel
theorem dX1_comesBy_10 : decode cX1_comesBy 10 = .ok (.aload_n 0, 1) := by decide +kernel
theorem dX1_comesBy_11 : decode cX1_comesBy 11 = .ok (.getfield 7, 3) := by decide +kernel
theorem dX1_comesBy_14 : decode cX1_comesBy 14 = .ok (.bipush 64, 2) := by decide +kernel
theorem dX1_comesBy_16 : decode cX1_comesBy 16 = .ok (.iload_n 1, 1) := by decide +kernel
theorem dX1_comesBy_17 : decode cX1_comesBy 17 = .ok (.imul, 1) := by decide +kernel
theorem dX1_comesBy_18 : decode cX1_comesBy 18 = .ok (.iload 5, 2) := by decide +kernel
theorem dX1_comesBy_20 : decode cX1_comesBy 20 = .ok (.iadd, 1) := by decide +kernel
theorem dX1_comesBy_21 : decode cX1_comesBy 21 = .ok (.iaload, 1) := by decide +kernel
theorem dX1_comesBy_22 : decode cX1_comesBy 22 = .ok (.aload_n 0, 1) := by decide +kernel
theorem dX1_comesBy_23 : decode cX1_comesBy 23 = .ok (.getfield 7, 3) := by decide +kernel
theorem dX1_comesBy_26 : decode cX1_comesBy 26 = .ok (.bipush 64, 2) := by decide +kernel
theorem dX1_comesBy_28 : decode cX1_comesBy 28 = .ok (.iload_n 2, 1) := by decide +kernel
theorem dX1_comesBy_29 : decode cX1_comesBy 29 = .ok (.imul, 1) := by decide +kernel
theorem dX1_comesBy_30 : decode cX1_comesBy 30 = .ok (.iload 5, 2) := by decide +kernel
theorem dX1_comesBy_32 : decode cX1_comesBy 32 = .ok (.iload_n 3, 1) := by decide +kernel
theorem dX1_comesBy_33 : decode cX1_comesBy 33 = .ok (.ixor, 1) := by decide +kernel
theorem dX1_comesBy_34 : decode cX1_comesBy 34 = .ok (.iadd, 1) := by decide +kernel
theorem dX1_comesBy_35 : decode cX1_comesBy 35 = .ok (.iaload, 1) := by decide +kernel
theorem dX1_comesBy_36 : decode cX1_comesBy 36 = .ok (.aload_n 0, 1) := by decide +kernel
theorem dX1_comesBy_37 : decode cX1_comesBy 37 = .ok (.iload 4, 2) := by decide +kernel
theorem dX1_comesBy_39 : decode cX1_comesBy 39 = .ok (.iload 5, 2) := by decide +kernel
theorem dX1_comesBy_41 : decode cX1_comesBy 41 = .ok (.invokevirtual 33, 3) := by decide +kernel
theorem dX1_comesBy_44 : decode cX1_comesBy 44 = .ok (.ixor, 1) := by decide +kernel
theorem dX1_comesBy_45 : decode cX1_comesBy 45 = .ok (.if_icmp .eq 5, 3) := by decide +kernel
theorem dX1_comesBy_48 : decode cX1_comesBy 48 = .ok (.iconst 0, 1) := by decide +kernel
theorem dX1_comesBy_49 : decode cX1_comesBy 49 = .ok (.ireturn, 1) := by decide +kernel
theorem dX1_comesBy_50 : decode cX1_comesBy 50 = .ok (.iinc 5 1, 3) := by decide +kernel
theorem dX1_comesBy_53 : decode cX1_comesBy 53 = .ok (.goto (-50), 3) := by decide +kernel
theorem dX1_comesBy_56 : decode cX1_comesBy 56 = .ok (.iconst 1, 1) := by decide +kernel
theorem dX1_comesBy_57 : decode cX1_comesBy 57 = .ok (.ireturn, 1) := by decide +kernel
end
section
set_option maxRecDepth 100000
/-! java/lang/Object -/
def RJ0 : String := "java/lang/Object"
abbrev cJ0_init : ByteArray := object_method_1_code
def yJ0_init : MethodName := ⟨RJ0, "<init>", "()V"⟩
theorem dJ0_init_0 : decode cJ0_init 0 = .ok (.return_, 1) := by decide +kernel
theorem q33 : (Jvm.Cond.instanceMethod ({ cls := "java/lang/Object", name := "<init>", desc := "()V" } : Jvm.MethodName)) ∈ lw_all := lw_g (lw_at lw_m1 9 rfl) rfl
theorem q34 : (Jvm.Cond.code ({ cls := "java/lang/Object", name := "<init>", desc := "()V" } : Jvm.MethodName) object_method_1_code (1 : Nat) (Option.none : Option Jvm.ClassFile.FieldType)) ∈ lw_all := lw_g (lw_at lw_m1 10 rfl) rfl
theorem q51 : (Jvm.Cond.arrayClass Jvm.ClassFile.FieldType.long) ∈ lw_all := lw_g (lw_at lw_m1 27 rfl) rfl
theorem q52 : (Jvm.Cond.arrayClass Jvm.ClassFile.FieldType.int) ∈ lw_all := lw_g (lw_at lw_m1 28 rfl) rfl
theorem q24 : (Jvm.Cond.initialized "TruthSpectrumLaw") ∈ lw_all := lw_g (lw_at lw_m1 0 rfl) rfl
theorem q27 : (Jvm.Cond.classLink "TruthSpectrumLaw" (7 : Nat) "TruthSpectrum") ∈ lw_all := lw_g (lw_at lw_m1 3 rfl) rfl
theorem q29 : (Jvm.Cond.methodLink "TruthSpectrumLaw" (9 : Nat) ({ cls := "TruthSpectrum", name := "<init>", desc := "()V" } : Jvm.MethodName)) ∈ lw_all := lw_g (lw_at lw_m1 5 rfl) rfl
theorem q53 : (Jvm.Cond.methodLink "TruthSpectrumLaw" (13 : Nat) ({ cls := "TruthSpectrum", name := "put", desc := "(III)I" } : Jvm.MethodName)) ∈ lw_all := lw_g (lw_at lw_m1 29 rfl) rfl
theorem q69 : (Jvm.Cond.methodLink "TruthSpectrumLaw" (18 : Nat) ({ cls := "TruthSpectrum", name := "turnForm", desc := "(II)I" } : Jvm.MethodName)) ∈ lw_all := lw_g (lw_at lw_m1 45 rfl) rfl
theorem q82 : (Jvm.Cond.methodLink "TruthSpectrumLaw" (23 : Nat) ({ cls := "TruthSpectrum", name := "combine", desc := "(IIII)I" } : Jvm.MethodName)) ∈ lw_all := lw_g (lw_at lw_m1 58 rfl) rfl
theorem q87 : (Jvm.Cond.methodLink "TruthSpectrumLaw" (28 : Nat) ({ cls := "TruthSpectrum", name := "shift", desc := "(IIII)I" } : Jvm.MethodName)) ∈ lw_all := lw_g (lw_at lw_m1 63 rfl) rfl
theorem q99 : (Jvm.Cond.methodLink "TruthSpectrumLaw" (32 : Nat) ({ cls := "TruthSpectrum", name := "value", desc := "(II)I" } : Jvm.MethodName)) ∈ lw_all := lw_g (lw_at lw_m1 75 rfl) rfl
theorem q103 : (Jvm.Cond.methodLink "TruthSpectrumLaw" (36 : Nat) ({ cls := "TruthSpectrum", name := "ones", desc := "(I)I" } : Jvm.MethodName)) ∈ lw_all := lw_g (lw_at lw_m1 79 rfl) rfl
theorem q107 : (Jvm.Cond.methodLink "TruthSpectrumLaw" (41 : Nat) ({ cls := "TruthSpectrum", name := "form", desc := "(II)I" } : Jvm.MethodName)) ∈ lw_all := lw_g (lw_at lw_m1 83 rfl) rfl
theorem q111 : (Jvm.Cond.methodLink "TruthSpectrumLaw" (45 : Nat) ({ cls := "TruthSpectrum", name := "degree", desc := "(I)I" } : Jvm.MethodName)) ∈ lw_all := lw_g (lw_at lw_m1 87 rfl) rfl
theorem q119 : (Jvm.Cond.methodLink "TruthSpectrumLaw" (49 : Nat) ({ cls := "TruthSpectrum", name := "spectrum", desc := "(II)I" } : Jvm.MethodName)) ∈ lw_all := lw_g (lw_at lw_m1 95 rfl) rfl
theorem q131 : (Jvm.Cond.methodLink "TruthSpectrumLaw" (53 : Nat) ({ cls := "TruthSpectrum", name := "distance", desc := "(I)I" } : Jvm.MethodName)) ∈ lw_all := lw_g (lw_at lw_m1 107 rfl) rfl
theorem q143 : (Jvm.Cond.methodLink "TruthSpectrumLaw" (57 : Nat) ({ cls := "TruthSpectrum", name := "nearest", desc := "(I)I" } : Jvm.MethodName)) ∈ lw_all := lw_g (lw_at lw_m1 119 rfl) rfl
theorem q147 : (Jvm.Cond.methodLink "TruthSpectrumLaw" (61 : Nat) ({ cls := "TruthSpectrum", name := "immunity", desc := "(I)I" } : Jvm.MethodName)) ∈ lw_all := lw_g (lw_at lw_m1 123 rfl) rfl
theorem q151 : (Jvm.Cond.methodLink "TruthSpectrumLaw" (65 : Nat) ({ cls := "TruthSpectrum", name := "autocorrelation", desc := "(II)I" } : Jvm.MethodName)) ∈ lw_all := lw_g (lw_at lw_m1 127 rfl) rfl
theorem q159 : (Jvm.Cond.methodLink "TruthSpectrumLaw" (69 : Nat) ({ cls := "TruthSpectrum", name := "variables", desc := "(I)I" } : Jvm.MethodName)) ∈ lw_all := lw_g (lw_at lw_m1 135 rfl) rfl
theorem q163 : (Jvm.Cond.methodLink "TruthSpectrumLaw" (73 : Nat) ({ cls := "TruthSpectrum", name := "structures", desc := "(I)I" } : Jvm.MethodName)) ∈ lw_all := lw_g (lw_at lw_m1 139 rfl) rfl
theorem q167 : (Jvm.Cond.methodLink "TruthSpectrumLaw" (77 : Nat) ({ cls := "TruthSpectrum", name := "shifted", desc := "(II)Z" } : Jvm.MethodName)) ∈ lw_all := lw_g (lw_at lw_m1 143 rfl) rfl
theorem q171 : (Jvm.Cond.classLink "TruthSpectrumLaw" (10 : Nat) "TruthSpectrumModel") ∈ lw_all := lw_g (lw_at lw_m1 147 rfl) rfl
theorem q173 : (Jvm.Cond.methodLink "TruthSpectrumLaw" (12 : Nat) ({ cls := "TruthSpectrumModel", name := "<init>", desc := "()V" } : Jvm.MethodName)) ∈ lw_all := lw_g (lw_at lw_m1 149 rfl) rfl
theorem q184 : (Jvm.Cond.methodLink "TruthSpectrumLaw" (17 : Nat) ({ cls := "TruthSpectrumModel", name := "put", desc := "(III)I" } : Jvm.MethodName)) ∈ lw_all := lw_g (lw_at lw_m1 160 rfl) rfl
theorem q196 : (Jvm.Cond.methodLink "TruthSpectrumLaw" (22 : Nat) ({ cls := "TruthSpectrumModel", name := "turnForm", desc := "(II)I" } : Jvm.MethodName)) ∈ lw_all := lw_g (lw_at lw_m1 172 rfl) rfl
theorem q204 : (Jvm.Cond.methodLink "TruthSpectrumLaw" (27 : Nat) ({ cls := "TruthSpectrumModel", name := "combine", desc := "(IIII)I" } : Jvm.MethodName)) ∈ lw_all := lw_g (lw_at lw_m1 180 rfl) rfl
theorem q212 : (Jvm.Cond.methodLink "TruthSpectrumLaw" (31 : Nat) ({ cls := "TruthSpectrumModel", name := "shift", desc := "(IIII)I" } : Jvm.MethodName)) ∈ lw_all := lw_g (lw_at lw_m1 188 rfl) rfl
theorem q224 : (Jvm.Cond.methodLink "TruthSpectrumLaw" (35 : Nat) ({ cls := "TruthSpectrumModel", name := "value", desc := "(II)I" } : Jvm.MethodName)) ∈ lw_all := lw_g (lw_at lw_m1 200 rfl) rfl
theorem q228 : (Jvm.Cond.methodLink "TruthSpectrumLaw" (40 : Nat) ({ cls := "TruthSpectrumModel", name := "ones", desc := "(I)I" } : Jvm.MethodName)) ∈ lw_all := lw_g (lw_at lw_m1 204 rfl) rfl
theorem q232 : (Jvm.Cond.methodLink "TruthSpectrumLaw" (44 : Nat) ({ cls := "TruthSpectrumModel", name := "form", desc := "(II)I" } : Jvm.MethodName)) ∈ lw_all := lw_g (lw_at lw_m1 208 rfl) rfl
theorem q240 : (Jvm.Cond.methodLink "TruthSpectrumLaw" (48 : Nat) ({ cls := "TruthSpectrumModel", name := "degree", desc := "(I)I" } : Jvm.MethodName)) ∈ lw_all := lw_g (lw_at lw_m1 216 rfl) rfl
theorem q244 : (Jvm.Cond.methodLink "TruthSpectrumLaw" (52 : Nat) ({ cls := "TruthSpectrumModel", name := "spectrum", desc := "(II)I" } : Jvm.MethodName)) ∈ lw_all := lw_g (lw_at lw_m1 220 rfl) rfl
theorem q252 : (Jvm.Cond.methodLink "TruthSpectrumLaw" (56 : Nat) ({ cls := "TruthSpectrumModel", name := "distance", desc := "(I)I" } : Jvm.MethodName)) ∈ lw_all := lw_g (lw_at lw_m1 228 rfl) rfl
theorem q260 : (Jvm.Cond.methodLink "TruthSpectrumLaw" (60 : Nat) ({ cls := "TruthSpectrumModel", name := "nearest", desc := "(I)I" } : Jvm.MethodName)) ∈ lw_all := lw_g (lw_at lw_m1 236 rfl) rfl
theorem q264 : (Jvm.Cond.methodLink "TruthSpectrumLaw" (64 : Nat) ({ cls := "TruthSpectrumModel", name := "immunity", desc := "(I)I" } : Jvm.MethodName)) ∈ lw_all := lw_g (lw_at lw_m2 0 rfl) rfl
theorem q268 : (Jvm.Cond.methodLink "TruthSpectrumLaw" (68 : Nat) ({ cls := "TruthSpectrumModel", name := "autocorrelation", desc := "(II)I" } : Jvm.MethodName)) ∈ lw_all := lw_g (lw_at lw_m2 4 rfl) rfl
theorem q276 : (Jvm.Cond.methodLink "TruthSpectrumLaw" (72 : Nat) ({ cls := "TruthSpectrumModel", name := "variables", desc := "(I)I" } : Jvm.MethodName)) ∈ lw_all := lw_g (lw_at lw_m2 12 rfl) rfl
theorem q280 : (Jvm.Cond.methodLink "TruthSpectrumLaw" (76 : Nat) ({ cls := "TruthSpectrumModel", name := "structures", desc := "(I)I" } : Jvm.MethodName)) ∈ lw_all := lw_g (lw_at lw_m2 16 rfl) rfl
theorem q284 : (Jvm.Cond.methodLink "TruthSpectrumLaw" (81 : Nat) ({ cls := "TruthSpectrumModel", name := "shifted", desc := "(II)Z" } : Jvm.MethodName)) ∈ lw_all := lw_g (lw_at lw_m2 20 rfl) rfl
end
section
/-! what the methods compute, as plain functions that mirror the code: tc_ the class, tm_ the reference -/
set_option maxRecDepth 100000
def tc_low : Nat → Int64 := fun k => match k with
  | 0 => 6148914691236517205
  | 1 => 3689348814741910323
  | 2 => 1085102592571150095
  | 3 => 71777214294589695
  | 4 => 281470681808895
  | 5 => 4294967295
  | _ => 0
def tc_ushr (x : Int64) (y : Int32) : Int64 := (x.toUInt64 >>> (y.toInt64.toUInt64 &&& Int64.toUInt64 63)).toInt64
def tc_shl (x : Int64) (y : Int32) : Int64 := x <<< (y.toInt64 &&& 63)
def tc_dg (w : Int64) (x : Int32) : Int32 := (tc_ushr w x &&& (1 : Int64)).toInt32
def tc_oa (w : Int64) : Int64 := w - (tc_ushr w (1 : Int32) &&& tc_low (0 : Int32).toNatClampNeg)
def tc_ob (a : Int64) : Int64 := (a &&& tc_low (1 : Int32).toNatClampNeg) + (tc_ushr a (2 : Int32) &&& tc_low (1 : Int32).toNatClampNeg)
def tc_oc (b : Int64) : Int64 := (b + tc_ushr b (4 : Int32)) &&& tc_low (2 : Int32).toNatClampNeg
def tc_ones (w : Int64) : Int32 := (tc_ushr (tc_oc (tc_ob (tc_oa w)) * (72340172838076673 : Int64)) (56 : Int32)).toInt32
def tc_sz (x : Int32) : Nat → Int32
  | 0 => 0
  | i + 1 => tc_sz x i + ((x >>> (nI i &&& 31)) &&& (1 : Int32))
theorem tc_sz_s (x : Int32) (i : Nat) : tc_sz x (i + 1) = tc_sz x i + ((x >>> (nI i &&& 31)) &&& (1 : Int32)) := rfl
def tc_tr (w : Int64) : Nat → Int64
  | 0 => w
  | i + 1 => tc_tr w i ^^^ tc_shl (tc_tr w i &&& tc_low (nI i).toNatClampNeg) ((1 : Int32) <<< (nI i &&& 31))
theorem tc_tr_s (w : Int64) (i : Nat) : tc_tr w (i + 1) = tc_tr w i ^^^ tc_shl (tc_tr w i &&& tc_low (nI i).toNatClampNeg) ((1 : Int32) <<< (nI i &&& 31)) := rfl
def tc_mv (w : Int64) (a : Int32) : Nat → Int64
  | 0 => w
  | i + 1 => if ((a >>> (nI i &&& 31)) &&& (1 : Int32)) = 1 then tc_shl (tc_mv w a i &&& tc_low (nI i).toNatClampNeg) ((1 : Int32) <<< (nI i &&& 31)) ||| (tc_ushr (tc_mv w a i) ((1 : Int32) <<< (nI i &&& 31)) &&& tc_low (nI i).toNatClampNeg) else tc_mv w a i
theorem tc_mv_s (w : Int64) (a : Int32) (i : Nat) : tc_mv w a (i + 1) = if ((a >>> (nI i &&& 31)) &&& (1 : Int32)) = 1 then tc_shl (tc_mv w a i &&& tc_low (nI i).toNatClampNeg) ((1 : Int32) <<< (nI i &&& 31)) ||| (tc_ushr (tc_mv w a i) ((1 : Int32) <<< (nI i &&& 31)) &&& tc_low (nI i).toNatClampNeg) else tc_mv w a i := rfl
def tc_ln (b : Int32) : Nat → Int64
  | 0 => 0
  | i + 1 => if ((b >>> (nI i &&& 31)) &&& (1 : Int32)) = 1 then tc_ln b i ^^^ (tc_low (nI i).toNatClampNeg ^^^ (-1 : Int64)) else tc_ln b i
theorem tc_ln_s (b : Int32) (i : Nat) : tc_ln b (i + 1) = if ((b >>> (nI i &&& 31)) &&& (1 : Int32)) = 1 then tc_ln b i ^^^ (tc_low (nI i).toNatClampNeg ^^^ (-1 : Int64)) else tc_ln b i := rfl
def tc_put (f : Nat → Int64) (t x v : Int32) : Nat → Int64 := if tc_dg (f t.toNatClampNeg) x = v then f else vp_updL f t.toNatClampNeg (f t.toNatClampNeg ^^^ tc_shl (1 : Int64) x)
def tc_turn (f : Nat → Int64) (t u : Int32) : Nat → Int64 := vp_updL f t.toNatClampNeg (f t.toNatClampNeg ^^^ tc_tr (tc_shl (1 : Int64) u) 6)
def tc_cop (op : Int32) (x y : Int64) : Int64 := if op = 0 then x ^^^ y else if op = 1 then x &&& y else if op = 2 then x ||| y else (x ^^^ y) ^^^ (-1 : Int64)
def tc_comb (f : Nat → Int64) (t op r s : Int32) : Nat → Int64 := vp_updL f t.toNatClampNeg (tc_cop op (f r.toNatClampNeg) (f s.toNatClampNeg))
def tc_shift (f : Nat → Int64) (t r a b : Int32) : Nat → Int64 := vp_updL f t.toNatClampNeg (tc_mv (f r.toNatClampNeg) a 6 ^^^ tc_ln b 6)
def tc_deg (v : Int64) : Nat → Int32
  | 0 => 0
  | i + 1 => if tc_dg v (nI i) = 1 then (if tc_sz (nI i) 6 ≤ tc_deg v i then tc_deg v i else tc_sz (nI i) 6) else tc_deg v i
theorem tc_deg_s (v : Int64) (i : Nat) : tc_deg v (i + 1) = if tc_dg v (nI i) = 1 then (if tc_sz (nI i) 6 ≤ tc_deg v i then tc_deg v i else tc_sz (nI i) 6) else tc_deg v i := rfl
/-- one stage of 'spread': digit i, x points gone through -/
def tc_sp1 (i : Nat) (g : Nat → Int32) : Nat → (Nat → Int32)
  | 0 => g
  | x + 1 => if ((nI x >>> (nI i &&& 31)) &&& (1 : Int32)) = 0 then upd (upd (tc_sp1 i g x) (nI x).toNatClampNeg (tc_sp1 i g x (nI x).toNatClampNeg + tc_sp1 i g x (nI x + ((1 : Int32) <<< (nI i &&& 31))).toNatClampNeg)) (nI x + ((1 : Int32) <<< (nI i &&& 31))).toNatClampNeg (tc_sp1 i g x (nI x).toNatClampNeg - tc_sp1 i g x (nI x + ((1 : Int32) <<< (nI i &&& 31))).toNatClampNeg) else tc_sp1 i g x
theorem tc_sp1_s (i : Nat) (g : Nat → Int32) (x : Nat) : tc_sp1 i g (x + 1) = if ((nI x >>> (nI i &&& 31)) &&& (1 : Int32)) = 0 then upd (upd (tc_sp1 i g x) (nI x).toNatClampNeg (tc_sp1 i g x (nI x).toNatClampNeg + tc_sp1 i g x (nI x + ((1 : Int32) <<< (nI i &&& 31))).toNatClampNeg)) (nI x + ((1 : Int32) <<< (nI i &&& 31))).toNatClampNeg (tc_sp1 i g x (nI x).toNatClampNeg - tc_sp1 i g x (nI x + ((1 : Int32) <<< (nI i &&& 31))).toNatClampNeg) else tc_sp1 i g x := rfl
def tc_sp (g : Nat → Int32) : Nat → (Nat → Int32)
  | 0 => g
  | i + 1 => tc_sp1 i (tc_sp g i) 64
theorem tc_sp_s (g : Nat → Int32) (i : Nat) : tc_sp g (i + 1) = tc_sp1 i (tc_sp g i) 64 := rfl
def tc_fi (w : Int64) (g : Nat → Int32) : Nat → (Nat → Int32)
  | 0 => g
  | x + 1 => upd (tc_fi w g x) (nI x).toNatClampNeg ((1 : Int32) - ((2 : Int32) * tc_dg w (nI x)))
theorem tc_fi_s (w : Int64) (g : Nat → Int32) (x : Nat) : tc_fi w g (x + 1) = upd (tc_fi w g x) (nI x).toNatClampNeg ((1 : Int32) - ((2 : Int32) * tc_dg w (nI x))) := rfl
def tc_spec (w : Int64) (g : Nat → Int32) : Nat → Int32 := tc_sp (tc_fi w g 64) 6
def tc_mag (v : Int32) : Int32 := if 0 ≤ v then v else -v
def tc_pk (g : Nat → Int32) : Nat → Int32
  | 0 => 0
  | i + 1 => if tc_mag (g (nI (i + 1)).toNatClampNeg) ≤ tc_mag (g (tc_pk g i).toNatClampNeg) then tc_pk g i else nI (i + 1)
theorem tc_pk_s (g : Nat → Int32) (i : Nat) : tc_pk g (i + 1) = if tc_mag (g (nI (i + 1)).toNatClampNeg) ≤ tc_mag (g (tc_pk g i).toNatClampNeg) then tc_pk g i else nI (i + 1) := rfl
def tc_im (g : Nat → Int32) : Nat → Int32
  | 0 => 7
  | i + 1 => if g (nI (i + 1)).toNatClampNeg = 0 then tc_im g i else (if tc_im g i ≤ tc_sz (nI (i + 1)) 6 then tc_im g i else tc_sz (nI (i + 1)) 6)
theorem tc_im_s (g : Nat → Int32) (i : Nat) : tc_im g (i + 1) = if g (nI (i + 1)).toNatClampNeg = 0 then tc_im g i else (if tc_im g i ≤ tc_sz (nI (i + 1)) 6 then tc_im g i else tc_sz (nI (i + 1)) 6) := rfl
def tc_sq (g : Nat → Int32) : Nat → (Nat → Int32)
  | 0 => g
  | i + 1 => upd (tc_sq g i) (nI i).toNatClampNeg (tc_sq g i (nI i).toNatClampNeg * tc_sq g i (nI i).toNatClampNeg)
theorem tc_sq_s (g : Nat → Int32) (i : Nat) : tc_sq g (i + 1) = upd (tc_sq g i) (nI i).toNatClampNeg (tc_sq g i (nI i).toNatClampNeg * tc_sq g i (nI i).toNatClampNeg) := rfl
def tc_dv (g : Nat → Int32) : Nat → (Nat → Int32)
  | 0 => g
  | i + 1 => upd (tc_dv g i) (nI i).toNatClampNeg (tc_dv g i (nI i).toNatClampNeg / (64 : Int32))
theorem tc_dv_s (g : Nat → Int32) (i : Nat) : tc_dv g (i + 1) = upd (tc_dv g i) (nI i).toNatClampNeg (tc_dv g i (nI i).toNatClampNeg / (64 : Int32)) := rfl
def tc_cor (w : Int64) (g : Nat → Int32) : Nat → Int32 := tc_dv (tc_sp (tc_sq (tc_spec w g) 64) 6) 64
def tc_va (w : Int64) : Nat → Int32
  | 0 => 0
  | i + 1 => if lg_cmp (tc_mv w ((1 : Int32) <<< (nI i &&& 31)) 6) w = 0 then tc_va w i else tc_va w i ||| ((1 : Int32) <<< (nI i &&& 31))
theorem tc_va_s (w : Int64) (i : Nat) : tc_va w (i + 1) = if lg_cmp (tc_mv w ((1 : Int32) <<< (nI i &&& 31)) 6) w = 0 then tc_va w i else tc_va w i ||| ((1 : Int32) <<< (nI i &&& 31)) := rfl
def tc_st (g : Nat → Int32) : Nat → Int32
  | 0 => 0
  | i + 1 => if tc_mag (g (nI i).toNatClampNeg) = 64 then tc_st g i + (1 : Int32) else tc_st g i
theorem tc_st_s (g : Nat → Int32) (i : Nat) : tc_st g (i + 1) = if tc_mag (g (nI i).toNatClampNeg) = 64 then tc_st g i + (1 : Int32) else tc_st g i := rfl
def tc_sb (v : Int64) : Nat → Int32
  | 0 => 0
  | i + 1 => tc_sb v i ||| (tc_dg v ((1 : Int32) <<< (nI i &&& 31)) <<< (nI i &&& 31))
theorem tc_sb_s (v : Int64) (i : Nat) : tc_sb v (i + 1) = tc_sb v i ||| (tc_dg v ((1 : Int32) <<< (nI i &&& 31)) <<< (nI i &&& 31)) := rfl
/-- shifted: moving v by a differs from w by the table of some b.x, with that b read from the variables' points -/
def tc_hit (w v : Int64) (a : Nat) : Prop := lg_cmp (tc_mv v (nI a) 6 ^^^ w) (tc_ln (tc_sb (tc_mv v (nI a) 6 ^^^ w) 6) 6) = 0
-- the reference
def tm_pr (a x : Int32) : Int32 := tc_sz (a &&& x) 6 &&& (1 : Int32)
def tm_co (a : Nat → Int32) (t : Int32) : Nat → Int32
  | 0 => 0
  | i + 1 => tm_co a t i + a (((64 : Int32) * t) + nI i).toNatClampNeg
theorem tm_co_s (a : Nat → Int32) (t : Int32) (i : Nat) : tm_co a t (i + 1) = tm_co a t i + a (((64 : Int32) * t) + nI i).toNatClampNeg := rfl
def tm_tf (a : Nat → Int32) (t u : Int32) : Nat → (Nat → Int32)
  | 0 => a
  | i + 1 => upd (tm_tf a t u i) (((64 : Int32) * t) + nI i).toNatClampNeg (if (u &&& (nI i ^^^ (-1 : Int32))) = 0 then (1 : Int32) - tm_tf a t u i (((64 : Int32) * t) + nI i).toNatClampNeg else tm_tf a t u i (((64 : Int32) * t) + nI i).toNatClampNeg)
theorem tm_tf_s (a : Nat → Int32) (t u : Int32) (i : Nat) : tm_tf a t u (i + 1) = upd (tm_tf a t u i) (((64 : Int32) * t) + nI i).toNatClampNeg (if (u &&& (nI i ^^^ (-1 : Int32))) = 0 then (1 : Int32) - tm_tf a t u i (((64 : Int32) * t) + nI i).toNatClampNeg else tm_tf a t u i (((64 : Int32) * t) + nI i).toNatClampNeg) := rfl
def tm_tk (a b : Nat → Int32) (t : Int32) : Nat → (Nat → Int32)
  | 0 => a
  | i + 1 => upd (tm_tk a b t i) (((64 : Int32) * t) + nI i).toNatClampNeg (b (nI i).toNatClampNeg)
theorem tm_tk_s (a b : Nat → Int32) (t : Int32) (i : Nat) : tm_tk a b t (i + 1) = upd (tm_tk a b t i) (((64 : Int32) * t) + nI i).toNatClampNeg (b (nI i).toNatClampNeg) := rfl
def tm_cop (op x y : Int32) : Int32 := if op = 0 then x ^^^ y else if op = 1 then x &&& y else if op = 2 then x ||| y else if y = 1 then x else (1 : Int32) - x
def tm_cb (a b : Nat → Int32) (op r s : Int32) : Nat → (Nat → Int32)
  | 0 => b
  | i + 1 => upd (tm_cb a b op r s i) (nI i).toNatClampNeg (tm_cop op (a (((64 : Int32) * r) + nI i).toNatClampNeg) (a (((64 : Int32) * s) + nI i).toNatClampNeg))
theorem tm_cb_s (a b : Nat → Int32) (op r s : Int32) (i : Nat) : tm_cb a b op r s (i + 1) = upd (tm_cb a b op r s i) (nI i).toNatClampNeg (tm_cop op (a (((64 : Int32) * r) + nI i).toNatClampNeg) (a (((64 : Int32) * s) + nI i).toNatClampNeg)) := rfl
def tm_sf (a b : Nat → Int32) (r y z : Int32) : Nat → (Nat → Int32)
  | 0 => b
  | i + 1 => upd (tm_sf a b r y z i) (nI i).toNatClampNeg (a (((64 : Int32) * r) + (nI i ^^^ y)).toNatClampNeg ^^^ tm_pr z (nI i))
theorem tm_sf_s (a b : Nat → Int32) (r y z : Int32) (i : Nat) : tm_sf a b r y z (i + 1) = upd (tm_sf a b r y z i) (nI i).toNatClampNeg (a (((64 : Int32) * r) + (nI i ^^^ y)).toNatClampNeg ^^^ tm_pr z (nI i)) := rfl
def tm_fa (a : Nat → Int32) (t u : Int32) : Nat → Int32
  | 0 => 0
  | i + 1 => if (nI i &&& (u ^^^ (-1 : Int32))) = 0 then tm_fa a t u i ^^^ a (((64 : Int32) * t) + nI i).toNatClampNeg else tm_fa a t u i
theorem tm_fa_s (a : Nat → Int32) (t u : Int32) (i : Nat) : tm_fa a t u (i + 1) = if (nI i &&& (u ^^^ (-1 : Int32))) = 0 then tm_fa a t u i ^^^ a (((64 : Int32) * t) + nI i).toNatClampNeg else tm_fa a t u i := rfl
def tm_de (a : Nat → Int32) (t : Int32) : Nat → Int32
  | 0 => 0
  | i + 1 => if tm_fa a t (nI i) 64 = 1 then (if tc_sz (nI i) 6 ≤ tm_de a t i then tm_de a t i else tc_sz (nI i) 6) else tm_de a t i
theorem tm_de_s (a : Nat → Int32) (t : Int32) (i : Nat) : tm_de a t (i + 1) = if tm_fa a t (nI i) 64 = 1 then (if tc_sz (nI i) 6 ≤ tm_de a t i then tm_de a t i else tc_sz (nI i) 6) else tm_de a t i := rfl
def tm_sa (a : Nat → Int32) (t u : Int32) : Nat → Int32
  | 0 => 0
  | i + 1 => if a (((64 : Int32) * t) + nI i).toNatClampNeg = tm_pr u (nI i) then tm_sa a t u i + (1 : Int32) else tm_sa a t u i - (1 : Int32)
theorem tm_sa_s (a : Nat → Int32) (t u : Int32) (i : Nat) : tm_sa a t u (i + 1) = if a (((64 : Int32) * t) + nI i).toNatClampNeg = tm_pr u (nI i) then tm_sa a t u i + (1 : Int32) else tm_sa a t u i - (1 : Int32) := rfl
def tm_ch (a : Nat → Int32) (t u : Int32) : Nat → Int32
  | 0 => 0
  | i + 1 => if a (((64 : Int32) * t) + nI i).toNatClampNeg = tm_pr u (nI i) then tm_ch a t u i else tm_ch a t u i + (1 : Int32)
theorem tm_ch_s (a : Nat → Int32) (t u : Int32) (i : Nat) : tm_ch a t u (i + 1) = if a (((64 : Int32) * t) + nI i).toNatClampNeg = tm_pr u (nI i) then tm_ch a t u i else tm_ch a t u i + (1 : Int32) := rfl
def tm_chg (a : Nat → Int32) (t u : Int32) : Int32 := if ((64 : Int32) - tm_ch a t u 64) ≤ tm_ch a t u 64 then (64 : Int32) - tm_ch a t u 64 else tm_ch a t u 64
def tm_di (a : Nat → Int32) (t : Int32) : Nat → Int32
  | 0 => 64
  | i + 1 => if tm_di a t i ≤ tm_chg a t (nI i) then tm_di a t i else tm_chg a t (nI i)
theorem tm_di_s (a : Nat → Int32) (t : Int32) (i : Nat) : tm_di a t (i + 1) = if tm_di a t i ≤ tm_chg a t (nI i) then tm_di a t i else tm_chg a t (nI i) := rfl
def tm_ne (a : Nat → Int32) (t : Int32) : Nat → Int32
  | 0 => 0
  | i + 1 => if tm_chg a t (tm_ne a t i) ≤ tm_chg a t (nI (i + 1)) then tm_ne a t i else nI (i + 1)
theorem tm_ne_s (a : Nat → Int32) (t : Int32) (i : Nat) : tm_ne a t (i + 1) = if tm_chg a t (tm_ne a t i) ≤ tm_chg a t (nI (i + 1)) then tm_ne a t i else nI (i + 1) := rfl
def tm_im (a : Nat → Int32) (t : Int32) : Nat → Int32
  | 0 => 7
  | i + 1 => if tm_sa a t (nI (i + 1)) 64 = 0 then tm_im a t i else (if tm_im a t i ≤ tc_sz (nI (i + 1)) 6 then tm_im a t i else tc_sz (nI (i + 1)) 6)
theorem tm_im_s (a : Nat → Int32) (t : Int32) (i : Nat) : tm_im a t (i + 1) = if tm_sa a t (nI (i + 1)) 64 = 0 then tm_im a t i else (if tm_im a t i ≤ tc_sz (nI (i + 1)) 6 then tm_im a t i else tc_sz (nI (i + 1)) 6) := rfl
def tm_sm (a : Nat → Int32) (t u : Int32) : Nat → Int32
  | 0 => 0
  | i + 1 => if a (((64 : Int32) * t) + nI i).toNatClampNeg = a (((64 : Int32) * t) + (nI i ^^^ u)).toNatClampNeg then tm_sm a t u i + (1 : Int32) else tm_sm a t u i
theorem tm_sm_s (a : Nat → Int32) (t u : Int32) (i : Nat) : tm_sm a t u (i + 1) = if a (((64 : Int32) * t) + nI i).toNatClampNeg = a (((64 : Int32) * t) + (nI i ^^^ u)).toNatClampNeg then tm_sm a t u i + (1 : Int32) else tm_sm a t u i := rfl
def tm_va (a : Nat → Int32) (t : Int32) : Nat → Int32
  | 0 => 0
  | i + 1 => if (64 : Int32) ≤ tm_sm a t ((1 : Int32) <<< (nI i &&& 31)) 64 then tm_va a t i else tm_va a t i ||| ((1 : Int32) <<< (nI i &&& 31))
theorem tm_va_s (a : Nat → Int32) (t : Int32) (i : Nat) : tm_va a t (i + 1) = if (64 : Int32) ≤ tm_sm a t ((1 : Int32) <<< (nI i &&& 31)) 64 then tm_va a t i else tm_va a t i ||| ((1 : Int32) <<< (nI i &&& 31)) := rfl
def tm_st (a : Nat → Int32) (t : Int32) : Nat → Int32
  | 0 => 0
  | i + 1 => if tm_sm a t (nI i) 64 = 0 then tm_st a t i + (1 : Int32) else if tm_sm a t (nI i) 64 = 64 then tm_st a t i + (1 : Int32) else tm_st a t i
theorem tm_st_s (a : Nat → Int32) (t : Int32) (i : Nat) : tm_st a t (i + 1) = if tm_sm a t (nI i) 64 = 0 then tm_st a t i + (1 : Int32) else if tm_sm a t (nI i) 64 = 64 then tm_st a t i + (1 : Int32) else tm_st a t i := rfl
def tm_eq (a : Nat → Int32) (t r y z : Int32) (i : Nat) : Prop := a (((64 : Int32) * t) + nI i).toNatClampNeg = (a (((64 : Int32) * r) + (nI i ^^^ y)).toNatClampNeg ^^^ tm_pr z (nI i))
def tm_by (a : Nat → Int32) (t r y z : Int32) : Prop := ∀ i, i < 64 → tm_eq a t r y z i
def tm_hit (a : Nat → Int32) (t r : Int32) (n : Nat) : Prop := tm_by a t r (nI n / (64 : Int32)) (nI n - nI n / (64 : Int32) * (64 : Int32))
end
section
/-! worlds of the two classes, loops, ranges -/
set_option maxRecDepth 100000
abbrev tw_cl : List vw_C := [(RX0, TX0, 3), (RX1, TX1, 2)]
/-- the cells of a TruthSpectrum: words f, sums g -/
abbrev tw_C (h0 q1 q2 q3 : Nat) (e1 e2 e3 : ClassId) (f : Nat → Int64) (g : Nat → Int32) : va_W := [(h0, .inr (0, [.ref q1, .ref q2, .ref q3])), (q1, .inl (e1, 4, .inr (.inl f))), (q2, .inl (e2, 6, .inr (.inl tc_low))), (q3, .inl (e3, 64, .inl g))]
abbrev tw_TC (e1 e2 e3 : ClassId) : List (ClassId × FieldType) := [(e1, .long), (e2, .long), (e3, .int)]
/-- the cells of a TruthSpectrumModel: tables a, made b -/
abbrev tw_M (h0 q1 q2 : Nat) (e1 e2 : ClassId) (a b : Nat → Int32) : va_W := [(h0, .inr (1, [.ref q1, .ref q2])), (q1, .inl (e1, 256, .inl a)), (q2, .inl (e2, 64, .inl b))]
abbrev tw_TM (e1 e2 : ClassId) : List (ClassId × FieldType) := [(e1, .int), (e2, .int)]
abbrev tw_RC (dC : Nat → ClassId) (dI : Nat → Nat → Nat) (h0 q1 q2 q3 : Nat) (e1 e2 e3 : ClassId) (f : Nat → Int64) (g : Nat → Int32) (U : State) : Prop := va_P (dC, dI) tw_cl (tw_C h0 q1 q2 q3 e1 e2 e3 f g) U.heap ∧ va_K (dC, dI) tw_cl (tw_TC e1 e2 e3) U
abbrev tw_SC (dC : Nat → ClassId) (dI : Nat → Nat → Nat) (h0 q1 q2 q3 : Nat) (e1 e2 e3 : ClassId) (sz : Nat) (f : Nat → Int64) (g : Nat → Int32) (U : State) : Prop := U.heap.size = sz ∧ va_P (dC, dI) tw_cl (tw_C h0 q1 q2 q3 e1 e2 e3 f g) U.heap ∧ va_K (dC, dI) tw_cl (tw_TC e1 e2 e3) U ∧ va_D (fun _ => True) (tw_C h0 q1 q2 q3 e1 e2 e3 f g)
abbrev tw_BC (dC : Nat → ClassId) (dI : Nat → Nat → Nat) (h0 q1 q2 q3 : Nat) (e1 e2 e3 : ClassId) (A : Nat → Prop) (u : (Nat → Int64) × (Nat → Int32)) (t : State) : Prop := va_P (dC, dI) tw_cl (tw_C h0 q1 q2 q3 e1 e2 e3 u.1 u.2) t.heap ∧ va_K (dC, dI) tw_cl (tw_TC e1 e2 e3) t ∧ va_D A (tw_C h0 q1 q2 q3 e1 e2 e3 u.1 u.2)
abbrev tw_RM (dC : Nat → ClassId) (dI : Nat → Nat → Nat) (h0 q1 q2 : Nat) (e1 e2 : ClassId) (a b : Nat → Int32) (U : State) : Prop := va_P (dC, dI) tw_cl (tw_M h0 q1 q2 e1 e2 a b) U.heap ∧ va_K (dC, dI) tw_cl (tw_TM e1 e2) U
abbrev tw_SM (dC : Nat → ClassId) (dI : Nat → Nat → Nat) (h0 q1 q2 : Nat) (e1 e2 : ClassId) (sz : Nat) (a b : Nat → Int32) (U : State) : Prop := U.heap.size = sz ∧ va_P (dC, dI) tw_cl (tw_M h0 q1 q2 e1 e2 a b) U.heap ∧ va_K (dC, dI) tw_cl (tw_TM e1 e2) U ∧ va_D (fun _ => True) (tw_M h0 q1 q2 e1 e2 a b)
abbrev tw_BM (dC : Nat → ClassId) (dI : Nat → Nat → Nat) (h0 q1 q2 : Nat) (e1 e2 : ClassId) (A : Nat → Prop) (u : (Nat → Int32) × (Nat → Int32)) (t : State) : Prop := va_P (dC, dI) tw_cl (tw_M h0 q1 q2 e1 e2 u.1 u.2) t.heap ∧ va_K (dC, dI) tw_cl (tw_TM e1 e2) t ∧ va_D A (tw_M h0 q1 q2 e1 e2 u.1 u.2)
section TWP
variable {s : State} {H : Heap} {dC : Nat → ClassId} {dI : Nat → Nat → Nat} {h0 q1 q2 q3 : Nat} {e1 e2 e3 : ClassId} {f : Nat → Int64} {g a b : Nat → Int32} {tys : List (ClassId × FieldType)}
theorem tw_pre0C (hK : va_K (dC, dI) tw_cl tys s) (hP : va_P (dC, dI) tw_cl (tw_C h0 q1 q2 q3 e1 e2 e3 f g) H) (As : List Value) : PreV s H RX0 h0 (va_Pc (.ref h0 :: As) (fun _ => True)) As := ⟨fun _ _ _ _ q => q, va_recv hK hP (ci := 0) (q0 := 0) rfl rfl, fun U hU hW => ⟨rfl, trivial⟩⟩
theorem tw_preC (hK : va_K (dC, dI) tw_cl (tw_TC e1 e2 e3) s) (hP : va_P (dC, dI) tw_cl (tw_C h0 q1 q2 q3 e1 e2 e3 f g) H) (As : List Value) : PreV s H RX0 h0 (va_Pc (.ref h0 :: As) (tw_RC dC dI h0 q1 q2 q3 e1 e2 e3 f g)) As :=
  ⟨fun aa U gg mk q => ⟨q.1, q.2.1, va_K.moved (u := U) (U := U.calling gg mk aa) (Vm.Alike.refl U.vm) q.2.2⟩, va_recv hK hP (ci := 0) (q0 := 0) rfl rfl, fun U hU hW => ⟨rfl, by rw [hU]; exact hP, va_K.moved hW.alike hK⟩⟩
theorem tw_preSC {A : Nat → Prop} (hK : va_K (dC, dI) tw_cl (tw_TC e1 e2 e3) s) (hP : va_P (dC, dI) tw_cl (tw_C h0 q1 q2 q3 e1 e2 e3 f g) H) (hD : va_D A (tw_C h0 q1 q2 q3 e1 e2 e3 f g)) (As : List Value) : PreV s H RX0 h0 (va_Pc (.ref h0 :: As) (tw_SC dC dI h0 q1 q2 q3 e1 e2 e3 H.size f g)) As :=
  ⟨fun aa U gg mk q => ⟨q.1, q.2.1, q.2.2.1, va_K.moved (u := U) (U := U.calling gg mk aa) (Vm.Alike.refl U.vm) q.2.2.2.1, q.2.2.2.2⟩, va_recv hK hP (ci := 0) (q0 := 0) rfl rfl, fun U hU hW => ⟨rfl, by rw [hU], by rw [hU]; exact hP, va_K.moved hW.alike hK, hD.weaken (fun _ _ _ _ => trivial)⟩⟩
theorem tw_pre0M (hK : va_K (dC, dI) tw_cl tys s) (hP : va_P (dC, dI) tw_cl (tw_M h0 q1 q2 e1 e2 a b) H) (As : List Value) : PreV s H RX1 h0 (va_Pc (.ref h0 :: As) (fun _ => True)) As := ⟨fun _ _ _ _ q => q, va_recv hK hP (ci := 1) (q0 := 0) rfl rfl, fun U hU hW => ⟨rfl, trivial⟩⟩
theorem tw_preM (hK : va_K (dC, dI) tw_cl (tw_TM e1 e2) s) (hP : va_P (dC, dI) tw_cl (tw_M h0 q1 q2 e1 e2 a b) H) (As : List Value) : PreV s H RX1 h0 (va_Pc (.ref h0 :: As) (tw_RM dC dI h0 q1 q2 e1 e2 a b)) As :=
  ⟨fun aa U gg mk q => ⟨q.1, q.2.1, va_K.moved (u := U) (U := U.calling gg mk aa) (Vm.Alike.refl U.vm) q.2.2⟩, va_recv hK hP (ci := 1) (q0 := 0) rfl rfl, fun U hU hW => ⟨rfl, by rw [hU]; exact hP, va_K.moved hW.alike hK⟩⟩
theorem tw_preSM {A : Nat → Prop} (hK : va_K (dC, dI) tw_cl (tw_TM e1 e2) s) (hP : va_P (dC, dI) tw_cl (tw_M h0 q1 q2 e1 e2 a b) H) (hD : va_D A (tw_M h0 q1 q2 e1 e2 a b)) (As : List Value) : PreV s H RX1 h0 (va_Pc (.ref h0 :: As) (tw_SM dC dI h0 q1 q2 e1 e2 H.size a b)) As :=
  ⟨fun aa U gg mk q => ⟨q.1, q.2.1, q.2.2.1, va_K.moved (u := U) (U := U.calling gg mk aa) (Vm.Alike.refl U.vm) q.2.2.2.1, q.2.2.2.2⟩, va_recv hK hP (ci := 1) (q0 := 0) rfl rfl, fun U hU hW => ⟨rfl, by rw [hU], by rw [hU]; exact hP, va_K.moved hW.alike hK, hD.weaken (fun _ _ _ _ => trivial)⟩⟩
end TWP
theorem tw_has {ls : Array Slot} {nL : Nat} {l l' : List (Nat × Value)} (h : lv_has ls nL l) (e : l = l') : lv_has ls nL l' := e ▸ h
section TWL
variable {p : Program} {l : Launch} {e : Env} {R : Room} {s : State} {m : MethodId} {args : Array Value} {below : List Frame} {meth : Method} {c : Code} {H : Heap} {locs : List Loc} {cells slots : Nat} {Q : State → Prop} {pc : Nat}
/-- a counted loop that changes locals alone -/
theorem tw_loop (N : Nat) (P : Nat → Array Slot → Prop) (hexit : ∀ ls, P N ls → W p l e R s m args below meth c H locs cells slots Q (F0 m pc ls []))
    (hstep : ∀ i ls, i < N → P i ls → (∀ ls', P (i + 1) ls' → W p l e R s m args below meth c H locs cells slots Q (F0 m pc ls' [])) → W p l e R s m args below meth c H locs cells slots Q (F0 m pc ls [])) :
    ∀ (k i : Nat) (ls : Array Slot), i + k = N → P i ls → W p l e R s m args below meth c H locs cells slots Q (F0 m pc ls []) := by
  intro k
  induction k with
  | zero =>
    intro i ls h hp
    obtain rfl : i = N := by omega
    exact hexit ls hp
  | succ k ih =>
    intro i ls h hp
    exact hstep i ls (by omega) hp (fun ls' hp' => ih (i + 1) ls' (by omega) hp')
/-- a counted loop that changes the heap too -/
theorem tw_loopH (N : Nat) (P : Nat → Array Slot → Heap → List Loc → Prop) (hexit : ∀ ls H locs, P N ls H locs → W p l e R s m args below meth c H locs cells slots Q (F0 m pc ls []))
    (hstep : ∀ i ls H locs, i < N → P i ls H locs → (∀ ls' H' locs', P (i + 1) ls' H' locs' → W p l e R s m args below meth c H' locs' cells slots Q (F0 m pc ls' [])) → W p l e R s m args below meth c H locs cells slots Q (F0 m pc ls [])) :
    ∀ (k i : Nat) (ls : Array Slot) (H : Heap) (locs : List Loc), i + k = N → P i ls H locs → W p l e R s m args below meth c H locs cells slots Q (F0 m pc ls []) := by
  intro k
  induction k with
  | zero =>
    intro i ls H locs h hp
    obtain rfl : i = N := by omega
    exact hexit ls H locs hp
  | succ k ih =>
    intro i ls H locs h hp
    exact hstep i ls H locs (by omega) hp (fun ls' H' locs' hp' => ih (i + 1) ls' H' locs' (by omega) hp')
end TWL
-- ranges
theorem tw_b1 : ∀ i, i < 6 → vp_in ((1 : Int32) <<< (nI i &&& 31)) 64 := by
  have h : ∀ i, i < 6 → ¬ (((1 : Int32) <<< (nI i &&& 31)) < 0 ∨ 64 ≤ ((1 : Int32) <<< (nI i &&& 31)).toNatClampNeg) := by decide +kernel
  exact h
theorem tw_spin : ∀ i, i < 6 → ∀ x, x < 64 → ((nI x >>> (nI i &&& 31)) &&& (1 : Int32)) = 0 → vp_in (nI x + ((1 : Int32) <<< (nI i &&& 31))) 64 := by
  have h : ∀ i, i < 6 → ∀ x, x < 64 → ((nI x >>> (nI i &&& 31)) &&& (1 : Int32)) = 0 → ¬ ((nI x + ((1 : Int32) <<< (nI i &&& 31))) < 0 ∨ 64 ≤ (nI x + ((1 : Int32) <<< (nI i &&& 31))).toNatClampNeg) := by decide +kernel
  exact h
theorem tw_64 (j i : Nat) : ((64 : Int32) * nI j) + nI i = nI (64 * j + i) := by
  rw [show (64 : Int32) = nI 64 from rfl, pk_mul, nI_add]
theorem tw_xor (a b : Nat) : nI a ^^^ nI b = nI (a ^^^ b) := by
  apply Int32.toBitVec_inj.mp
  show BitVec.ofNat 32 a ^^^ BitVec.ofNat 32 b = BitVec.ofNat 32 (a ^^^ b)
  apply BitVec.eq_of_getLsbD_eq
  intro i hi
  simp [BitVec.getLsbD_ofNat, hi, Nat.testBit_xor]
theorem tw_xlt {a b : Nat} (ha : a < 64) (hb : b < 64) : a ^^^ b < 64 := Nat.xor_lt_two_pow (n := 6) ha hb
theorem tw_ix {t : Int32} (ht : vp_in t 4) {i : Nat} (hi : i < 64) : vp_in (((64 : Int32) * t) + nI i) 256 := by
  obtain ⟨j, hj, rfl⟩ := vp_in_of ht (by decide)
  rw [tw_64]
  exact vp_in_nI (by omega) (by decide)
theorem tw_ixp {t y : Int32} (ht : vp_in t 4) (hy : vp_in y 64) : vp_in (((64 : Int32) * t) + y) 256 := by
  obtain ⟨j, hj, rfl⟩ := vp_in_of hy (by decide)
  exact tw_ix ht hj
theorem tw_ixx {t y : Int32} (ht : vp_in t 4) {i : Nat} (hi : i < 64) (hy : vp_in y 64) : vp_in (((64 : Int32) * t) + (nI i ^^^ y)) 256 := by
  obtain ⟨j, hj, rfl⟩ := vp_in_of hy (by decide)
  rw [tw_xor]
  exact tw_ix ht (tw_xlt hi hj)
theorem tw_pkin (g : Nat → Int32) : ∀ i, i ≤ 63 → vp_in (tc_pk g i) 64 := by
  intro i
  induction i with
  | zero =>
    intro _
    exact vp_in_nI (n := 0) (by decide) (by decide)
  | succ i ih =>
    intro h
    rw [tc_pk_s]
    split
    · exact ih (by omega)
    · exact vp_in_nI (by omega) (by decide)
theorem tw_div {n : Nat} (h : n < 4096) : vp_in (nI n / (64 : Int32)) 64 := by
  rw [show (64 : Int32) = nI 64 from rfl, pk_div (by omega) (by decide) (by decide)]
  exact vp_in_nI (by omega) (by decide)
theorem tw_inT {t : Int32} (h0 : ¬ t < 0) (h1 : t < 4) : vp_in t 4 := by
  rcases pk_ix t (n := 4) (by decide) with h | h | ⟨j, hj, rfl⟩
  · exact absurd h h0
  · exact absurd h1 (Int32.not_lt.mpr h)
  · exact vp_in_nI hj (by decide)
theorem tw_inP {t : Int32} (h0 : ¬ t < 0) (h1 : t < 64) : vp_in t 64 := by
  rcases pk_ix t (n := 64) (by decide) with h | h | ⟨j, hj, rfl⟩
  · exact absurd h h0
  · exact absurd h1 (Int32.not_lt.mpr h)
  · exact vp_in_nI hj (by decide)
theorem tw_outT {t : Int32} (h : vp_in t 4) : ¬ t < 0 ∧ t < 4 ∧ t ≤ 3 := by
  obtain ⟨j, hj, rfl⟩ := vp_in_of h (by decide)
  exact ⟨nI_pos (by omega), nI_lt hj (by decide), nI_le (a := j) (b := 3) (by omega) (by decide)⟩
theorem tw_outP {t : Int32} (h : vp_in t 64) : ¬ t < 0 ∧ t < 64 ∧ t ≤ 63 := by
  obtain ⟨j, hj, rfl⟩ := vp_in_of h (by decide)
  exact ⟨nI_pos (by omega), nI_lt hj (by decide), nI_le (a := j) (b := 63) (by omega) (by decide)⟩
theorem tw_inT3 {t : Int32} (h0 : ¬ t < 0) (h1 : ¬ 3 < t) : vp_in t 4 := by
  rcases pk_ix t (n := 4) (by decide) with h | h | ⟨j, hj, rfl⟩
  · exact absurd h h0
  · exact absurd (Int32.lt_of_lt_of_le (by decide : (3 : Int32) < nI 4) h) h1
  · exact vp_in_nI hj (by decide)
theorem tw_inP3 {t : Int32} (h0 : ¬ t < 0) (h1 : ¬ 63 < t) : vp_in t 64 := by
  rcases pk_ix t (n := 64) (by decide) with h | h | ⟨j, hj, rfl⟩
  · exact absurd h h0
  · exact absurd (Int32.lt_of_lt_of_le (by decide : (63 : Int32) < nI 64) h) h1
  · exact vp_in_nI hj (by decide)
/-- found among the first n -/
def tw_fnd (P : Nat → Prop) (n : Nat) (r : Int32) : Prop := (r = 1 ∧ ∃ k, k < n ∧ P k) ∨ (r = 0 ∧ ∀ k, k < n → ¬ P k)
theorem tw_fnd_0 (P : Nat → Prop) : tw_fnd P 0 0 := Or.inr ⟨rfl, lt_0⟩
theorem tw_found {P : Nat → Prop} {N : Nat} (i : Nat) (hi : i < N) {z : Int32} (h : tw_fnd P i z) (hz : ¬ z = 0) : tw_fnd P N z := by
  rcases h with ⟨h1, k, hk, hp⟩ | ⟨h1, -⟩
  · exact Or.inl ⟨h1, k, by omega, hp⟩
  · exact absurd h1 hz
theorem tw_hit1 {P : Nat → Prop} {i : Nat} {z : Int32} (_ : tw_fnd P i z) (_ : z = 0) (hp : P i) : tw_fnd P (i + 1) 1 := Or.inl ⟨rfl, i, by omega, hp⟩
theorem tw_hit0 {P : Nat → Prop} {i : Nat} {z : Int32} (h : tw_fnd P i z) (hz : z = 0) (hp : ¬ P i) : tw_fnd P (i + 1) 0 := by
  rcases h with ⟨h1, -⟩ | ⟨-, h2⟩
  · rw [hz] at h1
    exact absurd h1 (by decide)
  · exact Or.inr ⟨rfl, lt_s h2 hp⟩
theorem tw_fnd_nar {P : Nat → Prop} {n : Nat} {z : Int32} (h : tw_fnd P n z) : narrow .boolean (.int z) = .int z := by
  rcases h with ⟨h1, -⟩ | ⟨h1, -⟩
  · rw [h1]; rfl
  · rw [h1]; rfl
end
section
/-! the two constructors -/
theorem tc_low_mk : (vp_updL (vp_updL (vp_updL (vp_updL (vp_updL (vp_updL (fun _ => (0 : Int64)) (0 : Int32).toNatClampNeg 6148914691236517205) (1 : Int32).toNatClampNeg 3689348814741910323) (2 : Int32).toNatClampNeg 1085102592571150095) (3 : Int32).toNatClampNeg 71777214294589695) (4 : Int32).toNatClampNeg 281470681808895) (5 : Int32).toNatClampNeg 4294967295) = tc_low := by
  funext k
  rcases (show k = 0 ∨ k = 1 ∨ k = 2 ∨ k = 3 ∨ k = 4 ∨ k = 5 ∨ 6 ≤ k by omega) with rfl | rfl | rfl | rfl | rfl | rfl | h
  · decide +kernel
  · decide +kernel
  · decide +kernel
  · decide +kernel
  · decide +kernel
  · decide +kernel
  · have e0 : (0 : Int32).toNatClampNeg = 0 := by decide
    have e1 : (1 : Int32).toNatClampNeg = 1 := by decide
    have e2 : (2 : Int32).toNatClampNeg = 2 := by decide
    have e3 : (3 : Int32).toNatClampNeg = 3 := by decide
    have e4 : (4 : Int32).toNatClampNeg = 4 := by decide
    have e5 : (5 : Int32).toNatClampNeg = 5 := by decide
    obtain ⟨j, rfl⟩ : ∃ j, k = j + 6 := ⟨k - 6, by omega⟩
    simp only [vp_updL, e0, e1, e2, e3, e4, e5]
    rw [if_neg (by omega), if_neg (by omega), if_neg (by omega), if_neg (by omega), if_neg (by omega), if_neg (by omega)]
    rfl
set_option maxHeartbeats 4000000 in
set_option maxRecDepth 100000 in
/-- the constructor of X0 -/
theorem metX0_init (l : Launch) (dC : Nat → ClassId) (dI : Nat → Nat → Nat) (h0 sz : Nat) : Met l yX0_init (ws_ yX0_init cX0_init 1 none) ({ frames := 1, cells := 3, slots := 74, locals := 12 }) (va_Pc [.ref h0] (fun U => U.heap.size = sz ∧ va_P (dC, dI) tw_cl [(h0, .inr (0, [.null, .null, .null]))] U.heap ∧ va_K (dC, dI) tw_cl [] U ∧ va_D (fun _ => True) [(h0, .inr (0, [.null, .null, .null]))])) (va_Qv (fun _ : Unit => True) (fun _ t => ∃ (q1 q2 q3 : Nat) (e1 e2 e3 : ClassId), va_P (dC, dI) tw_cl (tw_C h0 q1 q2 q3 e1 e2 e3 (fun _ => 0) (fun _ => 0)) t.heap ∧ va_K (dC, dI) tw_cl (tw_TC e1 e2 e3) t ∧ va_D (va_A [(h0, .inr (0, [.null, .null, .null]))] sz) (tw_C h0 q1 q2 q3 e1 e2 e3 (fun _ => 0) (fun _ => 0))) (va_A [(h0, .inr (0, [.null, .null, .null]))] sz)) 3 74 (va_A [(h0, .inr (0, [.null, .null, .null]))] sz) := by
  refine Met.ofW (cc := cX0_init) (maxL := 1) (ret := none) (by decide) rfl ?_
  intro p e s m args below meth c s₁ B hml hv
  obtain ⟨rfl, hsz, hP, hK, hD0⟩ := hv
  have hx := B.exec
  have hb := B.bytes
  have hr := B.returns
  have hts := atoms_spec (ws := ws_ yX0_init cX0_init 1 none) B.pre
  have hts : ∀ w ∈ lw_all, w.before _ s = true := fun w h => hts w (List.mem_cons_of_mem _ h)
  have hown : s.vm.findClass RX0 = some m.cls := findClass_of_methodNamed B.named
  have hlocks := B.notSynchronized
  have hin : meth.name = "<init>" := (name_of_methodNamed B.named B.method).1
  subst hsz
  have hD := hD0.self (sz := s.heap.size)
  generalize hAe : va_A [(h0, .inr (0, [.null, .null, .null]))] s.heap.size = A at hD ⊢
  have hA : ∀ q : Nat, s.heap.size ≤ q → A q := fun q h => by rw [← hAe]; exact Or.inr h
  have hS : va_S A s.heap s.heap [] := va_S.rf
  have hl := lv_entry ([.ref h0]) (n := 1) (Nat.le_of_ble_eq_true rfl)
  rw [lg_entry_eq]
  generalize (lg_sl ([.ref h0]) ++ List.replicate (1 - (lg_sl ([.ref h0])).length) Slot.unset).toArray = ls at hl ⊢
  have hl : lv_has ls 1 [(0, .ref h0)] := hl
  refine lv_aload_n hx hb dX0_init_0 rfl (lv_at hl 0 rfl) ?_
  refine W.objInit hx hb hown (hts _ q32) (hts _ q33) (hts _ q34) rfl (by rw [hml]; exact hl.1) rfl dX0_init_1 (Nat.le_of_ble_eq_true rfl) (Nat.le_of_ble_eq_true rfl) ?_
  refine W.eq (g2 := F0 m 4 ls []) rfl ?_
  refine lv_aload_n hx hb dX0_init_4 rfl (lv_at hl 0 rfl) ?_
  refine lv_iconst (v := 4) hx hb dX0_init_5 (by decide) ?_
  refine va_newa (atype := .long) (ty := .long) (n := 4) (N' := 4) (a0 := (4, .inr (.inl (fun _ => 0)))) hx hb (hts _ q51) rfl hK hP hD hS hA (fun cA => rfl) (by decide) (by decide) (by decide) (Nat.le_of_ble_eq_true rfl) (Nat.le_of_ble_eq_true rfl) dX0_init_6 (fun q1 e1 H hK hP hD hS => ?_)
  have hK : va_K (dC, dI) tw_cl [(e1, .long)] s := hK
  have hP : va_P (dC, dI) tw_cl [(h0, .inr (0, [.null, .null, .null])), (q1, .inl (e1, 4, .inr (.inl (fun _ => 0))))] H := hP
  have hD : va_D A [(h0, .inr (0, [.null, .null, .null])), (q1, .inl (e1, 4, .inr (.inl (fun _ => 0))))] := hD
  refine va_putF (D := (dC, dI)) (ci := 0) (v := .ref q1) (ty := .array .long) (C := RX0) (T := TX0) (N := 3) hx hb hts in_X0 tyX0 tyX0_ok nmX0 hown hK hP hD hS 0 rfl rfl 0 (by decide) (hts _ q41) (fun _ h9 => h9) rfl hin rfl (by decide +kernel) rfl rfl (Nat.le_of_ble_eq_true rfl) dX0_init_8 (fun H locs hP hD hS => ?_)
  have hP : va_P (dC, dI) tw_cl [(h0, .inr (0, [.ref q1, .null, .null])), (q1, .inl (e1, 4, .inr (.inl (fun _ => 0))))] H := hP
  have hD : va_D A [(h0, .inr (0, [.ref q1, .null, .null])), (q1, .inl (e1, 4, .inr (.inl (fun _ => 0))))] := hD
  refine lv_aload_n hx hb dX0_init_11 rfl (lv_at hl 0 rfl) ?_
  refine lv_bipush (v := 6) hx hb dX0_init_12 (by decide) ?_
  refine va_newa (atype := .long) (ty := .long) (n := 6) (N' := 6) (a0 := (6, .inr (.inl (fun _ => 0)))) hx hb (hts _ q51) rfl hK hP hD hS hA (fun cA => rfl) (by decide) (by decide) (by decide) (Nat.le_of_ble_eq_true rfl) (Nat.le_of_ble_eq_true rfl) dX0_init_14 (fun q2 e2 H hK hP hD hS => ?_)
  have hK : va_K (dC, dI) tw_cl [(e1, .long), (e2, .long)] s := hK
  have hP : va_P (dC, dI) tw_cl [(h0, .inr (0, [.ref q1, .null, .null])), (q1, .inl (e1, 4, .inr (.inl (fun _ => 0)))), (q2, .inl (e2, 6, .inr (.inl (fun _ => 0))))] H := hP
  have hD : va_D A [(h0, .inr (0, [.ref q1, .null, .null])), (q1, .inl (e1, 4, .inr (.inl (fun _ => 0)))), (q2, .inl (e2, 6, .inr (.inl (fun _ => 0))))] := hD
  refine va_putF (D := (dC, dI)) (ci := 0) (v := .ref q2) (ty := .array .long) (C := RX0) (T := TX0) (N := 3) hx hb hts in_X0 tyX0 tyX0_ok nmX0 hown hK hP hD hS 0 rfl rfl 1 (by decide) (hts _ q42) (fun _ h9 => h9) rfl hin rfl (by decide +kernel) rfl rfl (Nat.le_of_ble_eq_true rfl) dX0_init_16 (fun H locs hP hD hS => ?_)
  have hP : va_P (dC, dI) tw_cl [(h0, .inr (0, [.ref q1, .ref q2, .null])), (q1, .inl (e1, 4, .inr (.inl (fun _ => 0)))), (q2, .inl (e2, 6, .inr (.inl (fun _ => 0))))] H := hP
  have hD : va_D A [(h0, .inr (0, [.ref q1, .ref q2, .null])), (q1, .inl (e1, 4, .inr (.inl (fun _ => 0)))), (q2, .inl (e2, 6, .inr (.inl (fun _ => 0))))] := hD
  refine lv_aload_n hx hb dX0_init_19 rfl (lv_at hl 0 rfl) ?_
  refine lv_bipush (v := 64) hx hb dX0_init_20 (by decide) ?_
  refine va_newa (atype := .int) (ty := .int) (n := 64) (N' := 64) (a0 := (64, .inl (fun _ => 0))) hx hb (hts _ q52) rfl hK hP hD hS hA (fun cA => rfl) (by decide) (by decide) (by decide) (Nat.le_of_ble_eq_true rfl) (Nat.le_of_ble_eq_true rfl) dX0_init_22 (fun q3 e3 H hK hP hD hS => ?_)
  have hK : va_K (dC, dI) tw_cl [(e1, .long), (e2, .long), (e3, .int)] s := hK
  have hP : va_P (dC, dI) tw_cl [(h0, .inr (0, [.ref q1, .ref q2, .null])), (q1, .inl (e1, 4, .inr (.inl (fun _ => 0)))), (q2, .inl (e2, 6, .inr (.inl (fun _ => 0)))), (q3, .inl (e3, 64, .inl (fun _ => 0)))] H := hP
  have hD : va_D A [(h0, .inr (0, [.ref q1, .ref q2, .null])), (q1, .inl (e1, 4, .inr (.inl (fun _ => 0)))), (q2, .inl (e2, 6, .inr (.inl (fun _ => 0)))), (q3, .inl (e3, 64, .inl (fun _ => 0)))] := hD
  refine va_putF (D := (dC, dI)) (ci := 0) (v := .ref q3) (ty := .array .int) (C := RX0) (T := TX0) (N := 3) hx hb hts in_X0 tyX0 tyX0_ok nmX0 hown hK hP hD hS 0 rfl rfl 2 (by decide) (hts _ q43) (fun _ h9 => h9) rfl hin rfl (by decide +kernel) rfl rfl (Nat.le_of_ble_eq_true rfl) dX0_init_24 (fun H locs hP hD hS => ?_)
  have hP : va_P (dC, dI) tw_cl [(h0, .inr (0, [.ref q1, .ref q2, .ref q3])), (q1, .inl (e1, 4, .inr (.inl (fun _ => 0)))), (q2, .inl (e2, 6, .inr (.inl (fun _ => 0)))), (q3, .inl (e3, 64, .inl (fun _ => 0)))] H := hP
  have hD : va_D A [(h0, .inr (0, [.ref q1, .ref q2, .ref q3])), (q1, .inl (e1, 4, .inr (.inl (fun _ => 0)))), (q2, .inl (e2, 6, .inr (.inl (fun _ => 0)))), (q3, .inl (e3, 64, .inl (fun _ => 0)))] := hD
  refine lv_aload_n hx hb dX0_init_27 rfl (lv_at hl 0 rfl) ?_
  refine va_get (D := (dC, dI)) (ci := 0) (v := .ref q2) (C := RX0) (T := TX0) (N := 3) hx hb hts in_X0 hown hK hP 0 rfl rfl 1 (by decide) (hts _ q42) (fun _ h9 => h9) rfl dX0_init_28 ?_
  refine lv_iconst (v := 0) hx hb dX0_init_31 (by decide) ?_
  refine lv_ldc2 (v := 6148914691236517205) hx hb hown (hts _ q35) dX0_init_32 ?_
  refine va_last hx hb hK hP hD hS 2 1 rfl rfl (vp_in_nI (n := 0) (N := 6) (by decide) (by decide)) dX0_init_35 (fun H locs hP hD hS => ?_)
  have hP : va_P (dC, dI) tw_cl [(h0, .inr (0, [.ref q1, .ref q2, .ref q3])), (q1, .inl (e1, 4, .inr (.inl (fun _ => 0)))), (q2, .inl (e2, 6, .inr (.inl (vp_updL (fun _ => 0) (0 : Int32).toNatClampNeg 6148914691236517205)))), (q3, .inl (e3, 64, .inl (fun _ => 0)))] H := hP
  have hD : va_D A [(h0, .inr (0, [.ref q1, .ref q2, .ref q3])), (q1, .inl (e1, 4, .inr (.inl (fun _ => 0)))), (q2, .inl (e2, 6, .inr (.inl (vp_updL (fun _ => 0) (0 : Int32).toNatClampNeg 6148914691236517205)))), (q3, .inl (e3, 64, .inl (fun _ => 0)))] := hD
  refine lv_aload_n hx hb dX0_init_36 rfl (lv_at hl 0 rfl) ?_
  refine va_get (D := (dC, dI)) (ci := 0) (v := .ref q2) (C := RX0) (T := TX0) (N := 3) hx hb hts in_X0 hown hK hP 0 rfl rfl 1 (by decide) (hts _ q42) (fun _ h9 => h9) rfl dX0_init_37 ?_
  refine lv_iconst (v := 1) hx hb dX0_init_40 (by decide) ?_
  refine lv_ldc2 (v := 3689348814741910323) hx hb hown (hts _ q36) dX0_init_41 ?_
  refine va_last hx hb hK hP hD hS 2 1 rfl rfl (vp_in_nI (n := 1) (N := 6) (by decide) (by decide)) dX0_init_44 (fun H locs hP hD hS => ?_)
  have hP : va_P (dC, dI) tw_cl [(h0, .inr (0, [.ref q1, .ref q2, .ref q3])), (q1, .inl (e1, 4, .inr (.inl (fun _ => 0)))), (q2, .inl (e2, 6, .inr (.inl (vp_updL (vp_updL (fun _ => 0) (0 : Int32).toNatClampNeg 6148914691236517205) (1 : Int32).toNatClampNeg 3689348814741910323)))), (q3, .inl (e3, 64, .inl (fun _ => 0)))] H := hP
  have hD : va_D A [(h0, .inr (0, [.ref q1, .ref q2, .ref q3])), (q1, .inl (e1, 4, .inr (.inl (fun _ => 0)))), (q2, .inl (e2, 6, .inr (.inl (vp_updL (vp_updL (fun _ => 0) (0 : Int32).toNatClampNeg 6148914691236517205) (1 : Int32).toNatClampNeg 3689348814741910323)))), (q3, .inl (e3, 64, .inl (fun _ => 0)))] := hD
  refine lv_aload_n hx hb dX0_init_45 rfl (lv_at hl 0 rfl) ?_
  refine va_get (D := (dC, dI)) (ci := 0) (v := .ref q2) (C := RX0) (T := TX0) (N := 3) hx hb hts in_X0 hown hK hP 0 rfl rfl 1 (by decide) (hts _ q42) (fun _ h9 => h9) rfl dX0_init_46 ?_
  refine lv_iconst (v := 2) hx hb dX0_init_49 (by decide) ?_
  refine lv_ldc2 (v := 1085102592571150095) hx hb hown (hts _ q37) dX0_init_50 ?_
  refine va_last hx hb hK hP hD hS 2 1 rfl rfl (vp_in_nI (n := 2) (N := 6) (by decide) (by decide)) dX0_init_53 (fun H locs hP hD hS => ?_)
  have hP : va_P (dC, dI) tw_cl [(h0, .inr (0, [.ref q1, .ref q2, .ref q3])), (q1, .inl (e1, 4, .inr (.inl (fun _ => 0)))), (q2, .inl (e2, 6, .inr (.inl (vp_updL (vp_updL (vp_updL (fun _ => 0) (0 : Int32).toNatClampNeg 6148914691236517205) (1 : Int32).toNatClampNeg 3689348814741910323) (2 : Int32).toNatClampNeg 1085102592571150095)))), (q3, .inl (e3, 64, .inl (fun _ => 0)))] H := hP
  have hD : va_D A [(h0, .inr (0, [.ref q1, .ref q2, .ref q3])), (q1, .inl (e1, 4, .inr (.inl (fun _ => 0)))), (q2, .inl (e2, 6, .inr (.inl (vp_updL (vp_updL (vp_updL (fun _ => 0) (0 : Int32).toNatClampNeg 6148914691236517205) (1 : Int32).toNatClampNeg 3689348814741910323) (2 : Int32).toNatClampNeg 1085102592571150095)))), (q3, .inl (e3, 64, .inl (fun _ => 0)))] := hD
  refine lv_aload_n hx hb dX0_init_54 rfl (lv_at hl 0 rfl) ?_
  refine va_get (D := (dC, dI)) (ci := 0) (v := .ref q2) (C := RX0) (T := TX0) (N := 3) hx hb hts in_X0 hown hK hP 0 rfl rfl 1 (by decide) (hts _ q42) (fun _ h9 => h9) rfl dX0_init_55 ?_
  refine lv_iconst (v := 3) hx hb dX0_init_58 (by decide) ?_
  refine lv_ldc2 (v := 71777214294589695) hx hb hown (hts _ q38) dX0_init_59 ?_
  refine va_last hx hb hK hP hD hS 2 1 rfl rfl (vp_in_nI (n := 3) (N := 6) (by decide) (by decide)) dX0_init_62 (fun H locs hP hD hS => ?_)
  have hP : va_P (dC, dI) tw_cl [(h0, .inr (0, [.ref q1, .ref q2, .ref q3])), (q1, .inl (e1, 4, .inr (.inl (fun _ => 0)))), (q2, .inl (e2, 6, .inr (.inl (vp_updL (vp_updL (vp_updL (vp_updL (fun _ => 0) (0 : Int32).toNatClampNeg 6148914691236517205) (1 : Int32).toNatClampNeg 3689348814741910323) (2 : Int32).toNatClampNeg 1085102592571150095) (3 : Int32).toNatClampNeg 71777214294589695)))), (q3, .inl (e3, 64, .inl (fun _ => 0)))] H := hP
  have hD : va_D A [(h0, .inr (0, [.ref q1, .ref q2, .ref q3])), (q1, .inl (e1, 4, .inr (.inl (fun _ => 0)))), (q2, .inl (e2, 6, .inr (.inl (vp_updL (vp_updL (vp_updL (vp_updL (fun _ => 0) (0 : Int32).toNatClampNeg 6148914691236517205) (1 : Int32).toNatClampNeg 3689348814741910323) (2 : Int32).toNatClampNeg 1085102592571150095) (3 : Int32).toNatClampNeg 71777214294589695)))), (q3, .inl (e3, 64, .inl (fun _ => 0)))] := hD
  refine lv_aload_n hx hb dX0_init_63 rfl (lv_at hl 0 rfl) ?_
  refine va_get (D := (dC, dI)) (ci := 0) (v := .ref q2) (C := RX0) (T := TX0) (N := 3) hx hb hts in_X0 hown hK hP 0 rfl rfl 1 (by decide) (hts _ q42) (fun _ h9 => h9) rfl dX0_init_64 ?_
  refine lv_iconst (v := 4) hx hb dX0_init_67 (by decide) ?_
  refine lv_ldc2 (v := 281470681808895) hx hb hown (hts _ q39) dX0_init_68 ?_
  refine va_last hx hb hK hP hD hS 2 1 rfl rfl (vp_in_nI (n := 4) (N := 6) (by decide) (by decide)) dX0_init_71 (fun H locs hP hD hS => ?_)
  have hP : va_P (dC, dI) tw_cl [(h0, .inr (0, [.ref q1, .ref q2, .ref q3])), (q1, .inl (e1, 4, .inr (.inl (fun _ => 0)))), (q2, .inl (e2, 6, .inr (.inl (vp_updL (vp_updL (vp_updL (vp_updL (vp_updL (fun _ => 0) (0 : Int32).toNatClampNeg 6148914691236517205) (1 : Int32).toNatClampNeg 3689348814741910323) (2 : Int32).toNatClampNeg 1085102592571150095) (3 : Int32).toNatClampNeg 71777214294589695) (4 : Int32).toNatClampNeg 281470681808895)))), (q3, .inl (e3, 64, .inl (fun _ => 0)))] H := hP
  have hD : va_D A [(h0, .inr (0, [.ref q1, .ref q2, .ref q3])), (q1, .inl (e1, 4, .inr (.inl (fun _ => 0)))), (q2, .inl (e2, 6, .inr (.inl (vp_updL (vp_updL (vp_updL (vp_updL (vp_updL (fun _ => 0) (0 : Int32).toNatClampNeg 6148914691236517205) (1 : Int32).toNatClampNeg 3689348814741910323) (2 : Int32).toNatClampNeg 1085102592571150095) (3 : Int32).toNatClampNeg 71777214294589695) (4 : Int32).toNatClampNeg 281470681808895)))), (q3, .inl (e3, 64, .inl (fun _ => 0)))] := hD
  refine lv_aload_n hx hb dX0_init_72 rfl (lv_at hl 0 rfl) ?_
  refine va_get (D := (dC, dI)) (ci := 0) (v := .ref q2) (C := RX0) (T := TX0) (N := 3) hx hb hts in_X0 hown hK hP 0 rfl rfl 1 (by decide) (hts _ q42) (fun _ h9 => h9) rfl dX0_init_73 ?_
  refine lv_iconst (v := 5) hx hb dX0_init_76 (by decide) ?_
  refine lv_ldc2 (v := 4294967295) hx hb hown (hts _ q40) dX0_init_77 ?_
  refine va_last hx hb hK hP hD hS 2 1 rfl rfl (vp_in_nI (n := 5) (N := 6) (by decide) (by decide)) dX0_init_80 (fun H locs hP hD hS => ?_)
  have hP : va_P (dC, dI) tw_cl [(h0, .inr (0, [.ref q1, .ref q2, .ref q3])), (q1, .inl (e1, 4, .inr (.inl (fun _ => 0)))), (q2, .inl (e2, 6, .inr (.inl (vp_updL (vp_updL (vp_updL (vp_updL (vp_updL (vp_updL (fun _ => 0) (0 : Int32).toNatClampNeg 6148914691236517205) (1 : Int32).toNatClampNeg 3689348814741910323) (2 : Int32).toNatClampNeg 1085102592571150095) (3 : Int32).toNatClampNeg 71777214294589695) (4 : Int32).toNatClampNeg 281470681808895) (5 : Int32).toNatClampNeg 4294967295)))), (q3, .inl (e3, 64, .inl (fun _ => 0)))] H := hP
  have hD : va_D A [(h0, .inr (0, [.ref q1, .ref q2, .ref q3])), (q1, .inl (e1, 4, .inr (.inl (fun _ => 0)))), (q2, .inl (e2, 6, .inr (.inl (vp_updL (vp_updL (vp_updL (vp_updL (vp_updL (vp_updL (fun _ => 0) (0 : Int32).toNatClampNeg 6148914691236517205) (1 : Int32).toNatClampNeg 3689348814741910323) (2 : Int32).toNatClampNeg 1085102592571150095) (3 : Int32).toNatClampNeg 71777214294589695) (4 : Int32).toNatClampNeg 281470681808895) (5 : Int32).toNatClampNeg 4294967295)))), (q3, .inl (e3, 64, .inl (fun _ => 0)))] := hD
  rw [tc_low_mk] at hP hD
  exact W.vret hx hb hr (fun t ht hW => ⟨⟨(), rfl, trivial, q1, q2, q3, e1, e2, e3, by rw [ht]; exact hP, va_K.moved hW.alike hK, hD⟩, hS.F ht⟩) hS.2.2 dX0_init_81
set_option maxHeartbeats 4000000 in
set_option maxRecDepth 100000 in
/-- the constructor of X1 -/
theorem metX1_init (l : Launch) (dC : Nat → ClassId) (dI : Nat → Nat → Nat) (h0 sz : Nat) : Met l yX1_init (ws_ yX1_init cX1_init 1 none) ({ frames := 1, cells := 2, slots := 320, locals := 12 }) (va_Pc [.ref h0] (fun U => U.heap.size = sz ∧ va_P (dC, dI) tw_cl [(h0, .inr (1, [.null, .null]))] U.heap ∧ va_K (dC, dI) tw_cl [] U ∧ va_D (fun _ => True) [(h0, .inr (1, [.null, .null]))])) (va_Qv (fun _ : Unit => True) (fun _ t => ∃ (q1 q2 : Nat) (e1 e2 : ClassId), va_P (dC, dI) tw_cl (tw_M h0 q1 q2 e1 e2 (fun _ => 0) (fun _ => 0)) t.heap ∧ va_K (dC, dI) tw_cl (tw_TM e1 e2) t ∧ va_D (va_A [(h0, .inr (1, [.null, .null]))] sz) (tw_M h0 q1 q2 e1 e2 (fun _ => 0) (fun _ => 0))) (va_A [(h0, .inr (1, [.null, .null]))] sz)) 2 320 (va_A [(h0, .inr (1, [.null, .null]))] sz) := by
  refine Met.ofW (cc := cX1_init) (maxL := 1) (ret := none) (by decide) rfl ?_
  intro p e s m args below meth c s₁ B hml hv
  obtain ⟨rfl, hsz, hP, hK, hD0⟩ := hv
  have hx := B.exec
  have hb := B.bytes
  have hr := B.returns
  have hts := atoms_spec (ws := ws_ yX1_init cX1_init 1 none) B.pre
  have hts : ∀ w ∈ lw_all, w.before _ s = true := fun w h => hts w (List.mem_cons_of_mem _ h)
  have hown : s.vm.findClass RX1 = some m.cls := findClass_of_methodNamed B.named
  have hlocks := B.notSynchronized
  have hin : meth.name = "<init>" := (name_of_methodNamed B.named B.method).1
  subst hsz
  have hD := hD0.self (sz := s.heap.size)
  generalize hAe : va_A [(h0, .inr (1, [.null, .null]))] s.heap.size = A at hD ⊢
  have hA : ∀ q : Nat, s.heap.size ≤ q → A q := fun q h => by rw [← hAe]; exact Or.inr h
  have hS : va_S A s.heap s.heap [] := va_S.rf
  have hl := lv_entry ([.ref h0]) (n := 1) (Nat.le_of_ble_eq_true rfl)
  rw [lg_entry_eq]
  generalize (lg_sl ([.ref h0]) ++ List.replicate (1 - (lg_sl ([.ref h0])).length) Slot.unset).toArray = ls at hl ⊢
  have hl : lv_has ls 1 [(0, .ref h0)] := hl
  refine lv_aload_n hx hb dX1_init_0 rfl (lv_at hl 0 rfl) ?_
  refine W.objInit hx hb hown (hts _ q176) (hts _ q33) (hts _ q34) rfl (by rw [hml]; exact hl.1) rfl dX1_init_1 (Nat.le_of_ble_eq_true rfl) (Nat.le_of_ble_eq_true rfl) ?_
  refine W.eq (g2 := F0 m 4 ls []) rfl ?_
  refine lv_aload_n hx hb dX1_init_4 rfl (lv_at hl 0 rfl) ?_
  refine lv_sipush (v := 256) hx hb dX1_init_5 (by decide) ?_
  refine va_newa (atype := .int) (ty := .int) (n := 256) (N' := 256) (a0 := (256, .inl (fun _ => 0))) hx hb (hts _ q52) rfl hK hP hD hS hA (fun cA => rfl) (by decide) (by decide) (by decide) (Nat.le_of_ble_eq_true rfl) (Nat.le_of_ble_eq_true rfl) dX1_init_8 (fun q1 e1 H hK hP hD hS => ?_)
  have hK : va_K (dC, dI) tw_cl [(e1, .int)] s := hK
  have hP : va_P (dC, dI) tw_cl [(h0, .inr (1, [.null, .null])), (q1, .inl (e1, 256, .inl (fun _ => 0)))] H := hP
  have hD : va_D A [(h0, .inr (1, [.null, .null])), (q1, .inl (e1, 256, .inl (fun _ => 0)))] := hD
  refine va_putF (D := (dC, dI)) (ci := 1) (v := .ref q1) (ty := .array .int) (C := RX1) (T := TX1) (N := 2) hx hb hts in_X1 tyX1 tyX1_ok nmX1 hown hK hP hD hS 0 rfl rfl 0 (by decide) (hts _ q177) (fun _ h9 => h9) rfl hin rfl (by decide +kernel) rfl rfl (Nat.le_of_ble_eq_true rfl) dX1_init_10 (fun H locs hP hD hS => ?_)
  have hP : va_P (dC, dI) tw_cl [(h0, .inr (1, [.ref q1, .null])), (q1, .inl (e1, 256, .inl (fun _ => 0)))] H := hP
  have hD : va_D A [(h0, .inr (1, [.ref q1, .null])), (q1, .inl (e1, 256, .inl (fun _ => 0)))] := hD
  refine lv_aload_n hx hb dX1_init_13 rfl (lv_at hl 0 rfl) ?_
  refine lv_bipush (v := 64) hx hb dX1_init_14 (by decide) ?_
  refine va_newa (atype := .int) (ty := .int) (n := 64) (N' := 64) (a0 := (64, .inl (fun _ => 0))) hx hb (hts _ q52) rfl hK hP hD hS hA (fun cA => rfl) (by decide) (by decide) (by decide) (Nat.le_of_ble_eq_true rfl) (Nat.le_of_ble_eq_true rfl) dX1_init_16 (fun q2 e2 H hK hP hD hS => ?_)
  have hK : va_K (dC, dI) tw_cl [(e1, .int), (e2, .int)] s := hK
  have hP : va_P (dC, dI) tw_cl [(h0, .inr (1, [.ref q1, .null])), (q1, .inl (e1, 256, .inl (fun _ => 0))), (q2, .inl (e2, 64, .inl (fun _ => 0)))] H := hP
  have hD : va_D A [(h0, .inr (1, [.ref q1, .null])), (q1, .inl (e1, 256, .inl (fun _ => 0))), (q2, .inl (e2, 64, .inl (fun _ => 0)))] := hD
  refine va_putF (D := (dC, dI)) (ci := 1) (v := .ref q2) (ty := .array .int) (C := RX1) (T := TX1) (N := 2) hx hb hts in_X1 tyX1 tyX1_ok nmX1 hown hK hP hD hS 0 rfl rfl 1 (by decide) (hts _ q178) (fun _ h9 => h9) rfl hin rfl (by decide +kernel) rfl rfl (Nat.le_of_ble_eq_true rfl) dX1_init_18 (fun H locs hP hD hS => ?_)
  have hP : va_P (dC, dI) tw_cl [(h0, .inr (1, [.ref q1, .ref q2])), (q1, .inl (e1, 256, .inl (fun _ => 0))), (q2, .inl (e2, 64, .inl (fun _ => 0)))] H := hP
  have hD : va_D A [(h0, .inr (1, [.ref q1, .ref q2])), (q1, .inl (e1, 256, .inl (fun _ => 0))), (q2, .inl (e2, 64, .inl (fun _ => 0)))] := hD
  exact W.vret hx hb hr (fun t ht hW => ⟨⟨(), rfl, trivial, q1, q2, e1, e2, by rw [ht]; exact hP, va_K.moved hW.alike hK, hD⟩, hS.F ht⟩) hS.2.2 dX1_init_21
end
section
/-! walks of TruthSpectrum: bad, badPoint, digit, onesOf, sizeOf, transformed, moved, linear, magnitude -/
set_option maxHeartbeats 4000000 in
set_option maxRecDepth 100000 in
/-- bad(t) -/
theorem metX0_bad (l : Launch) (h0 : Nat) (p1 : Int32) : Met l yX0_bad (ws_ yX0_bad cX0_bad 2 (some .boolean)) ({ frames := 0, cells := 0, slots := 0, locals := 0 }) (va_Pc [.ref h0, .int p1] (fun _ => True)) (vp_Si (fun (r : Int32) => r = 0 ↔ vp_in p1 4)) 0 0 (fun _ => False) := by
  refine Met.ofW (cc := cX0_bad) (maxL := 2) (ret := (some .boolean)) (by decide) rfl ?_
  intro p e s m args below meth c s₁ B hml hv
  obtain ⟨rfl, -⟩ := hv
  have hx := B.exec
  have hb := B.bytes
  have hr := B.returns
  have hts := atoms_spec (ws := ws_ yX0_bad cX0_bad 2 (some .boolean)) B.pre
  have hts : ∀ w ∈ lw_all, w.before _ s = true := fun w h => hts w (List.mem_cons_of_mem _ h)
  have hown : s.vm.findClass RX0 = some m.cls := findClass_of_methodNamed B.named
  have hlocks := B.notSynchronized
  have hl := lv_entry ([.ref h0, .int p1]) (n := 2) (Nat.le_of_ble_eq_true rfl)
  rw [lg_entry_eq]
  generalize (lg_sl ([.ref h0, .int p1]) ++ List.replicate (2 - (lg_sl ([.ref h0, .int p1])).length) Slot.unset).toArray = ls at hl ⊢
  have hl : lv_has ls 2 [(0, .ref h0), (1, .int p1)] := hl
  refine lv_iload_n hx hb dX0_bad_0 rfl (lv_at hl 1 rfl) ?_
  refine lv_if_lt (tgt := 9) hx hb dX0_bad_1 (by decide) (fun c_1 => ?_) (fun c_1 => ?_)
  · refine lv_iconst (v := 1) hx hb dX0_bad_9 (by decide) ?_
    refine lv_goto (tgt := 14) hx hb dX0_bad_10 (by decide) ?_
    exact W.zret (v := (1 : Int32)) hx hb hr rfl (fun t ht hW => ⟨(1 : Int32), rfl, ⟨fun h => absurd h (by decide), fun h => absurd c_1 (tw_outT h).1⟩, ht⟩) (fun _ h => by cases h) dX0_bad_14
  · refine lv_iload_n hx hb dX0_bad_4 rfl (lv_at hl 1 rfl) ?_
    refine lv_iconst (v := 4) hx hb dX0_bad_5 (by decide) ?_
    refine lv_icmp_lt (tgt := 13) hx hb dX0_bad_6 (by decide) (fun c_2 => ?_) (fun c_2 => ?_)
    · refine lv_iconst (v := 0) hx hb dX0_bad_13 (by decide) ?_
      exact W.zret (v := (0 : Int32)) hx hb hr rfl (fun t ht hW => ⟨(0 : Int32), rfl, ⟨fun _ => tw_inT c_1 c_2, fun _ => rfl⟩, ht⟩) (fun _ h => by cases h) dX0_bad_14
    · refine lv_iconst (v := 1) hx hb dX0_bad_9 (by decide) ?_
      refine lv_goto (tgt := 14) hx hb dX0_bad_10 (by decide) ?_
      exact W.zret (v := (1 : Int32)) hx hb hr rfl (fun t ht hW => ⟨(1 : Int32), rfl, ⟨fun h => absurd h (by decide), fun h => absurd (tw_outT h).2.1 c_2⟩, ht⟩) (fun _ h => by cases h) dX0_bad_14
set_option maxHeartbeats 4000000 in
set_option maxRecDepth 100000 in
/-- badPoint(x) -/
theorem metX0_badPoint (l : Launch) (h0 : Nat) (p1 : Int32) : Met l yX0_badPoint (ws_ yX0_badPoint cX0_badPoint 2 (some .boolean)) ({ frames := 0, cells := 0, slots := 0, locals := 0 }) (va_Pc [.ref h0, .int p1] (fun _ => True)) (vp_Si (fun (r : Int32) => r = 0 ↔ vp_in p1 64)) 0 0 (fun _ => False) := by
  refine Met.ofW (cc := cX0_badPoint) (maxL := 2) (ret := (some .boolean)) (by decide) rfl ?_
  intro p e s m args below meth c s₁ B hml hv
  obtain ⟨rfl, -⟩ := hv
  have hx := B.exec
  have hb := B.bytes
  have hr := B.returns
  have hts := atoms_spec (ws := ws_ yX0_badPoint cX0_badPoint 2 (some .boolean)) B.pre
  have hts : ∀ w ∈ lw_all, w.before _ s = true := fun w h => hts w (List.mem_cons_of_mem _ h)
  have hown : s.vm.findClass RX0 = some m.cls := findClass_of_methodNamed B.named
  have hlocks := B.notSynchronized
  have hl := lv_entry ([.ref h0, .int p1]) (n := 2) (Nat.le_of_ble_eq_true rfl)
  rw [lg_entry_eq]
  generalize (lg_sl ([.ref h0, .int p1]) ++ List.replicate (2 - (lg_sl ([.ref h0, .int p1])).length) Slot.unset).toArray = ls at hl ⊢
  have hl : lv_has ls 2 [(0, .ref h0), (1, .int p1)] := hl
  refine lv_iload_n hx hb dX0_badPoint_0 rfl (lv_at hl 1 rfl) ?_
  refine lv_if_lt (tgt := 10) hx hb dX0_badPoint_1 (by decide) (fun c_1 => ?_) (fun c_1 => ?_)
  · refine lv_iconst (v := 1) hx hb dX0_badPoint_10 (by decide) ?_
    refine lv_goto (tgt := 15) hx hb dX0_badPoint_11 (by decide) ?_
    exact W.zret (v := (1 : Int32)) hx hb hr rfl (fun t ht hW => ⟨(1 : Int32), rfl, ⟨fun h => absurd h (by decide), fun h => absurd c_1 (tw_outP h).1⟩, ht⟩) (fun _ h => by cases h) dX0_badPoint_15
  · refine lv_iload_n hx hb dX0_badPoint_4 rfl (lv_at hl 1 rfl) ?_
    refine lv_bipush (v := 64) hx hb dX0_badPoint_5 (by decide) ?_
    refine lv_icmp_lt (tgt := 14) hx hb dX0_badPoint_7 (by decide) (fun c_2 => ?_) (fun c_2 => ?_)
    · refine lv_iconst (v := 0) hx hb dX0_badPoint_14 (by decide) ?_
      exact W.zret (v := (0 : Int32)) hx hb hr rfl (fun t ht hW => ⟨(0 : Int32), rfl, ⟨fun _ => tw_inP c_1 c_2, fun _ => rfl⟩, ht⟩) (fun _ h => by cases h) dX0_badPoint_15
    · refine lv_iconst (v := 1) hx hb dX0_badPoint_10 (by decide) ?_
      refine lv_goto (tgt := 15) hx hb dX0_badPoint_11 (by decide) ?_
      exact W.zret (v := (1 : Int32)) hx hb hr rfl (fun t ht hW => ⟨(1 : Int32), rfl, ⟨fun h => absurd h (by decide), fun h => absurd (tw_outP h).2.1 c_2⟩, ht⟩) (fun _ h => by cases h) dX0_badPoint_15
set_option maxHeartbeats 4000000 in
set_option maxRecDepth 100000 in
/-- digit(f, x) -/
theorem metX0_digit (l : Launch) (h0 : Nat) (p1 : Int64) (p2 : Int32) : Met l yX0_digit (ws_ yX0_digit cX0_digit 4 (some .int)) ({ frames := 0, cells := 0, slots := 0, locals := 0 }) (va_Pc [.ref h0, .long p1, .int p2] (fun _ => True)) (vp_Si (fun (r : Int32) => r = tc_dg p1 p2)) 0 0 (fun _ => False) := by
  refine Met.ofW (cc := cX0_digit) (maxL := 4) (ret := (some .int)) (by decide) rfl ?_
  intro p e s m args below meth c s₁ B hml hv
  obtain ⟨rfl, -⟩ := hv
  have hx := B.exec
  have hb := B.bytes
  have hr := B.returns
  have hts := atoms_spec (ws := ws_ yX0_digit cX0_digit 4 (some .int)) B.pre
  have hts : ∀ w ∈ lw_all, w.before _ s = true := fun w h => hts w (List.mem_cons_of_mem _ h)
  have hown : s.vm.findClass RX0 = some m.cls := findClass_of_methodNamed B.named
  have hlocks := B.notSynchronized
  have hl := lv_entry ([.ref h0, .long p1, .int p2]) (n := 4) (Nat.le_of_ble_eq_true rfl)
  rw [lg_entry_eq]
  generalize (lg_sl ([.ref h0, .long p1, .int p2]) ++ List.replicate (4 - (lg_sl ([.ref h0, .long p1, .int p2])).length) Slot.unset).toArray = ls at hl ⊢
  have hl : lv_has ls 4 [(0, .ref h0), (1, .long p1), (3, .int p2)] := hl
  refine lv_lload_n hx hb dX0_digit_0 rfl (lv_at hl 1 rfl) ?_
  refine lv_iload_n hx hb dX0_digit_1 rfl (lv_at hl 2 rfl) ?_
  refine lv_lushr (v := (tc_ushr p1 p2)) hx hb dX0_digit_2 rfl ?_
  refine lv_lconst (v := 1) hx hb dX0_digit_3 (by decide) ?_
  refine lv_land hx hb dX0_digit_4 ?_
  refine lv_l2i (v := ((tc_ushr p1 p2) &&& (1 : Int64)).toInt32) hx hb dX0_digit_5 rfl ?_
  exact W.iret (v := (((tc_ushr p1 p2) &&& (1 : Int64)).toInt32)) hx hb hr (fun t ht hW => ⟨(((tc_ushr p1 p2) &&& (1 : Int64)).toInt32), rfl, rfl, ht⟩) (fun _ h => by cases h) dX0_digit_6
set_option maxHeartbeats 4000000 in
set_option maxRecDepth 100000 in
/-- onesOf(f) -/
theorem metX0_onesOf (l : Launch) (dC : Nat → ClassId) (dI : Nat → Nat → Nat) (h0 q1 q2 q3 : Nat) (e1 e2 e3 : ClassId) (f : Nat → Int64) (g : Nat → Int32) (p1 : Int64) : Met l yX0_onesOf (ws_ yX0_onesOf cX0_onesOf 9 (some .int)) ({ frames := 0, cells := 0, slots := 0, locals := 0 }) (va_Pc [.ref h0, .long p1] (tw_RC dC dI h0 q1 q2 q3 e1 e2 e3 f g)) (vp_Si (fun (r : Int32) => r = tc_ones p1)) 0 0 (fun _ => False) := by
  refine Met.ofW (cc := cX0_onesOf) (maxL := 9) (ret := (some .int)) (by decide) rfl ?_
  intro p e s m args below meth c s₁ B hml hv
  obtain ⟨rfl, hP, hK⟩ := hv
  have hx := B.exec
  have hb := B.bytes
  have hr := B.returns
  have hts := atoms_spec (ws := ws_ yX0_onesOf cX0_onesOf 9 (some .int)) B.pre
  have hts : ∀ w ∈ lw_all, w.before _ s = true := fun w h => hts w (List.mem_cons_of_mem _ h)
  have hown : s.vm.findClass RX0 = some m.cls := findClass_of_methodNamed B.named
  have hlocks := B.notSynchronized
  have hl := lv_entry ([.ref h0, .long p1]) (n := 9) (Nat.le_of_ble_eq_true rfl)
  rw [lg_entry_eq]
  generalize (lg_sl ([.ref h0, .long p1]) ++ List.replicate (9 - (lg_sl ([.ref h0, .long p1])).length) Slot.unset).toArray = ls at hl ⊢
  have hl : lv_has ls 9 [(0, .ref h0), (1, .long p1)] := hl
  refine lv_lload_n hx hb dX0_onesOf_0 rfl (lv_at hl 1 rfl) ?_
  refine lv_lload_n hx hb dX0_onesOf_1 rfl (lv_at hl 1 rfl) ?_
  refine lv_iconst (v := 1) hx hb dX0_onesOf_2 (by decide) ?_
  refine lv_lushr (v := (tc_ushr p1 (1 : Int32))) hx hb dX0_onesOf_3 rfl ?_
  refine lv_aload_n hx hb dX0_onesOf_4 rfl (lv_at hl 0 rfl) ?_
  refine va_get (D := (dC, dI)) (ci := 0) (v := .ref q2) (C := RX0) (T := TX0) (N := 3) hx hb hts in_X0 hown hK hP 0 rfl rfl 1 (by decide) (hts _ q42) (fun _ h9 => h9) rfl dX0_onesOf_5 ?_
  refine lv_iconst (v := 0) hx hb dX0_onesOf_8 (by decide) ?_
  refine va_lald hx hb hK hP 2 1 rfl rfl (vp_in_nI (n := 0) (N := 6) (by decide) (by decide)) dX0_onesOf_9 ?_
  refine lv_land hx hb dX0_onesOf_10 ?_
  refine lv_lsub hx hb dX0_onesOf_11 ?_
  refine lv_lstore_n (lv' := [(3, .long (tc_oa p1)), (0, .ref h0), (1, .long p1)]) hx hb dX0_onesOf_12 rfl hl (by decide) rfl (fun ls hl => ?_)
  refine lv_lload_n hx hb dX0_onesOf_13 rfl (lv_at hl 0 rfl) ?_
  refine lv_aload_n hx hb dX0_onesOf_14 rfl (lv_at hl 1 rfl) ?_
  refine va_get (D := (dC, dI)) (ci := 0) (v := .ref q2) (C := RX0) (T := TX0) (N := 3) hx hb hts in_X0 hown hK hP 0 rfl rfl 1 (by decide) (hts _ q42) (fun _ h9 => h9) rfl dX0_onesOf_15 ?_
  refine lv_iconst (v := 1) hx hb dX0_onesOf_18 (by decide) ?_
  refine va_lald hx hb hK hP 2 1 rfl rfl (vp_in_nI (n := 1) (N := 6) (by decide) (by decide)) dX0_onesOf_19 ?_
  refine lv_land hx hb dX0_onesOf_20 ?_
  refine lv_lload_n hx hb dX0_onesOf_21 rfl (lv_at hl 0 rfl) ?_
  refine lv_iconst (v := 2) hx hb dX0_onesOf_22 (by decide) ?_
  refine lv_lushr (v := (tc_ushr (tc_oa p1) (2 : Int32))) hx hb dX0_onesOf_23 rfl ?_
  refine lv_aload_n hx hb dX0_onesOf_24 rfl (lv_at hl 1 rfl) ?_
  refine va_get (D := (dC, dI)) (ci := 0) (v := .ref q2) (C := RX0) (T := TX0) (N := 3) hx hb hts in_X0 hown hK hP 0 rfl rfl 1 (by decide) (hts _ q42) (fun _ h9 => h9) rfl dX0_onesOf_25 ?_
  refine lv_iconst (v := 1) hx hb dX0_onesOf_28 (by decide) ?_
  refine va_lald hx hb hK hP 2 1 rfl rfl (vp_in_nI (n := 1) (N := 6) (by decide) (by decide)) dX0_onesOf_29 ?_
  refine lv_land hx hb dX0_onesOf_30 ?_
  refine lv_ladd hx hb dX0_onesOf_31 ?_
  refine lv_lstore (lv' := [(5, .long (tc_ob (tc_oa p1))), (3, .long (tc_oa p1)), (0, .ref h0), (1, .long p1)]) hx hb dX0_onesOf_32 hl (by decide) rfl (fun ls hl => ?_)
  refine lv_lload hx hb dX0_onesOf_34 (lv_at hl 0 rfl) ?_
  refine lv_lload hx hb dX0_onesOf_36 (lv_at hl 0 rfl) ?_
  refine lv_iconst (v := 4) hx hb dX0_onesOf_38 (by decide) ?_
  refine lv_lushr (v := (tc_ushr (tc_ob (tc_oa p1)) (4 : Int32))) hx hb dX0_onesOf_39 rfl ?_
  refine lv_ladd hx hb dX0_onesOf_40 ?_
  refine lv_aload_n hx hb dX0_onesOf_41 rfl (lv_at hl 2 rfl) ?_
  refine va_get (D := (dC, dI)) (ci := 0) (v := .ref q2) (C := RX0) (T := TX0) (N := 3) hx hb hts in_X0 hown hK hP 0 rfl rfl 1 (by decide) (hts _ q42) (fun _ h9 => h9) rfl dX0_onesOf_42 ?_
  refine lv_iconst (v := 2) hx hb dX0_onesOf_45 (by decide) ?_
  refine va_lald hx hb hK hP 2 1 rfl rfl (vp_in_nI (n := 2) (N := 6) (by decide) (by decide)) dX0_onesOf_46 ?_
  refine lv_land hx hb dX0_onesOf_47 ?_
  refine lv_lstore (lv' := [(7, .long (tc_oc (tc_ob (tc_oa p1)))), (5, .long (tc_ob (tc_oa p1))), (3, .long (tc_oa p1)), (0, .ref h0), (1, .long p1)]) hx hb dX0_onesOf_48 hl (by decide) rfl (fun ls hl => ?_)
  refine lv_lload hx hb dX0_onesOf_50 (lv_at hl 0 rfl) ?_
  refine lv_ldc2 (v := 72340172838076673) hx hb hown (hts _ q81) dX0_onesOf_52 ?_
  refine lv_lmul hx hb dX0_onesOf_55 ?_
  refine lv_bipush (v := 56) hx hb dX0_onesOf_56 (by decide) ?_
  refine lv_lushr (v := (tc_ushr ((tc_oc (tc_ob (tc_oa p1))) * (72340172838076673 : Int64)) (56 : Int32))) hx hb dX0_onesOf_58 rfl ?_
  refine lv_l2i (v := (tc_ushr ((tc_oc (tc_ob (tc_oa p1))) * (72340172838076673 : Int64)) (56 : Int32)).toInt32) hx hb dX0_onesOf_59 rfl ?_
  exact W.iret (v := ((tc_ushr ((tc_oc (tc_ob (tc_oa p1))) * (72340172838076673 : Int64)) (56 : Int32)).toInt32)) hx hb hr (fun t ht hW => ⟨((tc_ushr ((tc_oc (tc_ob (tc_oa p1))) * (72340172838076673 : Int64)) (56 : Int32)).toInt32), rfl, rfl, ht⟩) (fun _ h => by cases h) dX0_onesOf_60
set_option maxHeartbeats 4000000 in
set_option maxRecDepth 100000 in
/-- sizeOf(x) -/
theorem metX0_sizeOf (l : Launch) (h0 : Nat) (p1 : Int32) : Met l yX0_sizeOf (ws_ yX0_sizeOf cX0_sizeOf 4 (some .int)) ({ frames := 0, cells := 0, slots := 0, locals := 0 }) (va_Pc [.ref h0, .int p1] (fun _ => True)) (vp_Si (fun (r : Int32) => r = tc_sz p1 6)) 0 0 (fun _ => False) := by
  refine Met.ofW (cc := cX0_sizeOf) (maxL := 4) (ret := (some .int)) (by decide) rfl ?_
  intro p e s m args below meth c s₁ B hml hv
  obtain ⟨rfl, -⟩ := hv
  have hx := B.exec
  have hb := B.bytes
  have hr := B.returns
  have hts := atoms_spec (ws := ws_ yX0_sizeOf cX0_sizeOf 4 (some .int)) B.pre
  have hts : ∀ w ∈ lw_all, w.before _ s = true := fun w h => hts w (List.mem_cons_of_mem _ h)
  have hown : s.vm.findClass RX0 = some m.cls := findClass_of_methodNamed B.named
  have hlocks := B.notSynchronized
  have hl := lv_entry ([.ref h0, .int p1]) (n := 4) (Nat.le_of_ble_eq_true rfl)
  rw [lg_entry_eq]
  generalize (lg_sl ([.ref h0, .int p1]) ++ List.replicate (4 - (lg_sl ([.ref h0, .int p1])).length) Slot.unset).toArray = ls at hl ⊢
  have hl : lv_has ls 4 [(0, .ref h0), (1, .int p1)] := hl
  refine lv_iconst (v := 0) hx hb dX0_sizeOf_0 (by decide) ?_
  refine lv_istore_n (lv' := [(2, .int (0 : Int32)), (0, .ref h0), (1, .int p1)]) hx hb dX0_sizeOf_1 rfl hl (by decide) rfl (fun ls hl => ?_)
  refine lv_iconst (v := 0) hx hb dX0_sizeOf_2 (by decide) ?_
  refine lv_istore_n (lv' := [(3, .int (0 : Int32)), (2, .int (0 : Int32)), (0, .ref h0), (1, .int p1)]) hx hb dX0_sizeOf_3 rfl hl (by decide) rfl (fun ls hl => ?_)
  have hl : lv_has ls 4 [(0, .ref h0), (1, .int p1), (2, .int (0 : Int32)), (3, .int (0 : Int32))] := lv_sub hl [2, 3, 1, 0] rfl
  have hl : lv_has ls 4 [(0, .ref h0), (1, .int p1), (2, .int (tc_sz p1 0)), (3, .int (nI 0))] := hl
  refine tw_loop (pc := 4) 6 (fun i ls => lv_has ls 4 [(0, .ref h0), (1, .int p1), (2, .int (tc_sz p1 i)), (3, .int (nI i))]) (fun ls hp => ?_) (fun i ls hi_i hp ih_i => ?_) 6 0 ls (by omega) hl
  · have hl := hp
    have hl : lv_has ls 4 [(0, .ref h0), (1, .int p1), (2, .int (tc_sz p1 6)), (3, .int (nI 6))] := hl
    refine lv_iload_n hx hb dX0_sizeOf_4 rfl (lv_at hl 3 rfl) ?_
    refine lv_bipush (v := 6) hx hb dX0_sizeOf_5 (by decide) ?_
    refine lv_icmp_ge (tgt := 24) hx hb dX0_sizeOf_7 (by decide) (fun _ => ?_) (fun c => absurd (nI_le (a := 6) (b := 6) (by decide) (by decide)) c)
    refine lv_iload_n hx hb dX0_sizeOf_24 rfl (lv_at hl 2 rfl) ?_
    exact W.iret (v := tc_sz p1 6) hx hb hr (fun t ht hW => ⟨tc_sz p1 6, rfl, rfl, ht⟩) (fun _ h => by cases h) dX0_sizeOf_25
  · have hl := hp
    have hl : lv_has ls 4 [(0, .ref h0), (1, .int p1), (2, .int (tc_sz p1 i)), (3, .int (nI i))] := hl
    refine lv_iload_n hx hb dX0_sizeOf_4 rfl (lv_at hl 3 rfl) ?_
    refine lv_bipush (v := 6) hx hb dX0_sizeOf_5 (by decide) ?_
    refine lv_icmp_ge (tgt := 24) hx hb dX0_sizeOf_7 (by decide) (fun c => absurd c (nI_ge (a := i) (b := 6) (by omega) (by decide))) (fun _ => ?_)
    refine lv_iload_n hx hb dX0_sizeOf_10 rfl (lv_at hl 2 rfl) ?_
    refine lv_iload_n hx hb dX0_sizeOf_11 rfl (lv_at hl 1 rfl) ?_
    refine lv_iload_n hx hb dX0_sizeOf_12 rfl (lv_at hl 3 rfl) ?_
    refine lv_ishr hx hb dX0_sizeOf_13 ?_
    refine lv_iconst (v := 1) hx hb dX0_sizeOf_14 (by decide) ?_
    refine lv_iand hx hb dX0_sizeOf_15 ?_
    refine lv_iadd hx hb dX0_sizeOf_16 ?_
    refine lv_istore_n (lv' := [(2, .int ((tc_sz p1 i) + ((p1 >>> ((nI i) &&& 31)) &&& (1 : Int32)))), (0, .ref h0), (1, .int p1), (3, .int (nI i))]) hx hb dX0_sizeOf_17 rfl hl (by decide) rfl (fun ls hl => ?_)
    refine lv_iinc (v := nI (i + 1)) (lv' := [(3, .int (nI (i + 1))), (2, .int ((tc_sz p1 i) + ((p1 >>> ((nI i) &&& 31)) &&& (1 : Int32)))), (0, .ref h0), (1, .int p1)]) hx hb dX0_sizeOf_18 hl (k := 3) rfl (nI_1 i) (by decide) rfl (fun ls hl => ?_)
    refine lv_goto (tgt := 4) hx hb dX0_sizeOf_21 (by decide) ?_
    have hl : lv_has ls 4 [(0, .ref h0), (1, .int p1), (2, .int ((tc_sz p1 i) + ((p1 >>> ((nI i) &&& 31)) &&& (1 : Int32)))), (3, .int (nI (i + 1)))] := lv_sub hl [2, 3, 1, 0] rfl
    exact ih_i ls (tw_has hl (by rw [tc_sz_s _ i]))
set_option maxHeartbeats 4000000 in
set_option maxRecDepth 100000 in
/-- transformed(f) -/
theorem metX0_transformed (l : Launch) (dC : Nat → ClassId) (dI : Nat → Nat → Nat) (h0 q1 q2 q3 : Nat) (e1 e2 e3 : ClassId) (f : Nat → Int64) (g : Nat → Int32) (p1 : Int64) : Met l yX0_transformed (ws_ yX0_transformed cX0_transformed 6 (some .long)) ({ frames := 0, cells := 0, slots := 0, locals := 0 }) (va_Pc [.ref h0, .long p1] (tw_RC dC dI h0 q1 q2 q3 e1 e2 e3 f g)) (vp_Sl (fun (r : Int64) => r = tc_tr p1 6)) 0 0 (fun _ => False) := by
  refine Met.ofW (cc := cX0_transformed) (maxL := 6) (ret := (some .long)) (by decide) rfl ?_
  intro p e s m args below meth c s₁ B hml hv
  obtain ⟨rfl, hP, hK⟩ := hv
  have hx := B.exec
  have hb := B.bytes
  have hr := B.returns
  have hts := atoms_spec (ws := ws_ yX0_transformed cX0_transformed 6 (some .long)) B.pre
  have hts : ∀ w ∈ lw_all, w.before _ s = true := fun w h => hts w (List.mem_cons_of_mem _ h)
  have hown : s.vm.findClass RX0 = some m.cls := findClass_of_methodNamed B.named
  have hlocks := B.notSynchronized
  have hl := lv_entry ([.ref h0, .long p1]) (n := 6) (Nat.le_of_ble_eq_true rfl)
  rw [lg_entry_eq]
  generalize (lg_sl ([.ref h0, .long p1]) ++ List.replicate (6 - (lg_sl ([.ref h0, .long p1])).length) Slot.unset).toArray = ls at hl ⊢
  have hl : lv_has ls 6 [(0, .ref h0), (1, .long p1)] := hl
  refine lv_lload_n hx hb dX0_transformed_0 rfl (lv_at hl 1 rfl) ?_
  refine lv_lstore_n (lv' := [(3, .long p1), (0, .ref h0), (1, .long p1)]) hx hb dX0_transformed_1 rfl hl (by decide) rfl (fun ls hl => ?_)
  refine lv_iconst (v := 0) hx hb dX0_transformed_2 (by decide) ?_
  refine lv_istore (lv' := [(5, .int (0 : Int32)), (3, .long p1), (0, .ref h0), (1, .long p1)]) hx hb dX0_transformed_3 hl (by decide) rfl (fun ls hl => ?_)
  have hl : lv_has ls 6 [(0, .ref h0), (1, .long p1), (3, .long p1), (5, .int (0 : Int32))] := lv_sub hl [2, 3, 1, 0] rfl
  have hl : lv_has ls 6 [(0, .ref h0), (1, .long p1), (3, .long (tc_tr p1 0)), (5, .int (nI 0))] := hl
  refine tw_loop (pc := 5) 6 (fun i ls => lv_has ls 6 [(0, .ref h0), (1, .long p1), (3, .long (tc_tr p1 i)), (5, .int (nI i))]) (fun ls hp => ?_) (fun i ls hi_i hp ih_i => ?_) 6 0 ls (by omega) hl
  · have hl := hp
    have hl : lv_has ls 6 [(0, .ref h0), (1, .long p1), (3, .long (tc_tr p1 6)), (5, .int (nI 6))] := hl
    refine lv_iload hx hb dX0_transformed_5 (lv_at hl 3 rfl) ?_
    refine lv_bipush (v := 6) hx hb dX0_transformed_7 (by decide) ?_
    refine lv_icmp_ge (tgt := 35) hx hb dX0_transformed_9 (by decide) (fun _ => ?_) (fun c => absurd (nI_le (a := 6) (b := 6) (by decide) (by decide)) c)
    refine lv_lload_n hx hb dX0_transformed_35 rfl (lv_at hl 2 rfl) ?_
    exact W.lret (v := tc_tr p1 6) hx hb hr (fun t ht hW => ⟨tc_tr p1 6, rfl, rfl, ht⟩) (fun _ h => by cases h) dX0_transformed_36
  · have hl := hp
    have hl : lv_has ls 6 [(0, .ref h0), (1, .long p1), (3, .long (tc_tr p1 i)), (5, .int (nI i))] := hl
    refine lv_iload hx hb dX0_transformed_5 (lv_at hl 3 rfl) ?_
    refine lv_bipush (v := 6) hx hb dX0_transformed_7 (by decide) ?_
    refine lv_icmp_ge (tgt := 35) hx hb dX0_transformed_9 (by decide) (fun c => absurd c (nI_ge (a := i) (b := 6) (by omega) (by decide))) (fun _ => ?_)
    refine lv_lload_n hx hb dX0_transformed_12 rfl (lv_at hl 2 rfl) ?_
    refine lv_lload_n hx hb dX0_transformed_13 rfl (lv_at hl 2 rfl) ?_
    refine lv_aload_n hx hb dX0_transformed_14 rfl (lv_at hl 0 rfl) ?_
    refine va_get (D := (dC, dI)) (ci := 0) (v := .ref q2) (C := RX0) (T := TX0) (N := 3) hx hb hts in_X0 hown hK hP 0 rfl rfl 1 (by decide) (hts _ q42) (fun _ h9 => h9) rfl dX0_transformed_15 ?_
    refine lv_iload hx hb dX0_transformed_18 (lv_at hl 3 rfl) ?_
    refine va_lald hx hb hK hP 2 1 rfl rfl (vp_in_nI (show i < 6 by omega) (by decide)) dX0_transformed_20 ?_
    refine lv_land hx hb dX0_transformed_21 ?_
    refine lv_iconst (v := 1) hx hb dX0_transformed_22 (by decide) ?_
    refine lv_iload hx hb dX0_transformed_23 (lv_at hl 3 rfl) ?_
    refine lv_ishl hx hb dX0_transformed_25 ?_
    refine lv_lshl (v := (tc_shl ((tc_tr p1 i) &&& (tc_low (nI i).toNatClampNeg)) ((1 : Int32) <<< ((nI i) &&& 31)))) hx hb dX0_transformed_26 rfl ?_
    refine lv_lxor hx hb dX0_transformed_27 ?_
    refine lv_lstore_n (lv' := [(3, .long ((tc_tr p1 i) ^^^ (tc_shl ((tc_tr p1 i) &&& (tc_low (nI i).toNatClampNeg)) ((1 : Int32) <<< ((nI i) &&& 31))))), (0, .ref h0), (1, .long p1), (5, .int (nI i))]) hx hb dX0_transformed_28 rfl hl (by decide) rfl (fun ls hl => ?_)
    refine lv_iinc (v := nI (i + 1)) (lv' := [(5, .int (nI (i + 1))), (3, .long ((tc_tr p1 i) ^^^ (tc_shl ((tc_tr p1 i) &&& (tc_low (nI i).toNatClampNeg)) ((1 : Int32) <<< ((nI i) &&& 31))))), (0, .ref h0), (1, .long p1)]) hx hb dX0_transformed_29 hl (k := 3) rfl (nI_1 i) (by decide) rfl (fun ls hl => ?_)
    refine lv_goto (tgt := 5) hx hb dX0_transformed_32 (by decide) ?_
    have hl : lv_has ls 6 [(0, .ref h0), (1, .long p1), (3, .long ((tc_tr p1 i) ^^^ (tc_shl ((tc_tr p1 i) &&& (tc_low (nI i).toNatClampNeg)) ((1 : Int32) <<< ((nI i) &&& 31))))), (5, .int (nI (i + 1)))] := lv_sub hl [2, 3, 1, 0] rfl
    exact ih_i ls (tw_has hl (by rw [tc_tr_s _ i]))
set_option maxHeartbeats 4000000 in
set_option maxRecDepth 100000 in
/-- moved(f, a) -/
theorem metX0_moved (l : Launch) (dC : Nat → ClassId) (dI : Nat → Nat → Nat) (h0 q1 q2 q3 : Nat) (e1 e2 e3 : ClassId) (f : Nat → Int64) (g : Nat → Int32) (p1 : Int64) (p2 : Int32) : Met l yX0_moved (ws_ yX0_moved cX0_moved 8 (some .long)) ({ frames := 0, cells := 0, slots := 0, locals := 0 }) (va_Pc [.ref h0, .long p1, .int p2] (tw_RC dC dI h0 q1 q2 q3 e1 e2 e3 f g)) (vp_Sl (fun (r : Int64) => r = tc_mv p1 p2 6)) 0 0 (fun _ => False) := by
  refine Met.ofW (cc := cX0_moved) (maxL := 8) (ret := (some .long)) (by decide) rfl ?_
  intro p e s m args below meth c s₁ B hml hv
  obtain ⟨rfl, hP, hK⟩ := hv
  have hx := B.exec
  have hb := B.bytes
  have hr := B.returns
  have hts := atoms_spec (ws := ws_ yX0_moved cX0_moved 8 (some .long)) B.pre
  have hts : ∀ w ∈ lw_all, w.before _ s = true := fun w h => hts w (List.mem_cons_of_mem _ h)
  have hown : s.vm.findClass RX0 = some m.cls := findClass_of_methodNamed B.named
  have hlocks := B.notSynchronized
  have hl := lv_entry ([.ref h0, .long p1, .int p2]) (n := 8) (Nat.le_of_ble_eq_true rfl)
  rw [lg_entry_eq]
  generalize (lg_sl ([.ref h0, .long p1, .int p2]) ++ List.replicate (8 - (lg_sl ([.ref h0, .long p1, .int p2])).length) Slot.unset).toArray = ls at hl ⊢
  have hl : lv_has ls 8 [(0, .ref h0), (1, .long p1), (3, .int p2)] := hl
  refine lv_lload_n hx hb dX0_moved_0 rfl (lv_at hl 1 rfl) ?_
  refine lv_lstore (lv' := [(4, .long p1), (0, .ref h0), (1, .long p1), (3, .int p2)]) hx hb dX0_moved_1 hl (by decide) rfl (fun ls hl => ?_)
  refine lv_iconst (v := 0) hx hb dX0_moved_3 (by decide) ?_
  refine lv_istore (lv' := [(6, .int (0 : Int32)), (4, .long p1), (0, .ref h0), (1, .long p1), (3, .int p2)]) hx hb dX0_moved_4 hl (by decide) rfl (fun ls hl => ?_)
  have hl : lv_has ls 8 [(0, .ref h0), (1, .long p1), (3, .int p2), (4, .long p1), (6, .int (0 : Int32))] := lv_sub hl [2, 3, 4, 1, 0] rfl
  have hl : lv_has ls 8 [(0, .ref h0), (1, .long p1), (3, .int p2), (4, .long (tc_mv p1 p2 0)), (6, .int (nI 0))] := hl
  refine tw_loop (pc := 6) 6 (fun i ls => lv_has ls 8 [(0, .ref h0), (1, .long p1), (3, .int p2), (4, .long (tc_mv p1 p2 i)), (6, .int (nI i))]) (fun ls hp => ?_) (fun i ls hi_i hp ih_i => ?_) 6 0 ls (by omega) hl
  · have hl := hp
    have hl : lv_has ls 8 [(0, .ref h0), (1, .long p1), (3, .int p2), (4, .long (tc_mv p1 p2 6)), (6, .int (nI 6))] := hl
    refine lv_iload hx hb dX0_moved_6 (lv_at hl 4 rfl) ?_
    refine lv_bipush (v := 6) hx hb dX0_moved_8 (by decide) ?_
    refine lv_icmp_ge (tgt := 64) hx hb dX0_moved_10 (by decide) (fun _ => ?_) (fun c => absurd (nI_le (a := 6) (b := 6) (by decide) (by decide)) c)
    refine lv_lload hx hb dX0_moved_64 (lv_at hl 3 rfl) ?_
    exact W.lret (v := tc_mv p1 p2 6) hx hb hr (fun t ht hW => ⟨tc_mv p1 p2 6, rfl, rfl, ht⟩) (fun _ h => by cases h) dX0_moved_66
  · have hl := hp
    have hl : lv_has ls 8 [(0, .ref h0), (1, .long p1), (3, .int p2), (4, .long (tc_mv p1 p2 i)), (6, .int (nI i))] := hl
    refine lv_iload hx hb dX0_moved_6 (lv_at hl 4 rfl) ?_
    refine lv_bipush (v := 6) hx hb dX0_moved_8 (by decide) ?_
    refine lv_icmp_ge (tgt := 64) hx hb dX0_moved_10 (by decide) (fun c => absurd c (nI_ge (a := i) (b := 6) (by omega) (by decide))) (fun _ => ?_)
    refine lv_iload_n hx hb dX0_moved_13 rfl (lv_at hl 2 rfl) ?_
    refine lv_iload hx hb dX0_moved_14 (lv_at hl 4 rfl) ?_
    refine lv_ishr hx hb dX0_moved_16 ?_
    refine lv_iconst (v := 1) hx hb dX0_moved_17 (by decide) ?_
    refine lv_iand hx hb dX0_moved_18 ?_
    refine lv_iconst (v := 1) hx hb dX0_moved_19 (by decide) ?_
    refine lv_icmp_ne (tgt := 58) hx hb dX0_moved_20 (by decide) (fun c_1 => ?_) (fun c_1 => ?_)
    · refine lv_iinc (v := nI (i + 1)) (lv' := [(6, .int (nI (i + 1))), (0, .ref h0), (1, .long p1), (3, .int p2), (4, .long (tc_mv p1 p2 i))]) hx hb dX0_moved_58 hl (k := 4) rfl (nI_1 i) (by decide) rfl (fun ls hl => ?_)
      refine lv_goto (tgt := 6) hx hb dX0_moved_61 (by decide) ?_
      have hl : lv_has ls 8 [(0, .ref h0), (1, .long p1), (3, .int p2), (4, .long (tc_mv p1 p2 i)), (6, .int (nI (i + 1)))] := lv_sub hl [1, 2, 3, 4, 0] rfl
      exact ih_i ls (tw_has hl (by rw [tc_mv_s _ _ i, if_neg c_1]))
    · refine lv_iconst (v := 1) hx hb dX0_moved_23 (by decide) ?_
      refine lv_iload hx hb dX0_moved_24 (lv_at hl 4 rfl) ?_
      refine lv_ishl hx hb dX0_moved_26 ?_
      refine lv_istore (lv' := [(7, .int ((1 : Int32) <<< ((nI i) &&& 31))), (0, .ref h0), (1, .long p1), (3, .int p2), (4, .long (tc_mv p1 p2 i)), (6, .int (nI i))]) hx hb dX0_moved_27 hl (by decide) rfl (fun ls hl => ?_)
      refine lv_lload hx hb dX0_moved_29 (lv_at hl 4 rfl) ?_
      refine lv_aload_n hx hb dX0_moved_31 rfl (lv_at hl 1 rfl) ?_
      refine va_get (D := (dC, dI)) (ci := 0) (v := .ref q2) (C := RX0) (T := TX0) (N := 3) hx hb hts in_X0 hown hK hP 0 rfl rfl 1 (by decide) (hts _ q42) (fun _ h9 => h9) rfl dX0_moved_32 ?_
      refine lv_iload hx hb dX0_moved_35 (lv_at hl 5 rfl) ?_
      refine va_lald hx hb hK hP 2 1 rfl rfl (vp_in_nI (show i < 6 by omega) (by decide)) dX0_moved_37 ?_
      refine lv_land hx hb dX0_moved_38 ?_
      refine lv_iload hx hb dX0_moved_39 (lv_at hl 0 rfl) ?_
      refine lv_lshl (v := (tc_shl ((tc_mv p1 p2 i) &&& (tc_low (nI i).toNatClampNeg)) ((1 : Int32) <<< ((nI i) &&& 31)))) hx hb dX0_moved_41 rfl ?_
      refine lv_lload hx hb dX0_moved_42 (lv_at hl 4 rfl) ?_
      refine lv_iload hx hb dX0_moved_44 (lv_at hl 0 rfl) ?_
      refine lv_lushr (v := (tc_ushr (tc_mv p1 p2 i) ((1 : Int32) <<< ((nI i) &&& 31)))) hx hb dX0_moved_46 rfl ?_
      refine lv_aload_n hx hb dX0_moved_47 rfl (lv_at hl 1 rfl) ?_
      refine va_get (D := (dC, dI)) (ci := 0) (v := .ref q2) (C := RX0) (T := TX0) (N := 3) hx hb hts in_X0 hown hK hP 0 rfl rfl 1 (by decide) (hts _ q42) (fun _ h9 => h9) rfl dX0_moved_48 ?_
      refine lv_iload hx hb dX0_moved_51 (lv_at hl 5 rfl) ?_
      refine va_lald hx hb hK hP 2 1 rfl rfl (vp_in_nI (show i < 6 by omega) (by decide)) dX0_moved_53 ?_
      refine lv_land hx hb dX0_moved_54 ?_
      refine lv_lor hx hb dX0_moved_55 ?_
      refine lv_lstore (lv' := [(4, .long ((tc_shl ((tc_mv p1 p2 i) &&& (tc_low (nI i).toNatClampNeg)) ((1 : Int32) <<< ((nI i) &&& 31))) ||| ((tc_ushr (tc_mv p1 p2 i) ((1 : Int32) <<< ((nI i) &&& 31))) &&& (tc_low (nI i).toNatClampNeg)))), (7, .int ((1 : Int32) <<< ((nI i) &&& 31))), (0, .ref h0), (1, .long p1), (3, .int p2), (6, .int (nI i))]) hx hb dX0_moved_56 hl (by decide) rfl (fun ls hl => ?_)
      refine lv_iinc (v := nI (i + 1)) (lv' := [(6, .int (nI (i + 1))), (4, .long ((tc_shl ((tc_mv p1 p2 i) &&& (tc_low (nI i).toNatClampNeg)) ((1 : Int32) <<< ((nI i) &&& 31))) ||| ((tc_ushr (tc_mv p1 p2 i) ((1 : Int32) <<< ((nI i) &&& 31))) &&& (tc_low (nI i).toNatClampNeg)))), (7, .int ((1 : Int32) <<< ((nI i) &&& 31))), (0, .ref h0), (1, .long p1), (3, .int p2)]) hx hb dX0_moved_58 hl (k := 5) rfl (nI_1 i) (by decide) rfl (fun ls hl => ?_)
      refine lv_goto (tgt := 6) hx hb dX0_moved_61 (by decide) ?_
      have hl : lv_has ls 8 [(0, .ref h0), (1, .long p1), (3, .int p2), (4, .long ((tc_shl ((tc_mv p1 p2 i) &&& (tc_low (nI i).toNatClampNeg)) ((1 : Int32) <<< ((nI i) &&& 31))) ||| ((tc_ushr (tc_mv p1 p2 i) ((1 : Int32) <<< ((nI i) &&& 31))) &&& (tc_low (nI i).toNatClampNeg)))), (6, .int (nI (i + 1)))] := lv_sub hl [3, 4, 5, 1, 0] rfl
      exact ih_i ls (tw_has hl (by rw [tc_mv_s _ _ i, if_pos c_1]))
set_option maxHeartbeats 4000000 in
set_option maxRecDepth 100000 in
/-- linear(b) -/
theorem metX0_linear (l : Launch) (dC : Nat → ClassId) (dI : Nat → Nat → Nat) (h0 q1 q2 q3 : Nat) (e1 e2 e3 : ClassId) (f : Nat → Int64) (g : Nat → Int32) (p1 : Int32) : Met l yX0_linear (ws_ yX0_linear cX0_linear 5 (some .long)) ({ frames := 0, cells := 0, slots := 0, locals := 0 }) (va_Pc [.ref h0, .int p1] (tw_RC dC dI h0 q1 q2 q3 e1 e2 e3 f g)) (vp_Sl (fun (r : Int64) => r = tc_ln p1 6)) 0 0 (fun _ => False) := by
  refine Met.ofW (cc := cX0_linear) (maxL := 5) (ret := (some .long)) (by decide) rfl ?_
  intro p e s m args below meth c s₁ B hml hv
  obtain ⟨rfl, hP, hK⟩ := hv
  have hx := B.exec
  have hb := B.bytes
  have hr := B.returns
  have hts := atoms_spec (ws := ws_ yX0_linear cX0_linear 5 (some .long)) B.pre
  have hts : ∀ w ∈ lw_all, w.before _ s = true := fun w h => hts w (List.mem_cons_of_mem _ h)
  have hown : s.vm.findClass RX0 = some m.cls := findClass_of_methodNamed B.named
  have hlocks := B.notSynchronized
  have hl := lv_entry ([.ref h0, .int p1]) (n := 5) (Nat.le_of_ble_eq_true rfl)
  rw [lg_entry_eq]
  generalize (lg_sl ([.ref h0, .int p1]) ++ List.replicate (5 - (lg_sl ([.ref h0, .int p1])).length) Slot.unset).toArray = ls at hl ⊢
  have hl : lv_has ls 5 [(0, .ref h0), (1, .int p1)] := hl
  refine lv_lconst (v := 0) hx hb dX0_linear_0 (by decide) ?_
  refine lv_lstore_n (lv' := [(2, .long (0 : Int64)), (0, .ref h0), (1, .int p1)]) hx hb dX0_linear_1 rfl hl (by decide) rfl (fun ls hl => ?_)
  refine lv_iconst (v := 0) hx hb dX0_linear_2 (by decide) ?_
  refine lv_istore (lv' := [(4, .int (0 : Int32)), (2, .long (0 : Int64)), (0, .ref h0), (1, .int p1)]) hx hb dX0_linear_3 hl (by decide) rfl (fun ls hl => ?_)
  have hl : lv_has ls 5 [(0, .ref h0), (1, .int p1), (2, .long (0 : Int64)), (4, .int (0 : Int32))] := lv_sub hl [2, 3, 1, 0] rfl
  have hl : lv_has ls 5 [(0, .ref h0), (1, .int p1), (2, .long (tc_ln p1 0)), (4, .int (nI 0))] := hl
  refine tw_loop (pc := 5) 6 (fun i ls => lv_has ls 5 [(0, .ref h0), (1, .int p1), (2, .long (tc_ln p1 i)), (4, .int (nI i))]) (fun ls hp => ?_) (fun i ls hi_i hp ih_i => ?_) 6 0 ls (by omega) hl
  · have hl := hp
    have hl : lv_has ls 5 [(0, .ref h0), (1, .int p1), (2, .long (tc_ln p1 6)), (4, .int (nI 6))] := hl
    refine lv_iload hx hb dX0_linear_5 (lv_at hl 3 rfl) ?_
    refine lv_bipush (v := 6) hx hb dX0_linear_7 (by decide) ?_
    refine lv_icmp_ge (tgt := 42) hx hb dX0_linear_9 (by decide) (fun _ => ?_) (fun c => absurd (nI_le (a := 6) (b := 6) (by decide) (by decide)) c)
    refine lv_lload_n hx hb dX0_linear_42 rfl (lv_at hl 2 rfl) ?_
    exact W.lret (v := tc_ln p1 6) hx hb hr (fun t ht hW => ⟨tc_ln p1 6, rfl, rfl, ht⟩) (fun _ h => by cases h) dX0_linear_43
  · have hl := hp
    have hl : lv_has ls 5 [(0, .ref h0), (1, .int p1), (2, .long (tc_ln p1 i)), (4, .int (nI i))] := hl
    refine lv_iload hx hb dX0_linear_5 (lv_at hl 3 rfl) ?_
    refine lv_bipush (v := 6) hx hb dX0_linear_7 (by decide) ?_
    refine lv_icmp_ge (tgt := 42) hx hb dX0_linear_9 (by decide) (fun c => absurd c (nI_ge (a := i) (b := 6) (by omega) (by decide))) (fun _ => ?_)
    refine lv_iload_n hx hb dX0_linear_12 rfl (lv_at hl 1 rfl) ?_
    refine lv_iload hx hb dX0_linear_13 (lv_at hl 3 rfl) ?_
    refine lv_ishr hx hb dX0_linear_15 ?_
    refine lv_iconst (v := 1) hx hb dX0_linear_16 (by decide) ?_
    refine lv_iand hx hb dX0_linear_17 ?_
    refine lv_iconst (v := 1) hx hb dX0_linear_18 (by decide) ?_
    refine lv_icmp_ne (tgt := 36) hx hb dX0_linear_19 (by decide) (fun c_1 => ?_) (fun c_1 => ?_)
    · refine lv_iinc (v := nI (i + 1)) (lv' := [(4, .int (nI (i + 1))), (0, .ref h0), (1, .int p1), (2, .long (tc_ln p1 i))]) hx hb dX0_linear_36 hl (k := 3) rfl (nI_1 i) (by decide) rfl (fun ls hl => ?_)
      refine lv_goto (tgt := 5) hx hb dX0_linear_39 (by decide) ?_
      have hl : lv_has ls 5 [(0, .ref h0), (1, .int p1), (2, .long (tc_ln p1 i)), (4, .int (nI (i + 1)))] := lv_sub hl [1, 2, 3, 0] rfl
      exact ih_i ls (tw_has hl (by rw [tc_ln_s _ i, if_neg c_1]))
    · refine lv_lload_n hx hb dX0_linear_22 rfl (lv_at hl 2 rfl) ?_
      refine lv_aload_n hx hb dX0_linear_23 rfl (lv_at hl 0 rfl) ?_
      refine va_get (D := (dC, dI)) (ci := 0) (v := .ref q2) (C := RX0) (T := TX0) (N := 3) hx hb hts in_X0 hown hK hP 0 rfl rfl 1 (by decide) (hts _ q42) (fun _ h9 => h9) rfl dX0_linear_24 ?_
      refine lv_iload hx hb dX0_linear_27 (lv_at hl 3 rfl) ?_
      refine va_lald hx hb hK hP 2 1 rfl rfl (vp_in_nI (show i < 6 by omega) (by decide)) dX0_linear_29 ?_
      refine lv_ldc2 (v := -1) hx hb hown (hts _ q86) dX0_linear_30 ?_
      refine lv_lxor hx hb dX0_linear_33 ?_
      refine lv_lxor hx hb dX0_linear_34 ?_
      refine lv_lstore_n (lv' := [(2, .long ((tc_ln p1 i) ^^^ ((tc_low (nI i).toNatClampNeg) ^^^ (-1 : Int64)))), (0, .ref h0), (1, .int p1), (4, .int (nI i))]) hx hb dX0_linear_35 rfl hl (by decide) rfl (fun ls hl => ?_)
      refine lv_iinc (v := nI (i + 1)) (lv' := [(4, .int (nI (i + 1))), (2, .long ((tc_ln p1 i) ^^^ ((tc_low (nI i).toNatClampNeg) ^^^ (-1 : Int64)))), (0, .ref h0), (1, .int p1)]) hx hb dX0_linear_36 hl (k := 3) rfl (nI_1 i) (by decide) rfl (fun ls hl => ?_)
      refine lv_goto (tgt := 5) hx hb dX0_linear_39 (by decide) ?_
      have hl : lv_has ls 5 [(0, .ref h0), (1, .int p1), (2, .long ((tc_ln p1 i) ^^^ ((tc_low (nI i).toNatClampNeg) ^^^ (-1 : Int64)))), (4, .int (nI (i + 1)))] := lv_sub hl [2, 3, 1, 0] rfl
      exact ih_i ls (tw_has hl (by rw [tc_ln_s _ i, if_pos c_1]))
set_option maxHeartbeats 4000000 in
set_option maxRecDepth 100000 in
/-- magnitude(v) -/
theorem metX0_magnitude (l : Launch) (h0 : Nat) (p1 : Int32) : Met l yX0_magnitude (ws_ yX0_magnitude cX0_magnitude 2 (some .int)) ({ frames := 0, cells := 0, slots := 0, locals := 0 }) (va_Pc [.ref h0, .int p1] (fun _ => True)) (vp_Si (fun (r : Int32) => r = tc_mag p1)) 0 0 (fun _ => False) := by
  refine Met.ofW (cc := cX0_magnitude) (maxL := 2) (ret := (some .int)) (by decide) rfl ?_
  intro p e s m args below meth c s₁ B hml hv
  obtain ⟨rfl, -⟩ := hv
  have hx := B.exec
  have hb := B.bytes
  have hr := B.returns
  have hts := atoms_spec (ws := ws_ yX0_magnitude cX0_magnitude 2 (some .int)) B.pre
  have hts : ∀ w ∈ lw_all, w.before _ s = true := fun w h => hts w (List.mem_cons_of_mem _ h)
  have hown : s.vm.findClass RX0 = some m.cls := findClass_of_methodNamed B.named
  have hlocks := B.notSynchronized
  have hl := lv_entry ([.ref h0, .int p1]) (n := 2) (Nat.le_of_ble_eq_true rfl)
  rw [lg_entry_eq]
  generalize (lg_sl ([.ref h0, .int p1]) ++ List.replicate (2 - (lg_sl ([.ref h0, .int p1])).length) Slot.unset).toArray = ls at hl ⊢
  have hl : lv_has ls 2 [(0, .ref h0), (1, .int p1)] := hl
  refine lv_iload_n hx hb dX0_magnitude_0 rfl (lv_at hl 1 rfl) ?_
  refine lv_if_ge (tgt := 9) hx hb dX0_magnitude_1 (by decide) (fun c_1 => ?_) (fun c_1 => ?_)
  · refine lv_iload_n hx hb dX0_magnitude_9 rfl (lv_at hl 1 rfl) ?_
    exact W.iret (v := p1) hx hb hr (fun t ht hW => ⟨p1, rfl, by rw [tc_mag, if_pos c_1], ht⟩) (fun _ h => by cases h) dX0_magnitude_10
  · refine lv_iload_n hx hb dX0_magnitude_4 rfl (lv_at hl 1 rfl) ?_
    refine lv_ineg hx hb dX0_magnitude_5 ?_
    refine lv_goto (tgt := 10) hx hb dX0_magnitude_6 (by decide) ?_
    exact W.iret (v := (-p1)) hx hb hr (fun t ht hW => ⟨(-p1), rfl, by rw [tc_mag, if_neg c_1], ht⟩) (fun _ h => by cases h) dX0_magnitude_10
end
section
/-! walks of TruthSpectrum: put, turnForm, combine, shift -/
set_option maxHeartbeats 4000000 in
set_option maxRecDepth 100000 in
/-- put(t, x, v) -/
theorem metX0_put (l : Launch) (dC : Nat → ClassId) (dI : Nat → Nat → Nat) (h0 q1 q2 q3 : Nat) (e1 e2 e3 : ClassId) (sz : Nat) (f : Nat → Int64) (g : Nat → Int32) (p1 : Int32) (p2 : Int32) (p3 : Int32) : Met l yX0_put (ws_ yX0_put cX0_put 5 (some .int)) ({ frames := 1, cells := 0, slots := 0, locals := 23 }) (va_Pc [.ref h0, .int p1, .int p2, .int p3] (tw_SC dC dI h0 q1 q2 q3 e1 e2 e3 sz f g)) (va_Qi (fun (r : Int32) (u : ((Nat → Int64) × (Nat → Int32))) => ((vp_in p1 4 ∧ vp_in p2 64 ∧ ¬ p3 < 0 ∧ p3 ≤ (1 : Int32)) → r = tc_dg (f p1.toNatClampNeg) p2 ∧ u = (tc_put f p1 p2 p3, g)) ∧ (¬ (vp_in p1 4 ∧ vp_in p2 64 ∧ ¬ p3 < 0 ∧ p3 ≤ (1 : Int32)) → r = (-1000 : Int32) ∧ u = (f, g))) (tw_BC dC dI h0 q1 q2 q3 e1 e2 e3 (va_A (tw_C h0 q1 q2 q3 e1 e2 e3 f g) sz)) (va_A (tw_C h0 q1 q2 q3 e1 e2 e3 f g) sz)) 0 0 (va_A (tw_C h0 q1 q2 q3 e1 e2 e3 f g) sz) := by
  refine Met.ofW (cc := cX0_put) (maxL := 5) (ret := (some .int)) (by decide) rfl ?_
  intro p e s m args below meth c s₁ B hml hv
  obtain ⟨rfl, hsz, hP, hK, hD0⟩ := hv
  have hx := B.exec
  have hb := B.bytes
  have hr := B.returns
  have hts := atoms_spec (ws := ws_ yX0_put cX0_put 5 (some .int)) B.pre
  have hts : ∀ w ∈ lw_all, w.before _ s = true := fun w h => hts w (List.mem_cons_of_mem _ h)
  have hown : s.vm.findClass RX0 = some m.cls := findClass_of_methodNamed B.named
  have hlocks := B.notSynchronized
  subst hsz
  have hD := hD0.self (sz := s.heap.size)
  generalize hAe : va_A (tw_C h0 q1 q2 q3 e1 e2 e3 f g) s.heap.size = A at hD ⊢
  have hA : ∀ q : Nat, s.heap.size ≤ q → A q := fun q h => by rw [← hAe]; exact Or.inr h
  have hS : va_S A s.heap s.heap [] := va_S.rf
  have hl := lv_entry ([.ref h0, .int p1, .int p2, .int p3]) (n := 5) (Nat.le_of_ble_eq_true rfl)
  rw [lg_entry_eq]
  generalize (lg_sl ([.ref h0, .int p1, .int p2, .int p3]) ++ List.replicate (5 - (lg_sl ([.ref h0, .int p1, .int p2, .int p3])).length) Slot.unset).toArray = ls at hl ⊢
  have hl : lv_has ls 5 [(0, .ref h0), (1, .int p1), (2, .int p2), (3, .int p3)] := hl
  refine lv_aload_n hx hb dX0_put_0 rfl (lv_at hl 0 rfl) ?_
  refine lv_iload_n hx hb dX0_put_1 rfl (lv_at hl 1 rfl) ?_
  refine vp_callSi (W.runV (As := [.int p1]) (rest := []) ⟨hx, hb, hml, hown, hts⟩ (metX0_bad l h0 p1) (cwV 1 hts (lw_V q57 q59 qs0 q25 q60) rfl rfl rfl (by decide +kernel) ⟨Nat.le_of_ble_eq_true rfl, Nat.le_of_ble_eq_true rfl⟩) (tw_pre0C hK hP _) rfl rfl hl.1 rfl (lv_room (Nat.le_of_ble_eq_true rfl)) dX0_put_2 ⟨Nat.le_of_ble_eq_true rfl, Nat.le_of_ble_eq_true rfl⟩) (fun r_1 hr_1 => ?_)
  refine lv_if_ne (tgt := 25) hx hb dX0_put_5 (by decide) (fun c_2 => ?_) (fun c_2 => ?_)
  · have b_2 : ¬ vp_in p1 4 := fun h => c_2 (hr_1.mpr h)
    refine lv_sipush (v := -1000) hx hb dX0_put_25 (by decide) ?_
    exact W.iret (v := (-1000 : Int32)) hx hb hr (fun t ht hW => ⟨⟨(-1000 : Int32), (f, g), rfl, ⟨fun h => absurd h.1 b_2, fun _ => ⟨rfl, rfl⟩⟩, by rw [ht]; exact hP, va_K.moved hW.alike hK, hD⟩, hS.F ht⟩) hS.2.2 dX0_put_28
  · have b_2 : vp_in p1 4 := hr_1.mp c_2
    refine lv_aload_n hx hb dX0_put_8 rfl (lv_at hl 0 rfl) ?_
    refine lv_iload_n hx hb dX0_put_9 rfl (lv_at hl 2 rfl) ?_
    refine vp_callSi (W.runV (As := [.int p2]) (rest := []) ⟨hx, hb, hml, hown, hts⟩ (metX0_badPoint l h0 p2) (cwV 1 hts (lw_V q61 q63 qs1 q25 q64) rfl rfl rfl (by decide +kernel) ⟨Nat.le_of_ble_eq_true rfl, Nat.le_of_ble_eq_true rfl⟩) (tw_pre0C hK hP _) rfl rfl hl.1 rfl (lv_room (Nat.le_of_ble_eq_true rfl)) dX0_put_10 ⟨Nat.le_of_ble_eq_true rfl, Nat.le_of_ble_eq_true rfl⟩) (fun r_3 hr_3 => ?_)
    refine lv_if_ne (tgt := 25) hx hb dX0_put_13 (by decide) (fun c_4 => ?_) (fun c_4 => ?_)
    · have b_4 : ¬ vp_in p2 64 := fun h => c_4 (hr_3.mpr h)
      refine lv_sipush (v := -1000) hx hb dX0_put_25 (by decide) ?_
      exact W.iret (v := (-1000 : Int32)) hx hb hr (fun t ht hW => ⟨⟨(-1000 : Int32), (f, g), rfl, ⟨fun h => absurd h.2.1 b_4, fun _ => ⟨rfl, rfl⟩⟩, by rw [ht]; exact hP, va_K.moved hW.alike hK, hD⟩, hS.F ht⟩) hS.2.2 dX0_put_28
    · have b_4 : vp_in p2 64 := hr_3.mp c_4
      refine lv_iload_n hx hb dX0_put_16 rfl (lv_at hl 3 rfl) ?_
      refine lv_if_lt (tgt := 25) hx hb dX0_put_17 (by decide) (fun c_5 => ?_) (fun c_5 => ?_)
      · refine lv_sipush (v := -1000) hx hb dX0_put_25 (by decide) ?_
        exact W.iret (v := (-1000 : Int32)) hx hb hr (fun t ht hW => ⟨⟨(-1000 : Int32), (f, g), rfl, ⟨fun h => absurd h.2.2.1 (fun hn => hn c_5), fun _ => ⟨rfl, rfl⟩⟩, by rw [ht]; exact hP, va_K.moved hW.alike hK, hD⟩, hS.F ht⟩) hS.2.2 dX0_put_28
      · refine lv_iload_n hx hb dX0_put_20 rfl (lv_at hl 3 rfl) ?_
        refine lv_iconst (v := 1) hx hb dX0_put_21 (by decide) ?_
        refine lv_icmp_le (tgt := 29) hx hb dX0_put_22 (by decide) (fun c_6 => ?_) (fun c_6 => ?_)
        · refine lv_aload_n hx hb dX0_put_29 rfl (lv_at hl 0 rfl) ?_
          refine lv_aload_n hx hb dX0_put_30 rfl (lv_at hl 0 rfl) ?_
          refine va_get (D := (dC, dI)) (ci := 0) (v := .ref q1) (C := RX0) (T := TX0) (N := 3) hx hb hts in_X0 hown hK hP 0 rfl rfl 0 (by decide) (hts _ q41) (fun _ h9 => h9) rfl dX0_put_31 ?_
          refine lv_iload_n hx hb dX0_put_34 rfl (lv_at hl 1 rfl) ?_
          refine va_lald hx hb hK hP 1 0 rfl rfl b_2 dX0_put_35 ?_
          refine lv_iload_n hx hb dX0_put_36 rfl (lv_at hl 2 rfl) ?_
          refine vp_callSi (W.runV (As := [.long (f p1.toNatClampNeg), .int p2]) (rest := []) ⟨hx, hb, hml, hown, hts⟩ (metX0_digit l h0 (f p1.toNatClampNeg) p2) (cwV 2 hts (lw_V q65 q67 qs2 q25 q68) rfl rfl rfl (by decide +kernel) ⟨Nat.le_of_ble_eq_true rfl, Nat.le_of_ble_eq_true rfl⟩) (tw_pre0C hK hP _) rfl rfl hl.1 rfl (lv_room (Nat.le_of_ble_eq_true rfl)) dX0_put_37 ⟨Nat.le_of_ble_eq_true rfl, Nat.le_of_ble_eq_true rfl⟩) (fun r_7 hr_7 => ?_)
          rw [hr_7]
          refine lv_istore (lv' := [(4, .int (tc_dg (f p1.toNatClampNeg) p2)), (0, .ref h0), (1, .int p1), (2, .int p2), (3, .int p3)]) hx hb dX0_put_40 hl (by decide) rfl (fun ls hl => ?_)
          refine lv_iload hx hb dX0_put_42 (lv_at hl 0 rfl) ?_
          refine lv_iload_n hx hb dX0_put_44 rfl (lv_at hl 4 rfl) ?_
          refine lv_icmp_eq (tgt := 64) hx hb dX0_put_45 (by decide) (fun c_8 => ?_) (fun c_8 => ?_)
          · refine lv_iload hx hb dX0_put_64 (lv_at hl 0 rfl) ?_
            exact W.iret (v := (tc_dg (f p1.toNatClampNeg) p2)) hx hb hr (fun t ht hW => ⟨⟨(tc_dg (f p1.toNatClampNeg) p2), (f, g), rfl, ⟨fun _ => ⟨rfl, by rw [tc_put, if_pos c_8]⟩, fun h => absurd ⟨b_2, b_4, c_5, c_6⟩ h⟩, by rw [ht]; exact hP, va_K.moved hW.alike hK, hD⟩, hS.F ht⟩) hS.2.2 dX0_put_66
          · refine lv_aload_n hx hb dX0_put_48 rfl (lv_at hl 1 rfl) ?_
            refine va_get (D := (dC, dI)) (ci := 0) (v := .ref q1) (C := RX0) (T := TX0) (N := 3) hx hb hts in_X0 hown hK hP 0 rfl rfl 0 (by decide) (hts _ q41) (fun _ h9 => h9) rfl dX0_put_49 ?_
            refine lv_iload_n hx hb dX0_put_52 rfl (lv_at hl 2 rfl) ?_
            refine lv_aload_n hx hb dX0_put_53 rfl (lv_at hl 1 rfl) ?_
            refine va_get (D := (dC, dI)) (ci := 0) (v := .ref q1) (C := RX0) (T := TX0) (N := 3) hx hb hts in_X0 hown hK hP 0 rfl rfl 0 (by decide) (hts _ q41) (fun _ h9 => h9) rfl dX0_put_54 ?_
            refine lv_iload_n hx hb dX0_put_57 rfl (lv_at hl 2 rfl) ?_
            refine va_lald hx hb hK hP 1 0 rfl rfl b_2 dX0_put_58 ?_
            refine lv_lconst (v := 1) hx hb dX0_put_59 (by decide) ?_
            refine lv_iload_n hx hb dX0_put_60 rfl (lv_at hl 3 rfl) ?_
            refine lv_lshl (v := (tc_shl (1 : Int64) p2)) hx hb dX0_put_61 rfl ?_
            refine lv_lxor hx hb dX0_put_62 ?_
            refine va_last hx hb hK hP hD hS 1 0 rfl rfl b_2 dX0_put_63 (fun H locs hP hD hS => ?_)
            have hP : va_P (dC, dI) tw_cl (tw_C h0 q1 q2 q3 e1 e2 e3 (vp_updL f p1.toNatClampNeg ((f p1.toNatClampNeg) ^^^ (tc_shl (1 : Int64) p2))) g) H := hP
            have hD : va_D A (tw_C h0 q1 q2 q3 e1 e2 e3 (vp_updL f p1.toNatClampNeg ((f p1.toNatClampNeg) ^^^ (tc_shl (1 : Int64) p2))) g) := hD
            refine lv_iload hx hb dX0_put_64 (lv_at hl 0 rfl) ?_
            exact W.iret (v := (tc_dg (f p1.toNatClampNeg) p2)) hx hb hr (fun t ht hW => ⟨⟨(tc_dg (f p1.toNatClampNeg) p2), ((vp_updL f p1.toNatClampNeg ((f p1.toNatClampNeg) ^^^ (tc_shl (1 : Int64) p2))), g), rfl, ⟨fun _ => ⟨rfl, by rw [tc_put, if_neg c_8]⟩, fun h => absurd ⟨b_2, b_4, c_5, c_6⟩ h⟩, by rw [ht]; exact hP, va_K.moved hW.alike hK, hD⟩, hS.F ht⟩) hS.2.2 dX0_put_66
        · refine lv_sipush (v := -1000) hx hb dX0_put_25 (by decide) ?_
          exact W.iret (v := (-1000 : Int32)) hx hb hr (fun t ht hW => ⟨⟨(-1000 : Int32), (f, g), rfl, ⟨fun h => absurd h.2.2.2 c_6, fun _ => ⟨rfl, rfl⟩⟩, by rw [ht]; exact hP, va_K.moved hW.alike hK, hD⟩, hS.F ht⟩) hS.2.2 dX0_put_28
set_option maxHeartbeats 4000000 in
set_option maxRecDepth 100000 in
/-- turnForm(t, u) -/
theorem metX0_turnForm (l : Launch) (dC : Nat → ClassId) (dI : Nat → Nat → Nat) (h0 q1 q2 q3 : Nat) (e1 e2 e3 : ClassId) (sz : Nat) (f : Nat → Int64) (g : Nat → Int32) (p1 : Int32) (p2 : Int32) : Met l yX0_turnForm (ws_ yX0_turnForm cX0_turnForm 5 (some .int)) ({ frames := 1, cells := 0, slots := 0, locals := 28 }) (va_Pc [.ref h0, .int p1, .int p2] (tw_SC dC dI h0 q1 q2 q3 e1 e2 e3 sz f g)) (va_Qi (fun (r : Int32) (u : ((Nat → Int64) × (Nat → Int32))) => ((vp_in p1 4 ∧ vp_in p2 64) → r = tc_ones (tc_turn f p1 p2 p1.toNatClampNeg) ∧ u = (tc_turn f p1 p2, g)) ∧ (¬ (vp_in p1 4 ∧ vp_in p2 64) → r = (-1000 : Int32) ∧ u = (f, g))) (tw_BC dC dI h0 q1 q2 q3 e1 e2 e3 (va_A (tw_C h0 q1 q2 q3 e1 e2 e3 f g) sz)) (va_A (tw_C h0 q1 q2 q3 e1 e2 e3 f g) sz)) 0 0 (va_A (tw_C h0 q1 q2 q3 e1 e2 e3 f g) sz) := by
  refine Met.ofW (cc := cX0_turnForm) (maxL := 5) (ret := (some .int)) (by decide) rfl ?_
  intro p e s m args below meth c s₁ B hml hv
  obtain ⟨rfl, hsz, hP, hK, hD0⟩ := hv
  have hx := B.exec
  have hb := B.bytes
  have hr := B.returns
  have hts := atoms_spec (ws := ws_ yX0_turnForm cX0_turnForm 5 (some .int)) B.pre
  have hts : ∀ w ∈ lw_all, w.before _ s = true := fun w h => hts w (List.mem_cons_of_mem _ h)
  have hown : s.vm.findClass RX0 = some m.cls := findClass_of_methodNamed B.named
  have hlocks := B.notSynchronized
  subst hsz
  have hD := hD0.self (sz := s.heap.size)
  generalize hAe : va_A (tw_C h0 q1 q2 q3 e1 e2 e3 f g) s.heap.size = A at hD ⊢
  have hA : ∀ q : Nat, s.heap.size ≤ q → A q := fun q h => by rw [← hAe]; exact Or.inr h
  have hS : va_S A s.heap s.heap [] := va_S.rf
  have hl := lv_entry ([.ref h0, .int p1, .int p2]) (n := 5) (Nat.le_of_ble_eq_true rfl)
  rw [lg_entry_eq]
  generalize (lg_sl ([.ref h0, .int p1, .int p2]) ++ List.replicate (5 - (lg_sl ([.ref h0, .int p1, .int p2])).length) Slot.unset).toArray = ls at hl ⊢
  have hl : lv_has ls 5 [(0, .ref h0), (1, .int p1), (2, .int p2)] := hl
  refine lv_aload_n hx hb dX0_turnForm_0 rfl (lv_at hl 0 rfl) ?_
  refine lv_iload_n hx hb dX0_turnForm_1 rfl (lv_at hl 1 rfl) ?_
  refine vp_callSi (W.runV (As := [.int p1]) (rest := []) ⟨hx, hb, hml, hown, hts⟩ (metX0_bad l h0 p1) (cwV 1 hts (lw_V q57 q59 qs0 q25 q60) rfl rfl rfl (by decide +kernel) ⟨Nat.le_of_ble_eq_true rfl, Nat.le_of_ble_eq_true rfl⟩) (tw_pre0C hK hP _) rfl rfl hl.1 rfl (lv_room (Nat.le_of_ble_eq_true rfl)) dX0_turnForm_2 ⟨Nat.le_of_ble_eq_true rfl, Nat.le_of_ble_eq_true rfl⟩) (fun r_1 hr_1 => ?_)
  refine lv_if_ne (tgt := 16) hx hb dX0_turnForm_5 (by decide) (fun c_2 => ?_) (fun c_2 => ?_)
  · have b_2 : ¬ vp_in p1 4 := fun h => c_2 (hr_1.mpr h)
    refine lv_sipush (v := -1000) hx hb dX0_turnForm_16 (by decide) ?_
    exact W.iret (v := (-1000 : Int32)) hx hb hr (fun t ht hW => ⟨⟨(-1000 : Int32), (f, g), rfl, ⟨fun h => absurd h.1 b_2, fun _ => ⟨rfl, rfl⟩⟩, by rw [ht]; exact hP, va_K.moved hW.alike hK, hD⟩, hS.F ht⟩) hS.2.2 dX0_turnForm_19
  · have b_2 : vp_in p1 4 := hr_1.mp c_2
    refine lv_aload_n hx hb dX0_turnForm_8 rfl (lv_at hl 0 rfl) ?_
    refine lv_iload_n hx hb dX0_turnForm_9 rfl (lv_at hl 2 rfl) ?_
    refine vp_callSi (W.runV (As := [.int p2]) (rest := []) ⟨hx, hb, hml, hown, hts⟩ (metX0_badPoint l h0 p2) (cwV 1 hts (lw_V q61 q63 qs1 q25 q64) rfl rfl rfl (by decide +kernel) ⟨Nat.le_of_ble_eq_true rfl, Nat.le_of_ble_eq_true rfl⟩) (tw_pre0C hK hP _) rfl rfl hl.1 rfl (lv_room (Nat.le_of_ble_eq_true rfl)) dX0_turnForm_10 ⟨Nat.le_of_ble_eq_true rfl, Nat.le_of_ble_eq_true rfl⟩) (fun r_3 hr_3 => ?_)
    refine lv_if_eq (tgt := 20) hx hb dX0_turnForm_13 (by decide) (fun c_4 => ?_) (fun c_4 => ?_)
    · have b_4 : vp_in p2 64 := hr_3.mp c_4
      refine lv_aload_n hx hb dX0_turnForm_20 rfl (lv_at hl 0 rfl) ?_
      refine lv_lconst (v := 1) hx hb dX0_turnForm_21 (by decide) ?_
      refine lv_iload_n hx hb dX0_turnForm_22 rfl (lv_at hl 2 rfl) ?_
      refine lv_lshl (v := (tc_shl (1 : Int64) p2)) hx hb dX0_turnForm_23 rfl ?_
      refine vp_callSl (W.runV (As := [.long (tc_shl (1 : Int64) p2)]) (rest := []) ⟨hx, hb, hml, hown, hts⟩ (metX0_transformed l dC dI h0 q1 q2 q3 e1 e2 e3 f g (tc_shl (1 : Int64) p2)) (cwV 1 hts (lw_V q73 q75 qs3 q25 q76) rfl rfl rfl (by decide +kernel) ⟨Nat.le_of_ble_eq_true rfl, Nat.le_of_ble_eq_true rfl⟩) (tw_preC hK hP _) rfl rfl hl.1 rfl (lv_room (Nat.le_of_ble_eq_true rfl)) dX0_turnForm_24 ⟨Nat.le_of_ble_eq_true rfl, Nat.le_of_ble_eq_true rfl⟩) (fun r_5 hr_5 => ?_)
      rw [hr_5]
      refine lv_lstore_n (lv' := [(3, .long (tc_tr (tc_shl (1 : Int64) p2) 6)), (0, .ref h0), (1, .int p1), (2, .int p2)]) hx hb dX0_turnForm_27 rfl hl (by decide) rfl (fun ls hl => ?_)
      refine lv_aload_n hx hb dX0_turnForm_28 rfl (lv_at hl 1 rfl) ?_
      refine va_get (D := (dC, dI)) (ci := 0) (v := .ref q1) (C := RX0) (T := TX0) (N := 3) hx hb hts in_X0 hown hK hP 0 rfl rfl 0 (by decide) (hts _ q41) (fun _ h9 => h9) rfl dX0_turnForm_29 ?_
      refine lv_iload_n hx hb dX0_turnForm_32 rfl (lv_at hl 2 rfl) ?_
      refine lv_aload_n hx hb dX0_turnForm_33 rfl (lv_at hl 1 rfl) ?_
      refine va_get (D := (dC, dI)) (ci := 0) (v := .ref q1) (C := RX0) (T := TX0) (N := 3) hx hb hts in_X0 hown hK hP 0 rfl rfl 0 (by decide) (hts _ q41) (fun _ h9 => h9) rfl dX0_turnForm_34 ?_
      refine lv_iload_n hx hb dX0_turnForm_37 rfl (lv_at hl 2 rfl) ?_
      refine va_lald hx hb hK hP 1 0 rfl rfl b_2 dX0_turnForm_38 ?_
      refine lv_lload_n hx hb dX0_turnForm_39 rfl (lv_at hl 0 rfl) ?_
      refine lv_lxor hx hb dX0_turnForm_40 ?_
      refine va_last hx hb hK hP hD hS 1 0 rfl rfl b_2 dX0_turnForm_41 (fun H locs hP hD hS => ?_)
      have hP : va_P (dC, dI) tw_cl (tw_C h0 q1 q2 q3 e1 e2 e3 (vp_updL f p1.toNatClampNeg ((f p1.toNatClampNeg) ^^^ (tc_tr (tc_shl (1 : Int64) p2) 6))) g) H := hP
      have hD : va_D A (tw_C h0 q1 q2 q3 e1 e2 e3 (vp_updL f p1.toNatClampNeg ((f p1.toNatClampNeg) ^^^ (tc_tr (tc_shl (1 : Int64) p2) 6))) g) := hD
      refine lv_aload_n hx hb dX0_turnForm_42 rfl (lv_at hl 1 rfl) ?_
      refine lv_aload_n hx hb dX0_turnForm_43 rfl (lv_at hl 1 rfl) ?_
      refine va_get (D := (dC, dI)) (ci := 0) (v := .ref q1) (C := RX0) (T := TX0) (N := 3) hx hb hts in_X0 hown hK hP 0 rfl rfl 0 (by decide) (hts _ q41) (fun _ h9 => h9) rfl dX0_turnForm_44 ?_
      refine lv_iload_n hx hb dX0_turnForm_47 rfl (lv_at hl 2 rfl) ?_
      refine va_lald hx hb hK hP 1 0 rfl rfl b_2 dX0_turnForm_48 ?_
      refine vp_callSi (W.runV (As := [.long ((vp_updL f p1.toNatClampNeg ((f p1.toNatClampNeg) ^^^ (tc_tr (tc_shl (1 : Int64) p2) 6))) p1.toNatClampNeg)]) (rest := []) ⟨hx, hb, hml, hown, hts⟩ (metX0_onesOf l dC dI h0 q1 q2 q3 e1 e2 e3 (vp_updL f p1.toNatClampNeg ((f p1.toNatClampNeg) ^^^ (tc_tr (tc_shl (1 : Int64) p2) 6))) g ((vp_updL f p1.toNatClampNeg ((f p1.toNatClampNeg) ^^^ (tc_tr (tc_shl (1 : Int64) p2) 6))) p1.toNatClampNeg)) (cwV 1 hts (lw_V q77 q79 qs4 q25 q80) rfl rfl rfl (by decide +kernel) ⟨Nat.le_of_ble_eq_true rfl, Nat.le_of_ble_eq_true rfl⟩) (tw_preC hK hP _) rfl rfl hl.1 rfl (lv_room (Nat.le_of_ble_eq_true rfl)) dX0_turnForm_49 ⟨Nat.le_of_ble_eq_true rfl, Nat.le_of_ble_eq_true rfl⟩) (fun r_6 hr_6 => ?_)
      rw [hr_6]
      exact W.iret (v := (tc_ones ((vp_updL f p1.toNatClampNeg ((f p1.toNatClampNeg) ^^^ (tc_tr (tc_shl (1 : Int64) p2) 6))) p1.toNatClampNeg))) hx hb hr (fun t ht hW => ⟨⟨(tc_ones ((vp_updL f p1.toNatClampNeg ((f p1.toNatClampNeg) ^^^ (tc_tr (tc_shl (1 : Int64) p2) 6))) p1.toNatClampNeg)), ((vp_updL f p1.toNatClampNeg ((f p1.toNatClampNeg) ^^^ (tc_tr (tc_shl (1 : Int64) p2) 6))), g), rfl, ⟨fun _ => ⟨rfl, rfl⟩, fun h => absurd ⟨b_2, b_4⟩ h⟩, by rw [ht]; exact hP, va_K.moved hW.alike hK, hD⟩, hS.F ht⟩) hS.2.2 dX0_turnForm_52
    · have b_4 : ¬ vp_in p2 64 := fun h => c_4 (hr_3.mpr h)
      refine lv_sipush (v := -1000) hx hb dX0_turnForm_16 (by decide) ?_
      exact W.iret (v := (-1000 : Int32)) hx hb hr (fun t ht hW => ⟨⟨(-1000 : Int32), (f, g), rfl, ⟨fun h => absurd h.2 b_4, fun _ => ⟨rfl, rfl⟩⟩, by rw [ht]; exact hP, va_K.moved hW.alike hK, hD⟩, hS.F ht⟩) hS.2.2 dX0_turnForm_19
set_option maxHeartbeats 4000000 in
set_option maxRecDepth 100000 in
/-- combine(t, op, r, s) -/
theorem metX0_combine (l : Launch) (dC : Nat → ClassId) (dI : Nat → Nat → Nat) (h0 q1 q2 q3 : Nat) (e1 e2 e3 : ClassId) (sz : Nat) (f : Nat → Int64) (g : Nat → Int32) (p1 : Int32) (p2 : Int32) (p3 : Int32) (p4 : Int32) : Met l yX0_combine (ws_ yX0_combine cX0_combine 9 (some .int)) ({ frames := 1, cells := 0, slots := 0, locals := 28 }) (va_Pc [.ref h0, .int p1, .int p2, .int p3, .int p4] (tw_SC dC dI h0 q1 q2 q3 e1 e2 e3 sz f g)) (va_Qi (fun (r : Int32) (u : ((Nat → Int64) × (Nat → Int32))) => ((vp_in p1 4 ∧ ¬ p2 < 0 ∧ ¬ (3 : Int32) < p2 ∧ vp_in p3 4 ∧ vp_in p4 4) → r = tc_ones (tc_comb f p1 p2 p3 p4 p1.toNatClampNeg) ∧ u = (tc_comb f p1 p2 p3 p4, g)) ∧ (¬ (vp_in p1 4 ∧ ¬ p2 < 0 ∧ ¬ (3 : Int32) < p2 ∧ vp_in p3 4 ∧ vp_in p4 4) → r = (-1000 : Int32) ∧ u = (f, g))) (tw_BC dC dI h0 q1 q2 q3 e1 e2 e3 (va_A (tw_C h0 q1 q2 q3 e1 e2 e3 f g) sz)) (va_A (tw_C h0 q1 q2 q3 e1 e2 e3 f g) sz)) 0 0 (va_A (tw_C h0 q1 q2 q3 e1 e2 e3 f g) sz) := by
  refine Met.ofW (cc := cX0_combine) (maxL := 9) (ret := (some .int)) (by decide) rfl ?_
  intro p e s m args below meth c s₁ B hml hv
  obtain ⟨rfl, hsz, hP, hK, hD0⟩ := hv
  have hx := B.exec
  have hb := B.bytes
  have hr := B.returns
  have hts := atoms_spec (ws := ws_ yX0_combine cX0_combine 9 (some .int)) B.pre
  have hts : ∀ w ∈ lw_all, w.before _ s = true := fun w h => hts w (List.mem_cons_of_mem _ h)
  have hown : s.vm.findClass RX0 = some m.cls := findClass_of_methodNamed B.named
  have hlocks := B.notSynchronized
  subst hsz
  have hD := hD0.self (sz := s.heap.size)
  generalize hAe : va_A (tw_C h0 q1 q2 q3 e1 e2 e3 f g) s.heap.size = A at hD ⊢
  have hA : ∀ q : Nat, s.heap.size ≤ q → A q := fun q h => by rw [← hAe]; exact Or.inr h
  have hS : va_S A s.heap s.heap [] := va_S.rf
  have hl := lv_entry ([.ref h0, .int p1, .int p2, .int p3, .int p4]) (n := 9) (Nat.le_of_ble_eq_true rfl)
  rw [lg_entry_eq]
  generalize (lg_sl ([.ref h0, .int p1, .int p2, .int p3, .int p4]) ++ List.replicate (9 - (lg_sl ([.ref h0, .int p1, .int p2, .int p3, .int p4])).length) Slot.unset).toArray = ls at hl ⊢
  have hl : lv_has ls 9 [(0, .ref h0), (1, .int p1), (2, .int p2), (3, .int p3), (4, .int p4)] := hl
  refine lv_aload_n hx hb dX0_combine_0 rfl (lv_at hl 0 rfl) ?_
  refine lv_iload_n hx hb dX0_combine_1 rfl (lv_at hl 1 rfl) ?_
  refine vp_callSi (W.runV (As := [.int p1]) (rest := []) ⟨hx, hb, hml, hown, hts⟩ (metX0_bad l h0 p1) (cwV 1 hts (lw_V q57 q59 qs0 q25 q60) rfl rfl rfl (by decide +kernel) ⟨Nat.le_of_ble_eq_true rfl, Nat.le_of_ble_eq_true rfl⟩) (tw_pre0C hK hP _) rfl rfl hl.1 rfl (lv_room (Nat.le_of_ble_eq_true rfl)) dX0_combine_2 ⟨Nat.le_of_ble_eq_true rfl, Nat.le_of_ble_eq_true rfl⟩) (fun r_1 hr_1 => ?_)
  refine lv_if_ne (tgt := 34) hx hb dX0_combine_5 (by decide) (fun c_2 => ?_) (fun c_2 => ?_)
  · have b_2 : ¬ vp_in p1 4 := fun h => c_2 (hr_1.mpr h)
    refine lv_sipush (v := -1000) hx hb dX0_combine_34 (by decide) ?_
    exact W.iret (v := (-1000 : Int32)) hx hb hr (fun t ht hW => ⟨⟨(-1000 : Int32), (f, g), rfl, ⟨fun h => absurd h.1 b_2, fun _ => ⟨rfl, rfl⟩⟩, by rw [ht]; exact hP, va_K.moved hW.alike hK, hD⟩, hS.F ht⟩) hS.2.2 dX0_combine_37
  · have b_2 : vp_in p1 4 := hr_1.mp c_2
    refine lv_iload_n hx hb dX0_combine_8 rfl (lv_at hl 2 rfl) ?_
    refine lv_if_lt (tgt := 34) hx hb dX0_combine_9 (by decide) (fun c_3 => ?_) (fun c_3 => ?_)
    · refine lv_sipush (v := -1000) hx hb dX0_combine_34 (by decide) ?_
      exact W.iret (v := (-1000 : Int32)) hx hb hr (fun t ht hW => ⟨⟨(-1000 : Int32), (f, g), rfl, ⟨fun h => absurd h.2.1 (fun hn => hn c_3), fun _ => ⟨rfl, rfl⟩⟩, by rw [ht]; exact hP, va_K.moved hW.alike hK, hD⟩, hS.F ht⟩) hS.2.2 dX0_combine_37
    · refine lv_iload_n hx hb dX0_combine_12 rfl (lv_at hl 2 rfl) ?_
      refine lv_iconst (v := 3) hx hb dX0_combine_13 (by decide) ?_
      refine lv_icmp_gt (tgt := 34) hx hb dX0_combine_14 (by decide) (fun c_4 => ?_) (fun c_4 => ?_)
      · refine lv_sipush (v := -1000) hx hb dX0_combine_34 (by decide) ?_
        exact W.iret (v := (-1000 : Int32)) hx hb hr (fun t ht hW => ⟨⟨(-1000 : Int32), (f, g), rfl, ⟨fun h => absurd h.2.2.1 (fun hn => hn c_4), fun _ => ⟨rfl, rfl⟩⟩, by rw [ht]; exact hP, va_K.moved hW.alike hK, hD⟩, hS.F ht⟩) hS.2.2 dX0_combine_37
      · refine lv_aload_n hx hb dX0_combine_17 rfl (lv_at hl 0 rfl) ?_
        refine lv_iload_n hx hb dX0_combine_18 rfl (lv_at hl 3 rfl) ?_
        refine vp_callSi (W.runV (As := [.int p3]) (rest := []) ⟨hx, hb, hml, hown, hts⟩ (metX0_bad l h0 p3) (cwV 1 hts (lw_V q57 q59 qs0 q25 q60) rfl rfl rfl (by decide +kernel) ⟨Nat.le_of_ble_eq_true rfl, Nat.le_of_ble_eq_true rfl⟩) (tw_pre0C hK hP _) rfl rfl hl.1 rfl (lv_room (Nat.le_of_ble_eq_true rfl)) dX0_combine_19 ⟨Nat.le_of_ble_eq_true rfl, Nat.le_of_ble_eq_true rfl⟩) (fun r_5 hr_5 => ?_)
        refine lv_if_ne (tgt := 34) hx hb dX0_combine_22 (by decide) (fun c_6 => ?_) (fun c_6 => ?_)
        · have b_6 : ¬ vp_in p3 4 := fun h => c_6 (hr_5.mpr h)
          refine lv_sipush (v := -1000) hx hb dX0_combine_34 (by decide) ?_
          exact W.iret (v := (-1000 : Int32)) hx hb hr (fun t ht hW => ⟨⟨(-1000 : Int32), (f, g), rfl, ⟨fun h => absurd h.2.2.2.1 b_6, fun _ => ⟨rfl, rfl⟩⟩, by rw [ht]; exact hP, va_K.moved hW.alike hK, hD⟩, hS.F ht⟩) hS.2.2 dX0_combine_37
        · have b_6 : vp_in p3 4 := hr_5.mp c_6
          refine lv_aload_n hx hb dX0_combine_25 rfl (lv_at hl 0 rfl) ?_
          refine lv_iload hx hb dX0_combine_26 (lv_at hl 4 rfl) ?_
          refine vp_callSi (W.runV (As := [.int p4]) (rest := []) ⟨hx, hb, hml, hown, hts⟩ (metX0_bad l h0 p4) (cwV 1 hts (lw_V q57 q59 qs0 q25 q60) rfl rfl rfl (by decide +kernel) ⟨Nat.le_of_ble_eq_true rfl, Nat.le_of_ble_eq_true rfl⟩) (tw_pre0C hK hP _) rfl rfl hl.1 rfl (lv_room (Nat.le_of_ble_eq_true rfl)) dX0_combine_28 ⟨Nat.le_of_ble_eq_true rfl, Nat.le_of_ble_eq_true rfl⟩) (fun r_7 hr_7 => ?_)
          refine lv_if_eq (tgt := 38) hx hb dX0_combine_31 (by decide) (fun c_8 => ?_) (fun c_8 => ?_)
          · have b_8 : vp_in p4 4 := hr_7.mp c_8
            refine lv_aload_n hx hb dX0_combine_38 rfl (lv_at hl 0 rfl) ?_
            refine va_get (D := (dC, dI)) (ci := 0) (v := .ref q1) (C := RX0) (T := TX0) (N := 3) hx hb hts in_X0 hown hK hP 0 rfl rfl 0 (by decide) (hts _ q41) (fun _ h9 => h9) rfl dX0_combine_39 ?_
            refine lv_iload_n hx hb dX0_combine_42 rfl (lv_at hl 3 rfl) ?_
            refine va_lald hx hb hK hP 1 0 rfl rfl b_6 dX0_combine_43 ?_
            refine lv_lstore (lv' := [(5, .long (f p3.toNatClampNeg)), (0, .ref h0), (1, .int p1), (2, .int p2), (3, .int p3), (4, .int p4)]) hx hb dX0_combine_44 hl (by decide) rfl (fun ls hl => ?_)
            refine lv_aload_n hx hb dX0_combine_46 rfl (lv_at hl 1 rfl) ?_
            refine va_get (D := (dC, dI)) (ci := 0) (v := .ref q1) (C := RX0) (T := TX0) (N := 3) hx hb hts in_X0 hown hK hP 0 rfl rfl 0 (by decide) (hts _ q41) (fun _ h9 => h9) rfl dX0_combine_47 ?_
            refine lv_iload hx hb dX0_combine_50 (lv_at hl 5 rfl) ?_
            refine va_lald hx hb hK hP 1 0 rfl rfl b_8 dX0_combine_52 ?_
            refine lv_lstore (lv' := [(7, .long (f p4.toNatClampNeg)), (5, .long (f p3.toNatClampNeg)), (0, .ref h0), (1, .int p1), (2, .int p2), (3, .int p3), (4, .int p4)]) hx hb dX0_combine_53 hl (by decide) rfl (fun ls hl => ?_)
            refine lv_iload_n hx hb dX0_combine_55 rfl (lv_at hl 4 rfl) ?_
            refine lv_if_ne (tgt := 73) hx hb dX0_combine_56 (by decide) (fun c_9 => ?_) (fun c_9 => ?_)
            · refine lv_iload_n hx hb dX0_combine_73 rfl (lv_at hl 4 rfl) ?_
              refine lv_iconst (v := 1) hx hb dX0_combine_74 (by decide) ?_
              refine lv_icmp_ne (tgt := 92) hx hb dX0_combine_75 (by decide) (fun c_10 => ?_) (fun c_10 => ?_)
              · refine lv_iload_n hx hb dX0_combine_92 rfl (lv_at hl 4 rfl) ?_
                refine lv_iconst (v := 2) hx hb dX0_combine_93 (by decide) ?_
                refine lv_icmp_ne (tgt := 111) hx hb dX0_combine_94 (by decide) (fun c_11 => ?_) (fun c_11 => ?_)
                · refine lv_aload_n hx hb dX0_combine_111 rfl (lv_at hl 2 rfl) ?_
                  refine va_get (D := (dC, dI)) (ci := 0) (v := .ref q1) (C := RX0) (T := TX0) (N := 3) hx hb hts in_X0 hown hK hP 0 rfl rfl 0 (by decide) (hts _ q41) (fun _ h9 => h9) rfl dX0_combine_112 ?_
                  refine lv_iload_n hx hb dX0_combine_115 rfl (lv_at hl 3 rfl) ?_
                  refine lv_lload hx hb dX0_combine_116 (lv_at hl 1 rfl) ?_
                  refine lv_lload hx hb dX0_combine_118 (lv_at hl 0 rfl) ?_
                  refine lv_lxor hx hb dX0_combine_120 ?_
                  refine lv_ldc2 (v := -1) hx hb hown (hts _ q86) dX0_combine_121 ?_
                  refine lv_lxor hx hb dX0_combine_124 ?_
                  refine va_last hx hb hK hP hD hS 1 0 rfl rfl b_2 dX0_combine_125 (fun H locs hP hD hS => ?_)
                  have hP : va_P (dC, dI) tw_cl (tw_C h0 q1 q2 q3 e1 e2 e3 (vp_updL f p1.toNatClampNeg (((f p3.toNatClampNeg) ^^^ (f p4.toNatClampNeg)) ^^^ (-1 : Int64))) g) H := hP
                  have hD : va_D A (tw_C h0 q1 q2 q3 e1 e2 e3 (vp_updL f p1.toNatClampNeg (((f p3.toNatClampNeg) ^^^ (f p4.toNatClampNeg)) ^^^ (-1 : Int64))) g) := hD
                  refine lv_aload_n hx hb dX0_combine_126 rfl (lv_at hl 2 rfl) ?_
                  refine lv_aload_n hx hb dX0_combine_127 rfl (lv_at hl 2 rfl) ?_
                  refine va_get (D := (dC, dI)) (ci := 0) (v := .ref q1) (C := RX0) (T := TX0) (N := 3) hx hb hts in_X0 hown hK hP 0 rfl rfl 0 (by decide) (hts _ q41) (fun _ h9 => h9) rfl dX0_combine_128 ?_
                  refine lv_iload_n hx hb dX0_combine_131 rfl (lv_at hl 3 rfl) ?_
                  refine va_lald hx hb hK hP 1 0 rfl rfl b_2 dX0_combine_132 ?_
                  refine vp_callSi (W.runV (As := [.long ((vp_updL f p1.toNatClampNeg (((f p3.toNatClampNeg) ^^^ (f p4.toNatClampNeg)) ^^^ (-1 : Int64))) p1.toNatClampNeg)]) (rest := []) ⟨hx, hb, hml, hown, hts⟩ (metX0_onesOf l dC dI h0 q1 q2 q3 e1 e2 e3 (vp_updL f p1.toNatClampNeg (((f p3.toNatClampNeg) ^^^ (f p4.toNatClampNeg)) ^^^ (-1 : Int64))) g ((vp_updL f p1.toNatClampNeg (((f p3.toNatClampNeg) ^^^ (f p4.toNatClampNeg)) ^^^ (-1 : Int64))) p1.toNatClampNeg)) (cwV 1 hts (lw_V q77 q79 qs4 q25 q80) rfl rfl rfl (by decide +kernel) ⟨Nat.le_of_ble_eq_true rfl, Nat.le_of_ble_eq_true rfl⟩) (tw_preC hK hP _) rfl rfl hl.1 rfl (lv_room (Nat.le_of_ble_eq_true rfl)) dX0_combine_133 ⟨Nat.le_of_ble_eq_true rfl, Nat.le_of_ble_eq_true rfl⟩) (fun r_12 hr_12 => ?_)
                  rw [hr_12]
                  exact W.iret (v := (tc_ones ((vp_updL f p1.toNatClampNeg (((f p3.toNatClampNeg) ^^^ (f p4.toNatClampNeg)) ^^^ (-1 : Int64))) p1.toNatClampNeg))) hx hb hr (fun t ht hW => ⟨⟨(tc_ones ((vp_updL f p1.toNatClampNeg (((f p3.toNatClampNeg) ^^^ (f p4.toNatClampNeg)) ^^^ (-1 : Int64))) p1.toNatClampNeg)), ((vp_updL f p1.toNatClampNeg (((f p3.toNatClampNeg) ^^^ (f p4.toNatClampNeg)) ^^^ (-1 : Int64))), g), rfl, ⟨fun _ => ⟨by rw [tc_comb, tc_cop, if_neg c_9, if_neg c_10, if_neg c_11], by rw [tc_comb, tc_cop, if_neg c_9, if_neg c_10, if_neg c_11]⟩, fun h => absurd ⟨b_2, c_3, c_4, b_6, b_8⟩ h⟩, by rw [ht]; exact hP, va_K.moved hW.alike hK, hD⟩, hS.F ht⟩) hS.2.2 dX0_combine_136
                · refine lv_aload_n hx hb dX0_combine_97 rfl (lv_at hl 2 rfl) ?_
                  refine va_get (D := (dC, dI)) (ci := 0) (v := .ref q1) (C := RX0) (T := TX0) (N := 3) hx hb hts in_X0 hown hK hP 0 rfl rfl 0 (by decide) (hts _ q41) (fun _ h9 => h9) rfl dX0_combine_98 ?_
                  refine lv_iload_n hx hb dX0_combine_101 rfl (lv_at hl 3 rfl) ?_
                  refine lv_lload hx hb dX0_combine_102 (lv_at hl 1 rfl) ?_
                  refine lv_lload hx hb dX0_combine_104 (lv_at hl 0 rfl) ?_
                  refine lv_lor hx hb dX0_combine_106 ?_
                  refine va_last hx hb hK hP hD hS 1 0 rfl rfl b_2 dX0_combine_107 (fun H locs hP hD hS => ?_)
                  have hP : va_P (dC, dI) tw_cl (tw_C h0 q1 q2 q3 e1 e2 e3 (vp_updL f p1.toNatClampNeg ((f p3.toNatClampNeg) ||| (f p4.toNatClampNeg))) g) H := hP
                  have hD : va_D A (tw_C h0 q1 q2 q3 e1 e2 e3 (vp_updL f p1.toNatClampNeg ((f p3.toNatClampNeg) ||| (f p4.toNatClampNeg))) g) := hD
                  refine lv_goto (tgt := 126) hx hb dX0_combine_108 (by decide) ?_
                  refine lv_aload_n hx hb dX0_combine_126 rfl (lv_at hl 2 rfl) ?_
                  refine lv_aload_n hx hb dX0_combine_127 rfl (lv_at hl 2 rfl) ?_
                  refine va_get (D := (dC, dI)) (ci := 0) (v := .ref q1) (C := RX0) (T := TX0) (N := 3) hx hb hts in_X0 hown hK hP 0 rfl rfl 0 (by decide) (hts _ q41) (fun _ h9 => h9) rfl dX0_combine_128 ?_
                  refine lv_iload_n hx hb dX0_combine_131 rfl (lv_at hl 3 rfl) ?_
                  refine va_lald hx hb hK hP 1 0 rfl rfl b_2 dX0_combine_132 ?_
                  refine vp_callSi (W.runV (As := [.long ((vp_updL f p1.toNatClampNeg ((f p3.toNatClampNeg) ||| (f p4.toNatClampNeg))) p1.toNatClampNeg)]) (rest := []) ⟨hx, hb, hml, hown, hts⟩ (metX0_onesOf l dC dI h0 q1 q2 q3 e1 e2 e3 (vp_updL f p1.toNatClampNeg ((f p3.toNatClampNeg) ||| (f p4.toNatClampNeg))) g ((vp_updL f p1.toNatClampNeg ((f p3.toNatClampNeg) ||| (f p4.toNatClampNeg))) p1.toNatClampNeg)) (cwV 1 hts (lw_V q77 q79 qs4 q25 q80) rfl rfl rfl (by decide +kernel) ⟨Nat.le_of_ble_eq_true rfl, Nat.le_of_ble_eq_true rfl⟩) (tw_preC hK hP _) rfl rfl hl.1 rfl (lv_room (Nat.le_of_ble_eq_true rfl)) dX0_combine_133 ⟨Nat.le_of_ble_eq_true rfl, Nat.le_of_ble_eq_true rfl⟩) (fun r_13 hr_13 => ?_)
                  rw [hr_13]
                  exact W.iret (v := (tc_ones ((vp_updL f p1.toNatClampNeg ((f p3.toNatClampNeg) ||| (f p4.toNatClampNeg))) p1.toNatClampNeg))) hx hb hr (fun t ht hW => ⟨⟨(tc_ones ((vp_updL f p1.toNatClampNeg ((f p3.toNatClampNeg) ||| (f p4.toNatClampNeg))) p1.toNatClampNeg)), ((vp_updL f p1.toNatClampNeg ((f p3.toNatClampNeg) ||| (f p4.toNatClampNeg))), g), rfl, ⟨fun _ => ⟨by rw [tc_comb, tc_cop, if_neg c_9, if_neg c_10, if_pos c_11], by rw [tc_comb, tc_cop, if_neg c_9, if_neg c_10, if_pos c_11]⟩, fun h => absurd ⟨b_2, c_3, c_4, b_6, b_8⟩ h⟩, by rw [ht]; exact hP, va_K.moved hW.alike hK, hD⟩, hS.F ht⟩) hS.2.2 dX0_combine_136
              · refine lv_aload_n hx hb dX0_combine_78 rfl (lv_at hl 2 rfl) ?_
                refine va_get (D := (dC, dI)) (ci := 0) (v := .ref q1) (C := RX0) (T := TX0) (N := 3) hx hb hts in_X0 hown hK hP 0 rfl rfl 0 (by decide) (hts _ q41) (fun _ h9 => h9) rfl dX0_combine_79 ?_
                refine lv_iload_n hx hb dX0_combine_82 rfl (lv_at hl 3 rfl) ?_
                refine lv_lload hx hb dX0_combine_83 (lv_at hl 1 rfl) ?_
                refine lv_lload hx hb dX0_combine_85 (lv_at hl 0 rfl) ?_
                refine lv_land hx hb dX0_combine_87 ?_
                refine va_last hx hb hK hP hD hS 1 0 rfl rfl b_2 dX0_combine_88 (fun H locs hP hD hS => ?_)
                have hP : va_P (dC, dI) tw_cl (tw_C h0 q1 q2 q3 e1 e2 e3 (vp_updL f p1.toNatClampNeg ((f p3.toNatClampNeg) &&& (f p4.toNatClampNeg))) g) H := hP
                have hD : va_D A (tw_C h0 q1 q2 q3 e1 e2 e3 (vp_updL f p1.toNatClampNeg ((f p3.toNatClampNeg) &&& (f p4.toNatClampNeg))) g) := hD
                refine lv_goto (tgt := 126) hx hb dX0_combine_89 (by decide) ?_
                refine lv_aload_n hx hb dX0_combine_126 rfl (lv_at hl 2 rfl) ?_
                refine lv_aload_n hx hb dX0_combine_127 rfl (lv_at hl 2 rfl) ?_
                refine va_get (D := (dC, dI)) (ci := 0) (v := .ref q1) (C := RX0) (T := TX0) (N := 3) hx hb hts in_X0 hown hK hP 0 rfl rfl 0 (by decide) (hts _ q41) (fun _ h9 => h9) rfl dX0_combine_128 ?_
                refine lv_iload_n hx hb dX0_combine_131 rfl (lv_at hl 3 rfl) ?_
                refine va_lald hx hb hK hP 1 0 rfl rfl b_2 dX0_combine_132 ?_
                refine vp_callSi (W.runV (As := [.long ((vp_updL f p1.toNatClampNeg ((f p3.toNatClampNeg) &&& (f p4.toNatClampNeg))) p1.toNatClampNeg)]) (rest := []) ⟨hx, hb, hml, hown, hts⟩ (metX0_onesOf l dC dI h0 q1 q2 q3 e1 e2 e3 (vp_updL f p1.toNatClampNeg ((f p3.toNatClampNeg) &&& (f p4.toNatClampNeg))) g ((vp_updL f p1.toNatClampNeg ((f p3.toNatClampNeg) &&& (f p4.toNatClampNeg))) p1.toNatClampNeg)) (cwV 1 hts (lw_V q77 q79 qs4 q25 q80) rfl rfl rfl (by decide +kernel) ⟨Nat.le_of_ble_eq_true rfl, Nat.le_of_ble_eq_true rfl⟩) (tw_preC hK hP _) rfl rfl hl.1 rfl (lv_room (Nat.le_of_ble_eq_true rfl)) dX0_combine_133 ⟨Nat.le_of_ble_eq_true rfl, Nat.le_of_ble_eq_true rfl⟩) (fun r_14 hr_14 => ?_)
                rw [hr_14]
                exact W.iret (v := (tc_ones ((vp_updL f p1.toNatClampNeg ((f p3.toNatClampNeg) &&& (f p4.toNatClampNeg))) p1.toNatClampNeg))) hx hb hr (fun t ht hW => ⟨⟨(tc_ones ((vp_updL f p1.toNatClampNeg ((f p3.toNatClampNeg) &&& (f p4.toNatClampNeg))) p1.toNatClampNeg)), ((vp_updL f p1.toNatClampNeg ((f p3.toNatClampNeg) &&& (f p4.toNatClampNeg))), g), rfl, ⟨fun _ => ⟨by rw [tc_comb, tc_cop, if_neg c_9, if_pos c_10], by rw [tc_comb, tc_cop, if_neg c_9, if_pos c_10]⟩, fun h => absurd ⟨b_2, c_3, c_4, b_6, b_8⟩ h⟩, by rw [ht]; exact hP, va_K.moved hW.alike hK, hD⟩, hS.F ht⟩) hS.2.2 dX0_combine_136
            · refine lv_aload_n hx hb dX0_combine_59 rfl (lv_at hl 2 rfl) ?_
              refine va_get (D := (dC, dI)) (ci := 0) (v := .ref q1) (C := RX0) (T := TX0) (N := 3) hx hb hts in_X0 hown hK hP 0 rfl rfl 0 (by decide) (hts _ q41) (fun _ h9 => h9) rfl dX0_combine_60 ?_
              refine lv_iload_n hx hb dX0_combine_63 rfl (lv_at hl 3 rfl) ?_
              refine lv_lload hx hb dX0_combine_64 (lv_at hl 1 rfl) ?_
              refine lv_lload hx hb dX0_combine_66 (lv_at hl 0 rfl) ?_
              refine lv_lxor hx hb dX0_combine_68 ?_
              refine va_last hx hb hK hP hD hS 1 0 rfl rfl b_2 dX0_combine_69 (fun H locs hP hD hS => ?_)
              have hP : va_P (dC, dI) tw_cl (tw_C h0 q1 q2 q3 e1 e2 e3 (vp_updL f p1.toNatClampNeg ((f p3.toNatClampNeg) ^^^ (f p4.toNatClampNeg))) g) H := hP
              have hD : va_D A (tw_C h0 q1 q2 q3 e1 e2 e3 (vp_updL f p1.toNatClampNeg ((f p3.toNatClampNeg) ^^^ (f p4.toNatClampNeg))) g) := hD
              refine lv_goto (tgt := 126) hx hb dX0_combine_70 (by decide) ?_
              refine lv_aload_n hx hb dX0_combine_126 rfl (lv_at hl 2 rfl) ?_
              refine lv_aload_n hx hb dX0_combine_127 rfl (lv_at hl 2 rfl) ?_
              refine va_get (D := (dC, dI)) (ci := 0) (v := .ref q1) (C := RX0) (T := TX0) (N := 3) hx hb hts in_X0 hown hK hP 0 rfl rfl 0 (by decide) (hts _ q41) (fun _ h9 => h9) rfl dX0_combine_128 ?_
              refine lv_iload_n hx hb dX0_combine_131 rfl (lv_at hl 3 rfl) ?_
              refine va_lald hx hb hK hP 1 0 rfl rfl b_2 dX0_combine_132 ?_
              refine vp_callSi (W.runV (As := [.long ((vp_updL f p1.toNatClampNeg ((f p3.toNatClampNeg) ^^^ (f p4.toNatClampNeg))) p1.toNatClampNeg)]) (rest := []) ⟨hx, hb, hml, hown, hts⟩ (metX0_onesOf l dC dI h0 q1 q2 q3 e1 e2 e3 (vp_updL f p1.toNatClampNeg ((f p3.toNatClampNeg) ^^^ (f p4.toNatClampNeg))) g ((vp_updL f p1.toNatClampNeg ((f p3.toNatClampNeg) ^^^ (f p4.toNatClampNeg))) p1.toNatClampNeg)) (cwV 1 hts (lw_V q77 q79 qs4 q25 q80) rfl rfl rfl (by decide +kernel) ⟨Nat.le_of_ble_eq_true rfl, Nat.le_of_ble_eq_true rfl⟩) (tw_preC hK hP _) rfl rfl hl.1 rfl (lv_room (Nat.le_of_ble_eq_true rfl)) dX0_combine_133 ⟨Nat.le_of_ble_eq_true rfl, Nat.le_of_ble_eq_true rfl⟩) (fun r_15 hr_15 => ?_)
              rw [hr_15]
              exact W.iret (v := (tc_ones ((vp_updL f p1.toNatClampNeg ((f p3.toNatClampNeg) ^^^ (f p4.toNatClampNeg))) p1.toNatClampNeg))) hx hb hr (fun t ht hW => ⟨⟨(tc_ones ((vp_updL f p1.toNatClampNeg ((f p3.toNatClampNeg) ^^^ (f p4.toNatClampNeg))) p1.toNatClampNeg)), ((vp_updL f p1.toNatClampNeg ((f p3.toNatClampNeg) ^^^ (f p4.toNatClampNeg))), g), rfl, ⟨fun _ => ⟨by rw [tc_comb, tc_cop, if_pos c_9], by rw [tc_comb, tc_cop, if_pos c_9]⟩, fun h => absurd ⟨b_2, c_3, c_4, b_6, b_8⟩ h⟩, by rw [ht]; exact hP, va_K.moved hW.alike hK, hD⟩, hS.F ht⟩) hS.2.2 dX0_combine_136
          · have b_8 : ¬ vp_in p4 4 := fun h => c_8 (hr_7.mpr h)
            refine lv_sipush (v := -1000) hx hb dX0_combine_34 (by decide) ?_
            exact W.iret (v := (-1000 : Int32)) hx hb hr (fun t ht hW => ⟨⟨(-1000 : Int32), (f, g), rfl, ⟨fun h => absurd h.2.2.2.2 b_8, fun _ => ⟨rfl, rfl⟩⟩, by rw [ht]; exact hP, va_K.moved hW.alike hK, hD⟩, hS.F ht⟩) hS.2.2 dX0_combine_37
set_option maxHeartbeats 4000000 in
set_option maxRecDepth 100000 in
/-- shift(t, r, a, b) -/
theorem metX0_shift (l : Launch) (dC : Nat → ClassId) (dI : Nat → Nat → Nat) (h0 q1 q2 q3 : Nat) (e1 e2 e3 : ClassId) (sz : Nat) (f : Nat → Int64) (g : Nat → Int32) (p1 : Int32) (p2 : Int32) (p3 : Int32) (p4 : Int32) : Met l yX0_shift (ws_ yX0_shift cX0_shift 9 (some .int)) ({ frames := 1, cells := 0, slots := 0, locals := 28 }) (va_Pc [.ref h0, .int p1, .int p2, .int p3, .int p4] (tw_SC dC dI h0 q1 q2 q3 e1 e2 e3 sz f g)) (va_Qi (fun (r : Int32) (u : ((Nat → Int64) × (Nat → Int32))) => ((vp_in p1 4 ∧ vp_in p2 4 ∧ vp_in p3 64 ∧ vp_in p4 64) → r = tc_ones (tc_shift f p1 p2 p3 p4 p1.toNatClampNeg) ∧ u = (tc_shift f p1 p2 p3 p4, g)) ∧ (¬ (vp_in p1 4 ∧ vp_in p2 4 ∧ vp_in p3 64 ∧ vp_in p4 64) → r = (-1000 : Int32) ∧ u = (f, g))) (tw_BC dC dI h0 q1 q2 q3 e1 e2 e3 (va_A (tw_C h0 q1 q2 q3 e1 e2 e3 f g) sz)) (va_A (tw_C h0 q1 q2 q3 e1 e2 e3 f g) sz)) 0 0 (va_A (tw_C h0 q1 q2 q3 e1 e2 e3 f g) sz) := by
  refine Met.ofW (cc := cX0_shift) (maxL := 9) (ret := (some .int)) (by decide) rfl ?_
  intro p e s m args below meth c s₁ B hml hv
  obtain ⟨rfl, hsz, hP, hK, hD0⟩ := hv
  have hx := B.exec
  have hb := B.bytes
  have hr := B.returns
  have hts := atoms_spec (ws := ws_ yX0_shift cX0_shift 9 (some .int)) B.pre
  have hts : ∀ w ∈ lw_all, w.before _ s = true := fun w h => hts w (List.mem_cons_of_mem _ h)
  have hown : s.vm.findClass RX0 = some m.cls := findClass_of_methodNamed B.named
  have hlocks := B.notSynchronized
  subst hsz
  have hD := hD0.self (sz := s.heap.size)
  generalize hAe : va_A (tw_C h0 q1 q2 q3 e1 e2 e3 f g) s.heap.size = A at hD ⊢
  have hA : ∀ q : Nat, s.heap.size ≤ q → A q := fun q h => by rw [← hAe]; exact Or.inr h
  have hS : va_S A s.heap s.heap [] := va_S.rf
  have hl := lv_entry ([.ref h0, .int p1, .int p2, .int p3, .int p4]) (n := 9) (Nat.le_of_ble_eq_true rfl)
  rw [lg_entry_eq]
  generalize (lg_sl ([.ref h0, .int p1, .int p2, .int p3, .int p4]) ++ List.replicate (9 - (lg_sl ([.ref h0, .int p1, .int p2, .int p3, .int p4])).length) Slot.unset).toArray = ls at hl ⊢
  have hl : lv_has ls 9 [(0, .ref h0), (1, .int p1), (2, .int p2), (3, .int p3), (4, .int p4)] := hl
  refine lv_aload_n hx hb dX0_shift_0 rfl (lv_at hl 0 rfl) ?_
  refine lv_iload_n hx hb dX0_shift_1 rfl (lv_at hl 1 rfl) ?_
  refine vp_callSi (W.runV (As := [.int p1]) (rest := []) ⟨hx, hb, hml, hown, hts⟩ (metX0_bad l h0 p1) (cwV 1 hts (lw_V q57 q59 qs0 q25 q60) rfl rfl rfl (by decide +kernel) ⟨Nat.le_of_ble_eq_true rfl, Nat.le_of_ble_eq_true rfl⟩) (tw_pre0C hK hP _) rfl rfl hl.1 rfl (lv_room (Nat.le_of_ble_eq_true rfl)) dX0_shift_2 ⟨Nat.le_of_ble_eq_true rfl, Nat.le_of_ble_eq_true rfl⟩) (fun r_1 hr_1 => ?_)
  refine lv_if_ne (tgt := 33) hx hb dX0_shift_5 (by decide) (fun c_2 => ?_) (fun c_2 => ?_)
  · have b_2 : ¬ vp_in p1 4 := fun h => c_2 (hr_1.mpr h)
    refine lv_sipush (v := -1000) hx hb dX0_shift_33 (by decide) ?_
    exact W.iret (v := (-1000 : Int32)) hx hb hr (fun t ht hW => ⟨⟨(-1000 : Int32), (f, g), rfl, ⟨fun h => absurd h.1 b_2, fun _ => ⟨rfl, rfl⟩⟩, by rw [ht]; exact hP, va_K.moved hW.alike hK, hD⟩, hS.F ht⟩) hS.2.2 dX0_shift_36
  · have b_2 : vp_in p1 4 := hr_1.mp c_2
    refine lv_aload_n hx hb dX0_shift_8 rfl (lv_at hl 0 rfl) ?_
    refine lv_iload_n hx hb dX0_shift_9 rfl (lv_at hl 2 rfl) ?_
    refine vp_callSi (W.runV (As := [.int p2]) (rest := []) ⟨hx, hb, hml, hown, hts⟩ (metX0_bad l h0 p2) (cwV 1 hts (lw_V q57 q59 qs0 q25 q60) rfl rfl rfl (by decide +kernel) ⟨Nat.le_of_ble_eq_true rfl, Nat.le_of_ble_eq_true rfl⟩) (tw_pre0C hK hP _) rfl rfl hl.1 rfl (lv_room (Nat.le_of_ble_eq_true rfl)) dX0_shift_10 ⟨Nat.le_of_ble_eq_true rfl, Nat.le_of_ble_eq_true rfl⟩) (fun r_3 hr_3 => ?_)
    refine lv_if_ne (tgt := 33) hx hb dX0_shift_13 (by decide) (fun c_4 => ?_) (fun c_4 => ?_)
    · have b_4 : ¬ vp_in p2 4 := fun h => c_4 (hr_3.mpr h)
      refine lv_sipush (v := -1000) hx hb dX0_shift_33 (by decide) ?_
      exact W.iret (v := (-1000 : Int32)) hx hb hr (fun t ht hW => ⟨⟨(-1000 : Int32), (f, g), rfl, ⟨fun h => absurd h.2.1 b_4, fun _ => ⟨rfl, rfl⟩⟩, by rw [ht]; exact hP, va_K.moved hW.alike hK, hD⟩, hS.F ht⟩) hS.2.2 dX0_shift_36
    · have b_4 : vp_in p2 4 := hr_3.mp c_4
      refine lv_aload_n hx hb dX0_shift_16 rfl (lv_at hl 0 rfl) ?_
      refine lv_iload_n hx hb dX0_shift_17 rfl (lv_at hl 3 rfl) ?_
      refine vp_callSi (W.runV (As := [.int p3]) (rest := []) ⟨hx, hb, hml, hown, hts⟩ (metX0_badPoint l h0 p3) (cwV 1 hts (lw_V q61 q63 qs1 q25 q64) rfl rfl rfl (by decide +kernel) ⟨Nat.le_of_ble_eq_true rfl, Nat.le_of_ble_eq_true rfl⟩) (tw_pre0C hK hP _) rfl rfl hl.1 rfl (lv_room (Nat.le_of_ble_eq_true rfl)) dX0_shift_18 ⟨Nat.le_of_ble_eq_true rfl, Nat.le_of_ble_eq_true rfl⟩) (fun r_5 hr_5 => ?_)
      refine lv_if_ne (tgt := 33) hx hb dX0_shift_21 (by decide) (fun c_6 => ?_) (fun c_6 => ?_)
      · have b_6 : ¬ vp_in p3 64 := fun h => c_6 (hr_5.mpr h)
        refine lv_sipush (v := -1000) hx hb dX0_shift_33 (by decide) ?_
        exact W.iret (v := (-1000 : Int32)) hx hb hr (fun t ht hW => ⟨⟨(-1000 : Int32), (f, g), rfl, ⟨fun h => absurd h.2.2.1 b_6, fun _ => ⟨rfl, rfl⟩⟩, by rw [ht]; exact hP, va_K.moved hW.alike hK, hD⟩, hS.F ht⟩) hS.2.2 dX0_shift_36
      · have b_6 : vp_in p3 64 := hr_5.mp c_6
        refine lv_aload_n hx hb dX0_shift_24 rfl (lv_at hl 0 rfl) ?_
        refine lv_iload hx hb dX0_shift_25 (lv_at hl 4 rfl) ?_
        refine vp_callSi (W.runV (As := [.int p4]) (rest := []) ⟨hx, hb, hml, hown, hts⟩ (metX0_badPoint l h0 p4) (cwV 1 hts (lw_V q61 q63 qs1 q25 q64) rfl rfl rfl (by decide +kernel) ⟨Nat.le_of_ble_eq_true rfl, Nat.le_of_ble_eq_true rfl⟩) (tw_pre0C hK hP _) rfl rfl hl.1 rfl (lv_room (Nat.le_of_ble_eq_true rfl)) dX0_shift_27 ⟨Nat.le_of_ble_eq_true rfl, Nat.le_of_ble_eq_true rfl⟩) (fun r_7 hr_7 => ?_)
        refine lv_if_eq (tgt := 37) hx hb dX0_shift_30 (by decide) (fun c_8 => ?_) (fun c_8 => ?_)
        · have b_8 : vp_in p4 64 := hr_7.mp c_8
          refine lv_aload_n hx hb dX0_shift_37 rfl (lv_at hl 0 rfl) ?_
          refine lv_aload_n hx hb dX0_shift_38 rfl (lv_at hl 0 rfl) ?_
          refine va_get (D := (dC, dI)) (ci := 0) (v := .ref q1) (C := RX0) (T := TX0) (N := 3) hx hb hts in_X0 hown hK hP 0 rfl rfl 0 (by decide) (hts _ q41) (fun _ h9 => h9) rfl dX0_shift_39 ?_
          refine lv_iload_n hx hb dX0_shift_42 rfl (lv_at hl 2 rfl) ?_
          refine va_lald hx hb hK hP 1 0 rfl rfl b_4 dX0_shift_43 ?_
          refine lv_iload_n hx hb dX0_shift_44 rfl (lv_at hl 3 rfl) ?_
          refine vp_callSl (W.runV (As := [.long (f p2.toNatClampNeg), .int p3]) (rest := []) ⟨hx, hb, hml, hown, hts⟩ (metX0_moved l dC dI h0 q1 q2 q3 e1 e2 e3 f g (f p2.toNatClampNeg) p3) (cwV 2 hts (lw_V q91 q93 qs5 q25 q94) rfl rfl rfl (by decide +kernel) ⟨Nat.le_of_ble_eq_true rfl, Nat.le_of_ble_eq_true rfl⟩) (tw_preC hK hP _) rfl rfl hl.1 rfl (lv_room (Nat.le_of_ble_eq_true rfl)) dX0_shift_45 ⟨Nat.le_of_ble_eq_true rfl, Nat.le_of_ble_eq_true rfl⟩) (fun r_9 hr_9 => ?_)
          rw [hr_9]
          refine lv_lstore (lv' := [(5, .long (tc_mv (f p2.toNatClampNeg) p3 6)), (0, .ref h0), (1, .int p1), (2, .int p2), (3, .int p3), (4, .int p4)]) hx hb dX0_shift_48 hl (by decide) rfl (fun ls hl => ?_)
          refine lv_aload_n hx hb dX0_shift_50 rfl (lv_at hl 1 rfl) ?_
          refine lv_iload hx hb dX0_shift_51 (lv_at hl 5 rfl) ?_
          refine vp_callSl (W.runV (As := [.int p4]) (rest := []) ⟨hx, hb, hml, hown, hts⟩ (metX0_linear l dC dI h0 q1 q2 q3 e1 e2 e3 f g p4) (cwV 1 hts (lw_V q95 q97 qs6 q25 q98) rfl rfl rfl (by decide +kernel) ⟨Nat.le_of_ble_eq_true rfl, Nat.le_of_ble_eq_true rfl⟩) (tw_preC hK hP _) rfl rfl hl.1 rfl (lv_room (Nat.le_of_ble_eq_true rfl)) dX0_shift_53 ⟨Nat.le_of_ble_eq_true rfl, Nat.le_of_ble_eq_true rfl⟩) (fun r_10 hr_10 => ?_)
          rw [hr_10]
          refine lv_lstore (lv' := [(7, .long (tc_ln p4 6)), (5, .long (tc_mv (f p2.toNatClampNeg) p3 6)), (0, .ref h0), (1, .int p1), (2, .int p2), (3, .int p3), (4, .int p4)]) hx hb dX0_shift_56 hl (by decide) rfl (fun ls hl => ?_)
          refine lv_aload_n hx hb dX0_shift_58 rfl (lv_at hl 2 rfl) ?_
          refine va_get (D := (dC, dI)) (ci := 0) (v := .ref q1) (C := RX0) (T := TX0) (N := 3) hx hb hts in_X0 hown hK hP 0 rfl rfl 0 (by decide) (hts _ q41) (fun _ h9 => h9) rfl dX0_shift_59 ?_
          refine lv_iload_n hx hb dX0_shift_62 rfl (lv_at hl 3 rfl) ?_
          refine lv_lload hx hb dX0_shift_63 (lv_at hl 1 rfl) ?_
          refine lv_lload hx hb dX0_shift_65 (lv_at hl 0 rfl) ?_
          refine lv_lxor hx hb dX0_shift_67 ?_
          refine va_last hx hb hK hP hD hS 1 0 rfl rfl b_2 dX0_shift_68 (fun H locs hP hD hS => ?_)
          have hP : va_P (dC, dI) tw_cl (tw_C h0 q1 q2 q3 e1 e2 e3 (vp_updL f p1.toNatClampNeg ((tc_mv (f p2.toNatClampNeg) p3 6) ^^^ (tc_ln p4 6))) g) H := hP
          have hD : va_D A (tw_C h0 q1 q2 q3 e1 e2 e3 (vp_updL f p1.toNatClampNeg ((tc_mv (f p2.toNatClampNeg) p3 6) ^^^ (tc_ln p4 6))) g) := hD
          refine lv_aload_n hx hb dX0_shift_69 rfl (lv_at hl 2 rfl) ?_
          refine lv_aload_n hx hb dX0_shift_70 rfl (lv_at hl 2 rfl) ?_
          refine va_get (D := (dC, dI)) (ci := 0) (v := .ref q1) (C := RX0) (T := TX0) (N := 3) hx hb hts in_X0 hown hK hP 0 rfl rfl 0 (by decide) (hts _ q41) (fun _ h9 => h9) rfl dX0_shift_71 ?_
          refine lv_iload_n hx hb dX0_shift_74 rfl (lv_at hl 3 rfl) ?_
          refine va_lald hx hb hK hP 1 0 rfl rfl b_2 dX0_shift_75 ?_
          refine vp_callSi (W.runV (As := [.long ((vp_updL f p1.toNatClampNeg ((tc_mv (f p2.toNatClampNeg) p3 6) ^^^ (tc_ln p4 6))) p1.toNatClampNeg)]) (rest := []) ⟨hx, hb, hml, hown, hts⟩ (metX0_onesOf l dC dI h0 q1 q2 q3 e1 e2 e3 (vp_updL f p1.toNatClampNeg ((tc_mv (f p2.toNatClampNeg) p3 6) ^^^ (tc_ln p4 6))) g ((vp_updL f p1.toNatClampNeg ((tc_mv (f p2.toNatClampNeg) p3 6) ^^^ (tc_ln p4 6))) p1.toNatClampNeg)) (cwV 1 hts (lw_V q77 q79 qs4 q25 q80) rfl rfl rfl (by decide +kernel) ⟨Nat.le_of_ble_eq_true rfl, Nat.le_of_ble_eq_true rfl⟩) (tw_preC hK hP _) rfl rfl hl.1 rfl (lv_room (Nat.le_of_ble_eq_true rfl)) dX0_shift_76 ⟨Nat.le_of_ble_eq_true rfl, Nat.le_of_ble_eq_true rfl⟩) (fun r_11 hr_11 => ?_)
          rw [hr_11]
          exact W.iret (v := (tc_ones ((vp_updL f p1.toNatClampNeg ((tc_mv (f p2.toNatClampNeg) p3 6) ^^^ (tc_ln p4 6))) p1.toNatClampNeg))) hx hb hr (fun t ht hW => ⟨⟨(tc_ones ((vp_updL f p1.toNatClampNeg ((tc_mv (f p2.toNatClampNeg) p3 6) ^^^ (tc_ln p4 6))) p1.toNatClampNeg)), ((vp_updL f p1.toNatClampNeg ((tc_mv (f p2.toNatClampNeg) p3 6) ^^^ (tc_ln p4 6))), g), rfl, ⟨fun _ => ⟨rfl, rfl⟩, fun h => absurd ⟨b_2, b_4, b_6, b_8⟩ h⟩, by rw [ht]; exact hP, va_K.moved hW.alike hK, hD⟩, hS.F ht⟩) hS.2.2 dX0_shift_79
        · have b_8 : ¬ vp_in p4 64 := fun h => c_8 (hr_7.mpr h)
          refine lv_sipush (v := -1000) hx hb dX0_shift_33 (by decide) ?_
          exact W.iret (v := (-1000 : Int32)) hx hb hr (fun t ht hW => ⟨⟨(-1000 : Int32), (f, g), rfl, ⟨fun h => absurd h.2.2.2 b_8, fun _ => ⟨rfl, rfl⟩⟩, by rw [ht]; exact hP, va_K.moved hW.alike hK, hD⟩, hS.F ht⟩) hS.2.2 dX0_shift_36
end
section
/-! walks of TruthSpectrum: value, ones, form, degree, variables, shifted -/
set_option maxHeartbeats 4000000 in
set_option maxRecDepth 100000 in
/-- value(t, x) -/
theorem metX0_value (l : Launch) (dC : Nat → ClassId) (dI : Nat → Nat → Nat) (h0 q1 q2 q3 : Nat) (e1 e2 e3 : ClassId) (f : Nat → Int64) (g : Nat → Int32) (p1 : Int32) (p2 : Int32) : Met l yX0_value (ws_ yX0_value cX0_value 3 (some .int)) ({ frames := 1, cells := 0, slots := 0, locals := 23 }) (va_Pc [.ref h0, .int p1, .int p2] (tw_RC dC dI h0 q1 q2 q3 e1 e2 e3 f g)) (vp_Si (fun (r : Int32) => ((vp_in p1 4 ∧ vp_in p2 64) → r = tc_dg (f p1.toNatClampNeg) p2) ∧ (¬ (vp_in p1 4 ∧ vp_in p2 64) → r = (-1000 : Int32)))) 0 0 (fun _ => False) := by
  refine Met.ofW (cc := cX0_value) (maxL := 3) (ret := (some .int)) (by decide) rfl ?_
  intro p e s m args below meth c s₁ B hml hv
  obtain ⟨rfl, hP, hK⟩ := hv
  have hx := B.exec
  have hb := B.bytes
  have hr := B.returns
  have hts := atoms_spec (ws := ws_ yX0_value cX0_value 3 (some .int)) B.pre
  have hts : ∀ w ∈ lw_all, w.before _ s = true := fun w h => hts w (List.mem_cons_of_mem _ h)
  have hown : s.vm.findClass RX0 = some m.cls := findClass_of_methodNamed B.named
  have hlocks := B.notSynchronized
  have hl := lv_entry ([.ref h0, .int p1, .int p2]) (n := 3) (Nat.le_of_ble_eq_true rfl)
  rw [lg_entry_eq]
  generalize (lg_sl ([.ref h0, .int p1, .int p2]) ++ List.replicate (3 - (lg_sl ([.ref h0, .int p1, .int p2])).length) Slot.unset).toArray = ls at hl ⊢
  have hl : lv_has ls 3 [(0, .ref h0), (1, .int p1), (2, .int p2)] := hl
  refine lv_aload_n hx hb dX0_value_0 rfl (lv_at hl 0 rfl) ?_
  refine lv_iload_n hx hb dX0_value_1 rfl (lv_at hl 1 rfl) ?_
  refine vp_callSi (W.runV (As := [.int p1]) (rest := []) ⟨hx, hb, hml, hown, hts⟩ (metX0_bad l h0 p1) (cwV 1 hts (lw_V q57 q59 qs0 q25 q60) rfl rfl rfl (by decide +kernel) ⟨Nat.le_of_ble_eq_true rfl, Nat.le_of_ble_eq_true rfl⟩) (tw_pre0C hK hP _) rfl rfl hl.1 rfl (lv_room (Nat.le_of_ble_eq_true rfl)) dX0_value_2 ⟨Nat.le_of_ble_eq_true rfl, Nat.le_of_ble_eq_true rfl⟩) (fun r_1 hr_1 => ?_)
  refine lv_if_ne (tgt := 16) hx hb dX0_value_5 (by decide) (fun c_2 => ?_) (fun c_2 => ?_)
  · have b_2 : ¬ vp_in p1 4 := fun h => c_2 (hr_1.mpr h)
    refine lv_sipush (v := -1000) hx hb dX0_value_16 (by decide) ?_
    refine lv_goto (tgt := 33) hx hb dX0_value_19 (by decide) ?_
    exact W.iret (v := (-1000 : Int32)) hx hb hr (fun t ht hW => ⟨(-1000 : Int32), rfl, ⟨fun h => absurd h.1 b_2, fun _ => rfl⟩, ht⟩) (fun _ h => by cases h) dX0_value_33
  · have b_2 : vp_in p1 4 := hr_1.mp c_2
    refine lv_aload_n hx hb dX0_value_8 rfl (lv_at hl 0 rfl) ?_
    refine lv_iload_n hx hb dX0_value_9 rfl (lv_at hl 2 rfl) ?_
    refine vp_callSi (W.runV (As := [.int p2]) (rest := []) ⟨hx, hb, hml, hown, hts⟩ (metX0_badPoint l h0 p2) (cwV 1 hts (lw_V q61 q63 qs1 q25 q64) rfl rfl rfl (by decide +kernel) ⟨Nat.le_of_ble_eq_true rfl, Nat.le_of_ble_eq_true rfl⟩) (tw_pre0C hK hP _) rfl rfl hl.1 rfl (lv_room (Nat.le_of_ble_eq_true rfl)) dX0_value_10 ⟨Nat.le_of_ble_eq_true rfl, Nat.le_of_ble_eq_true rfl⟩) (fun r_3 hr_3 => ?_)
    refine lv_if_eq (tgt := 22) hx hb dX0_value_13 (by decide) (fun c_4 => ?_) (fun c_4 => ?_)
    · have b_4 : vp_in p2 64 := hr_3.mp c_4
      refine lv_aload_n hx hb dX0_value_22 rfl (lv_at hl 0 rfl) ?_
      refine lv_aload_n hx hb dX0_value_23 rfl (lv_at hl 0 rfl) ?_
      refine va_get (D := (dC, dI)) (ci := 0) (v := .ref q1) (C := RX0) (T := TX0) (N := 3) hx hb hts in_X0 hown hK hP 0 rfl rfl 0 (by decide) (hts _ q41) (fun _ h9 => h9) rfl dX0_value_24 ?_
      refine lv_iload_n hx hb dX0_value_27 rfl (lv_at hl 1 rfl) ?_
      refine va_lald hx hb hK hP 1 0 rfl rfl b_2 dX0_value_28 ?_
      refine lv_iload_n hx hb dX0_value_29 rfl (lv_at hl 2 rfl) ?_
      refine vp_callSi (W.runV (As := [.long (f p1.toNatClampNeg), .int p2]) (rest := []) ⟨hx, hb, hml, hown, hts⟩ (metX0_digit l h0 (f p1.toNatClampNeg) p2) (cwV 2 hts (lw_V q65 q67 qs2 q25 q68) rfl rfl rfl (by decide +kernel) ⟨Nat.le_of_ble_eq_true rfl, Nat.le_of_ble_eq_true rfl⟩) (tw_pre0C hK hP _) rfl rfl hl.1 rfl (lv_room (Nat.le_of_ble_eq_true rfl)) dX0_value_30 ⟨Nat.le_of_ble_eq_true rfl, Nat.le_of_ble_eq_true rfl⟩) (fun r_5 hr_5 => ?_)
      rw [hr_5]
      exact W.iret (v := (tc_dg (f p1.toNatClampNeg) p2)) hx hb hr (fun t ht hW => ⟨(tc_dg (f p1.toNatClampNeg) p2), rfl, ⟨fun _ => rfl, fun h => absurd ⟨b_2, b_4⟩ h⟩, ht⟩) (fun _ h => by cases h) dX0_value_33
    · have b_4 : ¬ vp_in p2 64 := fun h => c_4 (hr_3.mpr h)
      refine lv_sipush (v := -1000) hx hb dX0_value_16 (by decide) ?_
      refine lv_goto (tgt := 33) hx hb dX0_value_19 (by decide) ?_
      exact W.iret (v := (-1000 : Int32)) hx hb hr (fun t ht hW => ⟨(-1000 : Int32), rfl, ⟨fun h => absurd h.2 b_4, fun _ => rfl⟩, ht⟩) (fun _ h => by cases h) dX0_value_33
set_option maxHeartbeats 4000000 in
set_option maxRecDepth 100000 in
/-- ones(t) -/
theorem metX0_ones (l : Launch) (dC : Nat → ClassId) (dI : Nat → Nat → Nat) (h0 q1 q2 q3 : Nat) (e1 e2 e3 : ClassId) (f : Nat → Int64) (g : Nat → Int32) (p1 : Int32) : Met l yX0_ones (ws_ yX0_ones cX0_ones 2 (some .int)) ({ frames := 1, cells := 0, slots := 0, locals := 28 }) (va_Pc [.ref h0, .int p1] (tw_RC dC dI h0 q1 q2 q3 e1 e2 e3 f g)) (vp_Si (fun (r : Int32) => ((vp_in p1 4) → r = tc_ones (f p1.toNatClampNeg)) ∧ (¬ (vp_in p1 4) → r = (-1000 : Int32)))) 0 0 (fun _ => False) := by
  refine Met.ofW (cc := cX0_ones) (maxL := 2) (ret := (some .int)) (by decide) rfl ?_
  intro p e s m args below meth c s₁ B hml hv
  obtain ⟨rfl, hP, hK⟩ := hv
  have hx := B.exec
  have hb := B.bytes
  have hr := B.returns
  have hts := atoms_spec (ws := ws_ yX0_ones cX0_ones 2 (some .int)) B.pre
  have hts : ∀ w ∈ lw_all, w.before _ s = true := fun w h => hts w (List.mem_cons_of_mem _ h)
  have hown : s.vm.findClass RX0 = some m.cls := findClass_of_methodNamed B.named
  have hlocks := B.notSynchronized
  have hl := lv_entry ([.ref h0, .int p1]) (n := 2) (Nat.le_of_ble_eq_true rfl)
  rw [lg_entry_eq]
  generalize (lg_sl ([.ref h0, .int p1]) ++ List.replicate (2 - (lg_sl ([.ref h0, .int p1])).length) Slot.unset).toArray = ls at hl ⊢
  have hl : lv_has ls 2 [(0, .ref h0), (1, .int p1)] := hl
  refine lv_aload_n hx hb dX0_ones_0 rfl (lv_at hl 0 rfl) ?_
  refine lv_iload_n hx hb dX0_ones_1 rfl (lv_at hl 1 rfl) ?_
  refine vp_callSi (W.runV (As := [.int p1]) (rest := []) ⟨hx, hb, hml, hown, hts⟩ (metX0_bad l h0 p1) (cwV 1 hts (lw_V q57 q59 qs0 q25 q60) rfl rfl rfl (by decide +kernel) ⟨Nat.le_of_ble_eq_true rfl, Nat.le_of_ble_eq_true rfl⟩) (tw_pre0C hK hP _) rfl rfl hl.1 rfl (lv_room (Nat.le_of_ble_eq_true rfl)) dX0_ones_2 ⟨Nat.le_of_ble_eq_true rfl, Nat.le_of_ble_eq_true rfl⟩) (fun r_1 hr_1 => ?_)
  refine lv_if_eq (tgt := 14) hx hb dX0_ones_5 (by decide) (fun c_2 => ?_) (fun c_2 => ?_)
  · have b_2 : vp_in p1 4 := hr_1.mp c_2
    refine lv_aload_n hx hb dX0_ones_14 rfl (lv_at hl 0 rfl) ?_
    refine lv_aload_n hx hb dX0_ones_15 rfl (lv_at hl 0 rfl) ?_
    refine va_get (D := (dC, dI)) (ci := 0) (v := .ref q1) (C := RX0) (T := TX0) (N := 3) hx hb hts in_X0 hown hK hP 0 rfl rfl 0 (by decide) (hts _ q41) (fun _ h9 => h9) rfl dX0_ones_16 ?_
    refine lv_iload_n hx hb dX0_ones_19 rfl (lv_at hl 1 rfl) ?_
    refine va_lald hx hb hK hP 1 0 rfl rfl b_2 dX0_ones_20 ?_
    refine vp_callSi (W.runV (As := [.long (f p1.toNatClampNeg)]) (rest := []) ⟨hx, hb, hml, hown, hts⟩ (metX0_onesOf l dC dI h0 q1 q2 q3 e1 e2 e3 f g (f p1.toNatClampNeg)) (cwV 1 hts (lw_V q77 q79 qs4 q25 q80) rfl rfl rfl (by decide +kernel) ⟨Nat.le_of_ble_eq_true rfl, Nat.le_of_ble_eq_true rfl⟩) (tw_preC hK hP _) rfl rfl hl.1 rfl (lv_room (Nat.le_of_ble_eq_true rfl)) dX0_ones_21 ⟨Nat.le_of_ble_eq_true rfl, Nat.le_of_ble_eq_true rfl⟩) (fun r_3 hr_3 => ?_)
    rw [hr_3]
    exact W.iret (v := (tc_ones (f p1.toNatClampNeg))) hx hb hr (fun t ht hW => ⟨(tc_ones (f p1.toNatClampNeg)), rfl, ⟨fun _ => rfl, fun h => absurd b_2 h⟩, ht⟩) (fun _ h => by cases h) dX0_ones_24
  · have b_2 : ¬ vp_in p1 4 := fun h => c_2 (hr_1.mpr h)
    refine lv_sipush (v := -1000) hx hb dX0_ones_8 (by decide) ?_
    refine lv_goto (tgt := 24) hx hb dX0_ones_11 (by decide) ?_
    exact W.iret (v := (-1000 : Int32)) hx hb hr (fun t ht hW => ⟨(-1000 : Int32), rfl, ⟨fun h => absurd h b_2, fun _ => rfl⟩, ht⟩) (fun _ h => by cases h) dX0_ones_24
set_option maxHeartbeats 4000000 in
set_option maxRecDepth 100000 in
/-- form(t, u) -/
theorem metX0_form (l : Launch) (dC : Nat → ClassId) (dI : Nat → Nat → Nat) (h0 q1 q2 q3 : Nat) (e1 e2 e3 : ClassId) (f : Nat → Int64) (g : Nat → Int32) (p1 : Int32) (p2 : Int32) : Met l yX0_form (ws_ yX0_form cX0_form 5 (some .int)) ({ frames := 1, cells := 0, slots := 0, locals := 25 }) (va_Pc [.ref h0, .int p1, .int p2] (tw_RC dC dI h0 q1 q2 q3 e1 e2 e3 f g)) (vp_Si (fun (r : Int32) => ((vp_in p1 4 ∧ vp_in p2 64) → r = tc_dg (tc_tr (f p1.toNatClampNeg) 6) p2) ∧ (¬ (vp_in p1 4 ∧ vp_in p2 64) → r = (-1000 : Int32)))) 0 0 (fun _ => False) := by
  refine Met.ofW (cc := cX0_form) (maxL := 5) (ret := (some .int)) (by decide) rfl ?_
  intro p e s m args below meth c s₁ B hml hv
  obtain ⟨rfl, hP, hK⟩ := hv
  have hx := B.exec
  have hb := B.bytes
  have hr := B.returns
  have hts := atoms_spec (ws := ws_ yX0_form cX0_form 5 (some .int)) B.pre
  have hts : ∀ w ∈ lw_all, w.before _ s = true := fun w h => hts w (List.mem_cons_of_mem _ h)
  have hown : s.vm.findClass RX0 = some m.cls := findClass_of_methodNamed B.named
  have hlocks := B.notSynchronized
  have hl := lv_entry ([.ref h0, .int p1, .int p2]) (n := 5) (Nat.le_of_ble_eq_true rfl)
  rw [lg_entry_eq]
  generalize (lg_sl ([.ref h0, .int p1, .int p2]) ++ List.replicate (5 - (lg_sl ([.ref h0, .int p1, .int p2])).length) Slot.unset).toArray = ls at hl ⊢
  have hl : lv_has ls 5 [(0, .ref h0), (1, .int p1), (2, .int p2)] := hl
  refine lv_aload_n hx hb dX0_form_0 rfl (lv_at hl 0 rfl) ?_
  refine lv_iload_n hx hb dX0_form_1 rfl (lv_at hl 1 rfl) ?_
  refine vp_callSi (W.runV (As := [.int p1]) (rest := []) ⟨hx, hb, hml, hown, hts⟩ (metX0_bad l h0 p1) (cwV 1 hts (lw_V q57 q59 qs0 q25 q60) rfl rfl rfl (by decide +kernel) ⟨Nat.le_of_ble_eq_true rfl, Nat.le_of_ble_eq_true rfl⟩) (tw_pre0C hK hP _) rfl rfl hl.1 rfl (lv_room (Nat.le_of_ble_eq_true rfl)) dX0_form_2 ⟨Nat.le_of_ble_eq_true rfl, Nat.le_of_ble_eq_true rfl⟩) (fun r_1 hr_1 => ?_)
  refine lv_if_ne (tgt := 16) hx hb dX0_form_5 (by decide) (fun c_2 => ?_) (fun c_2 => ?_)
  · have b_2 : ¬ vp_in p1 4 := fun h => c_2 (hr_1.mpr h)
    refine lv_sipush (v := -1000) hx hb dX0_form_16 (by decide) ?_
    exact W.iret (v := (-1000 : Int32)) hx hb hr (fun t ht hW => ⟨(-1000 : Int32), rfl, ⟨fun h => absurd h.1 b_2, fun _ => rfl⟩, ht⟩) (fun _ h => by cases h) dX0_form_19
  · have b_2 : vp_in p1 4 := hr_1.mp c_2
    refine lv_aload_n hx hb dX0_form_8 rfl (lv_at hl 0 rfl) ?_
    refine lv_iload_n hx hb dX0_form_9 rfl (lv_at hl 2 rfl) ?_
    refine vp_callSi (W.runV (As := [.int p2]) (rest := []) ⟨hx, hb, hml, hown, hts⟩ (metX0_badPoint l h0 p2) (cwV 1 hts (lw_V q61 q63 qs1 q25 q64) rfl rfl rfl (by decide +kernel) ⟨Nat.le_of_ble_eq_true rfl, Nat.le_of_ble_eq_true rfl⟩) (tw_pre0C hK hP _) rfl rfl hl.1 rfl (lv_room (Nat.le_of_ble_eq_true rfl)) dX0_form_10 ⟨Nat.le_of_ble_eq_true rfl, Nat.le_of_ble_eq_true rfl⟩) (fun r_3 hr_3 => ?_)
    refine lv_if_eq (tgt := 20) hx hb dX0_form_13 (by decide) (fun c_4 => ?_) (fun c_4 => ?_)
    · have b_4 : vp_in p2 64 := hr_3.mp c_4
      refine lv_aload_n hx hb dX0_form_20 rfl (lv_at hl 0 rfl) ?_
      refine lv_aload_n hx hb dX0_form_21 rfl (lv_at hl 0 rfl) ?_
      refine va_get (D := (dC, dI)) (ci := 0) (v := .ref q1) (C := RX0) (T := TX0) (N := 3) hx hb hts in_X0 hown hK hP 0 rfl rfl 0 (by decide) (hts _ q41) (fun _ h9 => h9) rfl dX0_form_22 ?_
      refine lv_iload_n hx hb dX0_form_25 rfl (lv_at hl 1 rfl) ?_
      refine va_lald hx hb hK hP 1 0 rfl rfl b_2 dX0_form_26 ?_
      refine vp_callSl (W.runV (As := [.long (f p1.toNatClampNeg)]) (rest := []) ⟨hx, hb, hml, hown, hts⟩ (metX0_transformed l dC dI h0 q1 q2 q3 e1 e2 e3 f g (f p1.toNatClampNeg)) (cwV 1 hts (lw_V q73 q75 qs3 q25 q76) rfl rfl rfl (by decide +kernel) ⟨Nat.le_of_ble_eq_true rfl, Nat.le_of_ble_eq_true rfl⟩) (tw_preC hK hP _) rfl rfl hl.1 rfl (lv_room (Nat.le_of_ble_eq_true rfl)) dX0_form_27 ⟨Nat.le_of_ble_eq_true rfl, Nat.le_of_ble_eq_true rfl⟩) (fun r_5 hr_5 => ?_)
      rw [hr_5]
      refine lv_lstore_n (lv' := [(3, .long (tc_tr (f p1.toNatClampNeg) 6)), (0, .ref h0), (1, .int p1), (2, .int p2)]) hx hb dX0_form_30 rfl hl (by decide) rfl (fun ls hl => ?_)
      refine lv_aload_n hx hb dX0_form_31 rfl (lv_at hl 1 rfl) ?_
      refine lv_lload_n hx hb dX0_form_32 rfl (lv_at hl 0 rfl) ?_
      refine lv_iload_n hx hb dX0_form_33 rfl (lv_at hl 3 rfl) ?_
      refine vp_callSi (W.runV (As := [.long (tc_tr (f p1.toNatClampNeg) 6), .int p2]) (rest := []) ⟨hx, hb, hml, hown, hts⟩ (metX0_digit l h0 (tc_tr (f p1.toNatClampNeg) 6) p2) (cwV 2 hts (lw_V q65 q67 qs2 q25 q68) rfl rfl rfl (by decide +kernel) ⟨Nat.le_of_ble_eq_true rfl, Nat.le_of_ble_eq_true rfl⟩) (tw_pre0C hK hP _) rfl rfl hl.1 rfl (lv_room (Nat.le_of_ble_eq_true rfl)) dX0_form_34 ⟨Nat.le_of_ble_eq_true rfl, Nat.le_of_ble_eq_true rfl⟩) (fun r_6 hr_6 => ?_)
      rw [hr_6]
      exact W.iret (v := (tc_dg (tc_tr (f p1.toNatClampNeg) 6) p2)) hx hb hr (fun t ht hW => ⟨(tc_dg (tc_tr (f p1.toNatClampNeg) 6) p2), rfl, ⟨fun _ => rfl, fun h => absurd ⟨b_2, b_4⟩ h⟩, ht⟩) (fun _ h => by cases h) dX0_form_37
    · have b_4 : ¬ vp_in p2 64 := fun h => c_4 (hr_3.mpr h)
      refine lv_sipush (v := -1000) hx hb dX0_form_16 (by decide) ?_
      exact W.iret (v := (-1000 : Int32)) hx hb hr (fun t ht hW => ⟨(-1000 : Int32), rfl, ⟨fun h => absurd h.2 b_4, fun _ => rfl⟩, ht⟩) (fun _ h => by cases h) dX0_form_19
set_option maxHeartbeats 4000000 in
set_option maxRecDepth 100000 in
/-- degree(t) -/
theorem metX0_degree (l : Launch) (dC : Nat → ClassId) (dI : Nat → Nat → Nat) (h0 q1 q2 q3 : Nat) (e1 e2 e3 : ClassId) (f : Nat → Int64) (g : Nat → Int32) (p1 : Int32) : Met l yX0_degree (ws_ yX0_degree cX0_degree 7 (some .int)) ({ frames := 1, cells := 0, slots := 0, locals := 25 }) (va_Pc [.ref h0, .int p1] (tw_RC dC dI h0 q1 q2 q3 e1 e2 e3 f g)) (vp_Si (fun (r : Int32) => ((vp_in p1 4) → r = tc_deg (tc_tr (f p1.toNatClampNeg) 6) 64) ∧ (¬ (vp_in p1 4) → r = (-1000 : Int32)))) 0 0 (fun _ => False) := by
  refine Met.ofW (cc := cX0_degree) (maxL := 7) (ret := (some .int)) (by decide) rfl ?_
  intro p e s m args below meth c s₁ B hml hv
  obtain ⟨rfl, hP, hK⟩ := hv
  have hx := B.exec
  have hb := B.bytes
  have hr := B.returns
  have hts := atoms_spec (ws := ws_ yX0_degree cX0_degree 7 (some .int)) B.pre
  have hts : ∀ w ∈ lw_all, w.before _ s = true := fun w h => hts w (List.mem_cons_of_mem _ h)
  have hown : s.vm.findClass RX0 = some m.cls := findClass_of_methodNamed B.named
  have hlocks := B.notSynchronized
  have hl := lv_entry ([.ref h0, .int p1]) (n := 7) (Nat.le_of_ble_eq_true rfl)
  rw [lg_entry_eq]
  generalize (lg_sl ([.ref h0, .int p1]) ++ List.replicate (7 - (lg_sl ([.ref h0, .int p1])).length) Slot.unset).toArray = ls at hl ⊢
  have hl : lv_has ls 7 [(0, .ref h0), (1, .int p1)] := hl
  refine lv_aload_n hx hb dX0_degree_0 rfl (lv_at hl 0 rfl) ?_
  refine lv_iload_n hx hb dX0_degree_1 rfl (lv_at hl 1 rfl) ?_
  refine vp_callSi (W.runV (As := [.int p1]) (rest := []) ⟨hx, hb, hml, hown, hts⟩ (metX0_bad l h0 p1) (cwV 1 hts (lw_V q57 q59 qs0 q25 q60) rfl rfl rfl (by decide +kernel) ⟨Nat.le_of_ble_eq_true rfl, Nat.le_of_ble_eq_true rfl⟩) (tw_pre0C hK hP _) rfl rfl hl.1 rfl (lv_room (Nat.le_of_ble_eq_true rfl)) dX0_degree_2 ⟨Nat.le_of_ble_eq_true rfl, Nat.le_of_ble_eq_true rfl⟩) (fun r_1 hr_1 => ?_)
  refine lv_if_eq (tgt := 12) hx hb dX0_degree_5 (by decide) (fun c_2 => ?_) (fun c_2 => ?_)
  · have b_2 : vp_in p1 4 := hr_1.mp c_2
    refine lv_aload_n hx hb dX0_degree_12 rfl (lv_at hl 0 rfl) ?_
    refine lv_aload_n hx hb dX0_degree_13 rfl (lv_at hl 0 rfl) ?_
    refine va_get (D := (dC, dI)) (ci := 0) (v := .ref q1) (C := RX0) (T := TX0) (N := 3) hx hb hts in_X0 hown hK hP 0 rfl rfl 0 (by decide) (hts _ q41) (fun _ h9 => h9) rfl dX0_degree_14 ?_
    refine lv_iload_n hx hb dX0_degree_17 rfl (lv_at hl 1 rfl) ?_
    refine va_lald hx hb hK hP 1 0 rfl rfl b_2 dX0_degree_18 ?_
    refine vp_callSl (W.runV (As := [.long (f p1.toNatClampNeg)]) (rest := []) ⟨hx, hb, hml, hown, hts⟩ (metX0_transformed l dC dI h0 q1 q2 q3 e1 e2 e3 f g (f p1.toNatClampNeg)) (cwV 1 hts (lw_V q73 q75 qs3 q25 q76) rfl rfl rfl (by decide +kernel) ⟨Nat.le_of_ble_eq_true rfl, Nat.le_of_ble_eq_true rfl⟩) (tw_preC hK hP _) rfl rfl hl.1 rfl (lv_room (Nat.le_of_ble_eq_true rfl)) dX0_degree_19 ⟨Nat.le_of_ble_eq_true rfl, Nat.le_of_ble_eq_true rfl⟩) (fun r_3 hr_3 => ?_)
    rw [hr_3]
    refine lv_lstore_n (lv' := [(2, .long (tc_tr (f p1.toNatClampNeg) 6)), (0, .ref h0), (1, .int p1)]) hx hb dX0_degree_22 rfl hl (by decide) rfl (fun ls hl => ?_)
    refine lv_iconst (v := 0) hx hb dX0_degree_23 (by decide) ?_
    refine lv_istore (lv' := [(4, .int (0 : Int32)), (2, .long (tc_tr (f p1.toNatClampNeg) 6)), (0, .ref h0), (1, .int p1)]) hx hb dX0_degree_24 hl (by decide) rfl (fun ls hl => ?_)
    refine lv_iconst (v := 0) hx hb dX0_degree_26 (by decide) ?_
    refine lv_istore (lv' := [(5, .int (0 : Int32)), (4, .int (0 : Int32)), (2, .long (tc_tr (f p1.toNatClampNeg) 6)), (0, .ref h0), (1, .int p1)]) hx hb dX0_degree_27 hl (by decide) rfl (fun ls hl => ?_)
    have hl : lv_has ls 7 [(0, .ref h0), (1, .int p1), (2, .long (tc_tr (f p1.toNatClampNeg) 6)), (4, .int (0 : Int32)), (5, .int (0 : Int32))] := lv_sub hl [3, 4, 2, 1, 0] rfl
    have hl : lv_has ls 7 [(0, .ref h0), (1, .int p1), (2, .long (tc_tr (f p1.toNatClampNeg) 6)), (4, .int (tc_deg (tc_tr (f p1.toNatClampNeg) 6) 0)), (5, .int (nI 0))] := hl
    refine tw_loop (pc := 29) 64 (fun i ls => lv_has ls 7 [(0, .ref h0), (1, .int p1), (2, .long (tc_tr (f p1.toNatClampNeg) 6)), (4, .int (tc_deg (tc_tr (f p1.toNatClampNeg) 6) i)), (5, .int (nI i))]) (fun ls hp => ?_) (fun i ls hi_i hp ih_i => ?_) 64 0 ls (by omega) hl
    · have hl := hp
      have hl : lv_has ls 7 [(0, .ref h0), (1, .int p1), (2, .long (tc_tr (f p1.toNatClampNeg) 6)), (4, .int (tc_deg (tc_tr (f p1.toNatClampNeg) 6) 64)), (5, .int (nI 64))] := hl
      refine lv_iload hx hb dX0_degree_29 (lv_at hl 4 rfl) ?_
      refine lv_bipush (v := 64) hx hb dX0_degree_31 (by decide) ?_
      refine lv_icmp_ge (tgt := 77) hx hb dX0_degree_33 (by decide) (fun _ => ?_) (fun c => absurd (nI_le (a := 64) (b := 64) (by decide) (by decide)) c)
      refine lv_iload hx hb dX0_degree_77 (lv_at hl 3 rfl) ?_
      exact W.iret (v := tc_deg (tc_tr (f p1.toNatClampNeg) 6) 64) hx hb hr (fun t ht hW => ⟨tc_deg (tc_tr (f p1.toNatClampNeg) 6) 64, rfl, ⟨fun _ => rfl, fun h => absurd b_2 h⟩, ht⟩) (fun _ h => by cases h) dX0_degree_79
    · have hl := hp
      have hl : lv_has ls 7 [(0, .ref h0), (1, .int p1), (2, .long (tc_tr (f p1.toNatClampNeg) 6)), (4, .int (tc_deg (tc_tr (f p1.toNatClampNeg) 6) i)), (5, .int (nI i))] := hl
      refine lv_iload hx hb dX0_degree_29 (lv_at hl 4 rfl) ?_
      refine lv_bipush (v := 64) hx hb dX0_degree_31 (by decide) ?_
      refine lv_icmp_ge (tgt := 77) hx hb dX0_degree_33 (by decide) (fun c => absurd c (nI_ge (a := i) (b := 64) (by omega) (by decide))) (fun _ => ?_)
      refine lv_aload_n hx hb dX0_degree_36 rfl (lv_at hl 0 rfl) ?_
      refine lv_iload hx hb dX0_degree_37 (lv_at hl 4 rfl) ?_
      refine vp_callSi (W.runV (As := [.int (nI i)]) (rest := []) ⟨hx, hb, hml, hown, hts⟩ (metX0_sizeOf l h0 (nI i)) (cwV 1 hts (lw_V q115 q117 qs7 q25 q118) rfl rfl rfl (by decide +kernel) ⟨Nat.le_of_ble_eq_true rfl, Nat.le_of_ble_eq_true rfl⟩) (tw_pre0C hK hP _) rfl rfl hl.1 rfl (lv_room (Nat.le_of_ble_eq_true rfl)) dX0_degree_39 ⟨Nat.le_of_ble_eq_true rfl, Nat.le_of_ble_eq_true rfl⟩) (fun r_4 hr_4 => ?_)
      rw [hr_4]
      refine lv_istore (lv' := [(6, .int (tc_sz (nI i) 6)), (0, .ref h0), (1, .int p1), (2, .long (tc_tr (f p1.toNatClampNeg) 6)), (4, .int (tc_deg (tc_tr (f p1.toNatClampNeg) 6) i)), (5, .int (nI i))]) hx hb dX0_degree_42 hl (by decide) rfl (fun ls hl => ?_)
      refine lv_aload_n hx hb dX0_degree_44 rfl (lv_at hl 1 rfl) ?_
      refine lv_lload_n hx hb dX0_degree_45 rfl (lv_at hl 3 rfl) ?_
      refine lv_iload hx hb dX0_degree_46 (lv_at hl 5 rfl) ?_
      refine vp_callSi (W.runV (As := [.long (tc_tr (f p1.toNatClampNeg) 6), .int (nI i)]) (rest := []) ⟨hx, hb, hml, hown, hts⟩ (metX0_digit l h0 (tc_tr (f p1.toNatClampNeg) 6) (nI i)) (cwV 2 hts (lw_V q65 q67 qs2 q25 q68) rfl rfl rfl (by decide +kernel) ⟨Nat.le_of_ble_eq_true rfl, Nat.le_of_ble_eq_true rfl⟩) (tw_pre0C hK hP _) rfl rfl hl.1 rfl (lv_room (Nat.le_of_ble_eq_true rfl)) dX0_degree_48 ⟨Nat.le_of_ble_eq_true rfl, Nat.le_of_ble_eq_true rfl⟩) (fun r_5 hr_5 => ?_)
      rw [hr_5]
      refine lv_iconst (v := 1) hx hb dX0_degree_51 (by decide) ?_
      refine lv_icmp_ne (tgt := 67) hx hb dX0_degree_52 (by decide) (fun c_6 => ?_) (fun c_6 => ?_)
      · refine lv_iload hx hb dX0_degree_67 (lv_at hl 4 rfl) ?_
        refine lv_istore (lv' := [(4, .int (tc_deg (tc_tr (f p1.toNatClampNeg) 6) i)), (6, .int (tc_sz (nI i) 6)), (0, .ref h0), (1, .int p1), (2, .long (tc_tr (f p1.toNatClampNeg) 6)), (5, .int (nI i))]) hx hb dX0_degree_69 hl (by decide) rfl (fun ls hl => ?_)
        refine lv_iinc (v := nI (i + 1)) (lv' := [(5, .int (nI (i + 1))), (4, .int (tc_deg (tc_tr (f p1.toNatClampNeg) 6) i)), (6, .int (tc_sz (nI i) 6)), (0, .ref h0), (1, .int p1), (2, .long (tc_tr (f p1.toNatClampNeg) 6))]) hx hb dX0_degree_71 hl (k := 5) rfl (nI_1 i) (by decide) rfl (fun ls hl => ?_)
        refine lv_goto (tgt := 29) hx hb dX0_degree_74 (by decide) ?_
        have hl : lv_has ls 7 [(0, .ref h0), (1, .int p1), (2, .long (tc_tr (f p1.toNatClampNeg) 6)), (4, .int (tc_deg (tc_tr (f p1.toNatClampNeg) 6) i)), (5, .int (nI (i + 1)))] := lv_sub hl [3, 4, 5, 1, 0] rfl
        exact ih_i ls (tw_has hl (by rw [tc_deg_s _ i, if_neg c_6]))
      · refine lv_iload hx hb dX0_degree_55 (lv_at hl 0 rfl) ?_
        refine lv_iload hx hb dX0_degree_57 (lv_at hl 4 rfl) ?_
        refine lv_icmp_le (tgt := 67) hx hb dX0_degree_59 (by decide) (fun c_7 => ?_) (fun c_7 => ?_)
        · refine lv_iload hx hb dX0_degree_67 (lv_at hl 4 rfl) ?_
          refine lv_istore (lv' := [(4, .int (tc_deg (tc_tr (f p1.toNatClampNeg) 6) i)), (6, .int (tc_sz (nI i) 6)), (0, .ref h0), (1, .int p1), (2, .long (tc_tr (f p1.toNatClampNeg) 6)), (5, .int (nI i))]) hx hb dX0_degree_69 hl (by decide) rfl (fun ls hl => ?_)
          refine lv_iinc (v := nI (i + 1)) (lv' := [(5, .int (nI (i + 1))), (4, .int (tc_deg (tc_tr (f p1.toNatClampNeg) 6) i)), (6, .int (tc_sz (nI i) 6)), (0, .ref h0), (1, .int p1), (2, .long (tc_tr (f p1.toNatClampNeg) 6))]) hx hb dX0_degree_71 hl (k := 5) rfl (nI_1 i) (by decide) rfl (fun ls hl => ?_)
          refine lv_goto (tgt := 29) hx hb dX0_degree_74 (by decide) ?_
          have hl : lv_has ls 7 [(0, .ref h0), (1, .int p1), (2, .long (tc_tr (f p1.toNatClampNeg) 6)), (4, .int (tc_deg (tc_tr (f p1.toNatClampNeg) 6) i)), (5, .int (nI (i + 1)))] := lv_sub hl [3, 4, 5, 1, 0] rfl
          exact ih_i ls (tw_has hl (by rw [tc_deg_s _ i, if_pos c_6, if_pos c_7]))
        · refine lv_iload hx hb dX0_degree_62 (lv_at hl 0 rfl) ?_
          refine lv_goto (tgt := 69) hx hb dX0_degree_64 (by decide) ?_
          refine lv_istore (lv' := [(4, .int (tc_sz (nI i) 6)), (6, .int (tc_sz (nI i) 6)), (0, .ref h0), (1, .int p1), (2, .long (tc_tr (f p1.toNatClampNeg) 6)), (5, .int (nI i))]) hx hb dX0_degree_69 hl (by decide) rfl (fun ls hl => ?_)
          refine lv_iinc (v := nI (i + 1)) (lv' := [(5, .int (nI (i + 1))), (4, .int (tc_sz (nI i) 6)), (6, .int (tc_sz (nI i) 6)), (0, .ref h0), (1, .int p1), (2, .long (tc_tr (f p1.toNatClampNeg) 6))]) hx hb dX0_degree_71 hl (k := 5) rfl (nI_1 i) (by decide) rfl (fun ls hl => ?_)
          refine lv_goto (tgt := 29) hx hb dX0_degree_74 (by decide) ?_
          have hl : lv_has ls 7 [(0, .ref h0), (1, .int p1), (2, .long (tc_tr (f p1.toNatClampNeg) 6)), (4, .int (tc_sz (nI i) 6)), (5, .int (nI (i + 1)))] := lv_sub hl [3, 4, 5, 1, 0] rfl
          exact ih_i ls (tw_has hl (by rw [tc_deg_s _ i, if_pos c_6, if_neg c_7]))
  · have b_2 : ¬ vp_in p1 4 := fun h => c_2 (hr_1.mpr h)
    refine lv_sipush (v := -1000) hx hb dX0_degree_8 (by decide) ?_
    exact W.iret (v := (-1000 : Int32)) hx hb hr (fun t ht hW => ⟨(-1000 : Int32), rfl, ⟨fun h => absurd h b_2, fun _ => rfl⟩, ht⟩) (fun _ h => by cases h) dX0_degree_11
set_option maxHeartbeats 4000000 in
set_option maxRecDepth 100000 in
/-- variables(t) -/
theorem metX0_variables (l : Launch) (dC : Nat → ClassId) (dI : Nat → Nat → Nat) (h0 q1 q2 q3 : Nat) (e1 e2 e3 : ClassId) (f : Nat → Int64) (g : Nat → Int32) (p1 : Int32) : Met l yX0_variables (ws_ yX0_variables cX0_variables 6 (some .int)) ({ frames := 1, cells := 0, slots := 0, locals := 27 }) (va_Pc [.ref h0, .int p1] (tw_RC dC dI h0 q1 q2 q3 e1 e2 e3 f g)) (vp_Si (fun (r : Int32) => ((vp_in p1 4) → r = tc_va (f p1.toNatClampNeg) 6) ∧ (¬ (vp_in p1 4) → r = (-1000 : Int32)))) 0 0 (fun _ => False) := by
  refine Met.ofW (cc := cX0_variables) (maxL := 6) (ret := (some .int)) (by decide) rfl ?_
  intro p e s m args below meth c s₁ B hml hv
  obtain ⟨rfl, hP, hK⟩ := hv
  have hx := B.exec
  have hb := B.bytes
  have hr := B.returns
  have hts := atoms_spec (ws := ws_ yX0_variables cX0_variables 6 (some .int)) B.pre
  have hts : ∀ w ∈ lw_all, w.before _ s = true := fun w h => hts w (List.mem_cons_of_mem _ h)
  have hown : s.vm.findClass RX0 = some m.cls := findClass_of_methodNamed B.named
  have hlocks := B.notSynchronized
  have hl := lv_entry ([.ref h0, .int p1]) (n := 6) (Nat.le_of_ble_eq_true rfl)
  rw [lg_entry_eq]
  generalize (lg_sl ([.ref h0, .int p1]) ++ List.replicate (6 - (lg_sl ([.ref h0, .int p1])).length) Slot.unset).toArray = ls at hl ⊢
  have hl : lv_has ls 6 [(0, .ref h0), (1, .int p1)] := hl
  refine lv_aload_n hx hb dX0_variables_0 rfl (lv_at hl 0 rfl) ?_
  refine lv_iload_n hx hb dX0_variables_1 rfl (lv_at hl 1 rfl) ?_
  refine vp_callSi (W.runV (As := [.int p1]) (rest := []) ⟨hx, hb, hml, hown, hts⟩ (metX0_bad l h0 p1) (cwV 1 hts (lw_V q57 q59 qs0 q25 q60) rfl rfl rfl (by decide +kernel) ⟨Nat.le_of_ble_eq_true rfl, Nat.le_of_ble_eq_true rfl⟩) (tw_pre0C hK hP _) rfl rfl hl.1 rfl (lv_room (Nat.le_of_ble_eq_true rfl)) dX0_variables_2 ⟨Nat.le_of_ble_eq_true rfl, Nat.le_of_ble_eq_true rfl⟩) (fun r_1 hr_1 => ?_)
  refine lv_if_eq (tgt := 12) hx hb dX0_variables_5 (by decide) (fun c_2 => ?_) (fun c_2 => ?_)
  · have b_2 : vp_in p1 4 := hr_1.mp c_2
    refine lv_iconst (v := 0) hx hb dX0_variables_12 (by decide) ?_
    refine lv_istore_n (lv' := [(2, .int (0 : Int32)), (0, .ref h0), (1, .int p1)]) hx hb dX0_variables_13 rfl hl (by decide) rfl (fun ls hl => ?_)
    refine lv_iconst (v := 0) hx hb dX0_variables_14 (by decide) ?_
    refine lv_istore_n (lv' := [(3, .int (0 : Int32)), (2, .int (0 : Int32)), (0, .ref h0), (1, .int p1)]) hx hb dX0_variables_15 rfl hl (by decide) rfl (fun ls hl => ?_)
    have hl : lv_has ls 6 [(0, .ref h0), (1, .int p1), (2, .int (0 : Int32)), (3, .int (0 : Int32))] := lv_sub hl [2, 3, 1, 0] rfl
    have hl : lv_has ls 6 [(0, .ref h0), (1, .int p1), (2, .int (tc_va (f p1.toNatClampNeg) 0)), (3, .int (nI 0))] := hl
    refine tw_loop (pc := 16) 6 (fun i ls => lv_has ls 6 [(0, .ref h0), (1, .int p1), (2, .int (tc_va (f p1.toNatClampNeg) i)), (3, .int (nI i))]) (fun ls hp => ?_) (fun i ls hi_i hp ih_i => ?_) 6 0 ls (by omega) hl
    · have hl := hp
      have hl : lv_has ls 6 [(0, .ref h0), (1, .int p1), (2, .int (tc_va (f p1.toNatClampNeg) 6)), (3, .int (nI 6))] := hl
      refine lv_iload_n hx hb dX0_variables_16 rfl (lv_at hl 3 rfl) ?_
      refine lv_bipush (v := 6) hx hb dX0_variables_17 (by decide) ?_
      refine lv_icmp_ge (tgt := 65) hx hb dX0_variables_19 (by decide) (fun _ => ?_) (fun c => absurd (nI_le (a := 6) (b := 6) (by decide) (by decide)) c)
      refine lv_iload_n hx hb dX0_variables_65 rfl (lv_at hl 2 rfl) ?_
      exact W.iret (v := tc_va (f p1.toNatClampNeg) 6) hx hb hr (fun t ht hW => ⟨tc_va (f p1.toNatClampNeg) 6, rfl, ⟨fun _ => rfl, fun h => absurd b_2 h⟩, ht⟩) (fun _ h => by cases h) dX0_variables_66
    · have hl := hp
      have hl : lv_has ls 6 [(0, .ref h0), (1, .int p1), (2, .int (tc_va (f p1.toNatClampNeg) i)), (3, .int (nI i))] := hl
      refine lv_iload_n hx hb dX0_variables_16 rfl (lv_at hl 3 rfl) ?_
      refine lv_bipush (v := 6) hx hb dX0_variables_17 (by decide) ?_
      refine lv_icmp_ge (tgt := 65) hx hb dX0_variables_19 (by decide) (fun c => absurd c (nI_ge (a := i) (b := 6) (by omega) (by decide))) (fun _ => ?_)
      refine lv_aload_n hx hb dX0_variables_22 rfl (lv_at hl 0 rfl) ?_
      refine lv_aload_n hx hb dX0_variables_23 rfl (lv_at hl 0 rfl) ?_
      refine va_get (D := (dC, dI)) (ci := 0) (v := .ref q1) (C := RX0) (T := TX0) (N := 3) hx hb hts in_X0 hown hK hP 0 rfl rfl 0 (by decide) (hts _ q41) (fun _ h9 => h9) rfl dX0_variables_24 ?_
      refine lv_iload_n hx hb dX0_variables_27 rfl (lv_at hl 1 rfl) ?_
      refine va_lald hx hb hK hP 1 0 rfl rfl b_2 dX0_variables_28 ?_
      refine lv_iconst (v := 1) hx hb dX0_variables_29 (by decide) ?_
      refine lv_iload_n hx hb dX0_variables_30 rfl (lv_at hl 3 rfl) ?_
      refine lv_ishl hx hb dX0_variables_31 ?_
      refine vp_callSl (W.runV (As := [.long (f p1.toNatClampNeg), .int ((1 : Int32) <<< ((nI i) &&& 31))]) (rest := []) ⟨hx, hb, hml, hown, hts⟩ (metX0_moved l dC dI h0 q1 q2 q3 e1 e2 e3 f g (f p1.toNatClampNeg) ((1 : Int32) <<< ((nI i) &&& 31))) (cwV 2 hts (lw_V q91 q93 qs5 q25 q94) rfl rfl rfl (by decide +kernel) ⟨Nat.le_of_ble_eq_true rfl, Nat.le_of_ble_eq_true rfl⟩) (tw_preC hK hP _) rfl rfl hl.1 rfl (lv_room (Nat.le_of_ble_eq_true rfl)) dX0_variables_32 ⟨Nat.le_of_ble_eq_true rfl, Nat.le_of_ble_eq_true rfl⟩) (fun r_3 hr_3 => ?_)
      rw [hr_3]
      refine lv_lstore (lv' := [(4, .long (tc_mv (f p1.toNatClampNeg) ((1 : Int32) <<< ((nI i) &&& 31)) 6)), (0, .ref h0), (1, .int p1), (2, .int (tc_va (f p1.toNatClampNeg) i)), (3, .int (nI i))]) hx hb dX0_variables_35 hl (by decide) rfl (fun ls hl => ?_)
      refine lv_lload hx hb dX0_variables_37 (lv_at hl 0 rfl) ?_
      refine lv_aload_n hx hb dX0_variables_39 rfl (lv_at hl 1 rfl) ?_
      refine va_get (D := (dC, dI)) (ci := 0) (v := .ref q1) (C := RX0) (T := TX0) (N := 3) hx hb hts in_X0 hown hK hP 0 rfl rfl 0 (by decide) (hts _ q41) (fun _ h9 => h9) rfl dX0_variables_40 ?_
      refine lv_iload_n hx hb dX0_variables_43 rfl (lv_at hl 2 rfl) ?_
      refine va_lald hx hb hK hP 1 0 rfl rfl b_2 dX0_variables_44 ?_
      refine W.lcmp hx hb dX0_variables_45 ?_
      refine lv_if_eq (tgt := 57) hx hb dX0_variables_46 (by decide) (fun c_4 => ?_) (fun c_4 => ?_)
      · refine lv_iload_n hx hb dX0_variables_57 rfl (lv_at hl 3 rfl) ?_
        refine lv_istore_n (lv' := [(2, .int (tc_va (f p1.toNatClampNeg) i)), (4, .long (tc_mv (f p1.toNatClampNeg) ((1 : Int32) <<< ((nI i) &&& 31)) 6)), (0, .ref h0), (1, .int p1), (3, .int (nI i))]) hx hb dX0_variables_58 rfl hl (by decide) rfl (fun ls hl => ?_)
        refine lv_iinc (v := nI (i + 1)) (lv' := [(3, .int (nI (i + 1))), (2, .int (tc_va (f p1.toNatClampNeg) i)), (4, .long (tc_mv (f p1.toNatClampNeg) ((1 : Int32) <<< ((nI i) &&& 31)) 6)), (0, .ref h0), (1, .int p1)]) hx hb dX0_variables_59 hl (k := 4) rfl (nI_1 i) (by decide) rfl (fun ls hl => ?_)
        refine lv_goto (tgt := 16) hx hb dX0_variables_62 (by decide) ?_
        have hl : lv_has ls 6 [(0, .ref h0), (1, .int p1), (2, .int (tc_va (f p1.toNatClampNeg) i)), (3, .int (nI (i + 1)))] := lv_sub hl [3, 4, 1, 0] rfl
        exact ih_i ls (tw_has hl (by rw [tc_va_s _ i, if_pos c_4]))
      · refine lv_iload_n hx hb dX0_variables_49 rfl (lv_at hl 3 rfl) ?_
        refine lv_iconst (v := 1) hx hb dX0_variables_50 (by decide) ?_
        refine lv_iload_n hx hb dX0_variables_51 rfl (lv_at hl 4 rfl) ?_
        refine lv_ishl hx hb dX0_variables_52 ?_
        refine lv_ior hx hb dX0_variables_53 ?_
        refine lv_goto (tgt := 58) hx hb dX0_variables_54 (by decide) ?_
        refine lv_istore_n (lv' := [(2, .int ((tc_va (f p1.toNatClampNeg) i) ||| ((1 : Int32) <<< ((nI i) &&& 31)))), (4, .long (tc_mv (f p1.toNatClampNeg) ((1 : Int32) <<< ((nI i) &&& 31)) 6)), (0, .ref h0), (1, .int p1), (3, .int (nI i))]) hx hb dX0_variables_58 rfl hl (by decide) rfl (fun ls hl => ?_)
        refine lv_iinc (v := nI (i + 1)) (lv' := [(3, .int (nI (i + 1))), (2, .int ((tc_va (f p1.toNatClampNeg) i) ||| ((1 : Int32) <<< ((nI i) &&& 31)))), (4, .long (tc_mv (f p1.toNatClampNeg) ((1 : Int32) <<< ((nI i) &&& 31)) 6)), (0, .ref h0), (1, .int p1)]) hx hb dX0_variables_59 hl (k := 4) rfl (nI_1 i) (by decide) rfl (fun ls hl => ?_)
        refine lv_goto (tgt := 16) hx hb dX0_variables_62 (by decide) ?_
        have hl : lv_has ls 6 [(0, .ref h0), (1, .int p1), (2, .int ((tc_va (f p1.toNatClampNeg) i) ||| ((1 : Int32) <<< ((nI i) &&& 31)))), (3, .int (nI (i + 1)))] := lv_sub hl [3, 4, 1, 0] rfl
        exact ih_i ls (tw_has hl (by rw [tc_va_s _ i, if_neg c_4]))
  · have b_2 : ¬ vp_in p1 4 := fun h => c_2 (hr_1.mpr h)
    refine lv_sipush (v := -1000) hx hb dX0_variables_8 (by decide) ?_
    exact W.iret (v := (-1000 : Int32)) hx hb hr (fun t ht hW => ⟨(-1000 : Int32), rfl, ⟨fun h => absurd h b_2, fun _ => rfl⟩, ht⟩) (fun _ h => by cases h) dX0_variables_11
set_option maxHeartbeats 4000000 in
set_option maxRecDepth 100000 in
/-- shifted(t, r) -/
theorem metX0_shifted (l : Launch) (dC : Nat → ClassId) (dI : Nat → Nat → Nat) (h0 q1 q2 q3 : Nat) (e1 e2 e3 : ClassId) (f : Nat → Int64) (g : Nat → Int32) (p1 : Int32) (p2 : Int32) : Met l yX0_shifted (ws_ yX0_shifted cX0_shifted 12 (some .boolean)) ({ frames := 1, cells := 0, slots := 0, locals := 27 }) (va_Pc [.ref h0, .int p1, .int p2] (tw_RC dC dI h0 q1 q2 q3 e1 e2 e3 f g)) (vp_Si (fun (r : Int32) => ((vp_in p1 4 ∧ vp_in p2 4) → tw_fnd (tc_hit (f p1.toNatClampNeg) (f p2.toNatClampNeg)) 64 r) ∧ (¬ (vp_in p1 4 ∧ vp_in p2 4) → r = 0))) 0 0 (fun _ => False) := by
  refine Met.ofW (cc := cX0_shifted) (maxL := 12) (ret := (some .boolean)) (by decide) rfl ?_
  intro p e s m args below meth c s₁ B hml hv
  obtain ⟨rfl, hP, hK⟩ := hv
  have hx := B.exec
  have hb := B.bytes
  have hr := B.returns
  have hts := atoms_spec (ws := ws_ yX0_shifted cX0_shifted 12 (some .boolean)) B.pre
  have hts : ∀ w ∈ lw_all, w.before _ s = true := fun w h => hts w (List.mem_cons_of_mem _ h)
  have hown : s.vm.findClass RX0 = some m.cls := findClass_of_methodNamed B.named
  have hlocks := B.notSynchronized
  have hl := lv_entry ([.ref h0, .int p1, .int p2]) (n := 12) (Nat.le_of_ble_eq_true rfl)
  rw [lg_entry_eq]
  generalize (lg_sl ([.ref h0, .int p1, .int p2]) ++ List.replicate (12 - (lg_sl ([.ref h0, .int p1, .int p2])).length) Slot.unset).toArray = ls at hl ⊢
  have hl : lv_has ls 12 [(0, .ref h0), (1, .int p1), (2, .int p2)] := hl
  refine lv_aload_n hx hb dX0_shifted_0 rfl (lv_at hl 0 rfl) ?_
  refine lv_iload_n hx hb dX0_shifted_1 rfl (lv_at hl 1 rfl) ?_
  refine vp_callSi (W.runV (As := [.int p1]) (rest := []) ⟨hx, hb, hml, hown, hts⟩ (metX0_bad l h0 p1) (cwV 1 hts (lw_V q57 q59 qs0 q25 q60) rfl rfl rfl (by decide +kernel) ⟨Nat.le_of_ble_eq_true rfl, Nat.le_of_ble_eq_true rfl⟩) (tw_pre0C hK hP _) rfl rfl hl.1 rfl (lv_room (Nat.le_of_ble_eq_true rfl)) dX0_shifted_2 ⟨Nat.le_of_ble_eq_true rfl, Nat.le_of_ble_eq_true rfl⟩) (fun r_1 hr_1 => ?_)
  refine lv_if_ne (tgt := 16) hx hb dX0_shifted_5 (by decide) (fun c_2 => ?_) (fun c_2 => ?_)
  · have b_2 : ¬ vp_in p1 4 := fun h => c_2 (hr_1.mpr h)
    refine lv_iconst (v := 0) hx hb dX0_shifted_16 (by decide) ?_
    exact W.zret (v := (0 : Int32)) hx hb hr rfl (fun t ht hW => ⟨(0 : Int32), rfl, ⟨fun h => absurd h.1 b_2, fun _ => rfl⟩, ht⟩) (fun _ h => by cases h) dX0_shifted_17
  · have b_2 : vp_in p1 4 := hr_1.mp c_2
    refine lv_aload_n hx hb dX0_shifted_8 rfl (lv_at hl 0 rfl) ?_
    refine lv_iload_n hx hb dX0_shifted_9 rfl (lv_at hl 2 rfl) ?_
    refine vp_callSi (W.runV (As := [.int p2]) (rest := []) ⟨hx, hb, hml, hown, hts⟩ (metX0_bad l h0 p2) (cwV 1 hts (lw_V q57 q59 qs0 q25 q60) rfl rfl rfl (by decide +kernel) ⟨Nat.le_of_ble_eq_true rfl, Nat.le_of_ble_eq_true rfl⟩) (tw_pre0C hK hP _) rfl rfl hl.1 rfl (lv_room (Nat.le_of_ble_eq_true rfl)) dX0_shifted_10 ⟨Nat.le_of_ble_eq_true rfl, Nat.le_of_ble_eq_true rfl⟩) (fun r_3 hr_3 => ?_)
    refine lv_if_eq (tgt := 18) hx hb dX0_shifted_13 (by decide) (fun c_4 => ?_) (fun c_4 => ?_)
    · have b_4 : vp_in p2 4 := hr_3.mp c_4
      refine lv_iconst (v := 0) hx hb dX0_shifted_18 (by decide) ?_
      refine lv_istore_n (lv' := [(3, .int (0 : Int32)), (0, .ref h0), (1, .int p1), (2, .int p2)]) hx hb dX0_shifted_19 rfl hl (by decide) rfl (fun ls hl => ?_)
      refine lv_iconst (v := 0) hx hb dX0_shifted_20 (by decide) ?_
      refine lv_istore (lv' := [(4, .int (0 : Int32)), (3, .int (0 : Int32)), (0, .ref h0), (1, .int p1), (2, .int p2)]) hx hb dX0_shifted_21 hl (by decide) rfl (fun ls hl => ?_)
      have hl : lv_has ls 12 [(0, .ref h0), (1, .int p1), (2, .int p2), (3, .int (0 : Int32)), (4, .int (0 : Int32))] := lv_sub hl [2, 3, 4, 1, 0] rfl
      refine tw_loop (pc := 23) 64 (fun i ls => ∃ z : Int32, lv_has ls 12 [(0, .ref h0), (1, .int p1), (2, .int p2), (3, .int z), (4, .int (nI i))] ∧ tw_fnd (tc_hit (f p1.toNatClampNeg) (f p2.toNatClampNeg)) i z) (fun ls hp => ?_) (fun i ls hi_i hp ih_i => ?_) 64 0 ls (by omega) ⟨0, hl, tw_fnd_0 _⟩
      · obtain ⟨z, hl, hX_i⟩ := hp
        have hl : lv_has ls 12 [(0, .ref h0), (1, .int p1), (2, .int p2), (3, .int z), (4, .int (nI 64))] := hl
        have hX_i : tw_fnd (tc_hit (f p1.toNatClampNeg) (f p2.toNatClampNeg)) 64 z := hX_i
        refine lv_iload hx hb dX0_shifted_23 (lv_at hl 4 rfl) ?_
        refine lv_bipush (v := 64) hx hb dX0_shifted_25 (by decide) ?_
        refine lv_icmp_ge (tgt := 124) hx hb dX0_shifted_27 (by decide) (fun _ => ?_) (fun c => absurd (nI_le (a := 64) (b := 64) (by decide) (by decide)) c)
        refine lv_iload_n hx hb dX0_shifted_124 rfl (lv_at hl 3 rfl) ?_
        exact W.zret (v := z) hx hb hr (tw_fnd_nar hX_i) (fun t ht hW => ⟨z, rfl, ⟨fun _ => hX_i, fun h => absurd ⟨b_2, b_4⟩ h⟩, ht⟩) (fun _ h => by cases h) dX0_shifted_125
      · obtain ⟨z, hl, hX_i⟩ := hp
        have hl : lv_has ls 12 [(0, .ref h0), (1, .int p1), (2, .int p2), (3, .int z), (4, .int (nI i))] := hl
        have hX_i : tw_fnd (tc_hit (f p1.toNatClampNeg) (f p2.toNatClampNeg)) i z := hX_i
        refine lv_iload hx hb dX0_shifted_23 (lv_at hl 4 rfl) ?_
        refine lv_bipush (v := 64) hx hb dX0_shifted_25 (by decide) ?_
        refine lv_icmp_ge (tgt := 124) hx hb dX0_shifted_27 (by decide) (fun c => absurd c (nI_ge (a := i) (b := 64) (by omega) (by decide))) (fun _ => ?_)
        refine lv_iload_n hx hb dX0_shifted_30 rfl (lv_at hl 3 rfl) ?_
        refine lv_if_ne (tgt := 124) hx hb dX0_shifted_31 (by decide) (fun c_5 => ?_) (fun c_5 => ?_)
        · refine lv_iload_n hx hb dX0_shifted_124 rfl (lv_at hl 3 rfl) ?_
          exact W.zret (v := z) hx hb hr (tw_fnd_nar hX_i) (fun t ht hW => ⟨z, rfl, ⟨fun _ => tw_found i hi_i hX_i c_5, fun h => absurd ⟨b_2, b_4⟩ h⟩, ht⟩) (fun _ h => by cases h) dX0_shifted_125
        · refine lv_aload_n hx hb dX0_shifted_34 rfl (lv_at hl 0 rfl) ?_
          refine lv_aload_n hx hb dX0_shifted_35 rfl (lv_at hl 0 rfl) ?_
          refine va_get (D := (dC, dI)) (ci := 0) (v := .ref q1) (C := RX0) (T := TX0) (N := 3) hx hb hts in_X0 hown hK hP 0 rfl rfl 0 (by decide) (hts _ q41) (fun _ h9 => h9) rfl dX0_shifted_36 ?_
          refine lv_iload_n hx hb dX0_shifted_39 rfl (lv_at hl 2 rfl) ?_
          refine va_lald hx hb hK hP 1 0 rfl rfl b_4 dX0_shifted_40 ?_
          refine lv_iload hx hb dX0_shifted_41 (lv_at hl 4 rfl) ?_
          refine vp_callSl (W.runV (As := [.long (f p2.toNatClampNeg), .int (nI i)]) (rest := []) ⟨hx, hb, hml, hown, hts⟩ (metX0_moved l dC dI h0 q1 q2 q3 e1 e2 e3 f g (f p2.toNatClampNeg) (nI i)) (cwV 2 hts (lw_V q91 q93 qs5 q25 q94) rfl rfl rfl (by decide +kernel) ⟨Nat.le_of_ble_eq_true rfl, Nat.le_of_ble_eq_true rfl⟩) (tw_preC hK hP _) rfl rfl hl.1 rfl (lv_room (Nat.le_of_ble_eq_true rfl)) dX0_shifted_43 ⟨Nat.le_of_ble_eq_true rfl, Nat.le_of_ble_eq_true rfl⟩) (fun r_6 hr_6 => ?_)
          rw [hr_6]
          refine lv_lstore (lv' := [(5, .long (tc_mv (f p2.toNatClampNeg) (nI i) 6)), (0, .ref h0), (1, .int p1), (2, .int p2), (3, .int z), (4, .int (nI i))]) hx hb dX0_shifted_46 hl (by decide) rfl (fun ls hl => ?_)
          refine lv_lload hx hb dX0_shifted_48 (lv_at hl 0 rfl) ?_
          refine lv_aload_n hx hb dX0_shifted_50 rfl (lv_at hl 1 rfl) ?_
          refine va_get (D := (dC, dI)) (ci := 0) (v := .ref q1) (C := RX0) (T := TX0) (N := 3) hx hb hts in_X0 hown hK hP 0 rfl rfl 0 (by decide) (hts _ q41) (fun _ h9 => h9) rfl dX0_shifted_51 ?_
          refine lv_iload_n hx hb dX0_shifted_54 rfl (lv_at hl 2 rfl) ?_
          refine va_lald hx hb hK hP 1 0 rfl rfl b_2 dX0_shifted_55 ?_
          refine lv_lxor hx hb dX0_shifted_56 ?_
          refine lv_lstore (lv' := [(7, .long (tc_mv (f p2.toNatClampNeg) (nI i) 6 ^^^ (f p1.toNatClampNeg))), (5, .long (tc_mv (f p2.toNatClampNeg) (nI i) 6)), (0, .ref h0), (1, .int p1), (2, .int p2), (3, .int z), (4, .int (nI i))]) hx hb dX0_shifted_57 hl (by decide) rfl (fun ls hl => ?_)
          refine lv_iconst (v := 0) hx hb dX0_shifted_59 (by decide) ?_
          refine lv_istore (lv' := [(9, .int (0 : Int32)), (7, .long (tc_mv (f p2.toNatClampNeg) (nI i) 6 ^^^ (f p1.toNatClampNeg))), (5, .long (tc_mv (f p2.toNatClampNeg) (nI i) 6)), (0, .ref h0), (1, .int p1), (2, .int p2), (3, .int z), (4, .int (nI i))]) hx hb dX0_shifted_60 hl (by decide) rfl (fun ls hl => ?_)
          refine lv_iconst (v := 0) hx hb dX0_shifted_62 (by decide) ?_
          refine lv_istore (lv' := [(10, .int (0 : Int32)), (9, .int (0 : Int32)), (7, .long (tc_mv (f p2.toNatClampNeg) (nI i) 6 ^^^ (f p1.toNatClampNeg))), (5, .long (tc_mv (f p2.toNatClampNeg) (nI i) 6)), (0, .ref h0), (1, .int p1), (2, .int p2), (3, .int z), (4, .int (nI i))]) hx hb dX0_shifted_63 hl (by decide) rfl (fun ls hl => ?_)
          have hl : lv_has ls 12 [(0, .ref h0), (1, .int p1), (2, .int p2), (3, .int z), (4, .int (nI i)), (7, .long (tc_mv (f p2.toNatClampNeg) (nI i) 6 ^^^ (f p1.toNatClampNeg))), (9, .int (0 : Int32)), (10, .int (0 : Int32))] := lv_sub hl [4, 5, 6, 7, 8, 2, 1, 0] rfl
          have hl : lv_has ls 12 [(0, .ref h0), (1, .int p1), (2, .int p2), (3, .int z), (4, .int (nI i)), (7, .long (tc_mv (f p2.toNatClampNeg) (nI i) 6 ^^^ (f p1.toNatClampNeg))), (9, .int (tc_sb (tc_mv (f p2.toNatClampNeg) (nI i) 6 ^^^ (f p1.toNatClampNeg)) 0)), (10, .int (nI 0))] := hl
          refine tw_loop (pc := 65) 6 (fun j ls => lv_has ls 12 [(0, .ref h0), (1, .int p1), (2, .int p2), (3, .int z), (4, .int (nI i)), (7, .long (tc_mv (f p2.toNatClampNeg) (nI i) 6 ^^^ (f p1.toNatClampNeg))), (9, .int (tc_sb (tc_mv (f p2.toNatClampNeg) (nI i) 6 ^^^ (f p1.toNatClampNeg)) j)), (10, .int (nI j))]) (fun ls hp => ?_) (fun j ls hi_j hp ih_j => ?_) 6 0 ls (by omega) hl
          · have hl := hp
            have hl : lv_has ls 12 [(0, .ref h0), (1, .int p1), (2, .int p2), (3, .int z), (4, .int (nI i)), (7, .long (tc_mv (f p2.toNatClampNeg) (nI i) 6 ^^^ (f p1.toNatClampNeg))), (9, .int (tc_sb (tc_mv (f p2.toNatClampNeg) (nI i) 6 ^^^ (f p1.toNatClampNeg)) 6)), (10, .int (nI 6))] := hl
            refine lv_iload hx hb dX0_shifted_65 (lv_at hl 7 rfl) ?_
            refine lv_bipush (v := 6) hx hb dX0_shifted_67 (by decide) ?_
            refine lv_icmp_ge (tgt := 96) hx hb dX0_shifted_69 (by decide) (fun _ => ?_) (fun c => absurd (nI_le (a := 6) (b := 6) (by decide) (by decide)) c)
            refine lv_aload_n hx hb dX0_shifted_96 rfl (lv_at hl 0 rfl) ?_
            refine lv_iload hx hb dX0_shifted_97 (lv_at hl 6 rfl) ?_
            refine vp_callSl (W.runV (As := [.int (tc_sb (tc_mv (f p2.toNatClampNeg) (nI i) 6 ^^^ (f p1.toNatClampNeg)) 6)]) (rest := []) ⟨hx, hb, hml, hown, hts⟩ (metX0_linear l dC dI h0 q1 q2 q3 e1 e2 e3 f g (tc_sb (tc_mv (f p2.toNatClampNeg) (nI i) 6 ^^^ (f p1.toNatClampNeg)) 6)) (cwV 1 hts (lw_V q95 q97 qs6 q25 q98) rfl rfl rfl (by decide +kernel) ⟨Nat.le_of_ble_eq_true rfl, Nat.le_of_ble_eq_true rfl⟩) (tw_preC hK hP _) rfl rfl hl.1 rfl (lv_room (Nat.le_of_ble_eq_true rfl)) dX0_shifted_99 ⟨Nat.le_of_ble_eq_true rfl, Nat.le_of_ble_eq_true rfl⟩) (fun r_7 hr_7 => ?_)
            rw [hr_7]
            refine lv_lstore (lv' := [(10, .long (tc_ln (tc_sb (tc_mv (f p2.toNatClampNeg) (nI i) 6 ^^^ (f p1.toNatClampNeg)) 6) 6)), (0, .ref h0), (1, .int p1), (2, .int p2), (3, .int z), (4, .int (nI i)), (7, .long (tc_mv (f p2.toNatClampNeg) (nI i) 6 ^^^ (f p1.toNatClampNeg))), (9, .int (tc_sb (tc_mv (f p2.toNatClampNeg) (nI i) 6 ^^^ (f p1.toNatClampNeg)) 6))]) hx hb dX0_shifted_102 hl (by decide) rfl (fun ls hl => ?_)
            refine lv_lload hx hb dX0_shifted_104 (lv_at hl 6 rfl) ?_
            refine lv_lload hx hb dX0_shifted_106 (lv_at hl 0 rfl) ?_
            refine W.lcmp hx hb dX0_shifted_108 ?_
            refine lv_if_ne (tgt := 116) hx hb dX0_shifted_109 (by decide) (fun c_8 => ?_) (fun c_8 => ?_)
            · refine lv_iconst (v := 0) hx hb dX0_shifted_116 (by decide) ?_
              refine lv_istore_n (lv' := [(3, .int (0 : Int32)), (10, .long (tc_ln (tc_sb (tc_mv (f p2.toNatClampNeg) (nI i) 6 ^^^ (f p1.toNatClampNeg)) 6) 6)), (0, .ref h0), (1, .int p1), (2, .int p2), (4, .int (nI i)), (7, .long (tc_mv (f p2.toNatClampNeg) (nI i) 6 ^^^ (f p1.toNatClampNeg))), (9, .int (tc_sb (tc_mv (f p2.toNatClampNeg) (nI i) 6 ^^^ (f p1.toNatClampNeg)) 6))]) hx hb dX0_shifted_117 rfl hl (by decide) rfl (fun ls hl => ?_)
              refine lv_iinc (v := nI (i + 1)) (lv' := [(4, .int (nI (i + 1))), (3, .int (0 : Int32)), (10, .long (tc_ln (tc_sb (tc_mv (f p2.toNatClampNeg) (nI i) 6 ^^^ (f p1.toNatClampNeg)) 6) 6)), (0, .ref h0), (1, .int p1), (2, .int p2), (7, .long (tc_mv (f p2.toNatClampNeg) (nI i) 6 ^^^ (f p1.toNatClampNeg))), (9, .int (tc_sb (tc_mv (f p2.toNatClampNeg) (nI i) 6 ^^^ (f p1.toNatClampNeg)) 6))]) hx hb dX0_shifted_118 hl (k := 5) rfl (nI_1 i) (by decide) rfl (fun ls hl => ?_)
              refine lv_goto (tgt := 23) hx hb dX0_shifted_121 (by decide) ?_
              have hl : lv_has ls 12 [(0, .ref h0), (1, .int p1), (2, .int p2), (3, .int (0 : Int32)), (4, .int (nI (i + 1)))] := lv_sub hl [3, 4, 5, 1, 0] rfl
              exact ih_i ls ⟨_, hl, tw_hit0 hX_i c_5 c_8⟩
            · refine lv_iconst (v := 1) hx hb dX0_shifted_112 (by decide) ?_
              refine lv_goto (tgt := 117) hx hb dX0_shifted_113 (by decide) ?_
              refine lv_istore_n (lv' := [(3, .int (1 : Int32)), (10, .long (tc_ln (tc_sb (tc_mv (f p2.toNatClampNeg) (nI i) 6 ^^^ (f p1.toNatClampNeg)) 6) 6)), (0, .ref h0), (1, .int p1), (2, .int p2), (4, .int (nI i)), (7, .long (tc_mv (f p2.toNatClampNeg) (nI i) 6 ^^^ (f p1.toNatClampNeg))), (9, .int (tc_sb (tc_mv (f p2.toNatClampNeg) (nI i) 6 ^^^ (f p1.toNatClampNeg)) 6))]) hx hb dX0_shifted_117 rfl hl (by decide) rfl (fun ls hl => ?_)
              refine lv_iinc (v := nI (i + 1)) (lv' := [(4, .int (nI (i + 1))), (3, .int (1 : Int32)), (10, .long (tc_ln (tc_sb (tc_mv (f p2.toNatClampNeg) (nI i) 6 ^^^ (f p1.toNatClampNeg)) 6) 6)), (0, .ref h0), (1, .int p1), (2, .int p2), (7, .long (tc_mv (f p2.toNatClampNeg) (nI i) 6 ^^^ (f p1.toNatClampNeg))), (9, .int (tc_sb (tc_mv (f p2.toNatClampNeg) (nI i) 6 ^^^ (f p1.toNatClampNeg)) 6))]) hx hb dX0_shifted_118 hl (k := 5) rfl (nI_1 i) (by decide) rfl (fun ls hl => ?_)
              refine lv_goto (tgt := 23) hx hb dX0_shifted_121 (by decide) ?_
              have hl : lv_has ls 12 [(0, .ref h0), (1, .int p1), (2, .int p2), (3, .int (1 : Int32)), (4, .int (nI (i + 1)))] := lv_sub hl [3, 4, 5, 1, 0] rfl
              exact ih_i ls ⟨_, hl, tw_hit1 hX_i c_5 c_8⟩
          · have hl := hp
            have hl : lv_has ls 12 [(0, .ref h0), (1, .int p1), (2, .int p2), (3, .int z), (4, .int (nI i)), (7, .long (tc_mv (f p2.toNatClampNeg) (nI i) 6 ^^^ (f p1.toNatClampNeg))), (9, .int (tc_sb (tc_mv (f p2.toNatClampNeg) (nI i) 6 ^^^ (f p1.toNatClampNeg)) j)), (10, .int (nI j))] := hl
            refine lv_iload hx hb dX0_shifted_65 (lv_at hl 7 rfl) ?_
            refine lv_bipush (v := 6) hx hb dX0_shifted_67 (by decide) ?_
            refine lv_icmp_ge (tgt := 96) hx hb dX0_shifted_69 (by decide) (fun c => absurd c (nI_ge (a := j) (b := 6) (by omega) (by decide))) (fun _ => ?_)
            refine lv_iload hx hb dX0_shifted_72 (lv_at hl 6 rfl) ?_
            refine lv_aload_n hx hb dX0_shifted_74 rfl (lv_at hl 0 rfl) ?_
            refine lv_lload hx hb dX0_shifted_75 (lv_at hl 5 rfl) ?_
            refine lv_iconst (v := 1) hx hb dX0_shifted_77 (by decide) ?_
            refine lv_iload hx hb dX0_shifted_78 (lv_at hl 7 rfl) ?_
            refine lv_ishl hx hb dX0_shifted_80 ?_
            refine vp_callSi (W.runV (As := [.long (tc_mv (f p2.toNatClampNeg) (nI i) 6 ^^^ (f p1.toNatClampNeg)), .int ((1 : Int32) <<< ((nI j) &&& 31))]) (rest := [.int (tc_sb (tc_mv (f p2.toNatClampNeg) (nI i) 6 ^^^ (f p1.toNatClampNeg)) j)]) ⟨hx, hb, hml, hown, hts⟩ (metX0_digit l h0 (tc_mv (f p2.toNatClampNeg) (nI i) 6 ^^^ (f p1.toNatClampNeg)) ((1 : Int32) <<< ((nI j) &&& 31))) (cwV 2 hts (lw_V q65 q67 qs2 q25 q68) rfl rfl rfl (by decide +kernel) ⟨Nat.le_of_ble_eq_true rfl, Nat.le_of_ble_eq_true rfl⟩) (tw_pre0C hK hP _) rfl rfl hl.1 rfl (lv_room (Nat.le_of_ble_eq_true rfl)) dX0_shifted_81 ⟨Nat.le_of_ble_eq_true rfl, Nat.le_of_ble_eq_true rfl⟩) (fun r_9 hr_9 => ?_)
            rw [hr_9]
            refine lv_iload hx hb dX0_shifted_84 (lv_at hl 7 rfl) ?_
            refine lv_ishl hx hb dX0_shifted_86 ?_
            refine lv_ior hx hb dX0_shifted_87 ?_
            refine lv_istore (lv' := [(9, .int ((tc_sb (tc_mv (f p2.toNatClampNeg) (nI i) 6 ^^^ (f p1.toNatClampNeg)) j) ||| ((tc_dg (tc_mv (f p2.toNatClampNeg) (nI i) 6 ^^^ (f p1.toNatClampNeg)) ((1 : Int32) <<< ((nI j) &&& 31))) <<< ((nI j) &&& 31)))), (0, .ref h0), (1, .int p1), (2, .int p2), (3, .int z), (4, .int (nI i)), (7, .long (tc_mv (f p2.toNatClampNeg) (nI i) 6 ^^^ (f p1.toNatClampNeg))), (10, .int (nI j))]) hx hb dX0_shifted_88 hl (by decide) rfl (fun ls hl => ?_)
            refine lv_iinc (v := nI (j + 1)) (lv' := [(10, .int (nI (j + 1))), (9, .int ((tc_sb (tc_mv (f p2.toNatClampNeg) (nI i) 6 ^^^ (f p1.toNatClampNeg)) j) ||| ((tc_dg (tc_mv (f p2.toNatClampNeg) (nI i) 6 ^^^ (f p1.toNatClampNeg)) ((1 : Int32) <<< ((nI j) &&& 31))) <<< ((nI j) &&& 31)))), (0, .ref h0), (1, .int p1), (2, .int p2), (3, .int z), (4, .int (nI i)), (7, .long (tc_mv (f p2.toNatClampNeg) (nI i) 6 ^^^ (f p1.toNatClampNeg)))]) hx hb dX0_shifted_90 hl (k := 7) rfl (nI_1 j) (by decide) rfl (fun ls hl => ?_)
            refine lv_goto (tgt := 65) hx hb dX0_shifted_93 (by decide) ?_
            have hl : lv_has ls 12 [(0, .ref h0), (1, .int p1), (2, .int p2), (3, .int z), (4, .int (nI i)), (7, .long (tc_mv (f p2.toNatClampNeg) (nI i) 6 ^^^ (f p1.toNatClampNeg))), (9, .int ((tc_sb (tc_mv (f p2.toNatClampNeg) (nI i) 6 ^^^ (f p1.toNatClampNeg)) j) ||| ((tc_dg (tc_mv (f p2.toNatClampNeg) (nI i) 6 ^^^ (f p1.toNatClampNeg)) ((1 : Int32) <<< ((nI j) &&& 31))) <<< ((nI j) &&& 31)))), (10, .int (nI (j + 1)))] := lv_sub hl [2, 3, 4, 5, 6, 7, 1, 0] rfl
            exact ih_j ls (tw_has hl (by rw [tc_sb_s _ j]))
    · have b_4 : ¬ vp_in p2 4 := fun h => c_4 (hr_3.mpr h)
      refine lv_iconst (v := 0) hx hb dX0_shifted_16 (by decide) ?_
      exact W.zret (v := (0 : Int32)) hx hb hr rfl (fun t ht hW => ⟨(0 : Int32), rfl, ⟨fun h => absurd h.2 b_4, fun _ => rfl⟩, ht⟩) (fun _ h => by cases h) dX0_shifted_17
end
section
/-! walks of TruthSpectrum: spread, spectrumOf, peak, correlate -/
set_option maxHeartbeats 4000000 in
set_option maxRecDepth 100000 in
/-- spread() -/
theorem metX0_spread (l : Launch) (dC : Nat → ClassId) (dI : Nat → Nat → Nat) (h0 q1 q2 q3 : Nat) (e1 e2 e3 : ClassId) (sz : Nat) (f : Nat → Int64) (g : Nat → Int32) : Met l yX0_spread (ws_ yX0_spread cX0_spread 6 none) ({ frames := 0, cells := 0, slots := 0, locals := 0 }) (va_Pc [.ref h0] (tw_SC dC dI h0 q1 q2 q3 e1 e2 e3 sz f g)) (va_Qv (fun (u : ((Nat → Int64) × (Nat → Int32))) => u = (f, tc_sp g 6)) (tw_BC dC dI h0 q1 q2 q3 e1 e2 e3 (va_A (tw_C h0 q1 q2 q3 e1 e2 e3 f g) sz)) (va_A (tw_C h0 q1 q2 q3 e1 e2 e3 f g) sz)) 0 0 (va_A (tw_C h0 q1 q2 q3 e1 e2 e3 f g) sz) := by
  refine Met.ofW (cc := cX0_spread) (maxL := 6) (ret := none) (by decide) rfl ?_
  intro p e s m args below meth c s₁ B hml hv
  obtain ⟨rfl, hsz, hP, hK, hD0⟩ := hv
  have hx := B.exec
  have hb := B.bytes
  have hr := B.returns
  have hts := atoms_spec (ws := ws_ yX0_spread cX0_spread 6 none) B.pre
  have hts : ∀ w ∈ lw_all, w.before _ s = true := fun w h => hts w (List.mem_cons_of_mem _ h)
  have hown : s.vm.findClass RX0 = some m.cls := findClass_of_methodNamed B.named
  have hlocks := B.notSynchronized
  subst hsz
  have hD := hD0.self (sz := s.heap.size)
  generalize hAe : va_A (tw_C h0 q1 q2 q3 e1 e2 e3 f g) s.heap.size = A at hD ⊢
  have hA : ∀ q : Nat, s.heap.size ≤ q → A q := fun q h => by rw [← hAe]; exact Or.inr h
  have hS : va_S A s.heap s.heap [] := va_S.rf
  have hl := lv_entry ([.ref h0]) (n := 6) (Nat.le_of_ble_eq_true rfl)
  rw [lg_entry_eq]
  generalize (lg_sl ([.ref h0]) ++ List.replicate (6 - (lg_sl ([.ref h0])).length) Slot.unset).toArray = ls at hl ⊢
  have hl : lv_has ls 6 [(0, .ref h0)] := hl
  refine lv_iconst (v := 0) hx hb dX0_spread_0 (by decide) ?_
  refine lv_istore_n (lv' := [(1, .int (0 : Int32)), (0, .ref h0)]) hx hb dX0_spread_1 rfl hl (by decide) rfl (fun ls hl => ?_)
  have hl : lv_has ls 6 [(0, .ref h0), (1, .int (0 : Int32))] := lv_sub hl [1, 0] rfl
  have hl : lv_has ls 6 [(0, .ref h0), (1, .int (nI 0))] := hl
  refine tw_loopH (pc := 2) 6 (fun i ls H locs => lv_has ls 6 [(0, .ref h0), (1, .int (nI i))] ∧ va_P (dC, dI) tw_cl (tw_C h0 q1 q2 q3 e1 e2 e3 f (tc_sp g i)) H ∧ va_D A (tw_C h0 q1 q2 q3 e1 e2 e3 f (tc_sp g i)) ∧ va_S A s.heap H locs) (fun ls H locs hp => ?_) (fun i ls H locs hi_i hp ih_i => ?_) 6 0 ls _ _ (by omega) ⟨hl, hP, hD, hS⟩
  · obtain ⟨hl, hP, hD, hS⟩ := hp
    have hP : va_P (dC, dI) tw_cl (tw_C h0 q1 q2 q3 e1 e2 e3 f (tc_sp g 6)) H := hP
    have hD : va_D A (tw_C h0 q1 q2 q3 e1 e2 e3 f (tc_sp g 6)) := hD
    have hl : lv_has ls 6 [(0, .ref h0), (1, .int (nI 6))] := hl
    refine lv_iload_n hx hb dX0_spread_2 rfl (lv_at hl 1 rfl) ?_
    refine lv_bipush (v := 6) hx hb dX0_spread_3 (by decide) ?_
    refine lv_icmp_ge (tgt := 82) hx hb dX0_spread_5 (by decide) (fun _ => ?_) (fun c => absurd (nI_le (a := 6) (b := 6) (by decide) (by decide)) c)
    exact W.vret hx hb hr (fun t ht hW => ⟨⟨(f, (tc_sp g 6)), rfl, rfl, by rw [ht]; exact hP, va_K.moved hW.alike hK, hD⟩, hS.F ht⟩) hS.2.2 dX0_spread_82
  · obtain ⟨hl, hP, hD, hS⟩ := hp
    have hP : va_P (dC, dI) tw_cl (tw_C h0 q1 q2 q3 e1 e2 e3 f (tc_sp g i)) H := hP
    have hD : va_D A (tw_C h0 q1 q2 q3 e1 e2 e3 f (tc_sp g i)) := hD
    have hl : lv_has ls 6 [(0, .ref h0), (1, .int (nI i))] := hl
    refine lv_iload_n hx hb dX0_spread_2 rfl (lv_at hl 1 rfl) ?_
    refine lv_bipush (v := 6) hx hb dX0_spread_3 (by decide) ?_
    refine lv_icmp_ge (tgt := 82) hx hb dX0_spread_5 (by decide) (fun c => absurd c (nI_ge (a := i) (b := 6) (by omega) (by decide))) (fun _ => ?_)
    refine lv_iconst (v := 1) hx hb dX0_spread_8 (by decide) ?_
    refine lv_iload_n hx hb dX0_spread_9 rfl (lv_at hl 1 rfl) ?_
    refine lv_ishl hx hb dX0_spread_10 ?_
    refine lv_istore_n (lv' := [(2, .int ((1 : Int32) <<< ((nI i) &&& 31))), (0, .ref h0), (1, .int (nI i))]) hx hb dX0_spread_11 rfl hl (by decide) rfl (fun ls hl => ?_)
    refine lv_iconst (v := 0) hx hb dX0_spread_12 (by decide) ?_
    refine lv_istore_n (lv' := [(3, .int (0 : Int32)), (2, .int ((1 : Int32) <<< ((nI i) &&& 31))), (0, .ref h0), (1, .int (nI i))]) hx hb dX0_spread_13 rfl hl (by decide) rfl (fun ls hl => ?_)
    have hl : lv_has ls 6 [(0, .ref h0), (1, .int (nI i)), (2, .int ((1 : Int32) <<< ((nI i) &&& 31))), (3, .int (0 : Int32))] := lv_sub hl [2, 3, 1, 0] rfl
    have hl : lv_has ls 6 [(0, .ref h0), (1, .int (nI i)), (2, .int ((1 : Int32) <<< ((nI i) &&& 31))), (3, .int (nI 0))] := hl
    refine tw_loopH (pc := 14) 64 (fun x ls H locs => lv_has ls 6 [(0, .ref h0), (1, .int (nI i)), (2, .int ((1 : Int32) <<< ((nI i) &&& 31))), (3, .int (nI x))] ∧ va_P (dC, dI) tw_cl (tw_C h0 q1 q2 q3 e1 e2 e3 f (tc_sp1 i (tc_sp g i) x)) H ∧ va_D A (tw_C h0 q1 q2 q3 e1 e2 e3 f (tc_sp1 i (tc_sp g i) x)) ∧ va_S A s.heap H locs) (fun ls H locs hp => ?_) (fun x ls H locs hi_x hp ih_x => ?_) 64 0 ls _ _ (by omega) ⟨hl, hP, hD, hS⟩
    · obtain ⟨hl, hP, hD, hS⟩ := hp
      have hP : va_P (dC, dI) tw_cl (tw_C h0 q1 q2 q3 e1 e2 e3 f (tc_sp1 i (tc_sp g i) 64)) H := hP
      have hD : va_D A (tw_C h0 q1 q2 q3 e1 e2 e3 f (tc_sp1 i (tc_sp g i) 64)) := hD
      have hl : lv_has ls 6 [(0, .ref h0), (1, .int (nI i)), (2, .int ((1 : Int32) <<< ((nI i) &&& 31))), (3, .int (nI 64))] := hl
      refine lv_iload_n hx hb dX0_spread_14 rfl (lv_at hl 3 rfl) ?_
      refine lv_bipush (v := 64) hx hb dX0_spread_15 (by decide) ?_
      refine lv_icmp_ge (tgt := 76) hx hb dX0_spread_17 (by decide) (fun _ => ?_) (fun c => absurd (nI_le (a := 64) (b := 64) (by decide) (by decide)) c)
      refine lv_iinc (v := nI (i + 1)) (lv' := [(1, .int (nI (i + 1))), (0, .ref h0), (2, .int ((1 : Int32) <<< ((nI i) &&& 31))), (3, .int (nI 64))]) hx hb dX0_spread_76 hl (k := 1) rfl (nI_1 i) (by decide) rfl (fun ls hl => ?_)
      refine lv_goto (tgt := 2) hx hb dX0_spread_79 (by decide) ?_
      have hl : lv_has ls 6 [(0, .ref h0), (1, .int (nI (i + 1)))] := lv_sub hl [1, 0] rfl
      have eA : (tc_sp1 i (tc_sp g i) 64) = (tc_sp g (i + 1)) := by rw [tc_sp_s _ i]
      rw [eA] at hP hD
      exact ih_i ls _ _ ⟨hl, hP, hD, hS⟩
    · obtain ⟨hl, hP, hD, hS⟩ := hp
      have hP : va_P (dC, dI) tw_cl (tw_C h0 q1 q2 q3 e1 e2 e3 f (tc_sp1 i (tc_sp g i) x)) H := hP
      have hD : va_D A (tw_C h0 q1 q2 q3 e1 e2 e3 f (tc_sp1 i (tc_sp g i) x)) := hD
      have hl : lv_has ls 6 [(0, .ref h0), (1, .int (nI i)), (2, .int ((1 : Int32) <<< ((nI i) &&& 31))), (3, .int (nI x))] := hl
      refine lv_iload_n hx hb dX0_spread_14 rfl (lv_at hl 3 rfl) ?_
      refine lv_bipush (v := 64) hx hb dX0_spread_15 (by decide) ?_
      refine lv_icmp_ge (tgt := 76) hx hb dX0_spread_17 (by decide) (fun c => absurd c (nI_ge (a := x) (b := 64) (by omega) (by decide))) (fun _ => ?_)
      refine lv_iload_n hx hb dX0_spread_20 rfl (lv_at hl 3 rfl) ?_
      refine lv_iload_n hx hb dX0_spread_21 rfl (lv_at hl 1 rfl) ?_
      refine lv_ishr hx hb dX0_spread_22 ?_
      refine lv_iconst (v := 1) hx hb dX0_spread_23 (by decide) ?_
      refine lv_iand hx hb dX0_spread_24 ?_
      refine lv_if_ne (tgt := 70) hx hb dX0_spread_25 (by decide) (fun c_1 => ?_) (fun c_1 => ?_)
      · refine lv_iinc (v := nI (x + 1)) (lv' := [(3, .int (nI (x + 1))), (0, .ref h0), (1, .int (nI i)), (2, .int ((1 : Int32) <<< ((nI i) &&& 31)))]) hx hb dX0_spread_70 hl (k := 3) rfl (nI_1 x) (by decide) rfl (fun ls hl => ?_)
        refine lv_goto (tgt := 14) hx hb dX0_spread_73 (by decide) ?_
        have hl : lv_has ls 6 [(0, .ref h0), (1, .int (nI i)), (2, .int ((1 : Int32) <<< ((nI i) &&& 31))), (3, .int (nI (x + 1)))] := lv_sub hl [1, 2, 3, 0] rfl
        have eA : (tc_sp1 i (tc_sp g i) x) = (tc_sp1 i (tc_sp g i) (x + 1)) := by rw [tc_sp1_s _ _ x, if_neg c_1]
        rw [eA] at hP hD
        exact ih_x ls _ _ ⟨hl, hP, hD, hS⟩
      · refine lv_aload_n hx hb dX0_spread_28 rfl (lv_at hl 0 rfl) ?_
        refine va_get (D := (dC, dI)) (ci := 0) (v := .ref q3) (C := RX0) (T := TX0) (N := 3) hx hb hts in_X0 hown hK hP 0 rfl rfl 2 (by decide) (hts _ q43) (fun _ h9 => h9) rfl dX0_spread_29 ?_
        refine lv_iload_n hx hb dX0_spread_32 rfl (lv_at hl 3 rfl) ?_
        refine va_iald hx hb hK hP 3 2 rfl rfl (vp_in_nI (show x < 64 by omega) (by decide)) dX0_spread_33 ?_
        refine lv_istore (lv' := [(4, .int ((tc_sp1 i (tc_sp g i) x) (nI x).toNatClampNeg)), (0, .ref h0), (1, .int (nI i)), (2, .int ((1 : Int32) <<< ((nI i) &&& 31))), (3, .int (nI x))]) hx hb dX0_spread_34 hl (by decide) rfl (fun ls hl => ?_)
        refine lv_aload_n hx hb dX0_spread_36 rfl (lv_at hl 1 rfl) ?_
        refine va_get (D := (dC, dI)) (ci := 0) (v := .ref q3) (C := RX0) (T := TX0) (N := 3) hx hb hts in_X0 hown hK hP 0 rfl rfl 2 (by decide) (hts _ q43) (fun _ h9 => h9) rfl dX0_spread_37 ?_
        refine lv_iload_n hx hb dX0_spread_40 rfl (lv_at hl 4 rfl) ?_
        refine lv_iload_n hx hb dX0_spread_41 rfl (lv_at hl 3 rfl) ?_
        refine lv_iadd hx hb dX0_spread_42 ?_
        refine va_iald hx hb hK hP 3 2 rfl rfl (tw_spin i hi_i x hi_x c_1) dX0_spread_43 ?_
        refine lv_istore (lv' := [(5, .int ((tc_sp1 i (tc_sp g i) x) ((nI x) + ((1 : Int32) <<< ((nI i) &&& 31))).toNatClampNeg)), (4, .int ((tc_sp1 i (tc_sp g i) x) (nI x).toNatClampNeg)), (0, .ref h0), (1, .int (nI i)), (2, .int ((1 : Int32) <<< ((nI i) &&& 31))), (3, .int (nI x))]) hx hb dX0_spread_44 hl (by decide) rfl (fun ls hl => ?_)
        refine lv_aload_n hx hb dX0_spread_46 rfl (lv_at hl 2 rfl) ?_
        refine va_get (D := (dC, dI)) (ci := 0) (v := .ref q3) (C := RX0) (T := TX0) (N := 3) hx hb hts in_X0 hown hK hP 0 rfl rfl 2 (by decide) (hts _ q43) (fun _ h9 => h9) rfl dX0_spread_47 ?_
        refine lv_iload_n hx hb dX0_spread_50 rfl (lv_at hl 5 rfl) ?_
        refine lv_iload hx hb dX0_spread_51 (lv_at hl 1 rfl) ?_
        refine lv_iload hx hb dX0_spread_53 (lv_at hl 0 rfl) ?_
        refine lv_iadd hx hb dX0_spread_55 ?_
        refine va_iast hx hb hK hP hD hS 3 2 rfl rfl (vp_in_nI (show x < 64 by omega) (by decide)) dX0_spread_56 (fun H locs hP hD hS => ?_)
        have hP : va_P (dC, dI) tw_cl (tw_C h0 q1 q2 q3 e1 e2 e3 f (upd (tc_sp1 i (tc_sp g i) x) (nI x).toNatClampNeg (((tc_sp1 i (tc_sp g i) x) (nI x).toNatClampNeg) + ((tc_sp1 i (tc_sp g i) x) ((nI x) + ((1 : Int32) <<< ((nI i) &&& 31))).toNatClampNeg)))) H := hP
        have hD : va_D A (tw_C h0 q1 q2 q3 e1 e2 e3 f (upd (tc_sp1 i (tc_sp g i) x) (nI x).toNatClampNeg (((tc_sp1 i (tc_sp g i) x) (nI x).toNatClampNeg) + ((tc_sp1 i (tc_sp g i) x) ((nI x) + ((1 : Int32) <<< ((nI i) &&& 31))).toNatClampNeg)))) := hD
        refine lv_aload_n hx hb dX0_spread_57 rfl (lv_at hl 2 rfl) ?_
        refine va_get (D := (dC, dI)) (ci := 0) (v := .ref q3) (C := RX0) (T := TX0) (N := 3) hx hb hts in_X0 hown hK hP 0 rfl rfl 2 (by decide) (hts _ q43) (fun _ h9 => h9) rfl dX0_spread_58 ?_
        refine lv_iload_n hx hb dX0_spread_61 rfl (lv_at hl 5 rfl) ?_
        refine lv_iload_n hx hb dX0_spread_62 rfl (lv_at hl 4 rfl) ?_
        refine lv_iadd hx hb dX0_spread_63 ?_
        refine lv_iload hx hb dX0_spread_64 (lv_at hl 1 rfl) ?_
        refine lv_iload hx hb dX0_spread_66 (lv_at hl 0 rfl) ?_
        refine lv_isub hx hb dX0_spread_68 ?_
        refine va_iast hx hb hK hP hD hS 3 2 rfl rfl (tw_spin i hi_i x hi_x c_1) dX0_spread_69 (fun H locs hP hD hS => ?_)
        have hP : va_P (dC, dI) tw_cl (tw_C h0 q1 q2 q3 e1 e2 e3 f (upd (upd (tc_sp1 i (tc_sp g i) x) (nI x).toNatClampNeg (((tc_sp1 i (tc_sp g i) x) (nI x).toNatClampNeg) + ((tc_sp1 i (tc_sp g i) x) ((nI x) + ((1 : Int32) <<< ((nI i) &&& 31))).toNatClampNeg))) ((nI x) + ((1 : Int32) <<< ((nI i) &&& 31))).toNatClampNeg (((tc_sp1 i (tc_sp g i) x) (nI x).toNatClampNeg) - ((tc_sp1 i (tc_sp g i) x) ((nI x) + ((1 : Int32) <<< ((nI i) &&& 31))).toNatClampNeg)))) H := hP
        have hD : va_D A (tw_C h0 q1 q2 q3 e1 e2 e3 f (upd (upd (tc_sp1 i (tc_sp g i) x) (nI x).toNatClampNeg (((tc_sp1 i (tc_sp g i) x) (nI x).toNatClampNeg) + ((tc_sp1 i (tc_sp g i) x) ((nI x) + ((1 : Int32) <<< ((nI i) &&& 31))).toNatClampNeg))) ((nI x) + ((1 : Int32) <<< ((nI i) &&& 31))).toNatClampNeg (((tc_sp1 i (tc_sp g i) x) (nI x).toNatClampNeg) - ((tc_sp1 i (tc_sp g i) x) ((nI x) + ((1 : Int32) <<< ((nI i) &&& 31))).toNatClampNeg)))) := hD
        refine lv_iinc (v := nI (x + 1)) (lv' := [(3, .int (nI (x + 1))), (5, .int ((tc_sp1 i (tc_sp g i) x) ((nI x) + ((1 : Int32) <<< ((nI i) &&& 31))).toNatClampNeg)), (4, .int ((tc_sp1 i (tc_sp g i) x) (nI x).toNatClampNeg)), (0, .ref h0), (1, .int (nI i)), (2, .int ((1 : Int32) <<< ((nI i) &&& 31)))]) hx hb dX0_spread_70 hl (k := 5) rfl (nI_1 x) (by decide) rfl (fun ls hl => ?_)
        refine lv_goto (tgt := 14) hx hb dX0_spread_73 (by decide) ?_
        have hl : lv_has ls 6 [(0, .ref h0), (1, .int (nI i)), (2, .int ((1 : Int32) <<< ((nI i) &&& 31))), (3, .int (nI (x + 1)))] := lv_sub hl [3, 4, 5, 0] rfl
        have eA : (upd (upd (tc_sp1 i (tc_sp g i) x) (nI x).toNatClampNeg (((tc_sp1 i (tc_sp g i) x) (nI x).toNatClampNeg) + ((tc_sp1 i (tc_sp g i) x) ((nI x) + ((1 : Int32) <<< ((nI i) &&& 31))).toNatClampNeg))) ((nI x) + ((1 : Int32) <<< ((nI i) &&& 31))).toNatClampNeg (((tc_sp1 i (tc_sp g i) x) (nI x).toNatClampNeg) - ((tc_sp1 i (tc_sp g i) x) ((nI x) + ((1 : Int32) <<< ((nI i) &&& 31))).toNatClampNeg))) = (tc_sp1 i (tc_sp g i) (x + 1)) := by rw [tc_sp1_s _ _ x, if_pos c_1]
        rw [eA] at hP hD
        exact ih_x ls _ _ ⟨hl, hP, hD, hS⟩
set_option maxHeartbeats 4000000 in
set_option maxRecDepth 100000 in
/-- spectrumOf(t) -/
theorem metX0_spectrumOf (l : Launch) (dC : Nat → ClassId) (dI : Nat → Nat → Nat) (h0 q1 q2 q3 : Nat) (e1 e2 e3 : ClassId) (sz : Nat) (f : Nat → Int64) (g : Nat → Int32) (p1 : Int32) (h1 : vp_in p1 4) : Met l yX0_spectrumOf (ws_ yX0_spectrumOf cX0_spectrumOf 3 none) ({ frames := 1, cells := 0, slots := 0, locals := 25 }) (va_Pc [.ref h0, .int p1] (tw_SC dC dI h0 q1 q2 q3 e1 e2 e3 sz f g)) (va_Qv (fun (u : ((Nat → Int64) × (Nat → Int32))) => u = (f, tc_spec (f p1.toNatClampNeg) g)) (tw_BC dC dI h0 q1 q2 q3 e1 e2 e3 (va_A (tw_C h0 q1 q2 q3 e1 e2 e3 f g) sz)) (va_A (tw_C h0 q1 q2 q3 e1 e2 e3 f g) sz)) 0 0 (va_A (tw_C h0 q1 q2 q3 e1 e2 e3 f g) sz) := by
  refine Met.ofW (cc := cX0_spectrumOf) (maxL := 3) (ret := none) (by decide) rfl ?_
  intro p e s m args below meth c s₁ B hml hv
  obtain ⟨rfl, hsz, hP, hK, hD0⟩ := hv
  have hx := B.exec
  have hb := B.bytes
  have hr := B.returns
  have hts := atoms_spec (ws := ws_ yX0_spectrumOf cX0_spectrumOf 3 none) B.pre
  have hts : ∀ w ∈ lw_all, w.before _ s = true := fun w h => hts w (List.mem_cons_of_mem _ h)
  have hown : s.vm.findClass RX0 = some m.cls := findClass_of_methodNamed B.named
  have hlocks := B.notSynchronized
  subst hsz
  have hD := hD0.self (sz := s.heap.size)
  generalize hAe : va_A (tw_C h0 q1 q2 q3 e1 e2 e3 f g) s.heap.size = A at hD ⊢
  have hA : ∀ q : Nat, s.heap.size ≤ q → A q := fun q h => by rw [← hAe]; exact Or.inr h
  have hS : va_S A s.heap s.heap [] := va_S.rf
  have hl := lv_entry ([.ref h0, .int p1]) (n := 3) (Nat.le_of_ble_eq_true rfl)
  rw [lg_entry_eq]
  generalize (lg_sl ([.ref h0, .int p1]) ++ List.replicate (3 - (lg_sl ([.ref h0, .int p1])).length) Slot.unset).toArray = ls at hl ⊢
  have hl : lv_has ls 3 [(0, .ref h0), (1, .int p1)] := hl
  refine lv_iconst (v := 0) hx hb dX0_spectrumOf_0 (by decide) ?_
  refine lv_istore_n (lv' := [(2, .int (0 : Int32)), (0, .ref h0), (1, .int p1)]) hx hb dX0_spectrumOf_1 rfl hl (by decide) rfl (fun ls hl => ?_)
  have hl : lv_has ls 3 [(0, .ref h0), (1, .int p1), (2, .int (0 : Int32))] := lv_sub hl [1, 2, 0] rfl
  have hl : lv_has ls 3 [(0, .ref h0), (1, .int p1), (2, .int (nI 0))] := hl
  refine tw_loopH (pc := 2) 64 (fun x ls H locs => lv_has ls 3 [(0, .ref h0), (1, .int p1), (2, .int (nI x))] ∧ va_P (dC, dI) tw_cl (tw_C h0 q1 q2 q3 e1 e2 e3 f (tc_fi (f p1.toNatClampNeg) g x)) H ∧ va_D A (tw_C h0 q1 q2 q3 e1 e2 e3 f (tc_fi (f p1.toNatClampNeg) g x)) ∧ va_S A s.heap H locs) (fun ls H locs hp => ?_) (fun x ls H locs hi_x hp ih_x => ?_) 64 0 ls _ _ (by omega) ⟨hl, hP, hD, hS⟩
  · obtain ⟨hl, hP, hD, hS⟩ := hp
    have hP : va_P (dC, dI) tw_cl (tw_C h0 q1 q2 q3 e1 e2 e3 f (tc_fi (f p1.toNatClampNeg) g 64)) H := hP
    have hD : va_D A (tw_C h0 q1 q2 q3 e1 e2 e3 f (tc_fi (f p1.toNatClampNeg) g 64)) := hD
    have hl : lv_has ls 3 [(0, .ref h0), (1, .int p1), (2, .int (nI 64))] := hl
    refine lv_iload_n hx hb dX0_spectrumOf_2 rfl (lv_at hl 2 rfl) ?_
    refine lv_bipush (v := 64) hx hb dX0_spectrumOf_3 (by decide) ?_
    refine lv_icmp_ge (tgt := 35) hx hb dX0_spectrumOf_5 (by decide) (fun _ => ?_) (fun c => absurd (nI_le (a := 64) (b := 64) (by decide) (by decide)) c)
    refine lv_aload_n hx hb dX0_spectrumOf_35 rfl (lv_at hl 0 rfl) ?_
    have hFc := va_free (wc := tw_C h0 q1 q2 q3 e1 e2 e3 f (tc_fi (f p1.toNatClampNeg) g 64)) hD hS hA [0, 1, 2, 3] rfl
    refine va_callv (va_runV (As := []) (rest := []) ⟨hx, hb, hml, hown, hts⟩ (metX0_spread l dC dI h0 q1 q2 q3 e1 e2 e3 _ f (tc_fi (f p1.toNatClampNeg) g 64) ) (cwV 0 hts (lw_V q127 q129 qs9 q25 q130) rfl rfl rfl (by decide +kernel) ⟨Nat.le_of_ble_eq_true rfl, Nat.le_of_ble_eq_true rfl⟩) (tw_preSC hK hP hD _) rfl rfl hl.1 rfl (lv_room (Nat.le_of_ble_eq_true rfl)) dX0_spectrumOf_36 ⟨Nat.le_of_ble_eq_true rfl, Nat.le_of_ble_eq_true rfl⟩) hS (fun q _ h => hFc q h) hFc (fun u t H1 locs ht hvm hw hB hz1 hk1 hS => ?_)
    subst hw
    obtain ⟨hP1, hK1, hD1⟩ := hB
    rw [ht] at hP1
    obtain ⟨hP, hD⟩ := va_join (wr := []) (w1 := tw_C h0 q1 q2 q3 e1 e2 e3 f (tc_sp (tc_fi (f p1.toNatClampNeg) g 64) 6)) hP hD [0, 1, 2, 3] [] rfl rfl (by decide) (by decide) hk1 hFc hP1 hD1
    generalize H1 = H at hP hS ⊢
    have hP : va_P (dC, dI) tw_cl (tw_C h0 q1 q2 q3 e1 e2 e3 f (tc_sp (tc_fi (f p1.toNatClampNeg) g 64) 6)) H := hP
    have hD : va_D A (tw_C h0 q1 q2 q3 e1 e2 e3 f (tc_sp (tc_fi (f p1.toNatClampNeg) g 64) 6)) := hD
    exact W.vret hx hb hr (fun t ht hW => ⟨⟨(f, tc_sp (tc_fi (f p1.toNatClampNeg) g 64) 6), rfl, rfl, by rw [ht]; exact hP, va_K.moved hW.alike hK, hD⟩, hS.F ht⟩) hS.2.2 dX0_spectrumOf_39
  · obtain ⟨hl, hP, hD, hS⟩ := hp
    have hP : va_P (dC, dI) tw_cl (tw_C h0 q1 q2 q3 e1 e2 e3 f (tc_fi (f p1.toNatClampNeg) g x)) H := hP
    have hD : va_D A (tw_C h0 q1 q2 q3 e1 e2 e3 f (tc_fi (f p1.toNatClampNeg) g x)) := hD
    have hl : lv_has ls 3 [(0, .ref h0), (1, .int p1), (2, .int (nI x))] := hl
    refine lv_iload_n hx hb dX0_spectrumOf_2 rfl (lv_at hl 2 rfl) ?_
    refine lv_bipush (v := 64) hx hb dX0_spectrumOf_3 (by decide) ?_
    refine lv_icmp_ge (tgt := 35) hx hb dX0_spectrumOf_5 (by decide) (fun c => absurd c (nI_ge (a := x) (b := 64) (by omega) (by decide))) (fun _ => ?_)
    refine lv_aload_n hx hb dX0_spectrumOf_8 rfl (lv_at hl 0 rfl) ?_
    refine va_get (D := (dC, dI)) (ci := 0) (v := .ref q3) (C := RX0) (T := TX0) (N := 3) hx hb hts in_X0 hown hK hP 0 rfl rfl 2 (by decide) (hts _ q43) (fun _ h9 => h9) rfl dX0_spectrumOf_9 ?_
    refine lv_iload_n hx hb dX0_spectrumOf_12 rfl (lv_at hl 2 rfl) ?_
    refine lv_iconst (v := 1) hx hb dX0_spectrumOf_13 (by decide) ?_
    refine lv_iconst (v := 2) hx hb dX0_spectrumOf_14 (by decide) ?_
    refine lv_aload_n hx hb dX0_spectrumOf_15 rfl (lv_at hl 0 rfl) ?_
    refine lv_aload_n hx hb dX0_spectrumOf_16 rfl (lv_at hl 0 rfl) ?_
    refine va_get (D := (dC, dI)) (ci := 0) (v := .ref q1) (C := RX0) (T := TX0) (N := 3) hx hb hts in_X0 hown hK hP 0 rfl rfl 0 (by decide) (hts _ q41) (fun _ h9 => h9) rfl dX0_spectrumOf_17 ?_
    refine lv_iload_n hx hb dX0_spectrumOf_20 rfl (lv_at hl 1 rfl) ?_
    refine va_lald hx hb hK hP 1 0 rfl rfl h1 dX0_spectrumOf_21 ?_
    refine lv_iload_n hx hb dX0_spectrumOf_22 rfl (lv_at hl 2 rfl) ?_
    refine vp_callSi (W.runV (As := [.long (f p1.toNatClampNeg), .int (nI x)]) (rest := [.int (2 : Int32), .int (1 : Int32), .int (nI x), .ref q3]) ⟨hx, hb, hml, hown, hts⟩ (metX0_digit l h0 (f p1.toNatClampNeg) (nI x)) (cwV 2 hts (lw_V q65 q67 qs2 q25 q68) rfl rfl rfl (by decide +kernel) ⟨Nat.le_of_ble_eq_true rfl, Nat.le_of_ble_eq_true rfl⟩) (tw_pre0C hK hP _) rfl rfl hl.1 rfl (lv_room (Nat.le_of_ble_eq_true rfl)) dX0_spectrumOf_23 ⟨Nat.le_of_ble_eq_true rfl, Nat.le_of_ble_eq_true rfl⟩) (fun r_2 hr_2 => ?_)
    rw [hr_2]
    refine lv_imul hx hb dX0_spectrumOf_26 ?_
    refine lv_isub hx hb dX0_spectrumOf_27 ?_
    refine va_iast hx hb hK hP hD hS 3 2 rfl rfl (vp_in_nI (show x < 64 by omega) (by decide)) dX0_spectrumOf_28 (fun H locs hP hD hS => ?_)
    have hP : va_P (dC, dI) tw_cl (tw_C h0 q1 q2 q3 e1 e2 e3 f (upd (tc_fi (f p1.toNatClampNeg) g x) (nI x).toNatClampNeg ((1 : Int32) - ((2 : Int32) * (tc_dg (f p1.toNatClampNeg) (nI x)))))) H := hP
    have hD : va_D A (tw_C h0 q1 q2 q3 e1 e2 e3 f (upd (tc_fi (f p1.toNatClampNeg) g x) (nI x).toNatClampNeg ((1 : Int32) - ((2 : Int32) * (tc_dg (f p1.toNatClampNeg) (nI x)))))) := hD
    refine lv_iinc (v := nI (x + 1)) (lv' := [(2, .int (nI (x + 1))), (0, .ref h0), (1, .int p1)]) hx hb dX0_spectrumOf_29 hl (k := 2) rfl (nI_1 x) (by decide) rfl (fun ls hl => ?_)
    refine lv_goto (tgt := 2) hx hb dX0_spectrumOf_32 (by decide) ?_
    have hl : lv_has ls 3 [(0, .ref h0), (1, .int p1), (2, .int (nI (x + 1)))] := lv_sub hl [1, 2, 0] rfl
    have eA : (upd (tc_fi (f p1.toNatClampNeg) g x) (nI x).toNatClampNeg ((1 : Int32) - ((2 : Int32) * (tc_dg (f p1.toNatClampNeg) (nI x))))) = (tc_fi (f p1.toNatClampNeg) g (x + 1)) := by rw [tc_fi_s _ _ x]
    rw [eA] at hP hD
    exact ih_x ls _ _ ⟨hl, hP, hD, hS⟩
set_option maxHeartbeats 4000000 in
set_option maxRecDepth 100000 in
/-- peak() -/
theorem metX0_peak (l : Launch) (dC : Nat → ClassId) (dI : Nat → Nat → Nat) (h0 q1 q2 q3 : Nat) (e1 e2 e3 : ClassId) (f : Nat → Int64) (g : Nat → Int32) : Met l yX0_peak (ws_ yX0_peak cX0_peak 3 (some .int)) ({ frames := 1, cells := 0, slots := 0, locals := 21 }) (va_Pc [.ref h0] (tw_RC dC dI h0 q1 q2 q3 e1 e2 e3 f g)) (vp_Si (fun (r : Int32) => r = tc_pk g 63)) 0 0 (fun _ => False) := by
  refine Met.ofW (cc := cX0_peak) (maxL := 3) (ret := (some .int)) (by decide) rfl ?_
  intro p e s m args below meth c s₁ B hml hv
  obtain ⟨rfl, hP, hK⟩ := hv
  have hx := B.exec
  have hb := B.bytes
  have hr := B.returns
  have hts := atoms_spec (ws := ws_ yX0_peak cX0_peak 3 (some .int)) B.pre
  have hts : ∀ w ∈ lw_all, w.before _ s = true := fun w h => hts w (List.mem_cons_of_mem _ h)
  have hown : s.vm.findClass RX0 = some m.cls := findClass_of_methodNamed B.named
  have hlocks := B.notSynchronized
  have hl := lv_entry ([.ref h0]) (n := 3) (Nat.le_of_ble_eq_true rfl)
  rw [lg_entry_eq]
  generalize (lg_sl ([.ref h0]) ++ List.replicate (3 - (lg_sl ([.ref h0])).length) Slot.unset).toArray = ls at hl ⊢
  have hl : lv_has ls 3 [(0, .ref h0)] := hl
  refine lv_iconst (v := 0) hx hb dX0_peak_0 (by decide) ?_
  refine lv_istore_n (lv' := [(1, .int (0 : Int32)), (0, .ref h0)]) hx hb dX0_peak_1 rfl hl (by decide) rfl (fun ls hl => ?_)
  refine lv_iconst (v := 1) hx hb dX0_peak_2 (by decide) ?_
  refine lv_istore_n (lv' := [(2, .int (1 : Int32)), (1, .int (0 : Int32)), (0, .ref h0)]) hx hb dX0_peak_3 rfl hl (by decide) rfl (fun ls hl => ?_)
  have hl : lv_has ls 3 [(0, .ref h0), (1, .int (0 : Int32)), (2, .int (1 : Int32))] := lv_sub hl [2, 1, 0] rfl
  have hl : lv_has ls 3 [(0, .ref h0), (1, .int (tc_pk g 0)), (2, .int (nI (0 + 1)))] := hl
  refine tw_loop (pc := 4) 63 (fun i ls => lv_has ls 3 [(0, .ref h0), (1, .int (tc_pk g i)), (2, .int (nI (i + 1)))]) (fun ls hp => ?_) (fun i ls hi_i hp ih_i => ?_) 63 0 ls (by omega) hl
  · have hl := hp
    have hl : lv_has ls 3 [(0, .ref h0), (1, .int (tc_pk g 63)), (2, .int (nI (63 + 1)))] := hl
    refine lv_iload_n hx hb dX0_peak_4 rfl (lv_at hl 2 rfl) ?_
    refine lv_bipush (v := 64) hx hb dX0_peak_5 (by decide) ?_
    refine lv_icmp_ge (tgt := 45) hx hb dX0_peak_7 (by decide) (fun _ => ?_) (fun c => absurd (nI_le (a := 64) (b := 63 + 1) (by decide) (by decide)) c)
    refine lv_iload_n hx hb dX0_peak_45 rfl (lv_at hl 1 rfl) ?_
    exact W.iret (v := tc_pk g 63) hx hb hr (fun t ht hW => ⟨tc_pk g 63, rfl, rfl, ht⟩) (fun _ h => by cases h) dX0_peak_46
  · have hl := hp
    have hl : lv_has ls 3 [(0, .ref h0), (1, .int (tc_pk g i)), (2, .int (nI (i + 1)))] := hl
    refine lv_iload_n hx hb dX0_peak_4 rfl (lv_at hl 2 rfl) ?_
    refine lv_bipush (v := 64) hx hb dX0_peak_5 (by decide) ?_
    refine lv_icmp_ge (tgt := 45) hx hb dX0_peak_7 (by decide) (fun c => absurd c (nI_ge (a := i + 1) (b := 64) (by omega) (by decide))) (fun _ => ?_)
    refine lv_aload_n hx hb dX0_peak_10 rfl (lv_at hl 0 rfl) ?_
    refine lv_aload_n hx hb dX0_peak_11 rfl (lv_at hl 0 rfl) ?_
    refine va_get (D := (dC, dI)) (ci := 0) (v := .ref q3) (C := RX0) (T := TX0) (N := 3) hx hb hts in_X0 hown hK hP 0 rfl rfl 2 (by decide) (hts _ q43) (fun _ h9 => h9) rfl dX0_peak_12 ?_
    refine lv_iload_n hx hb dX0_peak_15 rfl (lv_at hl 2 rfl) ?_
    refine va_iald hx hb hK hP 3 2 rfl rfl (vp_in_nI (show i + 1 < 64 by omega) (by decide)) dX0_peak_16 ?_
    refine vp_callSi (W.runV (As := [.int (g (nI (i + 1)).toNatClampNeg)]) (rest := []) ⟨hx, hb, hml, hown, hts⟩ (metX0_magnitude l h0 (g (nI (i + 1)).toNatClampNeg)) (cwV 1 hts (lw_V q139 q141 qs11 q25 q142) rfl rfl rfl (by decide +kernel) ⟨Nat.le_of_ble_eq_true rfl, Nat.le_of_ble_eq_true rfl⟩) (tw_pre0C hK hP _) rfl rfl hl.1 rfl (lv_room (Nat.le_of_ble_eq_true rfl)) dX0_peak_17 ⟨Nat.le_of_ble_eq_true rfl, Nat.le_of_ble_eq_true rfl⟩) (fun r_1 hr_1 => ?_)
    rw [hr_1]
    refine lv_aload_n hx hb dX0_peak_20 rfl (lv_at hl 0 rfl) ?_
    refine lv_aload_n hx hb dX0_peak_21 rfl (lv_at hl 0 rfl) ?_
    refine va_get (D := (dC, dI)) (ci := 0) (v := .ref q3) (C := RX0) (T := TX0) (N := 3) hx hb hts in_X0 hown hK hP 0 rfl rfl 2 (by decide) (hts _ q43) (fun _ h9 => h9) rfl dX0_peak_22 ?_
    refine lv_iload_n hx hb dX0_peak_25 rfl (lv_at hl 1 rfl) ?_
    refine va_iald hx hb hK hP 3 2 rfl rfl (tw_pkin _ i (by omega)) dX0_peak_26 ?_
    refine vp_callSi (W.runV (As := [.int (g (tc_pk g i).toNatClampNeg)]) (rest := [.int (tc_mag (g (nI (i + 1)).toNatClampNeg))]) ⟨hx, hb, hml, hown, hts⟩ (metX0_magnitude l h0 (g (tc_pk g i).toNatClampNeg)) (cwV 1 hts (lw_V q139 q141 qs11 q25 q142) rfl rfl rfl (by decide +kernel) ⟨Nat.le_of_ble_eq_true rfl, Nat.le_of_ble_eq_true rfl⟩) (tw_pre0C hK hP _) rfl rfl hl.1 rfl (lv_room (Nat.le_of_ble_eq_true rfl)) dX0_peak_27 ⟨Nat.le_of_ble_eq_true rfl, Nat.le_of_ble_eq_true rfl⟩) (fun r_2 hr_2 => ?_)
    rw [hr_2]
    refine lv_icmp_le (tgt := 37) hx hb dX0_peak_30 (by decide) (fun c_3 => ?_) (fun c_3 => ?_)
    · refine lv_iload_n hx hb dX0_peak_37 rfl (lv_at hl 1 rfl) ?_
      refine lv_istore_n (lv' := [(1, .int (tc_pk g i)), (0, .ref h0), (2, .int (nI (i + 1)))]) hx hb dX0_peak_38 rfl hl (by decide) rfl (fun ls hl => ?_)
      refine lv_iinc (v := nI (i + 1 + 1)) (lv' := [(2, .int (nI (i + 1 + 1))), (1, .int (tc_pk g i)), (0, .ref h0)]) hx hb dX0_peak_39 hl (k := 2) rfl (nI_1 (i + 1)) (by decide) rfl (fun ls hl => ?_)
      refine lv_goto (tgt := 4) hx hb dX0_peak_42 (by decide) ?_
      have hl : lv_has ls 3 [(0, .ref h0), (1, .int (tc_pk g i)), (2, .int (nI (i + 1 + 1)))] := lv_sub hl [2, 1, 0] rfl
      exact ih_i ls (tw_has hl (by rw [tc_pk_s _ i, if_pos c_3]))
    · refine lv_iload_n hx hb dX0_peak_33 rfl (lv_at hl 2 rfl) ?_
      refine lv_goto (tgt := 38) hx hb dX0_peak_34 (by decide) ?_
      refine lv_istore_n (lv' := [(1, .int (nI (i + 1))), (0, .ref h0), (2, .int (nI (i + 1)))]) hx hb dX0_peak_38 rfl hl (by decide) rfl (fun ls hl => ?_)
      refine lv_iinc (v := nI (i + 1 + 1)) (lv' := [(2, .int (nI (i + 1 + 1))), (1, .int (nI (i + 1))), (0, .ref h0)]) hx hb dX0_peak_39 hl (k := 2) rfl (nI_1 (i + 1)) (by decide) rfl (fun ls hl => ?_)
      refine lv_goto (tgt := 4) hx hb dX0_peak_42 (by decide) ?_
      have hl : lv_has ls 3 [(0, .ref h0), (1, .int (nI (i + 1))), (2, .int (nI (i + 1 + 1)))] := lv_sub hl [2, 1, 0] rfl
      exact ih_i ls (tw_has hl (by rw [tc_pk_s _ i, if_neg c_3]))
set_option maxHeartbeats 4000000 in
set_option maxRecDepth 100000 in
/-- correlate(t) -/
theorem metX0_correlate (l : Launch) (dC : Nat → ClassId) (dI : Nat → Nat → Nat) (h0 q1 q2 q3 : Nat) (e1 e2 e3 : ClassId) (sz : Nat) (f : Nat → Int64) (g : Nat → Int32) (p1 : Int32) (h1 : vp_in p1 4) : Met l yX0_correlate (ws_ yX0_correlate cX0_correlate 3 none) ({ frames := 2, cells := 0, slots := 0, locals := 47 }) (va_Pc [.ref h0, .int p1] (tw_SC dC dI h0 q1 q2 q3 e1 e2 e3 sz f g)) (va_Qv (fun (u : ((Nat → Int64) × (Nat → Int32))) => u = (f, tc_cor (f p1.toNatClampNeg) g)) (tw_BC dC dI h0 q1 q2 q3 e1 e2 e3 (va_A (tw_C h0 q1 q2 q3 e1 e2 e3 f g) sz)) (va_A (tw_C h0 q1 q2 q3 e1 e2 e3 f g) sz)) 0 0 (va_A (tw_C h0 q1 q2 q3 e1 e2 e3 f g) sz) := by
  refine Met.ofW (cc := cX0_correlate) (maxL := 3) (ret := none) (by decide) rfl ?_
  intro p e s m args below meth c s₁ B hml hv
  obtain ⟨rfl, hsz, hP, hK, hD0⟩ := hv
  have hx := B.exec
  have hb := B.bytes
  have hr := B.returns
  have hts := atoms_spec (ws := ws_ yX0_correlate cX0_correlate 3 none) B.pre
  have hts : ∀ w ∈ lw_all, w.before _ s = true := fun w h => hts w (List.mem_cons_of_mem _ h)
  have hown : s.vm.findClass RX0 = some m.cls := findClass_of_methodNamed B.named
  have hlocks := B.notSynchronized
  subst hsz
  have hD := hD0.self (sz := s.heap.size)
  generalize hAe : va_A (tw_C h0 q1 q2 q3 e1 e2 e3 f g) s.heap.size = A at hD ⊢
  have hA : ∀ q : Nat, s.heap.size ≤ q → A q := fun q h => by rw [← hAe]; exact Or.inr h
  have hS : va_S A s.heap s.heap [] := va_S.rf
  have hl := lv_entry ([.ref h0, .int p1]) (n := 3) (Nat.le_of_ble_eq_true rfl)
  rw [lg_entry_eq]
  generalize (lg_sl ([.ref h0, .int p1]) ++ List.replicate (3 - (lg_sl ([.ref h0, .int p1])).length) Slot.unset).toArray = ls at hl ⊢
  have hl : lv_has ls 3 [(0, .ref h0), (1, .int p1)] := hl
  refine lv_aload_n hx hb dX0_correlate_0 rfl (lv_at hl 0 rfl) ?_
  refine lv_iload_n hx hb dX0_correlate_1 rfl (lv_at hl 1 rfl) ?_
  have hFc := va_free (wc := tw_C h0 q1 q2 q3 e1 e2 e3 f g) hD hS hA [0, 1, 2, 3] rfl
  refine va_callv (va_runV (As := [.int p1]) (rest := []) ⟨hx, hb, hml, hown, hts⟩ (metX0_spectrumOf l dC dI h0 q1 q2 q3 e1 e2 e3 _ f g p1 h1) (cwV 1 hts (lw_V q123 q125 qs8 q25 q126) rfl rfl rfl (by decide +kernel) ⟨Nat.le_of_ble_eq_true rfl, Nat.le_of_ble_eq_true rfl⟩) (tw_preSC hK hP hD _) rfl rfl hl.1 rfl (lv_room (Nat.le_of_ble_eq_true rfl)) dX0_correlate_2 ⟨Nat.le_of_ble_eq_true rfl, Nat.le_of_ble_eq_true rfl⟩) hS (fun q _ h => hFc q h) hFc (fun u t H1 locs ht hvm hw hB hz1 hk1 hS => ?_)
  subst hw
  obtain ⟨hP1, hK1, hD1⟩ := hB
  rw [ht] at hP1
  obtain ⟨hP, hD⟩ := va_join (wr := []) (w1 := tw_C h0 q1 q2 q3 e1 e2 e3 f (tc_spec (f p1.toNatClampNeg) g)) hP hD [0, 1, 2, 3] [] rfl rfl (by decide) (by decide) hk1 hFc hP1 hD1
  generalize H1 = H at hP hS ⊢
  have hP : va_P (dC, dI) tw_cl (tw_C h0 q1 q2 q3 e1 e2 e3 f (tc_spec (f p1.toNatClampNeg) g)) H := hP
  have hD : va_D A (tw_C h0 q1 q2 q3 e1 e2 e3 f (tc_spec (f p1.toNatClampNeg) g)) := hD
  refine lv_iconst (v := 0) hx hb dX0_correlate_5 (by decide) ?_
  refine lv_istore_n (lv' := [(2, .int (0 : Int32)), (0, .ref h0), (1, .int p1)]) hx hb dX0_correlate_6 rfl hl (by decide) rfl (fun ls hl => ?_)
  have hl : lv_has ls 3 [(0, .ref h0), (1, .int p1), (2, .int (0 : Int32))] := lv_sub hl [1, 2, 0] rfl
  have hl : lv_has ls 3 [(0, .ref h0), (1, .int p1), (2, .int (nI 0))] := hl
  refine tw_loopH (pc := 7) 64 (fun i ls H locs => lv_has ls 3 [(0, .ref h0), (1, .int p1), (2, .int (nI i))] ∧ va_P (dC, dI) tw_cl (tw_C h0 q1 q2 q3 e1 e2 e3 f (tc_sq (tc_spec (f p1.toNatClampNeg) g) i)) H ∧ va_D A (tw_C h0 q1 q2 q3 e1 e2 e3 f (tc_sq (tc_spec (f p1.toNatClampNeg) g) i)) ∧ va_S A s.heap H locs) (fun ls H locs hp => ?_) (fun i ls H locs hi_i hp ih_i => ?_) 64 0 ls _ _ (by omega) ⟨hl, hP, hD, hS⟩
  · obtain ⟨hl, hP, hD, hS⟩ := hp
    have hP : va_P (dC, dI) tw_cl (tw_C h0 q1 q2 q3 e1 e2 e3 f (tc_sq (tc_spec (f p1.toNatClampNeg) g) 64)) H := hP
    have hD : va_D A (tw_C h0 q1 q2 q3 e1 e2 e3 f (tc_sq (tc_spec (f p1.toNatClampNeg) g) 64)) := hD
    have hl : lv_has ls 3 [(0, .ref h0), (1, .int p1), (2, .int (nI 64))] := hl
    refine lv_iload_n hx hb dX0_correlate_7 rfl (lv_at hl 2 rfl) ?_
    refine lv_bipush (v := 64) hx hb dX0_correlate_8 (by decide) ?_
    refine lv_icmp_ge (tgt := 38) hx hb dX0_correlate_10 (by decide) (fun _ => ?_) (fun c => absurd (nI_le (a := 64) (b := 64) (by decide) (by decide)) c)
    refine lv_aload_n hx hb dX0_correlate_38 rfl (lv_at hl 0 rfl) ?_
    have hFc := va_free (wc := tw_C h0 q1 q2 q3 e1 e2 e3 f (tc_sq (tc_spec (f p1.toNatClampNeg) g) 64)) hD hS hA [0, 1, 2, 3] rfl
    refine va_callv (va_runV (As := []) (rest := []) ⟨hx, hb, hml, hown, hts⟩ (metX0_spread l dC dI h0 q1 q2 q3 e1 e2 e3 _ f (tc_sq (tc_spec (f p1.toNatClampNeg) g) 64) ) (cwV 0 hts (lw_V q127 q129 qs9 q25 q130) rfl rfl rfl (by decide +kernel) ⟨Nat.le_of_ble_eq_true rfl, Nat.le_of_ble_eq_true rfl⟩) (tw_preSC hK hP hD _) rfl rfl hl.1 rfl (lv_room (Nat.le_of_ble_eq_true rfl)) dX0_correlate_39 ⟨Nat.le_of_ble_eq_true rfl, Nat.le_of_ble_eq_true rfl⟩) hS (fun q _ h => hFc q h) hFc (fun u t H1 locs ht hvm hw hB hz1 hk1 hS => ?_)
    subst hw
    obtain ⟨hP1, hK1, hD1⟩ := hB
    rw [ht] at hP1
    obtain ⟨hP, hD⟩ := va_join (wr := []) (w1 := tw_C h0 q1 q2 q3 e1 e2 e3 f (tc_sp (tc_sq (tc_spec (f p1.toNatClampNeg) g) 64) 6)) hP hD [0, 1, 2, 3] [] rfl rfl (by decide) (by decide) hk1 hFc hP1 hD1
    generalize H1 = H at hP hS ⊢
    have hP : va_P (dC, dI) tw_cl (tw_C h0 q1 q2 q3 e1 e2 e3 f (tc_sp (tc_sq (tc_spec (f p1.toNatClampNeg) g) 64) 6)) H := hP
    have hD : va_D A (tw_C h0 q1 q2 q3 e1 e2 e3 f (tc_sp (tc_sq (tc_spec (f p1.toNatClampNeg) g) 64) 6)) := hD
    refine lv_iconst (v := 0) hx hb dX0_correlate_42 (by decide) ?_
    refine lv_istore_n (lv' := [(2, .int (0 : Int32)), (0, .ref h0), (1, .int p1)]) hx hb dX0_correlate_43 rfl hl (by decide) rfl (fun ls hl => ?_)
    have hl : lv_has ls 3 [(0, .ref h0), (1, .int p1), (2, .int (0 : Int32))] := lv_sub hl [1, 2, 0] rfl
    have hl : lv_has ls 3 [(0, .ref h0), (1, .int p1), (2, .int (nI 0))] := hl
    refine tw_loopH (pc := 44) 64 (fun x ls H locs => lv_has ls 3 [(0, .ref h0), (1, .int p1), (2, .int (nI x))] ∧ va_P (dC, dI) tw_cl (tw_C h0 q1 q2 q3 e1 e2 e3 f (tc_dv (tc_sp (tc_sq (tc_spec (f p1.toNatClampNeg) g) 64) 6) x)) H ∧ va_D A (tw_C h0 q1 q2 q3 e1 e2 e3 f (tc_dv (tc_sp (tc_sq (tc_spec (f p1.toNatClampNeg) g) 64) 6) x)) ∧ va_S A s.heap H locs) (fun ls H locs hp => ?_) (fun x ls H locs hi_x hp ih_x => ?_) 64 0 ls _ _ (by omega) ⟨hl, hP, hD, hS⟩
    · obtain ⟨hl, hP, hD, hS⟩ := hp
      have hP : va_P (dC, dI) tw_cl (tw_C h0 q1 q2 q3 e1 e2 e3 f (tc_dv (tc_sp (tc_sq (tc_spec (f p1.toNatClampNeg) g) 64) 6) 64)) H := hP
      have hD : va_D A (tw_C h0 q1 q2 q3 e1 e2 e3 f (tc_dv (tc_sp (tc_sq (tc_spec (f p1.toNatClampNeg) g) 64) 6) 64)) := hD
      have hl : lv_has ls 3 [(0, .ref h0), (1, .int p1), (2, .int (nI 64))] := hl
      refine lv_iload_n hx hb dX0_correlate_44 rfl (lv_at hl 2 rfl) ?_
      refine lv_bipush (v := 64) hx hb dX0_correlate_45 (by decide) ?_
      refine lv_icmp_ge (tgt := 71) hx hb dX0_correlate_47 (by decide) (fun _ => ?_) (fun c => absurd (nI_le (a := 64) (b := 64) (by decide) (by decide)) c)
      exact W.vret hx hb hr (fun t ht hW => ⟨⟨(f, (tc_dv (tc_sp (tc_sq (tc_spec (f p1.toNatClampNeg) g) 64) 6) 64)), rfl, rfl, by rw [ht]; exact hP, va_K.moved hW.alike hK, hD⟩, hS.F ht⟩) hS.2.2 dX0_correlate_71
    · obtain ⟨hl, hP, hD, hS⟩ := hp
      have hP : va_P (dC, dI) tw_cl (tw_C h0 q1 q2 q3 e1 e2 e3 f (tc_dv (tc_sp (tc_sq (tc_spec (f p1.toNatClampNeg) g) 64) 6) x)) H := hP
      have hD : va_D A (tw_C h0 q1 q2 q3 e1 e2 e3 f (tc_dv (tc_sp (tc_sq (tc_spec (f p1.toNatClampNeg) g) 64) 6) x)) := hD
      have hl : lv_has ls 3 [(0, .ref h0), (1, .int p1), (2, .int (nI x))] := hl
      refine lv_iload_n hx hb dX0_correlate_44 rfl (lv_at hl 2 rfl) ?_
      refine lv_bipush (v := 64) hx hb dX0_correlate_45 (by decide) ?_
      refine lv_icmp_ge (tgt := 71) hx hb dX0_correlate_47 (by decide) (fun c => absurd c (nI_ge (a := x) (b := 64) (by omega) (by decide))) (fun _ => ?_)
      refine lv_aload_n hx hb dX0_correlate_50 rfl (lv_at hl 0 rfl) ?_
      refine va_get (D := (dC, dI)) (ci := 0) (v := .ref q3) (C := RX0) (T := TX0) (N := 3) hx hb hts in_X0 hown hK hP 0 rfl rfl 2 (by decide) (hts _ q43) (fun _ h9 => h9) rfl dX0_correlate_51 ?_
      refine lv_iload_n hx hb dX0_correlate_54 rfl (lv_at hl 2 rfl) ?_
      refine lv_aload_n hx hb dX0_correlate_55 rfl (lv_at hl 0 rfl) ?_
      refine va_get (D := (dC, dI)) (ci := 0) (v := .ref q3) (C := RX0) (T := TX0) (N := 3) hx hb hts in_X0 hown hK hP 0 rfl rfl 2 (by decide) (hts _ q43) (fun _ h9 => h9) rfl dX0_correlate_56 ?_
      refine lv_iload_n hx hb dX0_correlate_59 rfl (lv_at hl 2 rfl) ?_
      refine va_iald hx hb hK hP 3 2 rfl rfl (vp_in_nI (show x < 64 by omega) (by decide)) dX0_correlate_60 ?_
      refine lv_bipush (v := 64) hx hb dX0_correlate_61 (by decide) ?_
      refine lv_idiv hx hb dX0_correlate_63 (by decide) ?_
      refine va_iast hx hb hK hP hD hS 3 2 rfl rfl (vp_in_nI (show x < 64 by omega) (by decide)) dX0_correlate_64 (fun H locs hP hD hS => ?_)
      have hP : va_P (dC, dI) tw_cl (tw_C h0 q1 q2 q3 e1 e2 e3 f (upd (tc_dv (tc_sp (tc_sq (tc_spec (f p1.toNatClampNeg) g) 64) 6) x) (nI x).toNatClampNeg (((tc_dv (tc_sp (tc_sq (tc_spec (f p1.toNatClampNeg) g) 64) 6) x) (nI x).toNatClampNeg) / (64 : Int32)))) H := hP
      have hD : va_D A (tw_C h0 q1 q2 q3 e1 e2 e3 f (upd (tc_dv (tc_sp (tc_sq (tc_spec (f p1.toNatClampNeg) g) 64) 6) x) (nI x).toNatClampNeg (((tc_dv (tc_sp (tc_sq (tc_spec (f p1.toNatClampNeg) g) 64) 6) x) (nI x).toNatClampNeg) / (64 : Int32)))) := hD
      refine lv_iinc (v := nI (x + 1)) (lv' := [(2, .int (nI (x + 1))), (0, .ref h0), (1, .int p1)]) hx hb dX0_correlate_65 hl (k := 2) rfl (nI_1 x) (by decide) rfl (fun ls hl => ?_)
      refine lv_goto (tgt := 44) hx hb dX0_correlate_68 (by decide) ?_
      have hl : lv_has ls 3 [(0, .ref h0), (1, .int p1), (2, .int (nI (x + 1)))] := lv_sub hl [1, 2, 0] rfl
      have eA : (upd (tc_dv (tc_sp (tc_sq (tc_spec (f p1.toNatClampNeg) g) 64) 6) x) (nI x).toNatClampNeg (((tc_dv (tc_sp (tc_sq (tc_spec (f p1.toNatClampNeg) g) 64) 6) x) (nI x).toNatClampNeg) / (64 : Int32))) = (tc_dv (tc_sp (tc_sq (tc_spec (f p1.toNatClampNeg) g) 64) 6) (x + 1)) := by rw [tc_dv_s _ x]
      rw [eA] at hP hD
      exact ih_x ls _ _ ⟨hl, hP, hD, hS⟩
  · obtain ⟨hl, hP, hD, hS⟩ := hp
    have hP : va_P (dC, dI) tw_cl (tw_C h0 q1 q2 q3 e1 e2 e3 f (tc_sq (tc_spec (f p1.toNatClampNeg) g) i)) H := hP
    have hD : va_D A (tw_C h0 q1 q2 q3 e1 e2 e3 f (tc_sq (tc_spec (f p1.toNatClampNeg) g) i)) := hD
    have hl : lv_has ls 3 [(0, .ref h0), (1, .int p1), (2, .int (nI i))] := hl
    refine lv_iload_n hx hb dX0_correlate_7 rfl (lv_at hl 2 rfl) ?_
    refine lv_bipush (v := 64) hx hb dX0_correlate_8 (by decide) ?_
    refine lv_icmp_ge (tgt := 38) hx hb dX0_correlate_10 (by decide) (fun c => absurd c (nI_ge (a := i) (b := 64) (by omega) (by decide))) (fun _ => ?_)
    refine lv_aload_n hx hb dX0_correlate_13 rfl (lv_at hl 0 rfl) ?_
    refine va_get (D := (dC, dI)) (ci := 0) (v := .ref q3) (C := RX0) (T := TX0) (N := 3) hx hb hts in_X0 hown hK hP 0 rfl rfl 2 (by decide) (hts _ q43) (fun _ h9 => h9) rfl dX0_correlate_14 ?_
    refine lv_iload_n hx hb dX0_correlate_17 rfl (lv_at hl 2 rfl) ?_
    refine lv_aload_n hx hb dX0_correlate_18 rfl (lv_at hl 0 rfl) ?_
    refine va_get (D := (dC, dI)) (ci := 0) (v := .ref q3) (C := RX0) (T := TX0) (N := 3) hx hb hts in_X0 hown hK hP 0 rfl rfl 2 (by decide) (hts _ q43) (fun _ h9 => h9) rfl dX0_correlate_19 ?_
    refine lv_iload_n hx hb dX0_correlate_22 rfl (lv_at hl 2 rfl) ?_
    refine va_iald hx hb hK hP 3 2 rfl rfl (vp_in_nI (show i < 64 by omega) (by decide)) dX0_correlate_23 ?_
    refine lv_aload_n hx hb dX0_correlate_24 rfl (lv_at hl 0 rfl) ?_
    refine va_get (D := (dC, dI)) (ci := 0) (v := .ref q3) (C := RX0) (T := TX0) (N := 3) hx hb hts in_X0 hown hK hP 0 rfl rfl 2 (by decide) (hts _ q43) (fun _ h9 => h9) rfl dX0_correlate_25 ?_
    refine lv_iload_n hx hb dX0_correlate_28 rfl (lv_at hl 2 rfl) ?_
    refine va_iald hx hb hK hP 3 2 rfl rfl (vp_in_nI (show i < 64 by omega) (by decide)) dX0_correlate_29 ?_
    refine lv_imul hx hb dX0_correlate_30 ?_
    refine va_iast hx hb hK hP hD hS 3 2 rfl rfl (vp_in_nI (show i < 64 by omega) (by decide)) dX0_correlate_31 (fun H locs hP hD hS => ?_)
    have hP : va_P (dC, dI) tw_cl (tw_C h0 q1 q2 q3 e1 e2 e3 f (upd (tc_sq (tc_spec (f p1.toNatClampNeg) g) i) (nI i).toNatClampNeg (((tc_sq (tc_spec (f p1.toNatClampNeg) g) i) (nI i).toNatClampNeg) * ((tc_sq (tc_spec (f p1.toNatClampNeg) g) i) (nI i).toNatClampNeg)))) H := hP
    have hD : va_D A (tw_C h0 q1 q2 q3 e1 e2 e3 f (upd (tc_sq (tc_spec (f p1.toNatClampNeg) g) i) (nI i).toNatClampNeg (((tc_sq (tc_spec (f p1.toNatClampNeg) g) i) (nI i).toNatClampNeg) * ((tc_sq (tc_spec (f p1.toNatClampNeg) g) i) (nI i).toNatClampNeg)))) := hD
    refine lv_iinc (v := nI (i + 1)) (lv' := [(2, .int (nI (i + 1))), (0, .ref h0), (1, .int p1)]) hx hb dX0_correlate_32 hl (k := 2) rfl (nI_1 i) (by decide) rfl (fun ls hl => ?_)
    refine lv_goto (tgt := 7) hx hb dX0_correlate_35 (by decide) ?_
    have hl : lv_has ls 3 [(0, .ref h0), (1, .int p1), (2, .int (nI (i + 1)))] := lv_sub hl [1, 2, 0] rfl
    have eA : (upd (tc_sq (tc_spec (f p1.toNatClampNeg) g) i) (nI i).toNatClampNeg (((tc_sq (tc_spec (f p1.toNatClampNeg) g) i) (nI i).toNatClampNeg) * ((tc_sq (tc_spec (f p1.toNatClampNeg) g) i) (nI i).toNatClampNeg))) = (tc_sq (tc_spec (f p1.toNatClampNeg) g) (i + 1)) := by rw [tc_sq_s _ i]
    rw [eA] at hP hD
    exact ih_i ls _ _ ⟨hl, hP, hD, hS⟩
end
section
/-! walks of TruthSpectrum: spectrum, distance, nearest, immunity, autocorrelation, structures -/
set_option maxHeartbeats 4000000 in
set_option maxRecDepth 100000 in
/-- spectrum(t, a) -/
theorem metX0_spectrum (l : Launch) (dC : Nat → ClassId) (dI : Nat → Nat → Nat) (h0 q1 q2 q3 : Nat) (e1 e2 e3 : ClassId) (sz : Nat) (f : Nat → Int64) (g : Nat → Int32) (p1 : Int32) (p2 : Int32) : Met l yX0_spectrum (ws_ yX0_spectrum cX0_spectrum 3 (some .int)) ({ frames := 2, cells := 0, slots := 0, locals := 47 }) (va_Pc [.ref h0, .int p1, .int p2] (tw_SC dC dI h0 q1 q2 q3 e1 e2 e3 sz f g)) (va_Qi (fun (r : Int32) (u : ((Nat → Int64) × (Nat → Int32))) => ((vp_in p1 4 ∧ vp_in p2 64) → r = tc_spec (f p1.toNatClampNeg) g p2.toNatClampNeg ∧ u = (f, tc_spec (f p1.toNatClampNeg) g)) ∧ (¬ (vp_in p1 4 ∧ vp_in p2 64) → r = (-1000 : Int32) ∧ u = (f, g))) (tw_BC dC dI h0 q1 q2 q3 e1 e2 e3 (va_A (tw_C h0 q1 q2 q3 e1 e2 e3 f g) sz)) (va_A (tw_C h0 q1 q2 q3 e1 e2 e3 f g) sz)) 0 0 (va_A (tw_C h0 q1 q2 q3 e1 e2 e3 f g) sz) := by
  refine Met.ofW (cc := cX0_spectrum) (maxL := 3) (ret := (some .int)) (by decide) rfl ?_
  intro p e s m args below meth c s₁ B hml hv
  obtain ⟨rfl, hsz, hP, hK, hD0⟩ := hv
  have hx := B.exec
  have hb := B.bytes
  have hr := B.returns
  have hts := atoms_spec (ws := ws_ yX0_spectrum cX0_spectrum 3 (some .int)) B.pre
  have hts : ∀ w ∈ lw_all, w.before _ s = true := fun w h => hts w (List.mem_cons_of_mem _ h)
  have hown : s.vm.findClass RX0 = some m.cls := findClass_of_methodNamed B.named
  have hlocks := B.notSynchronized
  subst hsz
  have hD := hD0.self (sz := s.heap.size)
  generalize hAe : va_A (tw_C h0 q1 q2 q3 e1 e2 e3 f g) s.heap.size = A at hD ⊢
  have hA : ∀ q : Nat, s.heap.size ≤ q → A q := fun q h => by rw [← hAe]; exact Or.inr h
  have hS : va_S A s.heap s.heap [] := va_S.rf
  have hl := lv_entry ([.ref h0, .int p1, .int p2]) (n := 3) (Nat.le_of_ble_eq_true rfl)
  rw [lg_entry_eq]
  generalize (lg_sl ([.ref h0, .int p1, .int p2]) ++ List.replicate (3 - (lg_sl ([.ref h0, .int p1, .int p2])).length) Slot.unset).toArray = ls at hl ⊢
  have hl : lv_has ls 3 [(0, .ref h0), (1, .int p1), (2, .int p2)] := hl
  refine lv_aload_n hx hb dX0_spectrum_0 rfl (lv_at hl 0 rfl) ?_
  refine lv_iload_n hx hb dX0_spectrum_1 rfl (lv_at hl 1 rfl) ?_
  refine vp_callSi (W.runV (As := [.int p1]) (rest := []) ⟨hx, hb, hml, hown, hts⟩ (metX0_bad l h0 p1) (cwV 1 hts (lw_V q57 q59 qs0 q25 q60) rfl rfl rfl (by decide +kernel) ⟨Nat.le_of_ble_eq_true rfl, Nat.le_of_ble_eq_true rfl⟩) (tw_pre0C hK hP _) rfl rfl hl.1 rfl (lv_room (Nat.le_of_ble_eq_true rfl)) dX0_spectrum_2 ⟨Nat.le_of_ble_eq_true rfl, Nat.le_of_ble_eq_true rfl⟩) (fun r_1 hr_1 => ?_)
  refine lv_if_ne (tgt := 16) hx hb dX0_spectrum_5 (by decide) (fun c_2 => ?_) (fun c_2 => ?_)
  · have b_2 : ¬ vp_in p1 4 := fun h => c_2 (hr_1.mpr h)
    refine lv_sipush (v := -1000) hx hb dX0_spectrum_16 (by decide) ?_
    exact W.iret (v := (-1000 : Int32)) hx hb hr (fun t ht hW => ⟨⟨(-1000 : Int32), (f, g), rfl, ⟨fun h => absurd h.1 b_2, fun _ => ⟨rfl, rfl⟩⟩, by rw [ht]; exact hP, va_K.moved hW.alike hK, hD⟩, hS.F ht⟩) hS.2.2 dX0_spectrum_19
  · have b_2 : vp_in p1 4 := hr_1.mp c_2
    refine lv_aload_n hx hb dX0_spectrum_8 rfl (lv_at hl 0 rfl) ?_
    refine lv_iload_n hx hb dX0_spectrum_9 rfl (lv_at hl 2 rfl) ?_
    refine vp_callSi (W.runV (As := [.int p2]) (rest := []) ⟨hx, hb, hml, hown, hts⟩ (metX0_badPoint l h0 p2) (cwV 1 hts (lw_V q61 q63 qs1 q25 q64) rfl rfl rfl (by decide +kernel) ⟨Nat.le_of_ble_eq_true rfl, Nat.le_of_ble_eq_true rfl⟩) (tw_pre0C hK hP _) rfl rfl hl.1 rfl (lv_room (Nat.le_of_ble_eq_true rfl)) dX0_spectrum_10 ⟨Nat.le_of_ble_eq_true rfl, Nat.le_of_ble_eq_true rfl⟩) (fun r_3 hr_3 => ?_)
    refine lv_if_eq (tgt := 20) hx hb dX0_spectrum_13 (by decide) (fun c_4 => ?_) (fun c_4 => ?_)
    · have b_4 : vp_in p2 64 := hr_3.mp c_4
      refine lv_aload_n hx hb dX0_spectrum_20 rfl (lv_at hl 0 rfl) ?_
      refine lv_iload_n hx hb dX0_spectrum_21 rfl (lv_at hl 1 rfl) ?_
      have hFc := va_free (wc := tw_C h0 q1 q2 q3 e1 e2 e3 f g) hD hS hA [0, 1, 2, 3] rfl
      refine va_callv (va_runV (As := [.int p1]) (rest := []) ⟨hx, hb, hml, hown, hts⟩ (metX0_spectrumOf l dC dI h0 q1 q2 q3 e1 e2 e3 _ f g p1 b_2) (cwV 1 hts (lw_V q123 q125 qs8 q25 q126) rfl rfl rfl (by decide +kernel) ⟨Nat.le_of_ble_eq_true rfl, Nat.le_of_ble_eq_true rfl⟩) (tw_preSC hK hP hD _) rfl rfl hl.1 rfl (lv_room (Nat.le_of_ble_eq_true rfl)) dX0_spectrum_22 ⟨Nat.le_of_ble_eq_true rfl, Nat.le_of_ble_eq_true rfl⟩) hS (fun q _ h => hFc q h) hFc (fun u t H1 locs ht hvm hw hB hz1 hk1 hS => ?_)
      subst hw
      obtain ⟨hP1, hK1, hD1⟩ := hB
      rw [ht] at hP1
      obtain ⟨hP, hD⟩ := va_join (wr := []) (w1 := tw_C h0 q1 q2 q3 e1 e2 e3 f (tc_spec (f p1.toNatClampNeg) g)) hP hD [0, 1, 2, 3] [] rfl rfl (by decide) (by decide) hk1 hFc hP1 hD1
      generalize H1 = H at hP hS ⊢
      have hP : va_P (dC, dI) tw_cl (tw_C h0 q1 q2 q3 e1 e2 e3 f (tc_spec (f p1.toNatClampNeg) g)) H := hP
      have hD : va_D A (tw_C h0 q1 q2 q3 e1 e2 e3 f (tc_spec (f p1.toNatClampNeg) g)) := hD
      refine lv_aload_n hx hb dX0_spectrum_25 rfl (lv_at hl 0 rfl) ?_
      refine va_get (D := (dC, dI)) (ci := 0) (v := .ref q3) (C := RX0) (T := TX0) (N := 3) hx hb hts in_X0 hown hK hP 0 rfl rfl 2 (by decide) (hts _ q43) (fun _ h9 => h9) rfl dX0_spectrum_26 ?_
      refine lv_iload_n hx hb dX0_spectrum_29 rfl (lv_at hl 2 rfl) ?_
      refine va_iald hx hb hK hP 3 2 rfl rfl b_4 dX0_spectrum_30 ?_
      exact W.iret (v := ((tc_spec (f p1.toNatClampNeg) g) p2.toNatClampNeg)) hx hb hr (fun t ht hW => ⟨⟨((tc_spec (f p1.toNatClampNeg) g) p2.toNatClampNeg), (f, tc_spec (f p1.toNatClampNeg) g), rfl, ⟨fun _ => ⟨rfl, rfl⟩, fun h => absurd ⟨b_2, b_4⟩ h⟩, by rw [ht]; exact hP, va_K.moved hW.alike hK, hD⟩, hS.F ht⟩) hS.2.2 dX0_spectrum_31
    · have b_4 : ¬ vp_in p2 64 := fun h => c_4 (hr_3.mpr h)
      refine lv_sipush (v := -1000) hx hb dX0_spectrum_16 (by decide) ?_
      exact W.iret (v := (-1000 : Int32)) hx hb hr (fun t ht hW => ⟨⟨(-1000 : Int32), (f, g), rfl, ⟨fun h => absurd h.2 b_4, fun _ => ⟨rfl, rfl⟩⟩, by rw [ht]; exact hP, va_K.moved hW.alike hK, hD⟩, hS.F ht⟩) hS.2.2 dX0_spectrum_19
set_option maxHeartbeats 4000000 in
set_option maxRecDepth 100000 in
/-- distance(t) -/
theorem metX0_distance (l : Launch) (dC : Nat → ClassId) (dI : Nat → Nat → Nat) (h0 q1 q2 q3 : Nat) (e1 e2 e3 : ClassId) (sz : Nat) (f : Nat → Int64) (g : Nat → Int32) (p1 : Int32) : Met l yX0_distance (ws_ yX0_distance cX0_distance 3 (some .int)) ({ frames := 2, cells := 0, slots := 0, locals := 47 }) (va_Pc [.ref h0, .int p1] (tw_SC dC dI h0 q1 q2 q3 e1 e2 e3 sz f g)) (va_Qi (fun (r : Int32) (u : ((Nat → Int64) × (Nat → Int32))) => ((vp_in p1 4) → r = (32 : Int32) - tc_mag ((tc_spec (f p1.toNatClampNeg) g) (tc_pk (tc_spec (f p1.toNatClampNeg) g) 63).toNatClampNeg) / (2 : Int32) ∧ u = (f, tc_spec (f p1.toNatClampNeg) g)) ∧ (¬ (vp_in p1 4) → r = (-1000 : Int32) ∧ u = (f, g))) (tw_BC dC dI h0 q1 q2 q3 e1 e2 e3 (va_A (tw_C h0 q1 q2 q3 e1 e2 e3 f g) sz)) (va_A (tw_C h0 q1 q2 q3 e1 e2 e3 f g) sz)) 0 0 (va_A (tw_C h0 q1 q2 q3 e1 e2 e3 f g) sz) := by
  refine Met.ofW (cc := cX0_distance) (maxL := 3) (ret := (some .int)) (by decide) rfl ?_
  intro p e s m args below meth c s₁ B hml hv
  obtain ⟨rfl, hsz, hP, hK, hD0⟩ := hv
  have hx := B.exec
  have hb := B.bytes
  have hr := B.returns
  have hts := atoms_spec (ws := ws_ yX0_distance cX0_distance 3 (some .int)) B.pre
  have hts : ∀ w ∈ lw_all, w.before _ s = true := fun w h => hts w (List.mem_cons_of_mem _ h)
  have hown : s.vm.findClass RX0 = some m.cls := findClass_of_methodNamed B.named
  have hlocks := B.notSynchronized
  subst hsz
  have hD := hD0.self (sz := s.heap.size)
  generalize hAe : va_A (tw_C h0 q1 q2 q3 e1 e2 e3 f g) s.heap.size = A at hD ⊢
  have hA : ∀ q : Nat, s.heap.size ≤ q → A q := fun q h => by rw [← hAe]; exact Or.inr h
  have hS : va_S A s.heap s.heap [] := va_S.rf
  have hl := lv_entry ([.ref h0, .int p1]) (n := 3) (Nat.le_of_ble_eq_true rfl)
  rw [lg_entry_eq]
  generalize (lg_sl ([.ref h0, .int p1]) ++ List.replicate (3 - (lg_sl ([.ref h0, .int p1])).length) Slot.unset).toArray = ls at hl ⊢
  have hl : lv_has ls 3 [(0, .ref h0), (1, .int p1)] := hl
  refine lv_aload_n hx hb dX0_distance_0 rfl (lv_at hl 0 rfl) ?_
  refine lv_iload_n hx hb dX0_distance_1 rfl (lv_at hl 1 rfl) ?_
  refine vp_callSi (W.runV (As := [.int p1]) (rest := []) ⟨hx, hb, hml, hown, hts⟩ (metX0_bad l h0 p1) (cwV 1 hts (lw_V q57 q59 qs0 q25 q60) rfl rfl rfl (by decide +kernel) ⟨Nat.le_of_ble_eq_true rfl, Nat.le_of_ble_eq_true rfl⟩) (tw_pre0C hK hP _) rfl rfl hl.1 rfl (lv_room (Nat.le_of_ble_eq_true rfl)) dX0_distance_2 ⟨Nat.le_of_ble_eq_true rfl, Nat.le_of_ble_eq_true rfl⟩) (fun r_1 hr_1 => ?_)
  refine lv_if_eq (tgt := 12) hx hb dX0_distance_5 (by decide) (fun c_2 => ?_) (fun c_2 => ?_)
  · have b_2 : vp_in p1 4 := hr_1.mp c_2
    refine lv_aload_n hx hb dX0_distance_12 rfl (lv_at hl 0 rfl) ?_
    refine lv_iload_n hx hb dX0_distance_13 rfl (lv_at hl 1 rfl) ?_
    have hFc := va_free (wc := tw_C h0 q1 q2 q3 e1 e2 e3 f g) hD hS hA [0, 1, 2, 3] rfl
    refine va_callv (va_runV (As := [.int p1]) (rest := []) ⟨hx, hb, hml, hown, hts⟩ (metX0_spectrumOf l dC dI h0 q1 q2 q3 e1 e2 e3 _ f g p1 b_2) (cwV 1 hts (lw_V q123 q125 qs8 q25 q126) rfl rfl rfl (by decide +kernel) ⟨Nat.le_of_ble_eq_true rfl, Nat.le_of_ble_eq_true rfl⟩) (tw_preSC hK hP hD _) rfl rfl hl.1 rfl (lv_room (Nat.le_of_ble_eq_true rfl)) dX0_distance_14 ⟨Nat.le_of_ble_eq_true rfl, Nat.le_of_ble_eq_true rfl⟩) hS (fun q _ h => hFc q h) hFc (fun u t H1 locs ht hvm hw hB hz1 hk1 hS => ?_)
    subst hw
    obtain ⟨hP1, hK1, hD1⟩ := hB
    rw [ht] at hP1
    obtain ⟨hP, hD⟩ := va_join (wr := []) (w1 := tw_C h0 q1 q2 q3 e1 e2 e3 f (tc_spec (f p1.toNatClampNeg) g)) hP hD [0, 1, 2, 3] [] rfl rfl (by decide) (by decide) hk1 hFc hP1 hD1
    generalize H1 = H at hP hS ⊢
    have hP : va_P (dC, dI) tw_cl (tw_C h0 q1 q2 q3 e1 e2 e3 f (tc_spec (f p1.toNatClampNeg) g)) H := hP
    have hD : va_D A (tw_C h0 q1 q2 q3 e1 e2 e3 f (tc_spec (f p1.toNatClampNeg) g)) := hD
    refine lv_aload_n hx hb dX0_distance_17 rfl (lv_at hl 0 rfl) ?_
    refine vp_callSi (W.runV (As := []) (rest := []) ⟨hx, hb, hml, hown, hts⟩ (metX0_peak l dC dI h0 q1 q2 q3 e1 e2 e3 f (tc_spec (f p1.toNatClampNeg) g) ) (cwV 0 hts (lw_V q135 q137 qs10 q25 q138) rfl rfl rfl (by decide +kernel) ⟨Nat.le_of_ble_eq_true rfl, Nat.le_of_ble_eq_true rfl⟩) (tw_preC hK hP _) rfl rfl hl.1 rfl (lv_room (Nat.le_of_ble_eq_true rfl)) dX0_distance_18 ⟨Nat.le_of_ble_eq_true rfl, Nat.le_of_ble_eq_true rfl⟩) (fun r_4 hr_4 => ?_)
    rw [hr_4]
    refine lv_istore_n (lv' := [(2, .int (tc_pk (tc_spec (f p1.toNatClampNeg) g) 63)), (0, .ref h0), (1, .int p1)]) hx hb dX0_distance_21 rfl hl (by decide) rfl (fun ls hl => ?_)
    refine lv_bipush (v := 32) hx hb dX0_distance_22 (by decide) ?_
    refine lv_aload_n hx hb dX0_distance_24 rfl (lv_at hl 1 rfl) ?_
    refine lv_aload_n hx hb dX0_distance_25 rfl (lv_at hl 1 rfl) ?_
    refine va_get (D := (dC, dI)) (ci := 0) (v := .ref q3) (C := RX0) (T := TX0) (N := 3) hx hb hts in_X0 hown hK hP 0 rfl rfl 2 (by decide) (hts _ q43) (fun _ h9 => h9) rfl dX0_distance_26 ?_
    refine lv_iload_n hx hb dX0_distance_29 rfl (lv_at hl 0 rfl) ?_
    refine va_iald hx hb hK hP 3 2 rfl rfl (tw_pkin _ 63 (by decide)) dX0_distance_30 ?_
    refine vp_callSi (W.runV (As := [.int ((tc_spec (f p1.toNatClampNeg) g) (tc_pk (tc_spec (f p1.toNatClampNeg) g) 63).toNatClampNeg)]) (rest := [.int (32 : Int32)]) ⟨hx, hb, hml, hown, hts⟩ (metX0_magnitude l h0 ((tc_spec (f p1.toNatClampNeg) g) (tc_pk (tc_spec (f p1.toNatClampNeg) g) 63).toNatClampNeg)) (cwV 1 hts (lw_V q139 q141 qs11 q25 q142) rfl rfl rfl (by decide +kernel) ⟨Nat.le_of_ble_eq_true rfl, Nat.le_of_ble_eq_true rfl⟩) (tw_pre0C hK hP _) rfl rfl hl.1 rfl (lv_room (Nat.le_of_ble_eq_true rfl)) dX0_distance_31 ⟨Nat.le_of_ble_eq_true rfl, Nat.le_of_ble_eq_true rfl⟩) (fun r_5 hr_5 => ?_)
    rw [hr_5]
    refine lv_iconst (v := 2) hx hb dX0_distance_34 (by decide) ?_
    refine lv_idiv hx hb dX0_distance_35 (by decide) ?_
    refine lv_isub hx hb dX0_distance_36 ?_
    exact W.iret (v := ((32 : Int32) - ((tc_mag ((tc_spec (f p1.toNatClampNeg) g) (tc_pk (tc_spec (f p1.toNatClampNeg) g) 63).toNatClampNeg)) / (2 : Int32)))) hx hb hr (fun t ht hW => ⟨⟨((32 : Int32) - ((tc_mag ((tc_spec (f p1.toNatClampNeg) g) (tc_pk (tc_spec (f p1.toNatClampNeg) g) 63).toNatClampNeg)) / (2 : Int32))), (f, tc_spec (f p1.toNatClampNeg) g), rfl, ⟨fun _ => ⟨rfl, rfl⟩, fun h => absurd b_2 h⟩, by rw [ht]; exact hP, va_K.moved hW.alike hK, hD⟩, hS.F ht⟩) hS.2.2 dX0_distance_37
  · have b_2 : ¬ vp_in p1 4 := fun h => c_2 (hr_1.mpr h)
    refine lv_sipush (v := -1000) hx hb dX0_distance_8 (by decide) ?_
    exact W.iret (v := (-1000 : Int32)) hx hb hr (fun t ht hW => ⟨⟨(-1000 : Int32), (f, g), rfl, ⟨fun h => absurd h b_2, fun _ => ⟨rfl, rfl⟩⟩, by rw [ht]; exact hP, va_K.moved hW.alike hK, hD⟩, hS.F ht⟩) hS.2.2 dX0_distance_11
set_option maxHeartbeats 4000000 in
set_option maxRecDepth 100000 in
/-- nearest(t) -/
theorem metX0_nearest (l : Launch) (dC : Nat → ClassId) (dI : Nat → Nat → Nat) (h0 q1 q2 q3 : Nat) (e1 e2 e3 : ClassId) (sz : Nat) (f : Nat → Int64) (g : Nat → Int32) (p1 : Int32) : Met l yX0_nearest (ws_ yX0_nearest cX0_nearest 2 (some .int)) ({ frames := 2, cells := 0, slots := 0, locals := 47 }) (va_Pc [.ref h0, .int p1] (tw_SC dC dI h0 q1 q2 q3 e1 e2 e3 sz f g)) (va_Qi (fun (r : Int32) (u : ((Nat → Int64) × (Nat → Int32))) => ((vp_in p1 4) → r = tc_pk (tc_spec (f p1.toNatClampNeg) g) 63 ∧ u = (f, tc_spec (f p1.toNatClampNeg) g)) ∧ (¬ (vp_in p1 4) → r = (-1000 : Int32) ∧ u = (f, g))) (tw_BC dC dI h0 q1 q2 q3 e1 e2 e3 (va_A (tw_C h0 q1 q2 q3 e1 e2 e3 f g) sz)) (va_A (tw_C h0 q1 q2 q3 e1 e2 e3 f g) sz)) 0 0 (va_A (tw_C h0 q1 q2 q3 e1 e2 e3 f g) sz) := by
  refine Met.ofW (cc := cX0_nearest) (maxL := 2) (ret := (some .int)) (by decide) rfl ?_
  intro p e s m args below meth c s₁ B hml hv
  obtain ⟨rfl, hsz, hP, hK, hD0⟩ := hv
  have hx := B.exec
  have hb := B.bytes
  have hr := B.returns
  have hts := atoms_spec (ws := ws_ yX0_nearest cX0_nearest 2 (some .int)) B.pre
  have hts : ∀ w ∈ lw_all, w.before _ s = true := fun w h => hts w (List.mem_cons_of_mem _ h)
  have hown : s.vm.findClass RX0 = some m.cls := findClass_of_methodNamed B.named
  have hlocks := B.notSynchronized
  subst hsz
  have hD := hD0.self (sz := s.heap.size)
  generalize hAe : va_A (tw_C h0 q1 q2 q3 e1 e2 e3 f g) s.heap.size = A at hD ⊢
  have hA : ∀ q : Nat, s.heap.size ≤ q → A q := fun q h => by rw [← hAe]; exact Or.inr h
  have hS : va_S A s.heap s.heap [] := va_S.rf
  have hl := lv_entry ([.ref h0, .int p1]) (n := 2) (Nat.le_of_ble_eq_true rfl)
  rw [lg_entry_eq]
  generalize (lg_sl ([.ref h0, .int p1]) ++ List.replicate (2 - (lg_sl ([.ref h0, .int p1])).length) Slot.unset).toArray = ls at hl ⊢
  have hl : lv_has ls 2 [(0, .ref h0), (1, .int p1)] := hl
  refine lv_aload_n hx hb dX0_nearest_0 rfl (lv_at hl 0 rfl) ?_
  refine lv_iload_n hx hb dX0_nearest_1 rfl (lv_at hl 1 rfl) ?_
  refine vp_callSi (W.runV (As := [.int p1]) (rest := []) ⟨hx, hb, hml, hown, hts⟩ (metX0_bad l h0 p1) (cwV 1 hts (lw_V q57 q59 qs0 q25 q60) rfl rfl rfl (by decide +kernel) ⟨Nat.le_of_ble_eq_true rfl, Nat.le_of_ble_eq_true rfl⟩) (tw_pre0C hK hP _) rfl rfl hl.1 rfl (lv_room (Nat.le_of_ble_eq_true rfl)) dX0_nearest_2 ⟨Nat.le_of_ble_eq_true rfl, Nat.le_of_ble_eq_true rfl⟩) (fun r_1 hr_1 => ?_)
  refine lv_if_eq (tgt := 12) hx hb dX0_nearest_5 (by decide) (fun c_2 => ?_) (fun c_2 => ?_)
  · have b_2 : vp_in p1 4 := hr_1.mp c_2
    refine lv_aload_n hx hb dX0_nearest_12 rfl (lv_at hl 0 rfl) ?_
    refine lv_iload_n hx hb dX0_nearest_13 rfl (lv_at hl 1 rfl) ?_
    have hFc := va_free (wc := tw_C h0 q1 q2 q3 e1 e2 e3 f g) hD hS hA [0, 1, 2, 3] rfl
    refine va_callv (va_runV (As := [.int p1]) (rest := []) ⟨hx, hb, hml, hown, hts⟩ (metX0_spectrumOf l dC dI h0 q1 q2 q3 e1 e2 e3 _ f g p1 b_2) (cwV 1 hts (lw_V q123 q125 qs8 q25 q126) rfl rfl rfl (by decide +kernel) ⟨Nat.le_of_ble_eq_true rfl, Nat.le_of_ble_eq_true rfl⟩) (tw_preSC hK hP hD _) rfl rfl hl.1 rfl (lv_room (Nat.le_of_ble_eq_true rfl)) dX0_nearest_14 ⟨Nat.le_of_ble_eq_true rfl, Nat.le_of_ble_eq_true rfl⟩) hS (fun q _ h => hFc q h) hFc (fun u t H1 locs ht hvm hw hB hz1 hk1 hS => ?_)
    subst hw
    obtain ⟨hP1, hK1, hD1⟩ := hB
    rw [ht] at hP1
    obtain ⟨hP, hD⟩ := va_join (wr := []) (w1 := tw_C h0 q1 q2 q3 e1 e2 e3 f (tc_spec (f p1.toNatClampNeg) g)) hP hD [0, 1, 2, 3] [] rfl rfl (by decide) (by decide) hk1 hFc hP1 hD1
    generalize H1 = H at hP hS ⊢
    have hP : va_P (dC, dI) tw_cl (tw_C h0 q1 q2 q3 e1 e2 e3 f (tc_spec (f p1.toNatClampNeg) g)) H := hP
    have hD : va_D A (tw_C h0 q1 q2 q3 e1 e2 e3 f (tc_spec (f p1.toNatClampNeg) g)) := hD
    refine lv_aload_n hx hb dX0_nearest_17 rfl (lv_at hl 0 rfl) ?_
    refine vp_callSi (W.runV (As := []) (rest := []) ⟨hx, hb, hml, hown, hts⟩ (metX0_peak l dC dI h0 q1 q2 q3 e1 e2 e3 f (tc_spec (f p1.toNatClampNeg) g) ) (cwV 0 hts (lw_V q135 q137 qs10 q25 q138) rfl rfl rfl (by decide +kernel) ⟨Nat.le_of_ble_eq_true rfl, Nat.le_of_ble_eq_true rfl⟩) (tw_preC hK hP _) rfl rfl hl.1 rfl (lv_room (Nat.le_of_ble_eq_true rfl)) dX0_nearest_18 ⟨Nat.le_of_ble_eq_true rfl, Nat.le_of_ble_eq_true rfl⟩) (fun r_4 hr_4 => ?_)
    rw [hr_4]
    exact W.iret (v := (tc_pk (tc_spec (f p1.toNatClampNeg) g) 63)) hx hb hr (fun t ht hW => ⟨⟨(tc_pk (tc_spec (f p1.toNatClampNeg) g) 63), (f, tc_spec (f p1.toNatClampNeg) g), rfl, ⟨fun _ => ⟨rfl, rfl⟩, fun h => absurd b_2 h⟩, by rw [ht]; exact hP, va_K.moved hW.alike hK, hD⟩, hS.F ht⟩) hS.2.2 dX0_nearest_21
  · have b_2 : ¬ vp_in p1 4 := fun h => c_2 (hr_1.mpr h)
    refine lv_sipush (v := -1000) hx hb dX0_nearest_8 (by decide) ?_
    exact W.iret (v := (-1000 : Int32)) hx hb hr (fun t ht hW => ⟨⟨(-1000 : Int32), (f, g), rfl, ⟨fun h => absurd h b_2, fun _ => ⟨rfl, rfl⟩⟩, by rw [ht]; exact hP, va_K.moved hW.alike hK, hD⟩, hS.F ht⟩) hS.2.2 dX0_nearest_11
set_option maxHeartbeats 4000000 in
set_option maxRecDepth 100000 in
/-- immunity(t) -/
theorem metX0_immunity (l : Launch) (dC : Nat → ClassId) (dI : Nat → Nat → Nat) (h0 q1 q2 q3 : Nat) (e1 e2 e3 : ClassId) (sz : Nat) (f : Nat → Int64) (g : Nat → Int32) (p1 : Int32) : Met l yX0_immunity (ws_ yX0_immunity cX0_immunity 5 (some .int)) ({ frames := 2, cells := 0, slots := 0, locals := 47 }) (va_Pc [.ref h0, .int p1] (tw_SC dC dI h0 q1 q2 q3 e1 e2 e3 sz f g)) (va_Qi (fun (r : Int32) (u : ((Nat → Int64) × (Nat → Int32))) => ((vp_in p1 4) → r = tc_im (tc_spec (f p1.toNatClampNeg) g) 63 - (1 : Int32) ∧ u = (f, tc_spec (f p1.toNatClampNeg) g)) ∧ (¬ (vp_in p1 4) → r = (-1000 : Int32) ∧ u = (f, g))) (tw_BC dC dI h0 q1 q2 q3 e1 e2 e3 (va_A (tw_C h0 q1 q2 q3 e1 e2 e3 f g) sz)) (va_A (tw_C h0 q1 q2 q3 e1 e2 e3 f g) sz)) 0 0 (va_A (tw_C h0 q1 q2 q3 e1 e2 e3 f g) sz) := by
  refine Met.ofW (cc := cX0_immunity) (maxL := 5) (ret := (some .int)) (by decide) rfl ?_
  intro p e s m args below meth c s₁ B hml hv
  obtain ⟨rfl, hsz, hP, hK, hD0⟩ := hv
  have hx := B.exec
  have hb := B.bytes
  have hr := B.returns
  have hts := atoms_spec (ws := ws_ yX0_immunity cX0_immunity 5 (some .int)) B.pre
  have hts : ∀ w ∈ lw_all, w.before _ s = true := fun w h => hts w (List.mem_cons_of_mem _ h)
  have hown : s.vm.findClass RX0 = some m.cls := findClass_of_methodNamed B.named
  have hlocks := B.notSynchronized
  subst hsz
  have hD := hD0.self (sz := s.heap.size)
  generalize hAe : va_A (tw_C h0 q1 q2 q3 e1 e2 e3 f g) s.heap.size = A at hD ⊢
  have hA : ∀ q : Nat, s.heap.size ≤ q → A q := fun q h => by rw [← hAe]; exact Or.inr h
  have hS : va_S A s.heap s.heap [] := va_S.rf
  have hl := lv_entry ([.ref h0, .int p1]) (n := 5) (Nat.le_of_ble_eq_true rfl)
  rw [lg_entry_eq]
  generalize (lg_sl ([.ref h0, .int p1]) ++ List.replicate (5 - (lg_sl ([.ref h0, .int p1])).length) Slot.unset).toArray = ls at hl ⊢
  have hl : lv_has ls 5 [(0, .ref h0), (1, .int p1)] := hl
  refine lv_aload_n hx hb dX0_immunity_0 rfl (lv_at hl 0 rfl) ?_
  refine lv_iload_n hx hb dX0_immunity_1 rfl (lv_at hl 1 rfl) ?_
  refine vp_callSi (W.runV (As := [.int p1]) (rest := []) ⟨hx, hb, hml, hown, hts⟩ (metX0_bad l h0 p1) (cwV 1 hts (lw_V q57 q59 qs0 q25 q60) rfl rfl rfl (by decide +kernel) ⟨Nat.le_of_ble_eq_true rfl, Nat.le_of_ble_eq_true rfl⟩) (tw_pre0C hK hP _) rfl rfl hl.1 rfl (lv_room (Nat.le_of_ble_eq_true rfl)) dX0_immunity_2 ⟨Nat.le_of_ble_eq_true rfl, Nat.le_of_ble_eq_true rfl⟩) (fun r_1 hr_1 => ?_)
  refine lv_if_eq (tgt := 12) hx hb dX0_immunity_5 (by decide) (fun c_2 => ?_) (fun c_2 => ?_)
  · have b_2 : vp_in p1 4 := hr_1.mp c_2
    refine lv_aload_n hx hb dX0_immunity_12 rfl (lv_at hl 0 rfl) ?_
    refine lv_iload_n hx hb dX0_immunity_13 rfl (lv_at hl 1 rfl) ?_
    have hFc := va_free (wc := tw_C h0 q1 q2 q3 e1 e2 e3 f g) hD hS hA [0, 1, 2, 3] rfl
    refine va_callv (va_runV (As := [.int p1]) (rest := []) ⟨hx, hb, hml, hown, hts⟩ (metX0_spectrumOf l dC dI h0 q1 q2 q3 e1 e2 e3 _ f g p1 b_2) (cwV 1 hts (lw_V q123 q125 qs8 q25 q126) rfl rfl rfl (by decide +kernel) ⟨Nat.le_of_ble_eq_true rfl, Nat.le_of_ble_eq_true rfl⟩) (tw_preSC hK hP hD _) rfl rfl hl.1 rfl (lv_room (Nat.le_of_ble_eq_true rfl)) dX0_immunity_14 ⟨Nat.le_of_ble_eq_true rfl, Nat.le_of_ble_eq_true rfl⟩) hS (fun q _ h => hFc q h) hFc (fun u t H1 locs ht hvm hw hB hz1 hk1 hS => ?_)
    subst hw
    obtain ⟨hP1, hK1, hD1⟩ := hB
    rw [ht] at hP1
    obtain ⟨hP, hD⟩ := va_join (wr := []) (w1 := tw_C h0 q1 q2 q3 e1 e2 e3 f (tc_spec (f p1.toNatClampNeg) g)) hP hD [0, 1, 2, 3] [] rfl rfl (by decide) (by decide) hk1 hFc hP1 hD1
    generalize H1 = H at hP hS ⊢
    have hP : va_P (dC, dI) tw_cl (tw_C h0 q1 q2 q3 e1 e2 e3 f (tc_spec (f p1.toNatClampNeg) g)) H := hP
    have hD : va_D A (tw_C h0 q1 q2 q3 e1 e2 e3 f (tc_spec (f p1.toNatClampNeg) g)) := hD
    refine lv_bipush (v := 7) hx hb dX0_immunity_17 (by decide) ?_
    refine lv_istore_n (lv' := [(2, .int (7 : Int32)), (0, .ref h0), (1, .int p1)]) hx hb dX0_immunity_19 rfl hl (by decide) rfl (fun ls hl => ?_)
    refine lv_iconst (v := 1) hx hb dX0_immunity_20 (by decide) ?_
    refine lv_istore_n (lv' := [(3, .int (1 : Int32)), (2, .int (7 : Int32)), (0, .ref h0), (1, .int p1)]) hx hb dX0_immunity_21 rfl hl (by decide) rfl (fun ls hl => ?_)
    have hl : lv_has ls 5 [(0, .ref h0), (1, .int p1), (2, .int (7 : Int32)), (3, .int (1 : Int32))] := lv_sub hl [2, 3, 1, 0] rfl
    have hl : lv_has ls 5 [(0, .ref h0), (1, .int p1), (2, .int (tc_im (tc_spec (f p1.toNatClampNeg) g) 0)), (3, .int (nI (0 + 1)))] := hl
    refine tw_loop (pc := 22) 63 (fun i ls => lv_has ls 5 [(0, .ref h0), (1, .int p1), (2, .int (tc_im (tc_spec (f p1.toNatClampNeg) g) i)), (3, .int (nI (i + 1)))]) (fun ls hp => ?_) (fun i ls hi_i hp ih_i => ?_) 63 0 ls (by omega) hl
    · have hl := hp
      have hl : lv_has ls 5 [(0, .ref h0), (1, .int p1), (2, .int (tc_im (tc_spec (f p1.toNatClampNeg) g) 63)), (3, .int (nI (63 + 1)))] := hl
      refine lv_iload_n hx hb dX0_immunity_22 rfl (lv_at hl 3 rfl) ?_
      refine lv_bipush (v := 64) hx hb dX0_immunity_23 (by decide) ?_
      refine lv_icmp_ge (tgt := 63) hx hb dX0_immunity_25 (by decide) (fun _ => ?_) (fun c => absurd (nI_le (a := 64) (b := 63 + 1) (by decide) (by decide)) c)
      refine lv_iload_n hx hb dX0_immunity_63 rfl (lv_at hl 2 rfl) ?_
      refine lv_iconst (v := 1) hx hb dX0_immunity_64 (by decide) ?_
      refine lv_isub hx hb dX0_immunity_65 ?_
      exact W.iret (v := ((tc_im (tc_spec (f p1.toNatClampNeg) g) 63) - (1 : Int32))) hx hb hr (fun t ht hW => ⟨⟨((tc_im (tc_spec (f p1.toNatClampNeg) g) 63) - (1 : Int32)), (f, tc_spec (f p1.toNatClampNeg) g), rfl, ⟨fun _ => ⟨rfl, rfl⟩, fun h => absurd b_2 h⟩, by rw [ht]; exact hP, va_K.moved hW.alike hK, hD⟩, hS.F ht⟩) hS.2.2 dX0_immunity_66
    · have hl := hp
      have hl : lv_has ls 5 [(0, .ref h0), (1, .int p1), (2, .int (tc_im (tc_spec (f p1.toNatClampNeg) g) i)), (3, .int (nI (i + 1)))] := hl
      refine lv_iload_n hx hb dX0_immunity_22 rfl (lv_at hl 3 rfl) ?_
      refine lv_bipush (v := 64) hx hb dX0_immunity_23 (by decide) ?_
      refine lv_icmp_ge (tgt := 63) hx hb dX0_immunity_25 (by decide) (fun c => absurd c (nI_ge (a := i + 1) (b := 64) (by omega) (by decide))) (fun _ => ?_)
      refine lv_aload_n hx hb dX0_immunity_28 rfl (lv_at hl 0 rfl) ?_
      refine lv_iload_n hx hb dX0_immunity_29 rfl (lv_at hl 3 rfl) ?_
      refine vp_callSi (W.runV (As := [.int (nI (i + 1))]) (rest := []) ⟨hx, hb, hml, hown, hts⟩ (metX0_sizeOf l h0 (nI (i + 1))) (cwV 1 hts (lw_V q115 q117 qs7 q25 q118) rfl rfl rfl (by decide +kernel) ⟨Nat.le_of_ble_eq_true rfl, Nat.le_of_ble_eq_true rfl⟩) (tw_pre0C hK hP _) rfl rfl hl.1 rfl (lv_room (Nat.le_of_ble_eq_true rfl)) dX0_immunity_30 ⟨Nat.le_of_ble_eq_true rfl, Nat.le_of_ble_eq_true rfl⟩) (fun r_4 hr_4 => ?_)
      rw [hr_4]
      refine lv_istore (lv' := [(4, .int (tc_sz (nI (i + 1)) 6)), (0, .ref h0), (1, .int p1), (2, .int (tc_im (tc_spec (f p1.toNatClampNeg) g) i)), (3, .int (nI (i + 1)))]) hx hb dX0_immunity_33 hl (by decide) rfl (fun ls hl => ?_)
      refine lv_aload_n hx hb dX0_immunity_35 rfl (lv_at hl 1 rfl) ?_
      refine va_get (D := (dC, dI)) (ci := 0) (v := .ref q3) (C := RX0) (T := TX0) (N := 3) hx hb hts in_X0 hown hK hP 0 rfl rfl 2 (by decide) (hts _ q43) (fun _ h9 => h9) rfl dX0_immunity_36 ?_
      refine lv_iload_n hx hb dX0_immunity_39 rfl (lv_at hl 4 rfl) ?_
      refine va_iald hx hb hK hP 3 2 rfl rfl (vp_in_nI (show i + 1 < 64 by omega) (by decide)) dX0_immunity_40 ?_
      refine lv_if_eq (tgt := 55) hx hb dX0_immunity_41 (by decide) (fun c_5 => ?_) (fun c_5 => ?_)
      · refine lv_iload_n hx hb dX0_immunity_55 rfl (lv_at hl 3 rfl) ?_
        refine lv_istore_n (lv' := [(2, .int (tc_im (tc_spec (f p1.toNatClampNeg) g) i)), (4, .int (tc_sz (nI (i + 1)) 6)), (0, .ref h0), (1, .int p1), (3, .int (nI (i + 1)))]) hx hb dX0_immunity_56 rfl hl (by decide) rfl (fun ls hl => ?_)
        refine lv_iinc (v := nI (i + 1 + 1)) (lv' := [(3, .int (nI (i + 1 + 1))), (2, .int (tc_im (tc_spec (f p1.toNatClampNeg) g) i)), (4, .int (tc_sz (nI (i + 1)) 6)), (0, .ref h0), (1, .int p1)]) hx hb dX0_immunity_57 hl (k := 4) rfl (nI_1 (i + 1)) (by decide) rfl (fun ls hl => ?_)
        refine lv_goto (tgt := 22) hx hb dX0_immunity_60 (by decide) ?_
        have hl : lv_has ls 5 [(0, .ref h0), (1, .int p1), (2, .int (tc_im (tc_spec (f p1.toNatClampNeg) g) i)), (3, .int (nI (i + 1 + 1)))] := lv_sub hl [3, 4, 1, 0] rfl
        exact ih_i ls (tw_has hl (by rw [tc_im_s _ i, if_pos c_5]))
      · refine lv_iload hx hb dX0_immunity_44 (lv_at hl 0 rfl) ?_
        refine lv_iload_n hx hb dX0_immunity_46 rfl (lv_at hl 3 rfl) ?_
        refine lv_icmp_ge (tgt := 55) hx hb dX0_immunity_47 (by decide) (fun c_6 => ?_) (fun c_6 => ?_)
        · refine lv_iload_n hx hb dX0_immunity_55 rfl (lv_at hl 3 rfl) ?_
          refine lv_istore_n (lv' := [(2, .int (tc_im (tc_spec (f p1.toNatClampNeg) g) i)), (4, .int (tc_sz (nI (i + 1)) 6)), (0, .ref h0), (1, .int p1), (3, .int (nI (i + 1)))]) hx hb dX0_immunity_56 rfl hl (by decide) rfl (fun ls hl => ?_)
          refine lv_iinc (v := nI (i + 1 + 1)) (lv' := [(3, .int (nI (i + 1 + 1))), (2, .int (tc_im (tc_spec (f p1.toNatClampNeg) g) i)), (4, .int (tc_sz (nI (i + 1)) 6)), (0, .ref h0), (1, .int p1)]) hx hb dX0_immunity_57 hl (k := 4) rfl (nI_1 (i + 1)) (by decide) rfl (fun ls hl => ?_)
          refine lv_goto (tgt := 22) hx hb dX0_immunity_60 (by decide) ?_
          have hl : lv_has ls 5 [(0, .ref h0), (1, .int p1), (2, .int (tc_im (tc_spec (f p1.toNatClampNeg) g) i)), (3, .int (nI (i + 1 + 1)))] := lv_sub hl [3, 4, 1, 0] rfl
          exact ih_i ls (tw_has hl (by rw [tc_im_s _ i, if_neg c_5, if_pos c_6]))
        · refine lv_iload hx hb dX0_immunity_50 (lv_at hl 0 rfl) ?_
          refine lv_goto (tgt := 56) hx hb dX0_immunity_52 (by decide) ?_
          refine lv_istore_n (lv' := [(2, .int (tc_sz (nI (i + 1)) 6)), (4, .int (tc_sz (nI (i + 1)) 6)), (0, .ref h0), (1, .int p1), (3, .int (nI (i + 1)))]) hx hb dX0_immunity_56 rfl hl (by decide) rfl (fun ls hl => ?_)
          refine lv_iinc (v := nI (i + 1 + 1)) (lv' := [(3, .int (nI (i + 1 + 1))), (2, .int (tc_sz (nI (i + 1)) 6)), (4, .int (tc_sz (nI (i + 1)) 6)), (0, .ref h0), (1, .int p1)]) hx hb dX0_immunity_57 hl (k := 4) rfl (nI_1 (i + 1)) (by decide) rfl (fun ls hl => ?_)
          refine lv_goto (tgt := 22) hx hb dX0_immunity_60 (by decide) ?_
          have hl : lv_has ls 5 [(0, .ref h0), (1, .int p1), (2, .int (tc_sz (nI (i + 1)) 6)), (3, .int (nI (i + 1 + 1)))] := lv_sub hl [3, 4, 1, 0] rfl
          exact ih_i ls (tw_has hl (by rw [tc_im_s _ i, if_neg c_5, if_neg c_6]))
  · have b_2 : ¬ vp_in p1 4 := fun h => c_2 (hr_1.mpr h)
    refine lv_sipush (v := -1000) hx hb dX0_immunity_8 (by decide) ?_
    exact W.iret (v := (-1000 : Int32)) hx hb hr (fun t ht hW => ⟨⟨(-1000 : Int32), (f, g), rfl, ⟨fun h => absurd h b_2, fun _ => ⟨rfl, rfl⟩⟩, by rw [ht]; exact hP, va_K.moved hW.alike hK, hD⟩, hS.F ht⟩) hS.2.2 dX0_immunity_11
set_option maxHeartbeats 4000000 in
set_option maxRecDepth 100000 in
/-- autocorrelation(t, a) -/
theorem metX0_autocorrelation (l : Launch) (dC : Nat → ClassId) (dI : Nat → Nat → Nat) (h0 q1 q2 q3 : Nat) (e1 e2 e3 : ClassId) (sz : Nat) (f : Nat → Int64) (g : Nat → Int32) (p1 : Int32) (p2 : Int32) : Met l yX0_autocorrelation (ws_ yX0_autocorrelation cX0_autocorrelation 3 (some .int)) ({ frames := 3, cells := 0, slots := 0, locals := 69 }) (va_Pc [.ref h0, .int p1, .int p2] (tw_SC dC dI h0 q1 q2 q3 e1 e2 e3 sz f g)) (va_Qi (fun (r : Int32) (u : ((Nat → Int64) × (Nat → Int32))) => ((vp_in p1 4 ∧ vp_in p2 64) → r = tc_cor (f p1.toNatClampNeg) g p2.toNatClampNeg ∧ u = (f, tc_cor (f p1.toNatClampNeg) g)) ∧ (¬ (vp_in p1 4 ∧ vp_in p2 64) → r = (-1000 : Int32) ∧ u = (f, g))) (tw_BC dC dI h0 q1 q2 q3 e1 e2 e3 (va_A (tw_C h0 q1 q2 q3 e1 e2 e3 f g) sz)) (va_A (tw_C h0 q1 q2 q3 e1 e2 e3 f g) sz)) 0 0 (va_A (tw_C h0 q1 q2 q3 e1 e2 e3 f g) sz) := by
  refine Met.ofW (cc := cX0_autocorrelation) (maxL := 3) (ret := (some .int)) (by decide) rfl ?_
  intro p e s m args below meth c s₁ B hml hv
  obtain ⟨rfl, hsz, hP, hK, hD0⟩ := hv
  have hx := B.exec
  have hb := B.bytes
  have hr := B.returns
  have hts := atoms_spec (ws := ws_ yX0_autocorrelation cX0_autocorrelation 3 (some .int)) B.pre
  have hts : ∀ w ∈ lw_all, w.before _ s = true := fun w h => hts w (List.mem_cons_of_mem _ h)
  have hown : s.vm.findClass RX0 = some m.cls := findClass_of_methodNamed B.named
  have hlocks := B.notSynchronized
  subst hsz
  have hD := hD0.self (sz := s.heap.size)
  generalize hAe : va_A (tw_C h0 q1 q2 q3 e1 e2 e3 f g) s.heap.size = A at hD ⊢
  have hA : ∀ q : Nat, s.heap.size ≤ q → A q := fun q h => by rw [← hAe]; exact Or.inr h
  have hS : va_S A s.heap s.heap [] := va_S.rf
  have hl := lv_entry ([.ref h0, .int p1, .int p2]) (n := 3) (Nat.le_of_ble_eq_true rfl)
  rw [lg_entry_eq]
  generalize (lg_sl ([.ref h0, .int p1, .int p2]) ++ List.replicate (3 - (lg_sl ([.ref h0, .int p1, .int p2])).length) Slot.unset).toArray = ls at hl ⊢
  have hl : lv_has ls 3 [(0, .ref h0), (1, .int p1), (2, .int p2)] := hl
  refine lv_aload_n hx hb dX0_autocorrelation_0 rfl (lv_at hl 0 rfl) ?_
  refine lv_iload_n hx hb dX0_autocorrelation_1 rfl (lv_at hl 1 rfl) ?_
  refine vp_callSi (W.runV (As := [.int p1]) (rest := []) ⟨hx, hb, hml, hown, hts⟩ (metX0_bad l h0 p1) (cwV 1 hts (lw_V q57 q59 qs0 q25 q60) rfl rfl rfl (by decide +kernel) ⟨Nat.le_of_ble_eq_true rfl, Nat.le_of_ble_eq_true rfl⟩) (tw_pre0C hK hP _) rfl rfl hl.1 rfl (lv_room (Nat.le_of_ble_eq_true rfl)) dX0_autocorrelation_2 ⟨Nat.le_of_ble_eq_true rfl, Nat.le_of_ble_eq_true rfl⟩) (fun r_1 hr_1 => ?_)
  refine lv_if_ne (tgt := 16) hx hb dX0_autocorrelation_5 (by decide) (fun c_2 => ?_) (fun c_2 => ?_)
  · have b_2 : ¬ vp_in p1 4 := fun h => c_2 (hr_1.mpr h)
    refine lv_sipush (v := -1000) hx hb dX0_autocorrelation_16 (by decide) ?_
    exact W.iret (v := (-1000 : Int32)) hx hb hr (fun t ht hW => ⟨⟨(-1000 : Int32), (f, g), rfl, ⟨fun h => absurd h.1 b_2, fun _ => ⟨rfl, rfl⟩⟩, by rw [ht]; exact hP, va_K.moved hW.alike hK, hD⟩, hS.F ht⟩) hS.2.2 dX0_autocorrelation_19
  · have b_2 : vp_in p1 4 := hr_1.mp c_2
    refine lv_aload_n hx hb dX0_autocorrelation_8 rfl (lv_at hl 0 rfl) ?_
    refine lv_iload_n hx hb dX0_autocorrelation_9 rfl (lv_at hl 2 rfl) ?_
    refine vp_callSi (W.runV (As := [.int p2]) (rest := []) ⟨hx, hb, hml, hown, hts⟩ (metX0_badPoint l h0 p2) (cwV 1 hts (lw_V q61 q63 qs1 q25 q64) rfl rfl rfl (by decide +kernel) ⟨Nat.le_of_ble_eq_true rfl, Nat.le_of_ble_eq_true rfl⟩) (tw_pre0C hK hP _) rfl rfl hl.1 rfl (lv_room (Nat.le_of_ble_eq_true rfl)) dX0_autocorrelation_10 ⟨Nat.le_of_ble_eq_true rfl, Nat.le_of_ble_eq_true rfl⟩) (fun r_3 hr_3 => ?_)
    refine lv_if_eq (tgt := 20) hx hb dX0_autocorrelation_13 (by decide) (fun c_4 => ?_) (fun c_4 => ?_)
    · have b_4 : vp_in p2 64 := hr_3.mp c_4
      refine lv_aload_n hx hb dX0_autocorrelation_20 rfl (lv_at hl 0 rfl) ?_
      refine lv_iload_n hx hb dX0_autocorrelation_21 rfl (lv_at hl 1 rfl) ?_
      have hFc := va_free (wc := tw_C h0 q1 q2 q3 e1 e2 e3 f g) hD hS hA [0, 1, 2, 3] rfl
      refine va_callv (va_runV (As := [.int p1]) (rest := []) ⟨hx, hb, hml, hown, hts⟩ (metX0_correlate l dC dI h0 q1 q2 q3 e1 e2 e3 _ f g p1 b_2) (cwV 1 hts (lw_V q155 q157 qs12 q25 q158) rfl rfl rfl (by decide +kernel) ⟨Nat.le_of_ble_eq_true rfl, Nat.le_of_ble_eq_true rfl⟩) (tw_preSC hK hP hD _) rfl rfl hl.1 rfl (lv_room (Nat.le_of_ble_eq_true rfl)) dX0_autocorrelation_22 ⟨Nat.le_of_ble_eq_true rfl, Nat.le_of_ble_eq_true rfl⟩) hS (fun q _ h => hFc q h) hFc (fun u t H1 locs ht hvm hw hB hz1 hk1 hS => ?_)
      subst hw
      obtain ⟨hP1, hK1, hD1⟩ := hB
      rw [ht] at hP1
      obtain ⟨hP, hD⟩ := va_join (wr := []) (w1 := tw_C h0 q1 q2 q3 e1 e2 e3 f (tc_cor (f p1.toNatClampNeg) g)) hP hD [0, 1, 2, 3] [] rfl rfl (by decide) (by decide) hk1 hFc hP1 hD1
      generalize H1 = H at hP hS ⊢
      have hP : va_P (dC, dI) tw_cl (tw_C h0 q1 q2 q3 e1 e2 e3 f (tc_cor (f p1.toNatClampNeg) g)) H := hP
      have hD : va_D A (tw_C h0 q1 q2 q3 e1 e2 e3 f (tc_cor (f p1.toNatClampNeg) g)) := hD
      refine lv_aload_n hx hb dX0_autocorrelation_25 rfl (lv_at hl 0 rfl) ?_
      refine va_get (D := (dC, dI)) (ci := 0) (v := .ref q3) (C := RX0) (T := TX0) (N := 3) hx hb hts in_X0 hown hK hP 0 rfl rfl 2 (by decide) (hts _ q43) (fun _ h9 => h9) rfl dX0_autocorrelation_26 ?_
      refine lv_iload_n hx hb dX0_autocorrelation_29 rfl (lv_at hl 2 rfl) ?_
      refine va_iald hx hb hK hP 3 2 rfl rfl b_4 dX0_autocorrelation_30 ?_
      exact W.iret (v := ((tc_cor (f p1.toNatClampNeg) g) p2.toNatClampNeg)) hx hb hr (fun t ht hW => ⟨⟨((tc_cor (f p1.toNatClampNeg) g) p2.toNatClampNeg), (f, tc_cor (f p1.toNatClampNeg) g), rfl, ⟨fun _ => ⟨rfl, rfl⟩, fun h => absurd ⟨b_2, b_4⟩ h⟩, by rw [ht]; exact hP, va_K.moved hW.alike hK, hD⟩, hS.F ht⟩) hS.2.2 dX0_autocorrelation_31
    · have b_4 : ¬ vp_in p2 64 := fun h => c_4 (hr_3.mpr h)
      refine lv_sipush (v := -1000) hx hb dX0_autocorrelation_16 (by decide) ?_
      exact W.iret (v := (-1000 : Int32)) hx hb hr (fun t ht hW => ⟨⟨(-1000 : Int32), (f, g), rfl, ⟨fun h => absurd h.2 b_4, fun _ => ⟨rfl, rfl⟩⟩, by rw [ht]; exact hP, va_K.moved hW.alike hK, hD⟩, hS.F ht⟩) hS.2.2 dX0_autocorrelation_19
set_option maxHeartbeats 4000000 in
set_option maxRecDepth 100000 in
/-- structures(t) -/
theorem metX0_structures (l : Launch) (dC : Nat → ClassId) (dI : Nat → Nat → Nat) (h0 q1 q2 q3 : Nat) (e1 e2 e3 : ClassId) (sz : Nat) (f : Nat → Int64) (g : Nat → Int32) (p1 : Int32) : Met l yX0_structures (ws_ yX0_structures cX0_structures 4 (some .int)) ({ frames := 3, cells := 0, slots := 0, locals := 69 }) (va_Pc [.ref h0, .int p1] (tw_SC dC dI h0 q1 q2 q3 e1 e2 e3 sz f g)) (va_Qi (fun (r : Int32) (u : ((Nat → Int64) × (Nat → Int32))) => ((vp_in p1 4) → r = tc_st (tc_cor (f p1.toNatClampNeg) g) 64 ∧ u = (f, tc_cor (f p1.toNatClampNeg) g)) ∧ (¬ (vp_in p1 4) → r = (-1000 : Int32) ∧ u = (f, g))) (tw_BC dC dI h0 q1 q2 q3 e1 e2 e3 (va_A (tw_C h0 q1 q2 q3 e1 e2 e3 f g) sz)) (va_A (tw_C h0 q1 q2 q3 e1 e2 e3 f g) sz)) 0 0 (va_A (tw_C h0 q1 q2 q3 e1 e2 e3 f g) sz) := by
  refine Met.ofW (cc := cX0_structures) (maxL := 4) (ret := (some .int)) (by decide) rfl ?_
  intro p e s m args below meth c s₁ B hml hv
  obtain ⟨rfl, hsz, hP, hK, hD0⟩ := hv
  have hx := B.exec
  have hb := B.bytes
  have hr := B.returns
  have hts := atoms_spec (ws := ws_ yX0_structures cX0_structures 4 (some .int)) B.pre
  have hts : ∀ w ∈ lw_all, w.before _ s = true := fun w h => hts w (List.mem_cons_of_mem _ h)
  have hown : s.vm.findClass RX0 = some m.cls := findClass_of_methodNamed B.named
  have hlocks := B.notSynchronized
  subst hsz
  have hD := hD0.self (sz := s.heap.size)
  generalize hAe : va_A (tw_C h0 q1 q2 q3 e1 e2 e3 f g) s.heap.size = A at hD ⊢
  have hA : ∀ q : Nat, s.heap.size ≤ q → A q := fun q h => by rw [← hAe]; exact Or.inr h
  have hS : va_S A s.heap s.heap [] := va_S.rf
  have hl := lv_entry ([.ref h0, .int p1]) (n := 4) (Nat.le_of_ble_eq_true rfl)
  rw [lg_entry_eq]
  generalize (lg_sl ([.ref h0, .int p1]) ++ List.replicate (4 - (lg_sl ([.ref h0, .int p1])).length) Slot.unset).toArray = ls at hl ⊢
  have hl : lv_has ls 4 [(0, .ref h0), (1, .int p1)] := hl
  refine lv_aload_n hx hb dX0_structures_0 rfl (lv_at hl 0 rfl) ?_
  refine lv_iload_n hx hb dX0_structures_1 rfl (lv_at hl 1 rfl) ?_
  refine vp_callSi (W.runV (As := [.int p1]) (rest := []) ⟨hx, hb, hml, hown, hts⟩ (metX0_bad l h0 p1) (cwV 1 hts (lw_V q57 q59 qs0 q25 q60) rfl rfl rfl (by decide +kernel) ⟨Nat.le_of_ble_eq_true rfl, Nat.le_of_ble_eq_true rfl⟩) (tw_pre0C hK hP _) rfl rfl hl.1 rfl (lv_room (Nat.le_of_ble_eq_true rfl)) dX0_structures_2 ⟨Nat.le_of_ble_eq_true rfl, Nat.le_of_ble_eq_true rfl⟩) (fun r_1 hr_1 => ?_)
  refine lv_if_eq (tgt := 12) hx hb dX0_structures_5 (by decide) (fun c_2 => ?_) (fun c_2 => ?_)
  · have b_2 : vp_in p1 4 := hr_1.mp c_2
    refine lv_aload_n hx hb dX0_structures_12 rfl (lv_at hl 0 rfl) ?_
    refine lv_iload_n hx hb dX0_structures_13 rfl (lv_at hl 1 rfl) ?_
    have hFc := va_free (wc := tw_C h0 q1 q2 q3 e1 e2 e3 f g) hD hS hA [0, 1, 2, 3] rfl
    refine va_callv (va_runV (As := [.int p1]) (rest := []) ⟨hx, hb, hml, hown, hts⟩ (metX0_correlate l dC dI h0 q1 q2 q3 e1 e2 e3 _ f g p1 b_2) (cwV 1 hts (lw_V q155 q157 qs12 q25 q158) rfl rfl rfl (by decide +kernel) ⟨Nat.le_of_ble_eq_true rfl, Nat.le_of_ble_eq_true rfl⟩) (tw_preSC hK hP hD _) rfl rfl hl.1 rfl (lv_room (Nat.le_of_ble_eq_true rfl)) dX0_structures_14 ⟨Nat.le_of_ble_eq_true rfl, Nat.le_of_ble_eq_true rfl⟩) hS (fun q _ h => hFc q h) hFc (fun u t H1 locs ht hvm hw hB hz1 hk1 hS => ?_)
    subst hw
    obtain ⟨hP1, hK1, hD1⟩ := hB
    rw [ht] at hP1
    obtain ⟨hP, hD⟩ := va_join (wr := []) (w1 := tw_C h0 q1 q2 q3 e1 e2 e3 f (tc_cor (f p1.toNatClampNeg) g)) hP hD [0, 1, 2, 3] [] rfl rfl (by decide) (by decide) hk1 hFc hP1 hD1
    generalize H1 = H at hP hS ⊢
    have hP : va_P (dC, dI) tw_cl (tw_C h0 q1 q2 q3 e1 e2 e3 f (tc_cor (f p1.toNatClampNeg) g)) H := hP
    have hD : va_D A (tw_C h0 q1 q2 q3 e1 e2 e3 f (tc_cor (f p1.toNatClampNeg) g)) := hD
    refine lv_iconst (v := 0) hx hb dX0_structures_17 (by decide) ?_
    refine lv_istore_n (lv' := [(2, .int (0 : Int32)), (0, .ref h0), (1, .int p1)]) hx hb dX0_structures_18 rfl hl (by decide) rfl (fun ls hl => ?_)
    refine lv_iconst (v := 0) hx hb dX0_structures_19 (by decide) ?_
    refine lv_istore_n (lv' := [(3, .int (0 : Int32)), (2, .int (0 : Int32)), (0, .ref h0), (1, .int p1)]) hx hb dX0_structures_20 rfl hl (by decide) rfl (fun ls hl => ?_)
    have hl : lv_has ls 4 [(0, .ref h0), (1, .int p1), (2, .int (0 : Int32)), (3, .int (0 : Int32))] := lv_sub hl [2, 3, 1, 0] rfl
    have hl : lv_has ls 4 [(0, .ref h0), (1, .int p1), (2, .int (tc_st (tc_cor (f p1.toNatClampNeg) g) 0)), (3, .int (nI 0))] := hl
    refine tw_loop (pc := 21) 64 (fun i ls => lv_has ls 4 [(0, .ref h0), (1, .int p1), (2, .int (tc_st (tc_cor (f p1.toNatClampNeg) g) i)), (3, .int (nI i))]) (fun ls hp => ?_) (fun i ls hi_i hp ih_i => ?_) 64 0 ls (by omega) hl
    · have hl := hp
      have hl : lv_has ls 4 [(0, .ref h0), (1, .int p1), (2, .int (tc_st (tc_cor (f p1.toNatClampNeg) g) 64)), (3, .int (nI 64))] := hl
      refine lv_iload_n hx hb dX0_structures_21 rfl (lv_at hl 3 rfl) ?_
      refine lv_bipush (v := 64) hx hb dX0_structures_22 (by decide) ?_
      refine lv_icmp_ge (tgt := 56) hx hb dX0_structures_24 (by decide) (fun _ => ?_) (fun c => absurd (nI_le (a := 64) (b := 64) (by decide) (by decide)) c)
      refine lv_iload_n hx hb dX0_structures_56 rfl (lv_at hl 2 rfl) ?_
      exact W.iret (v := tc_st (tc_cor (f p1.toNatClampNeg) g) 64) hx hb hr (fun t ht hW => ⟨⟨tc_st (tc_cor (f p1.toNatClampNeg) g) 64, (f, tc_cor (f p1.toNatClampNeg) g), rfl, ⟨fun _ => ⟨rfl, rfl⟩, fun h => absurd b_2 h⟩, by rw [ht]; exact hP, va_K.moved hW.alike hK, hD⟩, hS.F ht⟩) hS.2.2 dX0_structures_57
    · have hl := hp
      have hl : lv_has ls 4 [(0, .ref h0), (1, .int p1), (2, .int (tc_st (tc_cor (f p1.toNatClampNeg) g) i)), (3, .int (nI i))] := hl
      refine lv_iload_n hx hb dX0_structures_21 rfl (lv_at hl 3 rfl) ?_
      refine lv_bipush (v := 64) hx hb dX0_structures_22 (by decide) ?_
      refine lv_icmp_ge (tgt := 56) hx hb dX0_structures_24 (by decide) (fun c => absurd c (nI_ge (a := i) (b := 64) (by omega) (by decide))) (fun _ => ?_)
      refine lv_aload_n hx hb dX0_structures_27 rfl (lv_at hl 0 rfl) ?_
      refine lv_aload_n hx hb dX0_structures_28 rfl (lv_at hl 0 rfl) ?_
      refine va_get (D := (dC, dI)) (ci := 0) (v := .ref q3) (C := RX0) (T := TX0) (N := 3) hx hb hts in_X0 hown hK hP 0 rfl rfl 2 (by decide) (hts _ q43) (fun _ h9 => h9) rfl dX0_structures_29 ?_
      refine lv_iload_n hx hb dX0_structures_32 rfl (lv_at hl 3 rfl) ?_
      refine va_iald hx hb hK hP 3 2 rfl rfl (vp_in_nI (show i < 64 by omega) (by decide)) dX0_structures_33 ?_
      refine vp_callSi (W.runV (As := [.int ((tc_cor (f p1.toNatClampNeg) g) (nI i).toNatClampNeg)]) (rest := []) ⟨hx, hb, hml, hown, hts⟩ (metX0_magnitude l h0 ((tc_cor (f p1.toNatClampNeg) g) (nI i).toNatClampNeg)) (cwV 1 hts (lw_V q139 q141 qs11 q25 q142) rfl rfl rfl (by decide +kernel) ⟨Nat.le_of_ble_eq_true rfl, Nat.le_of_ble_eq_true rfl⟩) (tw_pre0C hK hP _) rfl rfl hl.1 rfl (lv_room (Nat.le_of_ble_eq_true rfl)) dX0_structures_34 ⟨Nat.le_of_ble_eq_true rfl, Nat.le_of_ble_eq_true rfl⟩) (fun r_4 hr_4 => ?_)
      rw [hr_4]
      refine lv_bipush (v := 64) hx hb dX0_structures_37 (by decide) ?_
      refine lv_icmp_ne (tgt := 48) hx hb dX0_structures_39 (by decide) (fun c_5 => ?_) (fun c_5 => ?_)
      · refine lv_iload_n hx hb dX0_structures_48 rfl (lv_at hl 2 rfl) ?_
        refine lv_istore_n (lv' := [(2, .int (tc_st (tc_cor (f p1.toNatClampNeg) g) i)), (0, .ref h0), (1, .int p1), (3, .int (nI i))]) hx hb dX0_structures_49 rfl hl (by decide) rfl (fun ls hl => ?_)
        refine lv_iinc (v := nI (i + 1)) (lv' := [(3, .int (nI (i + 1))), (2, .int (tc_st (tc_cor (f p1.toNatClampNeg) g) i)), (0, .ref h0), (1, .int p1)]) hx hb dX0_structures_50 hl (k := 3) rfl (nI_1 i) (by decide) rfl (fun ls hl => ?_)
        refine lv_goto (tgt := 21) hx hb dX0_structures_53 (by decide) ?_
        have hl : lv_has ls 4 [(0, .ref h0), (1, .int p1), (2, .int (tc_st (tc_cor (f p1.toNatClampNeg) g) i)), (3, .int (nI (i + 1)))] := lv_sub hl [2, 3, 1, 0] rfl
        exact ih_i ls (tw_has hl (by rw [tc_st_s _ i, if_neg c_5]))
      · refine lv_iload_n hx hb dX0_structures_42 rfl (lv_at hl 2 rfl) ?_
        refine lv_iconst (v := 1) hx hb dX0_structures_43 (by decide) ?_
        refine lv_iadd hx hb dX0_structures_44 ?_
        refine lv_goto (tgt := 49) hx hb dX0_structures_45 (by decide) ?_
        refine lv_istore_n (lv' := [(2, .int ((tc_st (tc_cor (f p1.toNatClampNeg) g) i) + (1 : Int32))), (0, .ref h0), (1, .int p1), (3, .int (nI i))]) hx hb dX0_structures_49 rfl hl (by decide) rfl (fun ls hl => ?_)
        refine lv_iinc (v := nI (i + 1)) (lv' := [(3, .int (nI (i + 1))), (2, .int ((tc_st (tc_cor (f p1.toNatClampNeg) g) i) + (1 : Int32))), (0, .ref h0), (1, .int p1)]) hx hb dX0_structures_50 hl (k := 3) rfl (nI_1 i) (by decide) rfl (fun ls hl => ?_)
        refine lv_goto (tgt := 21) hx hb dX0_structures_53 (by decide) ?_
        have hl : lv_has ls 4 [(0, .ref h0), (1, .int p1), (2, .int ((tc_st (tc_cor (f p1.toNatClampNeg) g) i) + (1 : Int32))), (3, .int (nI (i + 1)))] := lv_sub hl [2, 3, 1, 0] rfl
        exact ih_i ls (tw_has hl (by rw [tc_st_s _ i, if_pos c_5]))
  · have b_2 : ¬ vp_in p1 4 := fun h => c_2 (hr_1.mpr h)
    refine lv_sipush (v := -1000) hx hb dX0_structures_8 (by decide) ?_
    exact W.iret (v := (-1000 : Int32)) hx hb hr (fun t ht hW => ⟨⟨(-1000 : Int32), (f, g), rfl, ⟨fun h => absurd h b_2, fun _ => ⟨rfl, rfl⟩⟩, by rw [ht]; exact hP, va_K.moved hW.alike hK, hD⟩, hS.F ht⟩) hS.2.2 dX0_structures_11
end
section
/-! walks of TruthSpectrumModel: isTable, isPoint, sizeOf, product, countOnes, formAt, spectrumAt, changes, sames, comesBy -/
set_option maxHeartbeats 4000000 in
set_option maxRecDepth 100000 in
/-- isTable(t) -/
theorem metX1_isTable (l : Launch) (h0 : Nat) (p1 : Int32) : Met l yX1_isTable (ws_ yX1_isTable cX1_isTable 2 (some .boolean)) ({ frames := 0, cells := 0, slots := 0, locals := 0 }) (va_Pc [.ref h0, .int p1] (fun _ => True)) (vp_Si (fun (r : Int32) => r = 0 ↔ ¬ vp_in p1 4)) 0 0 (fun _ => False) := by
  refine Met.ofW (cc := cX1_isTable) (maxL := 2) (ret := (some .boolean)) (by decide) rfl ?_
  intro p e s m args below meth c s₁ B hml hv
  obtain ⟨rfl, -⟩ := hv
  have hx := B.exec
  have hb := B.bytes
  have hr := B.returns
  have hts := atoms_spec (ws := ws_ yX1_isTable cX1_isTable 2 (some .boolean)) B.pre
  have hts : ∀ w ∈ lw_all, w.before _ s = true := fun w h => hts w (List.mem_cons_of_mem _ h)
  have hown : s.vm.findClass RX1 = some m.cls := findClass_of_methodNamed B.named
  have hlocks := B.notSynchronized
  have hl := lv_entry ([.ref h0, .int p1]) (n := 2) (Nat.le_of_ble_eq_true rfl)
  rw [lg_entry_eq]
  generalize (lg_sl ([.ref h0, .int p1]) ++ List.replicate (2 - (lg_sl ([.ref h0, .int p1])).length) Slot.unset).toArray = ls at hl ⊢
  have hl : lv_has ls 2 [(0, .ref h0), (1, .int p1)] := hl
  refine lv_iload_n hx hb dX1_isTable_0 rfl (lv_at hl 1 rfl) ?_
  refine lv_if_lt (tgt := 13) hx hb dX1_isTable_1 (by decide) (fun c_1 => ?_) (fun c_1 => ?_)
  · refine lv_iconst (v := 0) hx hb dX1_isTable_13 (by decide) ?_
    exact W.zret (v := (0 : Int32)) hx hb hr rfl (fun t ht hW => ⟨(0 : Int32), rfl, ⟨fun _ h => (tw_outT h).1 c_1, fun _ => rfl⟩, ht⟩) (fun _ h => by cases h) dX1_isTable_14
  · refine lv_iload_n hx hb dX1_isTable_4 rfl (lv_at hl 1 rfl) ?_
    refine lv_iconst (v := 3) hx hb dX1_isTable_5 (by decide) ?_
    refine lv_icmp_gt (tgt := 13) hx hb dX1_isTable_6 (by decide) (fun c_2 => ?_) (fun c_2 => ?_)
    · refine lv_iconst (v := 0) hx hb dX1_isTable_13 (by decide) ?_
      exact W.zret (v := (0 : Int32)) hx hb hr rfl (fun t ht hW => ⟨(0 : Int32), rfl, ⟨fun _ h => absurd c_2 (Int32.not_lt.mpr (tw_outT h).2.2), fun _ => rfl⟩, ht⟩) (fun _ h => by cases h) dX1_isTable_14
    · refine lv_iconst (v := 1) hx hb dX1_isTable_9 (by decide) ?_
      refine lv_goto (tgt := 14) hx hb dX1_isTable_10 (by decide) ?_
      exact W.zret (v := (1 : Int32)) hx hb hr rfl (fun t ht hW => ⟨(1 : Int32), rfl, ⟨fun h => absurd h (by decide), fun h => absurd (tw_inT3 c_1 c_2) h⟩, ht⟩) (fun _ h => by cases h) dX1_isTable_14
set_option maxHeartbeats 4000000 in
set_option maxRecDepth 100000 in
/-- isPoint(x) -/
theorem metX1_isPoint (l : Launch) (h0 : Nat) (p1 : Int32) : Met l yX1_isPoint (ws_ yX1_isPoint cX1_isPoint 2 (some .boolean)) ({ frames := 0, cells := 0, slots := 0, locals := 0 }) (va_Pc [.ref h0, .int p1] (fun _ => True)) (vp_Si (fun (r : Int32) => r = 0 ↔ ¬ vp_in p1 64)) 0 0 (fun _ => False) := by
  refine Met.ofW (cc := cX1_isPoint) (maxL := 2) (ret := (some .boolean)) (by decide) rfl ?_
  intro p e s m args below meth c s₁ B hml hv
  obtain ⟨rfl, -⟩ := hv
  have hx := B.exec
  have hb := B.bytes
  have hr := B.returns
  have hts := atoms_spec (ws := ws_ yX1_isPoint cX1_isPoint 2 (some .boolean)) B.pre
  have hts : ∀ w ∈ lw_all, w.before _ s = true := fun w h => hts w (List.mem_cons_of_mem _ h)
  have hown : s.vm.findClass RX1 = some m.cls := findClass_of_methodNamed B.named
  have hlocks := B.notSynchronized
  have hl := lv_entry ([.ref h0, .int p1]) (n := 2) (Nat.le_of_ble_eq_true rfl)
  rw [lg_entry_eq]
  generalize (lg_sl ([.ref h0, .int p1]) ++ List.replicate (2 - (lg_sl ([.ref h0, .int p1])).length) Slot.unset).toArray = ls at hl ⊢
  have hl : lv_has ls 2 [(0, .ref h0), (1, .int p1)] := hl
  refine lv_iload_n hx hb dX1_isPoint_0 rfl (lv_at hl 1 rfl) ?_
  refine lv_if_lt (tgt := 14) hx hb dX1_isPoint_1 (by decide) (fun c_1 => ?_) (fun c_1 => ?_)
  · refine lv_iconst (v := 0) hx hb dX1_isPoint_14 (by decide) ?_
    exact W.zret (v := (0 : Int32)) hx hb hr rfl (fun t ht hW => ⟨(0 : Int32), rfl, ⟨fun _ h => (tw_outP h).1 c_1, fun _ => rfl⟩, ht⟩) (fun _ h => by cases h) dX1_isPoint_15
  · refine lv_iload_n hx hb dX1_isPoint_4 rfl (lv_at hl 1 rfl) ?_
    refine lv_bipush (v := 63) hx hb dX1_isPoint_5 (by decide) ?_
    refine lv_icmp_gt (tgt := 14) hx hb dX1_isPoint_7 (by decide) (fun c_2 => ?_) (fun c_2 => ?_)
    · refine lv_iconst (v := 0) hx hb dX1_isPoint_14 (by decide) ?_
      exact W.zret (v := (0 : Int32)) hx hb hr rfl (fun t ht hW => ⟨(0 : Int32), rfl, ⟨fun _ h => absurd c_2 (Int32.not_lt.mpr (tw_outP h).2.2), fun _ => rfl⟩, ht⟩) (fun _ h => by cases h) dX1_isPoint_15
    · refine lv_iconst (v := 1) hx hb dX1_isPoint_10 (by decide) ?_
      refine lv_goto (tgt := 15) hx hb dX1_isPoint_11 (by decide) ?_
      exact W.zret (v := (1 : Int32)) hx hb hr rfl (fun t ht hW => ⟨(1 : Int32), rfl, ⟨fun h => absurd h (by decide), fun h => absurd (tw_inP3 c_1 c_2) h⟩, ht⟩) (fun _ h => by cases h) dX1_isPoint_15
set_option maxHeartbeats 4000000 in
set_option maxRecDepth 100000 in
/-- sizeOf(x) -/
theorem metX1_sizeOf (l : Launch) (h0 : Nat) (p1 : Int32) : Met l yX1_sizeOf (ws_ yX1_sizeOf cX1_sizeOf 4 (some .int)) ({ frames := 0, cells := 0, slots := 0, locals := 0 }) (va_Pc [.ref h0, .int p1] (fun _ => True)) (vp_Si (fun (r : Int32) => r = tc_sz p1 6)) 0 0 (fun _ => False) := by
  refine Met.ofW (cc := cX1_sizeOf) (maxL := 4) (ret := (some .int)) (by decide) rfl ?_
  intro p e s m args below meth c s₁ B hml hv
  obtain ⟨rfl, -⟩ := hv
  have hx := B.exec
  have hb := B.bytes
  have hr := B.returns
  have hts := atoms_spec (ws := ws_ yX1_sizeOf cX1_sizeOf 4 (some .int)) B.pre
  have hts : ∀ w ∈ lw_all, w.before _ s = true := fun w h => hts w (List.mem_cons_of_mem _ h)
  have hown : s.vm.findClass RX1 = some m.cls := findClass_of_methodNamed B.named
  have hlocks := B.notSynchronized
  have hl := lv_entry ([.ref h0, .int p1]) (n := 4) (Nat.le_of_ble_eq_true rfl)
  rw [lg_entry_eq]
  generalize (lg_sl ([.ref h0, .int p1]) ++ List.replicate (4 - (lg_sl ([.ref h0, .int p1])).length) Slot.unset).toArray = ls at hl ⊢
  have hl : lv_has ls 4 [(0, .ref h0), (1, .int p1)] := hl
  refine lv_iconst (v := 0) hx hb dX1_sizeOf_0 (by decide) ?_
  refine lv_istore_n (lv' := [(2, .int (0 : Int32)), (0, .ref h0), (1, .int p1)]) hx hb dX1_sizeOf_1 rfl hl (by decide) rfl (fun ls hl => ?_)
  refine lv_iconst (v := 0) hx hb dX1_sizeOf_2 (by decide) ?_
  refine lv_istore_n (lv' := [(3, .int (0 : Int32)), (2, .int (0 : Int32)), (0, .ref h0), (1, .int p1)]) hx hb dX1_sizeOf_3 rfl hl (by decide) rfl (fun ls hl => ?_)
  have hl : lv_has ls 4 [(0, .ref h0), (1, .int p1), (2, .int (0 : Int32)), (3, .int (0 : Int32))] := lv_sub hl [2, 3, 1, 0] rfl
  have hl : lv_has ls 4 [(0, .ref h0), (1, .int p1), (2, .int (tc_sz p1 0)), (3, .int (nI 0))] := hl
  refine tw_loop (pc := 4) 6 (fun i ls => lv_has ls 4 [(0, .ref h0), (1, .int p1), (2, .int (tc_sz p1 i)), (3, .int (nI i))]) (fun ls hp => ?_) (fun i ls hi_i hp ih_i => ?_) 6 0 ls (by omega) hl
  · have hl := hp
    have hl : lv_has ls 4 [(0, .ref h0), (1, .int p1), (2, .int (tc_sz p1 6)), (3, .int (nI 6))] := hl
    refine lv_iload_n hx hb dX1_sizeOf_4 rfl (lv_at hl 3 rfl) ?_
    refine lv_bipush (v := 6) hx hb dX1_sizeOf_5 (by decide) ?_
    refine lv_icmp_ge (tgt := 24) hx hb dX1_sizeOf_7 (by decide) (fun _ => ?_) (fun c => absurd (nI_le (a := 6) (b := 6) (by decide) (by decide)) c)
    refine lv_iload_n hx hb dX1_sizeOf_24 rfl (lv_at hl 2 rfl) ?_
    exact W.iret (v := tc_sz p1 6) hx hb hr (fun t ht hW => ⟨tc_sz p1 6, rfl, rfl, ht⟩) (fun _ h => by cases h) dX1_sizeOf_25
  · have hl := hp
    have hl : lv_has ls 4 [(0, .ref h0), (1, .int p1), (2, .int (tc_sz p1 i)), (3, .int (nI i))] := hl
    refine lv_iload_n hx hb dX1_sizeOf_4 rfl (lv_at hl 3 rfl) ?_
    refine lv_bipush (v := 6) hx hb dX1_sizeOf_5 (by decide) ?_
    refine lv_icmp_ge (tgt := 24) hx hb dX1_sizeOf_7 (by decide) (fun c => absurd c (nI_ge (a := i) (b := 6) (by omega) (by decide))) (fun _ => ?_)
    refine lv_iload_n hx hb dX1_sizeOf_10 rfl (lv_at hl 2 rfl) ?_
    refine lv_iload_n hx hb dX1_sizeOf_11 rfl (lv_at hl 1 rfl) ?_
    refine lv_iload_n hx hb dX1_sizeOf_12 rfl (lv_at hl 3 rfl) ?_
    refine lv_ishr hx hb dX1_sizeOf_13 ?_
    refine lv_iconst (v := 1) hx hb dX1_sizeOf_14 (by decide) ?_
    refine lv_iand hx hb dX1_sizeOf_15 ?_
    refine lv_iadd hx hb dX1_sizeOf_16 ?_
    refine lv_istore_n (lv' := [(2, .int ((tc_sz p1 i) + ((p1 >>> ((nI i) &&& 31)) &&& (1 : Int32)))), (0, .ref h0), (1, .int p1), (3, .int (nI i))]) hx hb dX1_sizeOf_17 rfl hl (by decide) rfl (fun ls hl => ?_)
    refine lv_iinc (v := nI (i + 1)) (lv' := [(3, .int (nI (i + 1))), (2, .int ((tc_sz p1 i) + ((p1 >>> ((nI i) &&& 31)) &&& (1 : Int32)))), (0, .ref h0), (1, .int p1)]) hx hb dX1_sizeOf_18 hl (k := 3) rfl (nI_1 i) (by decide) rfl (fun ls hl => ?_)
    refine lv_goto (tgt := 4) hx hb dX1_sizeOf_21 (by decide) ?_
    have hl : lv_has ls 4 [(0, .ref h0), (1, .int p1), (2, .int ((tc_sz p1 i) + ((p1 >>> ((nI i) &&& 31)) &&& (1 : Int32)))), (3, .int (nI (i + 1)))] := lv_sub hl [2, 3, 1, 0] rfl
    exact ih_i ls (tw_has hl (by rw [tc_sz_s _ i]))
set_option maxHeartbeats 4000000 in
set_option maxRecDepth 100000 in
/-- product(a, x) -/
theorem metX1_product (l : Launch) (dC : Nat → ClassId) (dI : Nat → Nat → Nat) (h0 q1 q2 : Nat) (e1 e2 : ClassId) (a b : Nat → Int32) (p1 : Int32) (p2 : Int32) : Met l yX1_product (ws_ yX1_product cX1_product 3 (some .int)) ({ frames := 1, cells := 0, slots := 0, locals := 23 }) (va_Pc [.ref h0, .int p1, .int p2] (tw_RM dC dI h0 q1 q2 e1 e2 a b)) (vp_Si (fun (r : Int32) => r = tm_pr p1 p2)) 0 0 (fun _ => False) := by
  refine Met.ofW (cc := cX1_product) (maxL := 3) (ret := (some .int)) (by decide) rfl ?_
  intro p e s m args below meth c s₁ B hml hv
  obtain ⟨rfl, hP, hK⟩ := hv
  have hx := B.exec
  have hb := B.bytes
  have hr := B.returns
  have hts := atoms_spec (ws := ws_ yX1_product cX1_product 3 (some .int)) B.pre
  have hts : ∀ w ∈ lw_all, w.before _ s = true := fun w h => hts w (List.mem_cons_of_mem _ h)
  have hown : s.vm.findClass RX1 = some m.cls := findClass_of_methodNamed B.named
  have hlocks := B.notSynchronized
  have hl := lv_entry ([.ref h0, .int p1, .int p2]) (n := 3) (Nat.le_of_ble_eq_true rfl)
  rw [lg_entry_eq]
  generalize (lg_sl ([.ref h0, .int p1, .int p2]) ++ List.replicate (3 - (lg_sl ([.ref h0, .int p1, .int p2])).length) Slot.unset).toArray = ls at hl ⊢
  have hl : lv_has ls 3 [(0, .ref h0), (1, .int p1), (2, .int p2)] := hl
  refine lv_aload_n hx hb dX1_product_0 rfl (lv_at hl 0 rfl) ?_
  refine lv_iload_n hx hb dX1_product_1 rfl (lv_at hl 1 rfl) ?_
  refine lv_iload_n hx hb dX1_product_2 rfl (lv_at hl 2 rfl) ?_
  refine lv_iand hx hb dX1_product_3 ?_
  refine vp_callSi (W.runV (As := [.int (p1 &&& p2)]) (rest := []) ⟨hx, hb, hml, hown, hts⟩ (metX1_sizeOf l h0 (p1 &&& p2)) (cwV 1 hts (lw_V q220 q222 qs18 q26 q223) rfl rfl rfl (by decide +kernel) ⟨Nat.le_of_ble_eq_true rfl, Nat.le_of_ble_eq_true rfl⟩) (tw_pre0M hK hP _) rfl rfl hl.1 rfl (lv_room (Nat.le_of_ble_eq_true rfl)) dX1_product_4 ⟨Nat.le_of_ble_eq_true rfl, Nat.le_of_ble_eq_true rfl⟩) (fun r_1 hr_1 => ?_)
  rw [hr_1]
  refine lv_iconst (v := 1) hx hb dX1_product_7 (by decide) ?_
  refine lv_iand hx hb dX1_product_8 ?_
  exact W.iret (v := ((tc_sz (p1 &&& p2) 6) &&& (1 : Int32))) hx hb hr (fun t ht hW => ⟨((tc_sz (p1 &&& p2) 6) &&& (1 : Int32)), rfl, rfl, ht⟩) (fun _ h => by cases h) dX1_product_9
set_option maxHeartbeats 4000000 in
set_option maxRecDepth 100000 in
/-- countOnes(t) -/
theorem metX1_countOnes (l : Launch) (dC : Nat → ClassId) (dI : Nat → Nat → Nat) (h0 q1 q2 : Nat) (e1 e2 : ClassId) (a b : Nat → Int32) (p1 : Int32) (h1 : vp_in p1 4) : Met l yX1_countOnes (ws_ yX1_countOnes cX1_countOnes 4 (some .int)) ({ frames := 0, cells := 0, slots := 0, locals := 0 }) (va_Pc [.ref h0, .int p1] (tw_RM dC dI h0 q1 q2 e1 e2 a b)) (vp_Si (fun (r : Int32) => r = tm_co a p1 64)) 0 0 (fun _ => False) := by
  refine Met.ofW (cc := cX1_countOnes) (maxL := 4) (ret := (some .int)) (by decide) rfl ?_
  intro p e s m args below meth c s₁ B hml hv
  obtain ⟨rfl, hP, hK⟩ := hv
  have hx := B.exec
  have hb := B.bytes
  have hr := B.returns
  have hts := atoms_spec (ws := ws_ yX1_countOnes cX1_countOnes 4 (some .int)) B.pre
  have hts : ∀ w ∈ lw_all, w.before _ s = true := fun w h => hts w (List.mem_cons_of_mem _ h)
  have hown : s.vm.findClass RX1 = some m.cls := findClass_of_methodNamed B.named
  have hlocks := B.notSynchronized
  have hl := lv_entry ([.ref h0, .int p1]) (n := 4) (Nat.le_of_ble_eq_true rfl)
  rw [lg_entry_eq]
  generalize (lg_sl ([.ref h0, .int p1]) ++ List.replicate (4 - (lg_sl ([.ref h0, .int p1])).length) Slot.unset).toArray = ls at hl ⊢
  have hl : lv_has ls 4 [(0, .ref h0), (1, .int p1)] := hl
  refine lv_iconst (v := 0) hx hb dX1_countOnes_0 (by decide) ?_
  refine lv_istore_n (lv' := [(2, .int (0 : Int32)), (0, .ref h0), (1, .int p1)]) hx hb dX1_countOnes_1 rfl hl (by decide) rfl (fun ls hl => ?_)
  refine lv_iconst (v := 0) hx hb dX1_countOnes_2 (by decide) ?_
  refine lv_istore_n (lv' := [(3, .int (0 : Int32)), (2, .int (0 : Int32)), (0, .ref h0), (1, .int p1)]) hx hb dX1_countOnes_3 rfl hl (by decide) rfl (fun ls hl => ?_)
  have hl : lv_has ls 4 [(0, .ref h0), (1, .int p1), (2, .int (0 : Int32)), (3, .int (0 : Int32))] := lv_sub hl [2, 3, 1, 0] rfl
  have hl : lv_has ls 4 [(0, .ref h0), (1, .int p1), (2, .int (tm_co a p1 0)), (3, .int (nI 0))] := hl
  refine tw_loop (pc := 4) 64 (fun i ls => lv_has ls 4 [(0, .ref h0), (1, .int p1), (2, .int (tm_co a p1 i)), (3, .int (nI i))]) (fun ls hp => ?_) (fun i ls hi_i hp ih_i => ?_) 64 0 ls (by omega) hl
  · have hl := hp
    have hl : lv_has ls 4 [(0, .ref h0), (1, .int p1), (2, .int (tm_co a p1 64)), (3, .int (nI 64))] := hl
    refine lv_iload_n hx hb dX1_countOnes_4 rfl (lv_at hl 3 rfl) ?_
    refine lv_bipush (v := 64) hx hb dX1_countOnes_5 (by decide) ?_
    refine lv_icmp_ge (tgt := 30) hx hb dX1_countOnes_7 (by decide) (fun _ => ?_) (fun c => absurd (nI_le (a := 64) (b := 64) (by decide) (by decide)) c)
    refine lv_iload_n hx hb dX1_countOnes_30 rfl (lv_at hl 2 rfl) ?_
    exact W.iret (v := tm_co a p1 64) hx hb hr (fun t ht hW => ⟨tm_co a p1 64, rfl, rfl, ht⟩) (fun _ h => by cases h) dX1_countOnes_31
  · have hl := hp
    have hl : lv_has ls 4 [(0, .ref h0), (1, .int p1), (2, .int (tm_co a p1 i)), (3, .int (nI i))] := hl
    refine lv_iload_n hx hb dX1_countOnes_4 rfl (lv_at hl 3 rfl) ?_
    refine lv_bipush (v := 64) hx hb dX1_countOnes_5 (by decide) ?_
    refine lv_icmp_ge (tgt := 30) hx hb dX1_countOnes_7 (by decide) (fun c => absurd c (nI_ge (a := i) (b := 64) (by omega) (by decide))) (fun _ => ?_)
    refine lv_iload_n hx hb dX1_countOnes_10 rfl (lv_at hl 2 rfl) ?_
    refine lv_aload_n hx hb dX1_countOnes_11 rfl (lv_at hl 0 rfl) ?_
    refine va_get (D := (dC, dI)) (ci := 1) (v := .ref q1) (C := RX1) (T := TX1) (N := 2) hx hb hts in_X1 hown hK hP 0 rfl rfl 0 (by decide) (hts _ q177) (fun _ h9 => h9) rfl dX1_countOnes_12 ?_
    refine lv_bipush (v := 64) hx hb dX1_countOnes_15 (by decide) ?_
    refine lv_iload_n hx hb dX1_countOnes_17 rfl (lv_at hl 1 rfl) ?_
    refine lv_imul hx hb dX1_countOnes_18 ?_
    refine lv_iload_n hx hb dX1_countOnes_19 rfl (lv_at hl 3 rfl) ?_
    refine lv_iadd hx hb dX1_countOnes_20 ?_
    refine va_iald hx hb hK hP 1 0 rfl rfl (tw_ix h1 (show i < 64 by omega)) dX1_countOnes_21 ?_
    refine lv_iadd hx hb dX1_countOnes_22 ?_
    refine lv_istore_n (lv' := [(2, .int ((tm_co a p1 i) + (a (((64 : Int32) * p1) + (nI i)).toNatClampNeg))), (0, .ref h0), (1, .int p1), (3, .int (nI i))]) hx hb dX1_countOnes_23 rfl hl (by decide) rfl (fun ls hl => ?_)
    refine lv_iinc (v := nI (i + 1)) (lv' := [(3, .int (nI (i + 1))), (2, .int ((tm_co a p1 i) + (a (((64 : Int32) * p1) + (nI i)).toNatClampNeg))), (0, .ref h0), (1, .int p1)]) hx hb dX1_countOnes_24 hl (k := 3) rfl (nI_1 i) (by decide) rfl (fun ls hl => ?_)
    refine lv_goto (tgt := 4) hx hb dX1_countOnes_27 (by decide) ?_
    have hl : lv_has ls 4 [(0, .ref h0), (1, .int p1), (2, .int ((tm_co a p1 i) + (a (((64 : Int32) * p1) + (nI i)).toNatClampNeg))), (3, .int (nI (i + 1)))] := lv_sub hl [2, 3, 1, 0] rfl
    exact ih_i ls (tw_has hl (by rw [tm_co_s _ _ i]))
set_option maxHeartbeats 4000000 in
set_option maxRecDepth 100000 in
/-- formAt(t, u) -/
theorem metX1_formAt (l : Launch) (dC : Nat → ClassId) (dI : Nat → Nat → Nat) (h0 q1 q2 : Nat) (e1 e2 : ClassId) (a b : Nat → Int32) (p1 : Int32) (p2 : Int32) (h1 : vp_in p1 4) : Met l yX1_formAt (ws_ yX1_formAt cX1_formAt 5 (some .int)) ({ frames := 0, cells := 0, slots := 0, locals := 0 }) (va_Pc [.ref h0, .int p1, .int p2] (tw_RM dC dI h0 q1 q2 e1 e2 a b)) (vp_Si (fun (r : Int32) => r = tm_fa a p1 p2 64)) 0 0 (fun _ => False) := by
  refine Met.ofW (cc := cX1_formAt) (maxL := 5) (ret := (some .int)) (by decide) rfl ?_
  intro p e s m args below meth c s₁ B hml hv
  obtain ⟨rfl, hP, hK⟩ := hv
  have hx := B.exec
  have hb := B.bytes
  have hr := B.returns
  have hts := atoms_spec (ws := ws_ yX1_formAt cX1_formAt 5 (some .int)) B.pre
  have hts : ∀ w ∈ lw_all, w.before _ s = true := fun w h => hts w (List.mem_cons_of_mem _ h)
  have hown : s.vm.findClass RX1 = some m.cls := findClass_of_methodNamed B.named
  have hlocks := B.notSynchronized
  have hl := lv_entry ([.ref h0, .int p1, .int p2]) (n := 5) (Nat.le_of_ble_eq_true rfl)
  rw [lg_entry_eq]
  generalize (lg_sl ([.ref h0, .int p1, .int p2]) ++ List.replicate (5 - (lg_sl ([.ref h0, .int p1, .int p2])).length) Slot.unset).toArray = ls at hl ⊢
  have hl : lv_has ls 5 [(0, .ref h0), (1, .int p1), (2, .int p2)] := hl
  refine lv_iconst (v := 0) hx hb dX1_formAt_0 (by decide) ?_
  refine lv_istore_n (lv' := [(3, .int (0 : Int32)), (0, .ref h0), (1, .int p1), (2, .int p2)]) hx hb dX1_formAt_1 rfl hl (by decide) rfl (fun ls hl => ?_)
  refine lv_iconst (v := 0) hx hb dX1_formAt_2 (by decide) ?_
  refine lv_istore (lv' := [(4, .int (0 : Int32)), (3, .int (0 : Int32)), (0, .ref h0), (1, .int p1), (2, .int p2)]) hx hb dX1_formAt_3 hl (by decide) rfl (fun ls hl => ?_)
  have hl : lv_has ls 5 [(0, .ref h0), (1, .int p1), (2, .int p2), (3, .int (0 : Int32)), (4, .int (0 : Int32))] := lv_sub hl [2, 3, 4, 1, 0] rfl
  have hl : lv_has ls 5 [(0, .ref h0), (1, .int p1), (2, .int p2), (3, .int (tm_fa a p1 p2 0)), (4, .int (nI 0))] := hl
  refine tw_loop (pc := 5) 64 (fun i ls => lv_has ls 5 [(0, .ref h0), (1, .int p1), (2, .int p2), (3, .int (tm_fa a p1 p2 i)), (4, .int (nI i))]) (fun ls hp => ?_) (fun i ls hi_i hp ih_i => ?_) 64 0 ls (by omega) hl
  · have hl := hp
    have hl : lv_has ls 5 [(0, .ref h0), (1, .int p1), (2, .int p2), (3, .int (tm_fa a p1 p2 64)), (4, .int (nI 64))] := hl
    refine lv_iload hx hb dX1_formAt_5 (lv_at hl 4 rfl) ?_
    refine lv_bipush (v := 64) hx hb dX1_formAt_7 (by decide) ?_
    refine lv_icmp_ge (tgt := 46) hx hb dX1_formAt_9 (by decide) (fun _ => ?_) (fun c => absurd (nI_le (a := 64) (b := 64) (by decide) (by decide)) c)
    refine lv_iload_n hx hb dX1_formAt_46 rfl (lv_at hl 3 rfl) ?_
    exact W.iret (v := tm_fa a p1 p2 64) hx hb hr (fun t ht hW => ⟨tm_fa a p1 p2 64, rfl, rfl, ht⟩) (fun _ h => by cases h) dX1_formAt_47
  · have hl := hp
    have hl : lv_has ls 5 [(0, .ref h0), (1, .int p1), (2, .int p2), (3, .int (tm_fa a p1 p2 i)), (4, .int (nI i))] := hl
    refine lv_iload hx hb dX1_formAt_5 (lv_at hl 4 rfl) ?_
    refine lv_bipush (v := 64) hx hb dX1_formAt_7 (by decide) ?_
    refine lv_icmp_ge (tgt := 46) hx hb dX1_formAt_9 (by decide) (fun c => absurd c (nI_ge (a := i) (b := 64) (by omega) (by decide))) (fun _ => ?_)
    refine lv_iload hx hb dX1_formAt_12 (lv_at hl 4 rfl) ?_
    refine lv_iload_n hx hb dX1_formAt_14 rfl (lv_at hl 2 rfl) ?_
    refine lv_iconst (v := -1) hx hb dX1_formAt_15 (by decide) ?_
    refine lv_ixor hx hb dX1_formAt_16 ?_
    refine lv_iand hx hb dX1_formAt_17 ?_
    refine lv_if_ne (tgt := 38) hx hb dX1_formAt_18 (by decide) (fun c_1 => ?_) (fun c_1 => ?_)
    · refine lv_iload_n hx hb dX1_formAt_38 rfl (lv_at hl 3 rfl) ?_
      refine lv_istore_n (lv' := [(3, .int (tm_fa a p1 p2 i)), (0, .ref h0), (1, .int p1), (2, .int p2), (4, .int (nI i))]) hx hb dX1_formAt_39 rfl hl (by decide) rfl (fun ls hl => ?_)
      refine lv_iinc (v := nI (i + 1)) (lv' := [(4, .int (nI (i + 1))), (3, .int (tm_fa a p1 p2 i)), (0, .ref h0), (1, .int p1), (2, .int p2)]) hx hb dX1_formAt_40 hl (k := 4) rfl (nI_1 i) (by decide) rfl (fun ls hl => ?_)
      refine lv_goto (tgt := 5) hx hb dX1_formAt_43 (by decide) ?_
      have hl : lv_has ls 5 [(0, .ref h0), (1, .int p1), (2, .int p2), (3, .int (tm_fa a p1 p2 i)), (4, .int (nI (i + 1)))] := lv_sub hl [2, 3, 4, 1, 0] rfl
      exact ih_i ls (tw_has hl (by rw [tm_fa_s _ _ _ i, if_neg c_1]))
    · refine lv_iload_n hx hb dX1_formAt_21 rfl (lv_at hl 3 rfl) ?_
      refine lv_aload_n hx hb dX1_formAt_22 rfl (lv_at hl 0 rfl) ?_
      refine va_get (D := (dC, dI)) (ci := 1) (v := .ref q1) (C := RX1) (T := TX1) (N := 2) hx hb hts in_X1 hown hK hP 0 rfl rfl 0 (by decide) (hts _ q177) (fun _ h9 => h9) rfl dX1_formAt_23 ?_
      refine lv_bipush (v := 64) hx hb dX1_formAt_26 (by decide) ?_
      refine lv_iload_n hx hb dX1_formAt_28 rfl (lv_at hl 1 rfl) ?_
      refine lv_imul hx hb dX1_formAt_29 ?_
      refine lv_iload hx hb dX1_formAt_30 (lv_at hl 4 rfl) ?_
      refine lv_iadd hx hb dX1_formAt_32 ?_
      refine va_iald hx hb hK hP 1 0 rfl rfl (tw_ix h1 (show i < 64 by omega)) dX1_formAt_33 ?_
      refine lv_ixor hx hb dX1_formAt_34 ?_
      refine lv_goto (tgt := 39) hx hb dX1_formAt_35 (by decide) ?_
      refine lv_istore_n (lv' := [(3, .int ((tm_fa a p1 p2 i) ^^^ (a (((64 : Int32) * p1) + (nI i)).toNatClampNeg))), (0, .ref h0), (1, .int p1), (2, .int p2), (4, .int (nI i))]) hx hb dX1_formAt_39 rfl hl (by decide) rfl (fun ls hl => ?_)
      refine lv_iinc (v := nI (i + 1)) (lv' := [(4, .int (nI (i + 1))), (3, .int ((tm_fa a p1 p2 i) ^^^ (a (((64 : Int32) * p1) + (nI i)).toNatClampNeg))), (0, .ref h0), (1, .int p1), (2, .int p2)]) hx hb dX1_formAt_40 hl (k := 4) rfl (nI_1 i) (by decide) rfl (fun ls hl => ?_)
      refine lv_goto (tgt := 5) hx hb dX1_formAt_43 (by decide) ?_
      have hl : lv_has ls 5 [(0, .ref h0), (1, .int p1), (2, .int p2), (3, .int ((tm_fa a p1 p2 i) ^^^ (a (((64 : Int32) * p1) + (nI i)).toNatClampNeg))), (4, .int (nI (i + 1)))] := lv_sub hl [2, 3, 4, 1, 0] rfl
      exact ih_i ls (tw_has hl (by rw [tm_fa_s _ _ _ i, if_pos c_1]))
set_option maxHeartbeats 4000000 in
set_option maxRecDepth 100000 in
/-- spectrumAt(t, a) -/
theorem metX1_spectrumAt (l : Launch) (dC : Nat → ClassId) (dI : Nat → Nat → Nat) (h0 q1 q2 : Nat) (e1 e2 : ClassId) (a b : Nat → Int32) (p1 : Int32) (p2 : Int32) (h1 : vp_in p1 4) : Met l yX1_spectrumAt (ws_ yX1_spectrumAt cX1_spectrumAt 5 (some .int)) ({ frames := 2, cells := 0, slots := 0, locals := 45 }) (va_Pc [.ref h0, .int p1, .int p2] (tw_RM dC dI h0 q1 q2 e1 e2 a b)) (vp_Si (fun (r : Int32) => r = tm_sa a p1 p2 64)) 0 0 (fun _ => False) := by
  refine Met.ofW (cc := cX1_spectrumAt) (maxL := 5) (ret := (some .int)) (by decide) rfl ?_
  intro p e s m args below meth c s₁ B hml hv
  obtain ⟨rfl, hP, hK⟩ := hv
  have hx := B.exec
  have hb := B.bytes
  have hr := B.returns
  have hts := atoms_spec (ws := ws_ yX1_spectrumAt cX1_spectrumAt 5 (some .int)) B.pre
  have hts : ∀ w ∈ lw_all, w.before _ s = true := fun w h => hts w (List.mem_cons_of_mem _ h)
  have hown : s.vm.findClass RX1 = some m.cls := findClass_of_methodNamed B.named
  have hlocks := B.notSynchronized
  have hl := lv_entry ([.ref h0, .int p1, .int p2]) (n := 5) (Nat.le_of_ble_eq_true rfl)
  rw [lg_entry_eq]
  generalize (lg_sl ([.ref h0, .int p1, .int p2]) ++ List.replicate (5 - (lg_sl ([.ref h0, .int p1, .int p2])).length) Slot.unset).toArray = ls at hl ⊢
  have hl : lv_has ls 5 [(0, .ref h0), (1, .int p1), (2, .int p2)] := hl
  refine lv_iconst (v := 0) hx hb dX1_spectrumAt_0 (by decide) ?_
  refine lv_istore_n (lv' := [(3, .int (0 : Int32)), (0, .ref h0), (1, .int p1), (2, .int p2)]) hx hb dX1_spectrumAt_1 rfl hl (by decide) rfl (fun ls hl => ?_)
  refine lv_iconst (v := 0) hx hb dX1_spectrumAt_2 (by decide) ?_
  refine lv_istore (lv' := [(4, .int (0 : Int32)), (3, .int (0 : Int32)), (0, .ref h0), (1, .int p1), (2, .int p2)]) hx hb dX1_spectrumAt_3 hl (by decide) rfl (fun ls hl => ?_)
  have hl : lv_has ls 5 [(0, .ref h0), (1, .int p1), (2, .int p2), (3, .int (0 : Int32)), (4, .int (0 : Int32))] := lv_sub hl [2, 3, 4, 1, 0] rfl
  have hl : lv_has ls 5 [(0, .ref h0), (1, .int p1), (2, .int p2), (3, .int (tm_sa a p1 p2 0)), (4, .int (nI 0))] := hl
  refine tw_loop (pc := 5) 64 (fun i ls => lv_has ls 5 [(0, .ref h0), (1, .int p1), (2, .int p2), (3, .int (tm_sa a p1 p2 i)), (4, .int (nI i))]) (fun ls hp => ?_) (fun i ls hi_i hp ih_i => ?_) 64 0 ls (by omega) hl
  · have hl := hp
    have hl : lv_has ls 5 [(0, .ref h0), (1, .int p1), (2, .int p2), (3, .int (tm_sa a p1 p2 64)), (4, .int (nI 64))] := hl
    refine lv_iload hx hb dX1_spectrumAt_5 (lv_at hl 4 rfl) ?_
    refine lv_bipush (v := 64) hx hb dX1_spectrumAt_7 (by decide) ?_
    refine lv_icmp_ge (tgt := 50) hx hb dX1_spectrumAt_9 (by decide) (fun _ => ?_) (fun c => absurd (nI_le (a := 64) (b := 64) (by decide) (by decide)) c)
    refine lv_iload_n hx hb dX1_spectrumAt_50 rfl (lv_at hl 3 rfl) ?_
    exact W.iret (v := tm_sa a p1 p2 64) hx hb hr (fun t ht hW => ⟨tm_sa a p1 p2 64, rfl, rfl, ht⟩) (fun _ h => by cases h) dX1_spectrumAt_51
  · have hl := hp
    have hl : lv_has ls 5 [(0, .ref h0), (1, .int p1), (2, .int p2), (3, .int (tm_sa a p1 p2 i)), (4, .int (nI i))] := hl
    refine lv_iload hx hb dX1_spectrumAt_5 (lv_at hl 4 rfl) ?_
    refine lv_bipush (v := 64) hx hb dX1_spectrumAt_7 (by decide) ?_
    refine lv_icmp_ge (tgt := 50) hx hb dX1_spectrumAt_9 (by decide) (fun c => absurd c (nI_ge (a := i) (b := 64) (by omega) (by decide))) (fun _ => ?_)
    refine lv_aload_n hx hb dX1_spectrumAt_12 rfl (lv_at hl 0 rfl) ?_
    refine va_get (D := (dC, dI)) (ci := 1) (v := .ref q1) (C := RX1) (T := TX1) (N := 2) hx hb hts in_X1 hown hK hP 0 rfl rfl 0 (by decide) (hts _ q177) (fun _ h9 => h9) rfl dX1_spectrumAt_13 ?_
    refine lv_bipush (v := 64) hx hb dX1_spectrumAt_16 (by decide) ?_
    refine lv_iload_n hx hb dX1_spectrumAt_18 rfl (lv_at hl 1 rfl) ?_
    refine lv_imul hx hb dX1_spectrumAt_19 ?_
    refine lv_iload hx hb dX1_spectrumAt_20 (lv_at hl 4 rfl) ?_
    refine lv_iadd hx hb dX1_spectrumAt_22 ?_
    refine va_iald hx hb hK hP 1 0 rfl rfl (tw_ix h1 (show i < 64 by omega)) dX1_spectrumAt_23 ?_
    refine lv_aload_n hx hb dX1_spectrumAt_24 rfl (lv_at hl 0 rfl) ?_
    refine lv_iload_n hx hb dX1_spectrumAt_25 rfl (lv_at hl 2 rfl) ?_
    refine lv_iload hx hb dX1_spectrumAt_26 (lv_at hl 4 rfl) ?_
    refine vp_callSi (W.runV (As := [.int p2, .int (nI i)]) (rest := [.int (a (((64 : Int32) * p1) + (nI i)).toNatClampNeg)]) ⟨hx, hb, hml, hown, hts⟩ (metX1_product l dC dI h0 q1 q2 e1 e2 a b p2 (nI i)) (cwV 2 hts (lw_V q216 q218 qs17 q26 q219) rfl rfl rfl (by decide +kernel) ⟨Nat.le_of_ble_eq_true rfl, Nat.le_of_ble_eq_true rfl⟩) (tw_preM hK hP _) rfl rfl hl.1 rfl (lv_room (Nat.le_of_ble_eq_true rfl)) dX1_spectrumAt_28 ⟨Nat.le_of_ble_eq_true rfl, Nat.le_of_ble_eq_true rfl⟩) (fun r_1 hr_1 => ?_)
    rw [hr_1]
    refine lv_icmp_ne (tgt := 40) hx hb dX1_spectrumAt_31 (by decide) (fun c_2 => ?_) (fun c_2 => ?_)
    · refine lv_iload_n hx hb dX1_spectrumAt_40 rfl (lv_at hl 3 rfl) ?_
      refine lv_iconst (v := 1) hx hb dX1_spectrumAt_41 (by decide) ?_
      refine lv_isub hx hb dX1_spectrumAt_42 ?_
      refine lv_istore_n (lv' := [(3, .int ((tm_sa a p1 p2 i) - (1 : Int32))), (0, .ref h0), (1, .int p1), (2, .int p2), (4, .int (nI i))]) hx hb dX1_spectrumAt_43 rfl hl (by decide) rfl (fun ls hl => ?_)
      refine lv_iinc (v := nI (i + 1)) (lv' := [(4, .int (nI (i + 1))), (3, .int ((tm_sa a p1 p2 i) - (1 : Int32))), (0, .ref h0), (1, .int p1), (2, .int p2)]) hx hb dX1_spectrumAt_44 hl (k := 4) rfl (nI_1 i) (by decide) rfl (fun ls hl => ?_)
      refine lv_goto (tgt := 5) hx hb dX1_spectrumAt_47 (by decide) ?_
      have hl : lv_has ls 5 [(0, .ref h0), (1, .int p1), (2, .int p2), (3, .int ((tm_sa a p1 p2 i) - (1 : Int32))), (4, .int (nI (i + 1)))] := lv_sub hl [2, 3, 4, 1, 0] rfl
      exact ih_i ls (tw_has hl (by rw [tm_sa_s _ _ _ i, if_neg c_2]))
    · refine lv_iload_n hx hb dX1_spectrumAt_34 rfl (lv_at hl 3 rfl) ?_
      refine lv_iconst (v := 1) hx hb dX1_spectrumAt_35 (by decide) ?_
      refine lv_iadd hx hb dX1_spectrumAt_36 ?_
      refine lv_goto (tgt := 43) hx hb dX1_spectrumAt_37 (by decide) ?_
      refine lv_istore_n (lv' := [(3, .int ((tm_sa a p1 p2 i) + (1 : Int32))), (0, .ref h0), (1, .int p1), (2, .int p2), (4, .int (nI i))]) hx hb dX1_spectrumAt_43 rfl hl (by decide) rfl (fun ls hl => ?_)
      refine lv_iinc (v := nI (i + 1)) (lv' := [(4, .int (nI (i + 1))), (3, .int ((tm_sa a p1 p2 i) + (1 : Int32))), (0, .ref h0), (1, .int p1), (2, .int p2)]) hx hb dX1_spectrumAt_44 hl (k := 4) rfl (nI_1 i) (by decide) rfl (fun ls hl => ?_)
      refine lv_goto (tgt := 5) hx hb dX1_spectrumAt_47 (by decide) ?_
      have hl : lv_has ls 5 [(0, .ref h0), (1, .int p1), (2, .int p2), (3, .int ((tm_sa a p1 p2 i) + (1 : Int32))), (4, .int (nI (i + 1)))] := lv_sub hl [2, 3, 4, 1, 0] rfl
      exact ih_i ls (tw_has hl (by rw [tm_sa_s _ _ _ i, if_pos c_2]))
set_option maxHeartbeats 4000000 in
set_option maxRecDepth 100000 in
/-- changes(t, a) -/
theorem metX1_changes (l : Launch) (dC : Nat → ClassId) (dI : Nat → Nat → Nat) (h0 q1 q2 : Nat) (e1 e2 : ClassId) (a b : Nat → Int32) (p1 : Int32) (p2 : Int32) (h1 : vp_in p1 4) : Met l yX1_changes (ws_ yX1_changes cX1_changes 5 (some .int)) ({ frames := 2, cells := 0, slots := 0, locals := 45 }) (va_Pc [.ref h0, .int p1, .int p2] (tw_RM dC dI h0 q1 q2 e1 e2 a b)) (vp_Si (fun (r : Int32) => r = tm_chg a p1 p2)) 0 0 (fun _ => False) := by
  refine Met.ofW (cc := cX1_changes) (maxL := 5) (ret := (some .int)) (by decide) rfl ?_
  intro p e s m args below meth c s₁ B hml hv
  obtain ⟨rfl, hP, hK⟩ := hv
  have hx := B.exec
  have hb := B.bytes
  have hr := B.returns
  have hts := atoms_spec (ws := ws_ yX1_changes cX1_changes 5 (some .int)) B.pre
  have hts : ∀ w ∈ lw_all, w.before _ s = true := fun w h => hts w (List.mem_cons_of_mem _ h)
  have hown : s.vm.findClass RX1 = some m.cls := findClass_of_methodNamed B.named
  have hlocks := B.notSynchronized
  have hl := lv_entry ([.ref h0, .int p1, .int p2]) (n := 5) (Nat.le_of_ble_eq_true rfl)
  rw [lg_entry_eq]
  generalize (lg_sl ([.ref h0, .int p1, .int p2]) ++ List.replicate (5 - (lg_sl ([.ref h0, .int p1, .int p2])).length) Slot.unset).toArray = ls at hl ⊢
  have hl : lv_has ls 5 [(0, .ref h0), (1, .int p1), (2, .int p2)] := hl
  refine lv_iconst (v := 0) hx hb dX1_changes_0 (by decide) ?_
  refine lv_istore_n (lv' := [(3, .int (0 : Int32)), (0, .ref h0), (1, .int p1), (2, .int p2)]) hx hb dX1_changes_1 rfl hl (by decide) rfl (fun ls hl => ?_)
  refine lv_iconst (v := 0) hx hb dX1_changes_2 (by decide) ?_
  refine lv_istore (lv' := [(4, .int (0 : Int32)), (3, .int (0 : Int32)), (0, .ref h0), (1, .int p1), (2, .int p2)]) hx hb dX1_changes_3 hl (by decide) rfl (fun ls hl => ?_)
  have hl : lv_has ls 5 [(0, .ref h0), (1, .int p1), (2, .int p2), (3, .int (0 : Int32)), (4, .int (0 : Int32))] := lv_sub hl [2, 3, 4, 1, 0] rfl
  have hl : lv_has ls 5 [(0, .ref h0), (1, .int p1), (2, .int p2), (3, .int (tm_ch a p1 p2 0)), (4, .int (nI 0))] := hl
  refine tw_loop (pc := 5) 64 (fun i ls => lv_has ls 5 [(0, .ref h0), (1, .int p1), (2, .int p2), (3, .int (tm_ch a p1 p2 i)), (4, .int (nI i))]) (fun ls hp => ?_) (fun i ls hi_i hp ih_i => ?_) 64 0 ls (by omega) hl
  · have hl := hp
    have hl : lv_has ls 5 [(0, .ref h0), (1, .int p1), (2, .int p2), (3, .int (tm_ch a p1 p2 64)), (4, .int (nI 64))] := hl
    refine lv_iload hx hb dX1_changes_5 (lv_at hl 4 rfl) ?_
    refine lv_bipush (v := 64) hx hb dX1_changes_7 (by decide) ?_
    refine lv_icmp_ge (tgt := 48) hx hb dX1_changes_9 (by decide) (fun _ => ?_) (fun c => absurd (nI_le (a := 64) (b := 64) (by decide) (by decide)) c)
    refine lv_iload_n hx hb dX1_changes_48 rfl (lv_at hl 3 rfl) ?_
    refine lv_bipush (v := 64) hx hb dX1_changes_49 (by decide) ?_
    refine lv_iload_n hx hb dX1_changes_51 rfl (lv_at hl 3 rfl) ?_
    refine lv_isub hx hb dX1_changes_52 ?_
    refine lv_icmp_ge (tgt := 60) hx hb dX1_changes_53 (by decide) (fun c_1 => ?_) (fun c_1 => ?_)
    · refine lv_bipush (v := 64) hx hb dX1_changes_60 (by decide) ?_
      refine lv_iload_n hx hb dX1_changes_62 rfl (lv_at hl 3 rfl) ?_
      refine lv_isub hx hb dX1_changes_63 ?_
      exact W.iret (v := ((64 : Int32) - (tm_ch a p1 p2 64))) hx hb hr (fun t ht hW => ⟨((64 : Int32) - (tm_ch a p1 p2 64)), rfl, by rw [tm_chg, if_pos c_1], ht⟩) (fun _ h => by cases h) dX1_changes_64
    · refine lv_iload_n hx hb dX1_changes_56 rfl (lv_at hl 3 rfl) ?_
      refine lv_goto (tgt := 64) hx hb dX1_changes_57 (by decide) ?_
      exact W.iret (v := tm_ch a p1 p2 64) hx hb hr (fun t ht hW => ⟨tm_ch a p1 p2 64, rfl, by rw [tm_chg, if_neg c_1], ht⟩) (fun _ h => by cases h) dX1_changes_64
  · have hl := hp
    have hl : lv_has ls 5 [(0, .ref h0), (1, .int p1), (2, .int p2), (3, .int (tm_ch a p1 p2 i)), (4, .int (nI i))] := hl
    refine lv_iload hx hb dX1_changes_5 (lv_at hl 4 rfl) ?_
    refine lv_bipush (v := 64) hx hb dX1_changes_7 (by decide) ?_
    refine lv_icmp_ge (tgt := 48) hx hb dX1_changes_9 (by decide) (fun c => absurd c (nI_ge (a := i) (b := 64) (by omega) (by decide))) (fun _ => ?_)
    refine lv_aload_n hx hb dX1_changes_12 rfl (lv_at hl 0 rfl) ?_
    refine va_get (D := (dC, dI)) (ci := 1) (v := .ref q1) (C := RX1) (T := TX1) (N := 2) hx hb hts in_X1 hown hK hP 0 rfl rfl 0 (by decide) (hts _ q177) (fun _ h9 => h9) rfl dX1_changes_13 ?_
    refine lv_bipush (v := 64) hx hb dX1_changes_16 (by decide) ?_
    refine lv_iload_n hx hb dX1_changes_18 rfl (lv_at hl 1 rfl) ?_
    refine lv_imul hx hb dX1_changes_19 ?_
    refine lv_iload hx hb dX1_changes_20 (lv_at hl 4 rfl) ?_
    refine lv_iadd hx hb dX1_changes_22 ?_
    refine va_iald hx hb hK hP 1 0 rfl rfl (tw_ix h1 (show i < 64 by omega)) dX1_changes_23 ?_
    refine lv_aload_n hx hb dX1_changes_24 rfl (lv_at hl 0 rfl) ?_
    refine lv_iload_n hx hb dX1_changes_25 rfl (lv_at hl 2 rfl) ?_
    refine lv_iload hx hb dX1_changes_26 (lv_at hl 4 rfl) ?_
    refine vp_callSi (W.runV (As := [.int p2, .int (nI i)]) (rest := [.int (a (((64 : Int32) * p1) + (nI i)).toNatClampNeg)]) ⟨hx, hb, hml, hown, hts⟩ (metX1_product l dC dI h0 q1 q2 e1 e2 a b p2 (nI i)) (cwV 2 hts (lw_V q216 q218 qs17 q26 q219) rfl rfl rfl (by decide +kernel) ⟨Nat.le_of_ble_eq_true rfl, Nat.le_of_ble_eq_true rfl⟩) (tw_preM hK hP _) rfl rfl hl.1 rfl (lv_room (Nat.le_of_ble_eq_true rfl)) dX1_changes_28 ⟨Nat.le_of_ble_eq_true rfl, Nat.le_of_ble_eq_true rfl⟩) (fun r_2 hr_2 => ?_)
    rw [hr_2]
    refine lv_icmp_eq (tgt := 40) hx hb dX1_changes_31 (by decide) (fun c_3 => ?_) (fun c_3 => ?_)
    · refine lv_iload_n hx hb dX1_changes_40 rfl (lv_at hl 3 rfl) ?_
      refine lv_istore_n (lv' := [(3, .int (tm_ch a p1 p2 i)), (0, .ref h0), (1, .int p1), (2, .int p2), (4, .int (nI i))]) hx hb dX1_changes_41 rfl hl (by decide) rfl (fun ls hl => ?_)
      refine lv_iinc (v := nI (i + 1)) (lv' := [(4, .int (nI (i + 1))), (3, .int (tm_ch a p1 p2 i)), (0, .ref h0), (1, .int p1), (2, .int p2)]) hx hb dX1_changes_42 hl (k := 4) rfl (nI_1 i) (by decide) rfl (fun ls hl => ?_)
      refine lv_goto (tgt := 5) hx hb dX1_changes_45 (by decide) ?_
      have hl : lv_has ls 5 [(0, .ref h0), (1, .int p1), (2, .int p2), (3, .int (tm_ch a p1 p2 i)), (4, .int (nI (i + 1)))] := lv_sub hl [2, 3, 4, 1, 0] rfl
      exact ih_i ls (tw_has hl (by rw [tm_ch_s _ _ _ i, if_pos c_3]))
    · refine lv_iload_n hx hb dX1_changes_34 rfl (lv_at hl 3 rfl) ?_
      refine lv_iconst (v := 1) hx hb dX1_changes_35 (by decide) ?_
      refine lv_iadd hx hb dX1_changes_36 ?_
      refine lv_goto (tgt := 41) hx hb dX1_changes_37 (by decide) ?_
      refine lv_istore_n (lv' := [(3, .int ((tm_ch a p1 p2 i) + (1 : Int32))), (0, .ref h0), (1, .int p1), (2, .int p2), (4, .int (nI i))]) hx hb dX1_changes_41 rfl hl (by decide) rfl (fun ls hl => ?_)
      refine lv_iinc (v := nI (i + 1)) (lv' := [(4, .int (nI (i + 1))), (3, .int ((tm_ch a p1 p2 i) + (1 : Int32))), (0, .ref h0), (1, .int p1), (2, .int p2)]) hx hb dX1_changes_42 hl (k := 4) rfl (nI_1 i) (by decide) rfl (fun ls hl => ?_)
      refine lv_goto (tgt := 5) hx hb dX1_changes_45 (by decide) ?_
      have hl : lv_has ls 5 [(0, .ref h0), (1, .int p1), (2, .int p2), (3, .int ((tm_ch a p1 p2 i) + (1 : Int32))), (4, .int (nI (i + 1)))] := lv_sub hl [2, 3, 4, 1, 0] rfl
      exact ih_i ls (tw_has hl (by rw [tm_ch_s _ _ _ i, if_neg c_3]))
set_option maxHeartbeats 4000000 in
set_option maxRecDepth 100000 in
/-- sames(t, a) -/
theorem metX1_sames (l : Launch) (dC : Nat → ClassId) (dI : Nat → Nat → Nat) (h0 q1 q2 : Nat) (e1 e2 : ClassId) (a b : Nat → Int32) (p1 : Int32) (p2 : Int32) (h1 : vp_in p1 4) (h2 : vp_in p2 64) : Met l yX1_sames (ws_ yX1_sames cX1_sames 5 (some .int)) ({ frames := 0, cells := 0, slots := 0, locals := 0 }) (va_Pc [.ref h0, .int p1, .int p2] (tw_RM dC dI h0 q1 q2 e1 e2 a b)) (vp_Si (fun (r : Int32) => r = tm_sm a p1 p2 64)) 0 0 (fun _ => False) := by
  refine Met.ofW (cc := cX1_sames) (maxL := 5) (ret := (some .int)) (by decide) rfl ?_
  intro p e s m args below meth c s₁ B hml hv
  obtain ⟨rfl, hP, hK⟩ := hv
  have hx := B.exec
  have hb := B.bytes
  have hr := B.returns
  have hts := atoms_spec (ws := ws_ yX1_sames cX1_sames 5 (some .int)) B.pre
  have hts : ∀ w ∈ lw_all, w.before _ s = true := fun w h => hts w (List.mem_cons_of_mem _ h)
  have hown : s.vm.findClass RX1 = some m.cls := findClass_of_methodNamed B.named
  have hlocks := B.notSynchronized
  have hl := lv_entry ([.ref h0, .int p1, .int p2]) (n := 5) (Nat.le_of_ble_eq_true rfl)
  rw [lg_entry_eq]
  generalize (lg_sl ([.ref h0, .int p1, .int p2]) ++ List.replicate (5 - (lg_sl ([.ref h0, .int p1, .int p2])).length) Slot.unset).toArray = ls at hl ⊢
  have hl : lv_has ls 5 [(0, .ref h0), (1, .int p1), (2, .int p2)] := hl
  refine lv_iconst (v := 0) hx hb dX1_sames_0 (by decide) ?_
  refine lv_istore_n (lv' := [(3, .int (0 : Int32)), (0, .ref h0), (1, .int p1), (2, .int p2)]) hx hb dX1_sames_1 rfl hl (by decide) rfl (fun ls hl => ?_)
  refine lv_iconst (v := 0) hx hb dX1_sames_2 (by decide) ?_
  refine lv_istore (lv' := [(4, .int (0 : Int32)), (3, .int (0 : Int32)), (0, .ref h0), (1, .int p1), (2, .int p2)]) hx hb dX1_sames_3 hl (by decide) rfl (fun ls hl => ?_)
  have hl : lv_has ls 5 [(0, .ref h0), (1, .int p1), (2, .int p2), (3, .int (0 : Int32)), (4, .int (0 : Int32))] := lv_sub hl [2, 3, 4, 1, 0] rfl
  have hl : lv_has ls 5 [(0, .ref h0), (1, .int p1), (2, .int p2), (3, .int (tm_sm a p1 p2 0)), (4, .int (nI 0))] := hl
  refine tw_loop (pc := 5) 64 (fun i ls => lv_has ls 5 [(0, .ref h0), (1, .int p1), (2, .int p2), (3, .int (tm_sm a p1 p2 i)), (4, .int (nI i))]) (fun ls hp => ?_) (fun i ls hi_i hp ih_i => ?_) 64 0 ls (by omega) hl
  · have hl := hp
    have hl : lv_has ls 5 [(0, .ref h0), (1, .int p1), (2, .int p2), (3, .int (tm_sm a p1 p2 64)), (4, .int (nI 64))] := hl
    refine lv_iload hx hb dX1_sames_5 (lv_at hl 4 rfl) ?_
    refine lv_bipush (v := 64) hx hb dX1_sames_7 (by decide) ?_
    refine lv_icmp_ge (tgt := 55) hx hb dX1_sames_9 (by decide) (fun _ => ?_) (fun c => absurd (nI_le (a := 64) (b := 64) (by decide) (by decide)) c)
    refine lv_iload_n hx hb dX1_sames_55 rfl (lv_at hl 3 rfl) ?_
    exact W.iret (v := tm_sm a p1 p2 64) hx hb hr (fun t ht hW => ⟨tm_sm a p1 p2 64, rfl, rfl, ht⟩) (fun _ h => by cases h) dX1_sames_56
  · have hl := hp
    have hl : lv_has ls 5 [(0, .ref h0), (1, .int p1), (2, .int p2), (3, .int (tm_sm a p1 p2 i)), (4, .int (nI i))] := hl
    refine lv_iload hx hb dX1_sames_5 (lv_at hl 4 rfl) ?_
    refine lv_bipush (v := 64) hx hb dX1_sames_7 (by decide) ?_
    refine lv_icmp_ge (tgt := 55) hx hb dX1_sames_9 (by decide) (fun c => absurd c (nI_ge (a := i) (b := 64) (by omega) (by decide))) (fun _ => ?_)
    refine lv_aload_n hx hb dX1_sames_12 rfl (lv_at hl 0 rfl) ?_
    refine va_get (D := (dC, dI)) (ci := 1) (v := .ref q1) (C := RX1) (T := TX1) (N := 2) hx hb hts in_X1 hown hK hP 0 rfl rfl 0 (by decide) (hts _ q177) (fun _ h9 => h9) rfl dX1_sames_13 ?_
    refine lv_bipush (v := 64) hx hb dX1_sames_16 (by decide) ?_
    refine lv_iload_n hx hb dX1_sames_18 rfl (lv_at hl 1 rfl) ?_
    refine lv_imul hx hb dX1_sames_19 ?_
    refine lv_iload hx hb dX1_sames_20 (lv_at hl 4 rfl) ?_
    refine lv_iadd hx hb dX1_sames_22 ?_
    refine va_iald hx hb hK hP 1 0 rfl rfl (tw_ix h1 (show i < 64 by omega)) dX1_sames_23 ?_
    refine lv_aload_n hx hb dX1_sames_24 rfl (lv_at hl 0 rfl) ?_
    refine va_get (D := (dC, dI)) (ci := 1) (v := .ref q1) (C := RX1) (T := TX1) (N := 2) hx hb hts in_X1 hown hK hP 0 rfl rfl 0 (by decide) (hts _ q177) (fun _ h9 => h9) rfl dX1_sames_25 ?_
    refine lv_bipush (v := 64) hx hb dX1_sames_28 (by decide) ?_
    refine lv_iload_n hx hb dX1_sames_30 rfl (lv_at hl 1 rfl) ?_
    refine lv_imul hx hb dX1_sames_31 ?_
    refine lv_iload hx hb dX1_sames_32 (lv_at hl 4 rfl) ?_
    refine lv_iload_n hx hb dX1_sames_34 rfl (lv_at hl 2 rfl) ?_
    refine lv_ixor hx hb dX1_sames_35 ?_
    refine lv_iadd hx hb dX1_sames_36 ?_
    refine va_iald hx hb hK hP 1 0 rfl rfl (tw_ixx h1 (show i < 64 by omega) h2) dX1_sames_37 ?_
    refine lv_icmp_ne (tgt := 47) hx hb dX1_sames_38 (by decide) (fun c_1 => ?_) (fun c_1 => ?_)
    · refine lv_iload_n hx hb dX1_sames_47 rfl (lv_at hl 3 rfl) ?_
      refine lv_istore_n (lv' := [(3, .int (tm_sm a p1 p2 i)), (0, .ref h0), (1, .int p1), (2, .int p2), (4, .int (nI i))]) hx hb dX1_sames_48 rfl hl (by decide) rfl (fun ls hl => ?_)
      refine lv_iinc (v := nI (i + 1)) (lv' := [(4, .int (nI (i + 1))), (3, .int (tm_sm a p1 p2 i)), (0, .ref h0), (1, .int p1), (2, .int p2)]) hx hb dX1_sames_49 hl (k := 4) rfl (nI_1 i) (by decide) rfl (fun ls hl => ?_)
      refine lv_goto (tgt := 5) hx hb dX1_sames_52 (by decide) ?_
      have hl : lv_has ls 5 [(0, .ref h0), (1, .int p1), (2, .int p2), (3, .int (tm_sm a p1 p2 i)), (4, .int (nI (i + 1)))] := lv_sub hl [2, 3, 4, 1, 0] rfl
      exact ih_i ls (tw_has hl (by rw [tm_sm_s _ _ _ i, if_neg c_1]))
    · refine lv_iload_n hx hb dX1_sames_41 rfl (lv_at hl 3 rfl) ?_
      refine lv_iconst (v := 1) hx hb dX1_sames_42 (by decide) ?_
      refine lv_iadd hx hb dX1_sames_43 ?_
      refine lv_goto (tgt := 48) hx hb dX1_sames_44 (by decide) ?_
      refine lv_istore_n (lv' := [(3, .int ((tm_sm a p1 p2 i) + (1 : Int32))), (0, .ref h0), (1, .int p1), (2, .int p2), (4, .int (nI i))]) hx hb dX1_sames_48 rfl hl (by decide) rfl (fun ls hl => ?_)
      refine lv_iinc (v := nI (i + 1)) (lv' := [(4, .int (nI (i + 1))), (3, .int ((tm_sm a p1 p2 i) + (1 : Int32))), (0, .ref h0), (1, .int p1), (2, .int p2)]) hx hb dX1_sames_49 hl (k := 4) rfl (nI_1 i) (by decide) rfl (fun ls hl => ?_)
      refine lv_goto (tgt := 5) hx hb dX1_sames_52 (by decide) ?_
      have hl : lv_has ls 5 [(0, .ref h0), (1, .int p1), (2, .int p2), (3, .int ((tm_sm a p1 p2 i) + (1 : Int32))), (4, .int (nI (i + 1)))] := lv_sub hl [2, 3, 4, 1, 0] rfl
      exact ih_i ls (tw_has hl (by rw [tm_sm_s _ _ _ i, if_pos c_1]))
set_option maxHeartbeats 4000000 in
set_option maxRecDepth 100000 in
/-- comesBy(t, r, a, b) -/
theorem metX1_comesBy (l : Launch) (dC : Nat → ClassId) (dI : Nat → Nat → Nat) (h0 q1 q2 : Nat) (e1 e2 : ClassId) (a b : Nat → Int32) (p1 : Int32) (p2 : Int32) (p3 : Int32) (p4 : Int32) (h1 : vp_in p1 4) (h2 : vp_in p2 4) (h3 : vp_in p3 64) : Met l yX1_comesBy (ws_ yX1_comesBy cX1_comesBy 6 (some .boolean)) ({ frames := 2, cells := 0, slots := 0, locals := 45 }) (va_Pc [.ref h0, .int p1, .int p2, .int p3, .int p4] (tw_RM dC dI h0 q1 q2 e1 e2 a b)) (vp_Si (fun (r : Int32) => r = 0 ↔ ¬ tm_by a p1 p2 p3 p4)) 0 0 (fun _ => False) := by
  refine Met.ofW (cc := cX1_comesBy) (maxL := 6) (ret := (some .boolean)) (by decide) rfl ?_
  intro p e s m args below meth c s₁ B hml hv
  obtain ⟨rfl, hP, hK⟩ := hv
  have hx := B.exec
  have hb := B.bytes
  have hr := B.returns
  have hts := atoms_spec (ws := ws_ yX1_comesBy cX1_comesBy 6 (some .boolean)) B.pre
  have hts : ∀ w ∈ lw_all, w.before _ s = true := fun w h => hts w (List.mem_cons_of_mem _ h)
  have hown : s.vm.findClass RX1 = some m.cls := findClass_of_methodNamed B.named
  have hlocks := B.notSynchronized
  have hl := lv_entry ([.ref h0, .int p1, .int p2, .int p3, .int p4]) (n := 6) (Nat.le_of_ble_eq_true rfl)
  rw [lg_entry_eq]
  generalize (lg_sl ([.ref h0, .int p1, .int p2, .int p3, .int p4]) ++ List.replicate (6 - (lg_sl ([.ref h0, .int p1, .int p2, .int p3, .int p4])).length) Slot.unset).toArray = ls at hl ⊢
  have hl : lv_has ls 6 [(0, .ref h0), (1, .int p1), (2, .int p2), (3, .int p3), (4, .int p4)] := hl
  refine lv_iconst (v := 0) hx hb dX1_comesBy_0 (by decide) ?_
  refine lv_istore (lv' := [(5, .int (0 : Int32)), (0, .ref h0), (1, .int p1), (2, .int p2), (3, .int p3), (4, .int p4)]) hx hb dX1_comesBy_1 hl (by decide) rfl (fun ls hl => ?_)
  have hl : lv_has ls 6 [(0, .ref h0), (1, .int p1), (2, .int p2), (3, .int p3), (4, .int p4), (5, .int (0 : Int32))] := lv_sub hl [1, 2, 3, 4, 5, 0] rfl
  have hl : lv_has ls 6 [(0, .ref h0), (1, .int p1), (2, .int p2), (3, .int p3), (4, .int p4), (5, .int (nI 0))] := hl
  refine tw_loop (pc := 3) 64 (fun i ls => lv_has ls 6 [(0, .ref h0), (1, .int p1), (2, .int p2), (3, .int p3), (4, .int p4), (5, .int (nI i))] ∧ ∀ k, k < i → tm_eq a p1 p2 p3 p4 k) (fun ls hp => ?_) (fun i ls hi_i hp ih_i => ?_) 64 0 ls (by omega) ⟨hl, lt_0⟩
  · obtain ⟨hl, hX_i⟩ := hp
    have hl : lv_has ls 6 [(0, .ref h0), (1, .int p1), (2, .int p2), (3, .int p3), (4, .int p4), (5, .int (nI 64))] := hl
    have hX_i : ∀ k, k < 64 → tm_eq a p1 p2 p3 p4 k := hX_i
    refine lv_iload hx hb dX1_comesBy_3 (lv_at hl 5 rfl) ?_
    refine lv_bipush (v := 64) hx hb dX1_comesBy_5 (by decide) ?_
    refine lv_icmp_ge (tgt := 56) hx hb dX1_comesBy_7 (by decide) (fun _ => ?_) (fun c => absurd (nI_le (a := 64) (b := 64) (by decide) (by decide)) c)
    refine lv_iconst (v := 1) hx hb dX1_comesBy_56 (by decide) ?_
    exact W.zret (v := (1 : Int32)) hx hb hr rfl (fun t ht hW => ⟨(1 : Int32), rfl, ⟨fun h => absurd h (by decide), fun h => absurd hX_i h⟩, ht⟩) (fun _ h => by cases h) dX1_comesBy_57
  · obtain ⟨hl, hX_i⟩ := hp
    have hl : lv_has ls 6 [(0, .ref h0), (1, .int p1), (2, .int p2), (3, .int p3), (4, .int p4), (5, .int (nI i))] := hl
    have hX_i : ∀ k, k < i → tm_eq a p1 p2 p3 p4 k := hX_i
    refine lv_iload hx hb dX1_comesBy_3 (lv_at hl 5 rfl) ?_
    refine lv_bipush (v := 64) hx hb dX1_comesBy_5 (by decide) ?_
    refine lv_icmp_ge (tgt := 56) hx hb dX1_comesBy_7 (by decide) (fun c => absurd c (nI_ge (a := i) (b := 64) (by omega) (by decide))) (fun _ => ?_)
    refine lv_aload_n hx hb dX1_comesBy_10 rfl (lv_at hl 0 rfl) ?_
    refine va_get (D := (dC, dI)) (ci := 1) (v := .ref q1) (C := RX1) (T := TX1) (N := 2) hx hb hts in_X1 hown hK hP 0 rfl rfl 0 (by decide) (hts _ q177) (fun _ h9 => h9) rfl dX1_comesBy_11 ?_
    refine lv_bipush (v := 64) hx hb dX1_comesBy_14 (by decide) ?_
    refine lv_iload_n hx hb dX1_comesBy_16 rfl (lv_at hl 1 rfl) ?_
    refine lv_imul hx hb dX1_comesBy_17 ?_
    refine lv_iload hx hb dX1_comesBy_18 (lv_at hl 5 rfl) ?_
    refine lv_iadd hx hb dX1_comesBy_20 ?_
    refine va_iald hx hb hK hP 1 0 rfl rfl (tw_ix h1 (show i < 64 by omega)) dX1_comesBy_21 ?_
    refine lv_aload_n hx hb dX1_comesBy_22 rfl (lv_at hl 0 rfl) ?_
    refine va_get (D := (dC, dI)) (ci := 1) (v := .ref q1) (C := RX1) (T := TX1) (N := 2) hx hb hts in_X1 hown hK hP 0 rfl rfl 0 (by decide) (hts _ q177) (fun _ h9 => h9) rfl dX1_comesBy_23 ?_
    refine lv_bipush (v := 64) hx hb dX1_comesBy_26 (by decide) ?_
    refine lv_iload_n hx hb dX1_comesBy_28 rfl (lv_at hl 2 rfl) ?_
    refine lv_imul hx hb dX1_comesBy_29 ?_
    refine lv_iload hx hb dX1_comesBy_30 (lv_at hl 5 rfl) ?_
    refine lv_iload_n hx hb dX1_comesBy_32 rfl (lv_at hl 3 rfl) ?_
    refine lv_ixor hx hb dX1_comesBy_33 ?_
    refine lv_iadd hx hb dX1_comesBy_34 ?_
    refine va_iald hx hb hK hP 1 0 rfl rfl (tw_ixx h2 (show i < 64 by omega) h3) dX1_comesBy_35 ?_
    refine lv_aload_n hx hb dX1_comesBy_36 rfl (lv_at hl 0 rfl) ?_
    refine lv_iload hx hb dX1_comesBy_37 (lv_at hl 4 rfl) ?_
    refine lv_iload hx hb dX1_comesBy_39 (lv_at hl 5 rfl) ?_
    refine vp_callSi (W.runV (As := [.int p4, .int (nI i)]) (rest := [.int (a (((64 : Int32) * p2) + ((nI i) ^^^ p3)).toNatClampNeg), .int (a (((64 : Int32) * p1) + (nI i)).toNatClampNeg)]) ⟨hx, hb, hml, hown, hts⟩ (metX1_product l dC dI h0 q1 q2 e1 e2 a b p4 (nI i)) (cwV 2 hts (lw_V q216 q218 qs17 q26 q219) rfl rfl rfl (by decide +kernel) ⟨Nat.le_of_ble_eq_true rfl, Nat.le_of_ble_eq_true rfl⟩) (tw_preM hK hP _) rfl rfl hl.1 rfl (lv_room (Nat.le_of_ble_eq_true rfl)) dX1_comesBy_41 ⟨Nat.le_of_ble_eq_true rfl, Nat.le_of_ble_eq_true rfl⟩) (fun r_1 hr_1 => ?_)
    rw [hr_1]
    refine lv_ixor hx hb dX1_comesBy_44 ?_
    refine lv_icmp_eq (tgt := 50) hx hb dX1_comesBy_45 (by decide) (fun c_2 => ?_) (fun c_2 => ?_)
    · refine lv_iinc (v := nI (i + 1)) (lv' := [(5, .int (nI (i + 1))), (0, .ref h0), (1, .int p1), (2, .int p2), (3, .int p3), (4, .int p4)]) hx hb dX1_comesBy_50 hl (k := 5) rfl (nI_1 i) (by decide) rfl (fun ls hl => ?_)
      refine lv_goto (tgt := 3) hx hb dX1_comesBy_53 (by decide) ?_
      have hl : lv_has ls 6 [(0, .ref h0), (1, .int p1), (2, .int p2), (3, .int p3), (4, .int p4), (5, .int (nI (i + 1)))] := lv_sub hl [1, 2, 3, 4, 5, 0] rfl
      exact ih_i ls ⟨hl, lt_s hX_i c_2⟩
    · refine lv_iconst (v := 0) hx hb dX1_comesBy_48 (by decide) ?_
      exact W.zret (v := (0 : Int32)) hx hb hr rfl (fun t ht hW => ⟨(0 : Int32), rfl, ⟨fun _ hb9 => c_2 (hb9 i hi_i), fun _ => rfl⟩, ht⟩) (fun _ h => by cases h) dX1_comesBy_49
end
section
/-! walks of TruthSpectrumModel: put, turnForm, takeMade, combine, shift -/
set_option maxHeartbeats 4000000 in
set_option maxRecDepth 100000 in
/-- put(t, x, v) -/
theorem metX1_put (l : Launch) (dC : Nat → ClassId) (dI : Nat → Nat → Nat) (h0 q1 q2 : Nat) (e1 e2 : ClassId) (sz : Nat) (a b : Nat → Int32) (p1 : Int32) (p2 : Int32) (p3 : Int32) : Met l yX1_put (ws_ yX1_put cX1_put 5 (some .int)) ({ frames := 1, cells := 0, slots := 0, locals := 21 }) (va_Pc [.ref h0, .int p1, .int p2, .int p3] (tw_SM dC dI h0 q1 q2 e1 e2 sz a b)) (va_Qi (fun (r : Int32) (u : ((Nat → Int32) × (Nat → Int32))) => ((vp_in p1 4 ∧ vp_in p2 64 ∧ ¬ p3 < 0 ∧ p3 ≤ (1 : Int32)) → r = a (((64 : Int32) * p1) + p2).toNatClampNeg ∧ u = (upd a (((64 : Int32) * p1) + p2).toNatClampNeg p3, b)) ∧ (¬ (vp_in p1 4 ∧ vp_in p2 64 ∧ ¬ p3 < 0 ∧ p3 ≤ (1 : Int32)) → r = (-1000 : Int32) ∧ u = (a, b))) (tw_BM dC dI h0 q1 q2 e1 e2 (va_A (tw_M h0 q1 q2 e1 e2 a b) sz)) (va_A (tw_M h0 q1 q2 e1 e2 a b) sz)) 0 0 (va_A (tw_M h0 q1 q2 e1 e2 a b) sz) := by
  refine Met.ofW (cc := cX1_put) (maxL := 5) (ret := (some .int)) (by decide) rfl ?_
  intro p e s m args below meth c s₁ B hml hv
  obtain ⟨rfl, hsz, hP, hK, hD0⟩ := hv
  have hx := B.exec
  have hb := B.bytes
  have hr := B.returns
  have hts := atoms_spec (ws := ws_ yX1_put cX1_put 5 (some .int)) B.pre
  have hts : ∀ w ∈ lw_all, w.before _ s = true := fun w h => hts w (List.mem_cons_of_mem _ h)
  have hown : s.vm.findClass RX1 = some m.cls := findClass_of_methodNamed B.named
  have hlocks := B.notSynchronized
  subst hsz
  have hD := hD0.self (sz := s.heap.size)
  generalize hAe : va_A (tw_M h0 q1 q2 e1 e2 a b) s.heap.size = A at hD ⊢
  have hA : ∀ q : Nat, s.heap.size ≤ q → A q := fun q h => by rw [← hAe]; exact Or.inr h
  have hS : va_S A s.heap s.heap [] := va_S.rf
  have hl := lv_entry ([.ref h0, .int p1, .int p2, .int p3]) (n := 5) (Nat.le_of_ble_eq_true rfl)
  rw [lg_entry_eq]
  generalize (lg_sl ([.ref h0, .int p1, .int p2, .int p3]) ++ List.replicate (5 - (lg_sl ([.ref h0, .int p1, .int p2, .int p3])).length) Slot.unset).toArray = ls at hl ⊢
  have hl : lv_has ls 5 [(0, .ref h0), (1, .int p1), (2, .int p2), (3, .int p3)] := hl
  refine lv_aload_n hx hb dX1_put_0 rfl (lv_at hl 0 rfl) ?_
  refine lv_iload_n hx hb dX1_put_1 rfl (lv_at hl 1 rfl) ?_
  refine vp_callSi (W.runV (As := [.int p1]) (rest := []) ⟨hx, hb, hml, hown, hts⟩ (metX1_isTable l h0 p1) (cwV 1 hts (lw_V q188 q190 qs13 q26 q191) rfl rfl rfl (by decide +kernel) ⟨Nat.le_of_ble_eq_true rfl, Nat.le_of_ble_eq_true rfl⟩) (tw_pre0M hK hP _) rfl rfl hl.1 rfl (lv_room (Nat.le_of_ble_eq_true rfl)) dX1_put_2 ⟨Nat.le_of_ble_eq_true rfl, Nat.le_of_ble_eq_true rfl⟩) (fun r_1 hr_1 => ?_)
  refine lv_if_eq (tgt := 25) hx hb dX1_put_5 (by decide) (fun c_2 => ?_) (fun c_2 => ?_)
  · have b_2 : ¬ vp_in p1 4 := hr_1.mp c_2
    refine lv_sipush (v := -1000) hx hb dX1_put_25 (by decide) ?_
    exact W.iret (v := (-1000 : Int32)) hx hb hr (fun t ht hW => ⟨⟨(-1000 : Int32), (a, b), rfl, ⟨fun h => absurd h.1 b_2, fun _ => ⟨rfl, rfl⟩⟩, by rw [ht]; exact hP, va_K.moved hW.alike hK, hD⟩, hS.F ht⟩) hS.2.2 dX1_put_28
  · have b_2 : vp_in p1 4 := Classical.not_not.mp (fun h => c_2 (hr_1.mpr h))
    refine lv_aload_n hx hb dX1_put_8 rfl (lv_at hl 0 rfl) ?_
    refine lv_iload_n hx hb dX1_put_9 rfl (lv_at hl 2 rfl) ?_
    refine vp_callSi (W.runV (As := [.int p2]) (rest := []) ⟨hx, hb, hml, hown, hts⟩ (metX1_isPoint l h0 p2) (cwV 1 hts (lw_V q192 q194 qs14 q26 q195) rfl rfl rfl (by decide +kernel) ⟨Nat.le_of_ble_eq_true rfl, Nat.le_of_ble_eq_true rfl⟩) (tw_pre0M hK hP _) rfl rfl hl.1 rfl (lv_room (Nat.le_of_ble_eq_true rfl)) dX1_put_10 ⟨Nat.le_of_ble_eq_true rfl, Nat.le_of_ble_eq_true rfl⟩) (fun r_3 hr_3 => ?_)
    refine lv_if_eq (tgt := 25) hx hb dX1_put_13 (by decide) (fun c_4 => ?_) (fun c_4 => ?_)
    · have b_4 : ¬ vp_in p2 64 := hr_3.mp c_4
      refine lv_sipush (v := -1000) hx hb dX1_put_25 (by decide) ?_
      exact W.iret (v := (-1000 : Int32)) hx hb hr (fun t ht hW => ⟨⟨(-1000 : Int32), (a, b), rfl, ⟨fun h => absurd h.2.1 b_4, fun _ => ⟨rfl, rfl⟩⟩, by rw [ht]; exact hP, va_K.moved hW.alike hK, hD⟩, hS.F ht⟩) hS.2.2 dX1_put_28
    · have b_4 : vp_in p2 64 := Classical.not_not.mp (fun h => c_4 (hr_3.mpr h))
      refine lv_iload_n hx hb dX1_put_16 rfl (lv_at hl 3 rfl) ?_
      refine lv_if_lt (tgt := 25) hx hb dX1_put_17 (by decide) (fun c_5 => ?_) (fun c_5 => ?_)
      · refine lv_sipush (v := -1000) hx hb dX1_put_25 (by decide) ?_
        exact W.iret (v := (-1000 : Int32)) hx hb hr (fun t ht hW => ⟨⟨(-1000 : Int32), (a, b), rfl, ⟨fun h => absurd h.2.2.1 (fun hn => hn c_5), fun _ => ⟨rfl, rfl⟩⟩, by rw [ht]; exact hP, va_K.moved hW.alike hK, hD⟩, hS.F ht⟩) hS.2.2 dX1_put_28
      · refine lv_iload_n hx hb dX1_put_20 rfl (lv_at hl 3 rfl) ?_
        refine lv_iconst (v := 1) hx hb dX1_put_21 (by decide) ?_
        refine lv_icmp_le (tgt := 29) hx hb dX1_put_22 (by decide) (fun c_6 => ?_) (fun c_6 => ?_)
        · refine lv_aload_n hx hb dX1_put_29 rfl (lv_at hl 0 rfl) ?_
          refine va_get (D := (dC, dI)) (ci := 1) (v := .ref q1) (C := RX1) (T := TX1) (N := 2) hx hb hts in_X1 hown hK hP 0 rfl rfl 0 (by decide) (hts _ q177) (fun _ h9 => h9) rfl dX1_put_30 ?_
          refine lv_bipush (v := 64) hx hb dX1_put_33 (by decide) ?_
          refine lv_iload_n hx hb dX1_put_35 rfl (lv_at hl 1 rfl) ?_
          refine lv_imul hx hb dX1_put_36 ?_
          refine lv_iload_n hx hb dX1_put_37 rfl (lv_at hl 2 rfl) ?_
          refine lv_iadd hx hb dX1_put_38 ?_
          refine va_iald hx hb hK hP 1 0 rfl rfl (tw_ixp b_2 b_4) dX1_put_39 ?_
          refine lv_istore (lv' := [(4, .int (a (((64 : Int32) * p1) + p2).toNatClampNeg)), (0, .ref h0), (1, .int p1), (2, .int p2), (3, .int p3)]) hx hb dX1_put_40 hl (by decide) rfl (fun ls hl => ?_)
          refine lv_aload_n hx hb dX1_put_42 rfl (lv_at hl 1 rfl) ?_
          refine va_get (D := (dC, dI)) (ci := 1) (v := .ref q1) (C := RX1) (T := TX1) (N := 2) hx hb hts in_X1 hown hK hP 0 rfl rfl 0 (by decide) (hts _ q177) (fun _ h9 => h9) rfl dX1_put_43 ?_
          refine lv_bipush (v := 64) hx hb dX1_put_46 (by decide) ?_
          refine lv_iload_n hx hb dX1_put_48 rfl (lv_at hl 2 rfl) ?_
          refine lv_imul hx hb dX1_put_49 ?_
          refine lv_iload_n hx hb dX1_put_50 rfl (lv_at hl 3 rfl) ?_
          refine lv_iadd hx hb dX1_put_51 ?_
          refine lv_iload_n hx hb dX1_put_52 rfl (lv_at hl 4 rfl) ?_
          refine va_iast hx hb hK hP hD hS 1 0 rfl rfl (tw_ixp b_2 b_4) dX1_put_53 (fun H locs hP hD hS => ?_)
          have hP : va_P (dC, dI) tw_cl (tw_M h0 q1 q2 e1 e2 (upd a (((64 : Int32) * p1) + p2).toNatClampNeg p3) b) H := hP
          have hD : va_D A (tw_M h0 q1 q2 e1 e2 (upd a (((64 : Int32) * p1) + p2).toNatClampNeg p3) b) := hD
          refine lv_iload hx hb dX1_put_54 (lv_at hl 0 rfl) ?_
          exact W.iret (v := (a (((64 : Int32) * p1) + p2).toNatClampNeg)) hx hb hr (fun t ht hW => ⟨⟨(a (((64 : Int32) * p1) + p2).toNatClampNeg), ((upd a (((64 : Int32) * p1) + p2).toNatClampNeg p3), b), rfl, ⟨fun _ => ⟨rfl, rfl⟩, fun h => absurd ⟨b_2, b_4, c_5, c_6⟩ h⟩, by rw [ht]; exact hP, va_K.moved hW.alike hK, hD⟩, hS.F ht⟩) hS.2.2 dX1_put_56
        · refine lv_sipush (v := -1000) hx hb dX1_put_25 (by decide) ?_
          exact W.iret (v := (-1000 : Int32)) hx hb hr (fun t ht hW => ⟨⟨(-1000 : Int32), (a, b), rfl, ⟨fun h => absurd h.2.2.2 c_6, fun _ => ⟨rfl, rfl⟩⟩, by rw [ht]; exact hP, va_K.moved hW.alike hK, hD⟩, hS.F ht⟩) hS.2.2 dX1_put_28
set_option maxHeartbeats 4000000 in
set_option maxRecDepth 100000 in
/-- turnForm(t, u) -/
theorem metX1_turnForm (l : Launch) (dC : Nat → ClassId) (dI : Nat → Nat → Nat) (h0 q1 q2 : Nat) (e1 e2 : ClassId) (sz : Nat) (a b : Nat → Int32) (p1 : Int32) (p2 : Int32) : Met l yX1_turnForm (ws_ yX1_turnForm cX1_turnForm 4 (some .int)) ({ frames := 1, cells := 0, slots := 0, locals := 23 }) (va_Pc [.ref h0, .int p1, .int p2] (tw_SM dC dI h0 q1 q2 e1 e2 sz a b)) (va_Qi (fun (r : Int32) (u : ((Nat → Int32) × (Nat → Int32))) => ((vp_in p1 4 ∧ vp_in p2 64) → r = tm_co (tm_tf a p1 p2 64) p1 64 ∧ u = (tm_tf a p1 p2 64, b)) ∧ (¬ (vp_in p1 4 ∧ vp_in p2 64) → r = (-1000 : Int32) ∧ u = (a, b))) (tw_BM dC dI h0 q1 q2 e1 e2 (va_A (tw_M h0 q1 q2 e1 e2 a b) sz)) (va_A (tw_M h0 q1 q2 e1 e2 a b) sz)) 0 0 (va_A (tw_M h0 q1 q2 e1 e2 a b) sz) := by
  refine Met.ofW (cc := cX1_turnForm) (maxL := 4) (ret := (some .int)) (by decide) rfl ?_
  intro p e s m args below meth c s₁ B hml hv
  obtain ⟨rfl, hsz, hP, hK, hD0⟩ := hv
  have hx := B.exec
  have hb := B.bytes
  have hr := B.returns
  have hts := atoms_spec (ws := ws_ yX1_turnForm cX1_turnForm 4 (some .int)) B.pre
  have hts : ∀ w ∈ lw_all, w.before _ s = true := fun w h => hts w (List.mem_cons_of_mem _ h)
  have hown : s.vm.findClass RX1 = some m.cls := findClass_of_methodNamed B.named
  have hlocks := B.notSynchronized
  subst hsz
  have hD := hD0.self (sz := s.heap.size)
  generalize hAe : va_A (tw_M h0 q1 q2 e1 e2 a b) s.heap.size = A at hD ⊢
  have hA : ∀ q : Nat, s.heap.size ≤ q → A q := fun q h => by rw [← hAe]; exact Or.inr h
  have hS : va_S A s.heap s.heap [] := va_S.rf
  have hl := lv_entry ([.ref h0, .int p1, .int p2]) (n := 4) (Nat.le_of_ble_eq_true rfl)
  rw [lg_entry_eq]
  generalize (lg_sl ([.ref h0, .int p1, .int p2]) ++ List.replicate (4 - (lg_sl ([.ref h0, .int p1, .int p2])).length) Slot.unset).toArray = ls at hl ⊢
  have hl : lv_has ls 4 [(0, .ref h0), (1, .int p1), (2, .int p2)] := hl
  refine lv_aload_n hx hb dX1_turnForm_0 rfl (lv_at hl 0 rfl) ?_
  refine lv_iload_n hx hb dX1_turnForm_1 rfl (lv_at hl 1 rfl) ?_
  refine vp_callSi (W.runV (As := [.int p1]) (rest := []) ⟨hx, hb, hml, hown, hts⟩ (metX1_isTable l h0 p1) (cwV 1 hts (lw_V q188 q190 qs13 q26 q191) rfl rfl rfl (by decide +kernel) ⟨Nat.le_of_ble_eq_true rfl, Nat.le_of_ble_eq_true rfl⟩) (tw_pre0M hK hP _) rfl rfl hl.1 rfl (lv_room (Nat.le_of_ble_eq_true rfl)) dX1_turnForm_2 ⟨Nat.le_of_ble_eq_true rfl, Nat.le_of_ble_eq_true rfl⟩) (fun r_1 hr_1 => ?_)
  refine lv_if_eq (tgt := 16) hx hb dX1_turnForm_5 (by decide) (fun c_2 => ?_) (fun c_2 => ?_)
  · have b_2 : ¬ vp_in p1 4 := hr_1.mp c_2
    refine lv_sipush (v := -1000) hx hb dX1_turnForm_16 (by decide) ?_
    exact W.iret (v := (-1000 : Int32)) hx hb hr (fun t ht hW => ⟨⟨(-1000 : Int32), (a, b), rfl, ⟨fun h => absurd h.1 b_2, fun _ => ⟨rfl, rfl⟩⟩, by rw [ht]; exact hP, va_K.moved hW.alike hK, hD⟩, hS.F ht⟩) hS.2.2 dX1_turnForm_19
  · have b_2 : vp_in p1 4 := Classical.not_not.mp (fun h => c_2 (hr_1.mpr h))
    refine lv_aload_n hx hb dX1_turnForm_8 rfl (lv_at hl 0 rfl) ?_
    refine lv_iload_n hx hb dX1_turnForm_9 rfl (lv_at hl 2 rfl) ?_
    refine vp_callSi (W.runV (As := [.int p2]) (rest := []) ⟨hx, hb, hml, hown, hts⟩ (metX1_isPoint l h0 p2) (cwV 1 hts (lw_V q192 q194 qs14 q26 q195) rfl rfl rfl (by decide +kernel) ⟨Nat.le_of_ble_eq_true rfl, Nat.le_of_ble_eq_true rfl⟩) (tw_pre0M hK hP _) rfl rfl hl.1 rfl (lv_room (Nat.le_of_ble_eq_true rfl)) dX1_turnForm_10 ⟨Nat.le_of_ble_eq_true rfl, Nat.le_of_ble_eq_true rfl⟩) (fun r_3 hr_3 => ?_)
    refine lv_if_ne (tgt := 20) hx hb dX1_turnForm_13 (by decide) (fun c_4 => ?_) (fun c_4 => ?_)
    · have b_4 : vp_in p2 64 := Classical.not_not.mp (fun h => c_4 (hr_3.mpr h))
      refine lv_iconst (v := 0) hx hb dX1_turnForm_20 (by decide) ?_
      refine lv_istore_n (lv' := [(3, .int (0 : Int32)), (0, .ref h0), (1, .int p1), (2, .int p2)]) hx hb dX1_turnForm_21 rfl hl (by decide) rfl (fun ls hl => ?_)
      have hl : lv_has ls 4 [(0, .ref h0), (1, .int p1), (2, .int p2), (3, .int (0 : Int32))] := lv_sub hl [1, 2, 3, 0] rfl
      have hl : lv_has ls 4 [(0, .ref h0), (1, .int p1), (2, .int p2), (3, .int (nI 0))] := hl
      refine tw_loopH (pc := 22) 64 (fun i ls H locs => lv_has ls 4 [(0, .ref h0), (1, .int p1), (2, .int p2), (3, .int (nI i))] ∧ va_P (dC, dI) tw_cl (tw_M h0 q1 q2 e1 e2 (tm_tf a p1 p2 i) b) H ∧ va_D A (tw_M h0 q1 q2 e1 e2 (tm_tf a p1 p2 i) b) ∧ va_S A s.heap H locs) (fun ls H locs hp => ?_) (fun i ls H locs hi_i hp ih_i => ?_) 64 0 ls _ _ (by omega) ⟨hl, hP, hD, hS⟩
      · obtain ⟨hl, hP, hD, hS⟩ := hp
        have hP : va_P (dC, dI) tw_cl (tw_M h0 q1 q2 e1 e2 (tm_tf a p1 p2 64) b) H := hP
        have hD : va_D A (tw_M h0 q1 q2 e1 e2 (tm_tf a p1 p2 64) b) := hD
        have hl : lv_has ls 4 [(0, .ref h0), (1, .int p1), (2, .int p2), (3, .int (nI 64))] := hl
        refine lv_iload_n hx hb dX1_turnForm_22 rfl (lv_at hl 3 rfl) ?_
        refine lv_bipush (v := 64) hx hb dX1_turnForm_23 (by decide) ?_
        refine lv_icmp_ge (tgt := 80) hx hb dX1_turnForm_25 (by decide) (fun _ => ?_) (fun c => absurd (nI_le (a := 64) (b := 64) (by decide) (by decide)) c)
        refine lv_aload_n hx hb dX1_turnForm_80 rfl (lv_at hl 0 rfl) ?_
        refine lv_iload_n hx hb dX1_turnForm_81 rfl (lv_at hl 1 rfl) ?_
        refine vp_callSi (W.runV (As := [.int p1]) (rest := []) ⟨hx, hb, hml, hown, hts⟩ (metX1_countOnes l dC dI h0 q1 q2 e1 e2 (tm_tf a p1 p2 64) b p1 b_2) (cwV 1 hts (lw_V q200 q202 qs15 q26 q203) rfl rfl rfl (by decide +kernel) ⟨Nat.le_of_ble_eq_true rfl, Nat.le_of_ble_eq_true rfl⟩) (tw_preM hK hP _) rfl rfl hl.1 rfl (lv_room (Nat.le_of_ble_eq_true rfl)) dX1_turnForm_82 ⟨Nat.le_of_ble_eq_true rfl, Nat.le_of_ble_eq_true rfl⟩) (fun r_5 hr_5 => ?_)
        rw [hr_5]
        exact W.iret (v := (tm_co (tm_tf a p1 p2 64) p1 64)) hx hb hr (fun t ht hW => ⟨⟨(tm_co (tm_tf a p1 p2 64) p1 64), ((tm_tf a p1 p2 64), b), rfl, ⟨fun _ => ⟨rfl, rfl⟩, fun h => absurd ⟨b_2, b_4⟩ h⟩, by rw [ht]; exact hP, va_K.moved hW.alike hK, hD⟩, hS.F ht⟩) hS.2.2 dX1_turnForm_85
      · obtain ⟨hl, hP, hD, hS⟩ := hp
        have hP : va_P (dC, dI) tw_cl (tw_M h0 q1 q2 e1 e2 (tm_tf a p1 p2 i) b) H := hP
        have hD : va_D A (tw_M h0 q1 q2 e1 e2 (tm_tf a p1 p2 i) b) := hD
        have hl : lv_has ls 4 [(0, .ref h0), (1, .int p1), (2, .int p2), (3, .int (nI i))] := hl
        refine lv_iload_n hx hb dX1_turnForm_22 rfl (lv_at hl 3 rfl) ?_
        refine lv_bipush (v := 64) hx hb dX1_turnForm_23 (by decide) ?_
        refine lv_icmp_ge (tgt := 80) hx hb dX1_turnForm_25 (by decide) (fun c => absurd c (nI_ge (a := i) (b := 64) (by omega) (by decide))) (fun _ => ?_)
        refine lv_aload_n hx hb dX1_turnForm_28 rfl (lv_at hl 0 rfl) ?_
        refine va_get (D := (dC, dI)) (ci := 1) (v := .ref q1) (C := RX1) (T := TX1) (N := 2) hx hb hts in_X1 hown hK hP 0 rfl rfl 0 (by decide) (hts _ q177) (fun _ h9 => h9) rfl dX1_turnForm_29 ?_
        refine lv_bipush (v := 64) hx hb dX1_turnForm_32 (by decide) ?_
        refine lv_iload_n hx hb dX1_turnForm_34 rfl (lv_at hl 1 rfl) ?_
        refine lv_imul hx hb dX1_turnForm_35 ?_
        refine lv_iload_n hx hb dX1_turnForm_36 rfl (lv_at hl 3 rfl) ?_
        refine lv_iadd hx hb dX1_turnForm_37 ?_
        refine lv_iload_n hx hb dX1_turnForm_38 rfl (lv_at hl 2 rfl) ?_
        refine lv_iload_n hx hb dX1_turnForm_39 rfl (lv_at hl 3 rfl) ?_
        refine lv_iconst (v := -1) hx hb dX1_turnForm_40 (by decide) ?_
        refine lv_ixor hx hb dX1_turnForm_41 ?_
        refine lv_iand hx hb dX1_turnForm_42 ?_
        refine lv_if_ne (tgt := 62) hx hb dX1_turnForm_43 (by decide) (fun c_6 => ?_) (fun c_6 => ?_)
        · refine lv_aload_n hx hb dX1_turnForm_62 rfl (lv_at hl 0 rfl) ?_
          refine va_get (D := (dC, dI)) (ci := 1) (v := .ref q1) (C := RX1) (T := TX1) (N := 2) hx hb hts in_X1 hown hK hP 0 rfl rfl 0 (by decide) (hts _ q177) (fun _ h9 => h9) rfl dX1_turnForm_63 ?_
          refine lv_bipush (v := 64) hx hb dX1_turnForm_66 (by decide) ?_
          refine lv_iload_n hx hb dX1_turnForm_68 rfl (lv_at hl 1 rfl) ?_
          refine lv_imul hx hb dX1_turnForm_69 ?_
          refine lv_iload_n hx hb dX1_turnForm_70 rfl (lv_at hl 3 rfl) ?_
          refine lv_iadd hx hb dX1_turnForm_71 ?_
          refine va_iald hx hb hK hP 1 0 rfl rfl (tw_ix b_2 (show i < 64 by omega)) dX1_turnForm_72 ?_
          refine va_iast hx hb hK hP hD hS 1 0 rfl rfl (tw_ix b_2 (show i < 64 by omega)) dX1_turnForm_73 (fun H locs hP hD hS => ?_)
          have hP : va_P (dC, dI) tw_cl (tw_M h0 q1 q2 e1 e2 (upd (tm_tf a p1 p2 i) (((64 : Int32) * p1) + (nI i)).toNatClampNeg ((tm_tf a p1 p2 i) (((64 : Int32) * p1) + (nI i)).toNatClampNeg)) b) H := hP
          have hD : va_D A (tw_M h0 q1 q2 e1 e2 (upd (tm_tf a p1 p2 i) (((64 : Int32) * p1) + (nI i)).toNatClampNeg ((tm_tf a p1 p2 i) (((64 : Int32) * p1) + (nI i)).toNatClampNeg)) b) := hD
          refine lv_iinc (v := nI (i + 1)) (lv' := [(3, .int (nI (i + 1))), (0, .ref h0), (1, .int p1), (2, .int p2)]) hx hb dX1_turnForm_74 hl (k := 3) rfl (nI_1 i) (by decide) rfl (fun ls hl => ?_)
          refine lv_goto (tgt := 22) hx hb dX1_turnForm_77 (by decide) ?_
          have hl : lv_has ls 4 [(0, .ref h0), (1, .int p1), (2, .int p2), (3, .int (nI (i + 1)))] := lv_sub hl [1, 2, 3, 0] rfl
          have eA : (upd (tm_tf a p1 p2 i) (((64 : Int32) * p1) + (nI i)).toNatClampNeg ((tm_tf a p1 p2 i) (((64 : Int32) * p1) + (nI i)).toNatClampNeg)) = (tm_tf a p1 p2 (i + 1)) := by rw [tm_tf_s _ _ _ i, if_neg c_6]
          rw [eA] at hP hD
          exact ih_i ls _ _ ⟨hl, hP, hD, hS⟩
        · refine lv_iconst (v := 1) hx hb dX1_turnForm_46 (by decide) ?_
          refine lv_aload_n hx hb dX1_turnForm_47 rfl (lv_at hl 0 rfl) ?_
          refine va_get (D := (dC, dI)) (ci := 1) (v := .ref q1) (C := RX1) (T := TX1) (N := 2) hx hb hts in_X1 hown hK hP 0 rfl rfl 0 (by decide) (hts _ q177) (fun _ h9 => h9) rfl dX1_turnForm_48 ?_
          refine lv_bipush (v := 64) hx hb dX1_turnForm_51 (by decide) ?_
          refine lv_iload_n hx hb dX1_turnForm_53 rfl (lv_at hl 1 rfl) ?_
          refine lv_imul hx hb dX1_turnForm_54 ?_
          refine lv_iload_n hx hb dX1_turnForm_55 rfl (lv_at hl 3 rfl) ?_
          refine lv_iadd hx hb dX1_turnForm_56 ?_
          refine va_iald hx hb hK hP 1 0 rfl rfl (tw_ix b_2 (show i < 64 by omega)) dX1_turnForm_57 ?_
          refine lv_isub hx hb dX1_turnForm_58 ?_
          refine lv_goto (tgt := 73) hx hb dX1_turnForm_59 (by decide) ?_
          refine va_iast hx hb hK hP hD hS 1 0 rfl rfl (tw_ix b_2 (show i < 64 by omega)) dX1_turnForm_73 (fun H locs hP hD hS => ?_)
          have hP : va_P (dC, dI) tw_cl (tw_M h0 q1 q2 e1 e2 (upd (tm_tf a p1 p2 i) (((64 : Int32) * p1) + (nI i)).toNatClampNeg ((1 : Int32) - ((tm_tf a p1 p2 i) (((64 : Int32) * p1) + (nI i)).toNatClampNeg))) b) H := hP
          have hD : va_D A (tw_M h0 q1 q2 e1 e2 (upd (tm_tf a p1 p2 i) (((64 : Int32) * p1) + (nI i)).toNatClampNeg ((1 : Int32) - ((tm_tf a p1 p2 i) (((64 : Int32) * p1) + (nI i)).toNatClampNeg))) b) := hD
          refine lv_iinc (v := nI (i + 1)) (lv' := [(3, .int (nI (i + 1))), (0, .ref h0), (1, .int p1), (2, .int p2)]) hx hb dX1_turnForm_74 hl (k := 3) rfl (nI_1 i) (by decide) rfl (fun ls hl => ?_)
          refine lv_goto (tgt := 22) hx hb dX1_turnForm_77 (by decide) ?_
          have hl : lv_has ls 4 [(0, .ref h0), (1, .int p1), (2, .int p2), (3, .int (nI (i + 1)))] := lv_sub hl [1, 2, 3, 0] rfl
          have eA : (upd (tm_tf a p1 p2 i) (((64 : Int32) * p1) + (nI i)).toNatClampNeg ((1 : Int32) - ((tm_tf a p1 p2 i) (((64 : Int32) * p1) + (nI i)).toNatClampNeg))) = (tm_tf a p1 p2 (i + 1)) := by rw [tm_tf_s _ _ _ i, if_pos c_6]
          rw [eA] at hP hD
          exact ih_i ls _ _ ⟨hl, hP, hD, hS⟩
    · have b_4 : ¬ vp_in p2 64 := hr_3.mp c_4
      refine lv_sipush (v := -1000) hx hb dX1_turnForm_16 (by decide) ?_
      exact W.iret (v := (-1000 : Int32)) hx hb hr (fun t ht hW => ⟨⟨(-1000 : Int32), (a, b), rfl, ⟨fun h => absurd h.2 b_4, fun _ => ⟨rfl, rfl⟩⟩, by rw [ht]; exact hP, va_K.moved hW.alike hK, hD⟩, hS.F ht⟩) hS.2.2 dX1_turnForm_19
set_option maxHeartbeats 4000000 in
set_option maxRecDepth 100000 in
/-- takeMade(t) -/
theorem metX1_takeMade (l : Launch) (dC : Nat → ClassId) (dI : Nat → Nat → Nat) (h0 q1 q2 : Nat) (e1 e2 : ClassId) (sz : Nat) (a b : Nat → Int32) (p1 : Int32) (h1 : vp_in p1 4) : Met l yX1_takeMade (ws_ yX1_takeMade cX1_takeMade 3 (some .int)) ({ frames := 1, cells := 0, slots := 0, locals := 23 }) (va_Pc [.ref h0, .int p1] (tw_SM dC dI h0 q1 q2 e1 e2 sz a b)) (va_Qi (fun (r : Int32) (u : ((Nat → Int32) × (Nat → Int32))) => r = tm_co (tm_tk a b p1 64) p1 64 ∧ u = (tm_tk a b p1 64, b)) (tw_BM dC dI h0 q1 q2 e1 e2 (va_A (tw_M h0 q1 q2 e1 e2 a b) sz)) (va_A (tw_M h0 q1 q2 e1 e2 a b) sz)) 0 0 (va_A (tw_M h0 q1 q2 e1 e2 a b) sz) := by
  refine Met.ofW (cc := cX1_takeMade) (maxL := 3) (ret := (some .int)) (by decide) rfl ?_
  intro p e s m args below meth c s₁ B hml hv
  obtain ⟨rfl, hsz, hP, hK, hD0⟩ := hv
  have hx := B.exec
  have hb := B.bytes
  have hr := B.returns
  have hts := atoms_spec (ws := ws_ yX1_takeMade cX1_takeMade 3 (some .int)) B.pre
  have hts : ∀ w ∈ lw_all, w.before _ s = true := fun w h => hts w (List.mem_cons_of_mem _ h)
  have hown : s.vm.findClass RX1 = some m.cls := findClass_of_methodNamed B.named
  have hlocks := B.notSynchronized
  subst hsz
  have hD := hD0.self (sz := s.heap.size)
  generalize hAe : va_A (tw_M h0 q1 q2 e1 e2 a b) s.heap.size = A at hD ⊢
  have hA : ∀ q : Nat, s.heap.size ≤ q → A q := fun q h => by rw [← hAe]; exact Or.inr h
  have hS : va_S A s.heap s.heap [] := va_S.rf
  have hl := lv_entry ([.ref h0, .int p1]) (n := 3) (Nat.le_of_ble_eq_true rfl)
  rw [lg_entry_eq]
  generalize (lg_sl ([.ref h0, .int p1]) ++ List.replicate (3 - (lg_sl ([.ref h0, .int p1])).length) Slot.unset).toArray = ls at hl ⊢
  have hl : lv_has ls 3 [(0, .ref h0), (1, .int p1)] := hl
  refine lv_iconst (v := 0) hx hb dX1_takeMade_0 (by decide) ?_
  refine lv_istore_n (lv' := [(2, .int (0 : Int32)), (0, .ref h0), (1, .int p1)]) hx hb dX1_takeMade_1 rfl hl (by decide) rfl (fun ls hl => ?_)
  have hl : lv_has ls 3 [(0, .ref h0), (1, .int p1), (2, .int (0 : Int32))] := lv_sub hl [1, 2, 0] rfl
  have hl : lv_has ls 3 [(0, .ref h0), (1, .int p1), (2, .int (nI 0))] := hl
  refine tw_loopH (pc := 2) 64 (fun i ls H locs => lv_has ls 3 [(0, .ref h0), (1, .int p1), (2, .int (nI i))] ∧ va_P (dC, dI) tw_cl (tw_M h0 q1 q2 e1 e2 (tm_tk a b p1 i) b) H ∧ va_D A (tw_M h0 q1 q2 e1 e2 (tm_tk a b p1 i) b) ∧ va_S A s.heap H locs) (fun ls H locs hp => ?_) (fun i ls H locs hi_i hp ih_i => ?_) 64 0 ls _ _ (by omega) ⟨hl, hP, hD, hS⟩
  · obtain ⟨hl, hP, hD, hS⟩ := hp
    have hP : va_P (dC, dI) tw_cl (tw_M h0 q1 q2 e1 e2 (tm_tk a b p1 64) b) H := hP
    have hD : va_D A (tw_M h0 q1 q2 e1 e2 (tm_tk a b p1 64) b) := hD
    have hl : lv_has ls 3 [(0, .ref h0), (1, .int p1), (2, .int (nI 64))] := hl
    refine lv_iload_n hx hb dX1_takeMade_2 rfl (lv_at hl 2 rfl) ?_
    refine lv_bipush (v := 64) hx hb dX1_takeMade_3 (by decide) ?_
    refine lv_icmp_ge (tgt := 31) hx hb dX1_takeMade_5 (by decide) (fun _ => ?_) (fun c => absurd (nI_le (a := 64) (b := 64) (by decide) (by decide)) c)
    refine lv_aload_n hx hb dX1_takeMade_31 rfl (lv_at hl 0 rfl) ?_
    refine lv_iload_n hx hb dX1_takeMade_32 rfl (lv_at hl 1 rfl) ?_
    refine vp_callSi (W.runV (As := [.int p1]) (rest := []) ⟨hx, hb, hml, hown, hts⟩ (metX1_countOnes l dC dI h0 q1 q2 e1 e2 (tm_tk a b p1 64) b p1 h1) (cwV 1 hts (lw_V q200 q202 qs15 q26 q203) rfl rfl rfl (by decide +kernel) ⟨Nat.le_of_ble_eq_true rfl, Nat.le_of_ble_eq_true rfl⟩) (tw_preM hK hP _) rfl rfl hl.1 rfl (lv_room (Nat.le_of_ble_eq_true rfl)) dX1_takeMade_33 ⟨Nat.le_of_ble_eq_true rfl, Nat.le_of_ble_eq_true rfl⟩) (fun r_1 hr_1 => ?_)
    rw [hr_1]
    exact W.iret (v := (tm_co (tm_tk a b p1 64) p1 64)) hx hb hr (fun t ht hW => ⟨⟨(tm_co (tm_tk a b p1 64) p1 64), ((tm_tk a b p1 64), b), rfl, ⟨rfl, rfl⟩, by rw [ht]; exact hP, va_K.moved hW.alike hK, hD⟩, hS.F ht⟩) hS.2.2 dX1_takeMade_36
  · obtain ⟨hl, hP, hD, hS⟩ := hp
    have hP : va_P (dC, dI) tw_cl (tw_M h0 q1 q2 e1 e2 (tm_tk a b p1 i) b) H := hP
    have hD : va_D A (tw_M h0 q1 q2 e1 e2 (tm_tk a b p1 i) b) := hD
    have hl : lv_has ls 3 [(0, .ref h0), (1, .int p1), (2, .int (nI i))] := hl
    refine lv_iload_n hx hb dX1_takeMade_2 rfl (lv_at hl 2 rfl) ?_
    refine lv_bipush (v := 64) hx hb dX1_takeMade_3 (by decide) ?_
    refine lv_icmp_ge (tgt := 31) hx hb dX1_takeMade_5 (by decide) (fun c => absurd c (nI_ge (a := i) (b := 64) (by omega) (by decide))) (fun _ => ?_)
    refine lv_aload_n hx hb dX1_takeMade_8 rfl (lv_at hl 0 rfl) ?_
    refine va_get (D := (dC, dI)) (ci := 1) (v := .ref q1) (C := RX1) (T := TX1) (N := 2) hx hb hts in_X1 hown hK hP 0 rfl rfl 0 (by decide) (hts _ q177) (fun _ h9 => h9) rfl dX1_takeMade_9 ?_
    refine lv_bipush (v := 64) hx hb dX1_takeMade_12 (by decide) ?_
    refine lv_iload_n hx hb dX1_takeMade_14 rfl (lv_at hl 1 rfl) ?_
    refine lv_imul hx hb dX1_takeMade_15 ?_
    refine lv_iload_n hx hb dX1_takeMade_16 rfl (lv_at hl 2 rfl) ?_
    refine lv_iadd hx hb dX1_takeMade_17 ?_
    refine lv_aload_n hx hb dX1_takeMade_18 rfl (lv_at hl 0 rfl) ?_
    refine va_get (D := (dC, dI)) (ci := 1) (v := .ref q2) (C := RX1) (T := TX1) (N := 2) hx hb hts in_X1 hown hK hP 0 rfl rfl 1 (by decide) (hts _ q178) (fun _ h9 => h9) rfl dX1_takeMade_19 ?_
    refine lv_iload_n hx hb dX1_takeMade_22 rfl (lv_at hl 2 rfl) ?_
    refine va_iald hx hb hK hP 2 1 rfl rfl (vp_in_nI (show i < 64 by omega) (by decide)) dX1_takeMade_23 ?_
    refine va_iast hx hb hK hP hD hS 1 0 rfl rfl (tw_ix h1 (show i < 64 by omega)) dX1_takeMade_24 (fun H locs hP hD hS => ?_)
    have hP : va_P (dC, dI) tw_cl (tw_M h0 q1 q2 e1 e2 (upd (tm_tk a b p1 i) (((64 : Int32) * p1) + (nI i)).toNatClampNeg (b (nI i).toNatClampNeg)) b) H := hP
    have hD : va_D A (tw_M h0 q1 q2 e1 e2 (upd (tm_tk a b p1 i) (((64 : Int32) * p1) + (nI i)).toNatClampNeg (b (nI i).toNatClampNeg)) b) := hD
    refine lv_iinc (v := nI (i + 1)) (lv' := [(2, .int (nI (i + 1))), (0, .ref h0), (1, .int p1)]) hx hb dX1_takeMade_25 hl (k := 2) rfl (nI_1 i) (by decide) rfl (fun ls hl => ?_)
    refine lv_goto (tgt := 2) hx hb dX1_takeMade_28 (by decide) ?_
    have hl : lv_has ls 3 [(0, .ref h0), (1, .int p1), (2, .int (nI (i + 1)))] := lv_sub hl [1, 2, 0] rfl
    have eA : (upd (tm_tk a b p1 i) (((64 : Int32) * p1) + (nI i)).toNatClampNeg (b (nI i).toNatClampNeg)) = (tm_tk a b p1 (i + 1)) := by rw [tm_tk_s _ _ _ i]
    rw [eA] at hP hD
    exact ih_i ls _ _ ⟨hl, hP, hD, hS⟩
set_option maxHeartbeats 4000000 in
set_option maxRecDepth 100000 in
/-- combine(t, op, r, s) -/
theorem metX1_combine (l : Launch) (dC : Nat → ClassId) (dI : Nat → Nat → Nat) (h0 q1 q2 : Nat) (e1 e2 : ClassId) (sz : Nat) (a b : Nat → Int32) (p1 : Int32) (p2 : Int32) (p3 : Int32) (p4 : Int32) : Met l yX1_combine (ws_ yX1_combine cX1_combine 8 (some .int)) ({ frames := 2, cells := 0, slots := 0, locals := 45 }) (va_Pc [.ref h0, .int p1, .int p2, .int p3, .int p4] (tw_SM dC dI h0 q1 q2 e1 e2 sz a b)) (va_Qi (fun (r : Int32) (u : ((Nat → Int32) × (Nat → Int32))) => ((vp_in p1 4 ∧ ¬ p2 < 0 ∧ ¬ (3 : Int32) < p2 ∧ vp_in p3 4 ∧ vp_in p4 4) → r = tm_co (tm_tk a (tm_cb a b p2 p3 p4 64) p1 64) p1 64 ∧ u = (tm_tk a (tm_cb a b p2 p3 p4 64) p1 64, tm_cb a b p2 p3 p4 64)) ∧ (¬ (vp_in p1 4 ∧ ¬ p2 < 0 ∧ ¬ (3 : Int32) < p2 ∧ vp_in p3 4 ∧ vp_in p4 4) → r = (-1000 : Int32) ∧ u = (a, b))) (tw_BM dC dI h0 q1 q2 e1 e2 (va_A (tw_M h0 q1 q2 e1 e2 a b) sz)) (va_A (tw_M h0 q1 q2 e1 e2 a b) sz)) 0 0 (va_A (tw_M h0 q1 q2 e1 e2 a b) sz) := by
  refine Met.ofW (cc := cX1_combine) (maxL := 8) (ret := (some .int)) (by decide) rfl ?_
  intro p e s m args below meth c s₁ B hml hv
  obtain ⟨rfl, hsz, hP, hK, hD0⟩ := hv
  have hx := B.exec
  have hb := B.bytes
  have hr := B.returns
  have hts := atoms_spec (ws := ws_ yX1_combine cX1_combine 8 (some .int)) B.pre
  have hts : ∀ w ∈ lw_all, w.before _ s = true := fun w h => hts w (List.mem_cons_of_mem _ h)
  have hown : s.vm.findClass RX1 = some m.cls := findClass_of_methodNamed B.named
  have hlocks := B.notSynchronized
  subst hsz
  have hD := hD0.self (sz := s.heap.size)
  generalize hAe : va_A (tw_M h0 q1 q2 e1 e2 a b) s.heap.size = A at hD ⊢
  have hA : ∀ q : Nat, s.heap.size ≤ q → A q := fun q h => by rw [← hAe]; exact Or.inr h
  have hS : va_S A s.heap s.heap [] := va_S.rf
  have hl := lv_entry ([.ref h0, .int p1, .int p2, .int p3, .int p4]) (n := 8) (Nat.le_of_ble_eq_true rfl)
  rw [lg_entry_eq]
  generalize (lg_sl ([.ref h0, .int p1, .int p2, .int p3, .int p4]) ++ List.replicate (8 - (lg_sl ([.ref h0, .int p1, .int p2, .int p3, .int p4])).length) Slot.unset).toArray = ls at hl ⊢
  have hl : lv_has ls 8 [(0, .ref h0), (1, .int p1), (2, .int p2), (3, .int p3), (4, .int p4)] := hl
  refine lv_aload_n hx hb dX1_combine_0 rfl (lv_at hl 0 rfl) ?_
  refine lv_iload_n hx hb dX1_combine_1 rfl (lv_at hl 1 rfl) ?_
  refine vp_callSi (W.runV (As := [.int p1]) (rest := []) ⟨hx, hb, hml, hown, hts⟩ (metX1_isTable l h0 p1) (cwV 1 hts (lw_V q188 q190 qs13 q26 q191) rfl rfl rfl (by decide +kernel) ⟨Nat.le_of_ble_eq_true rfl, Nat.le_of_ble_eq_true rfl⟩) (tw_pre0M hK hP _) rfl rfl hl.1 rfl (lv_room (Nat.le_of_ble_eq_true rfl)) dX1_combine_2 ⟨Nat.le_of_ble_eq_true rfl, Nat.le_of_ble_eq_true rfl⟩) (fun r_1 hr_1 => ?_)
  refine lv_if_eq (tgt := 34) hx hb dX1_combine_5 (by decide) (fun c_2 => ?_) (fun c_2 => ?_)
  · have b_2 : ¬ vp_in p1 4 := hr_1.mp c_2
    refine lv_sipush (v := -1000) hx hb dX1_combine_34 (by decide) ?_
    exact W.iret (v := (-1000 : Int32)) hx hb hr (fun t ht hW => ⟨⟨(-1000 : Int32), (a, b), rfl, ⟨fun h => absurd h.1 b_2, fun _ => ⟨rfl, rfl⟩⟩, by rw [ht]; exact hP, va_K.moved hW.alike hK, hD⟩, hS.F ht⟩) hS.2.2 dX1_combine_37
  · have b_2 : vp_in p1 4 := Classical.not_not.mp (fun h => c_2 (hr_1.mpr h))
    refine lv_iload_n hx hb dX1_combine_8 rfl (lv_at hl 2 rfl) ?_
    refine lv_if_lt (tgt := 34) hx hb dX1_combine_9 (by decide) (fun c_3 => ?_) (fun c_3 => ?_)
    · refine lv_sipush (v := -1000) hx hb dX1_combine_34 (by decide) ?_
      exact W.iret (v := (-1000 : Int32)) hx hb hr (fun t ht hW => ⟨⟨(-1000 : Int32), (a, b), rfl, ⟨fun h => absurd h.2.1 (fun hn => hn c_3), fun _ => ⟨rfl, rfl⟩⟩, by rw [ht]; exact hP, va_K.moved hW.alike hK, hD⟩, hS.F ht⟩) hS.2.2 dX1_combine_37
    · refine lv_iload_n hx hb dX1_combine_12 rfl (lv_at hl 2 rfl) ?_
      refine lv_iconst (v := 3) hx hb dX1_combine_13 (by decide) ?_
      refine lv_icmp_gt (tgt := 34) hx hb dX1_combine_14 (by decide) (fun c_4 => ?_) (fun c_4 => ?_)
      · refine lv_sipush (v := -1000) hx hb dX1_combine_34 (by decide) ?_
        exact W.iret (v := (-1000 : Int32)) hx hb hr (fun t ht hW => ⟨⟨(-1000 : Int32), (a, b), rfl, ⟨fun h => absurd h.2.2.1 (fun hn => hn c_4), fun _ => ⟨rfl, rfl⟩⟩, by rw [ht]; exact hP, va_K.moved hW.alike hK, hD⟩, hS.F ht⟩) hS.2.2 dX1_combine_37
      · refine lv_aload_n hx hb dX1_combine_17 rfl (lv_at hl 0 rfl) ?_
        refine lv_iload_n hx hb dX1_combine_18 rfl (lv_at hl 3 rfl) ?_
        refine vp_callSi (W.runV (As := [.int p3]) (rest := []) ⟨hx, hb, hml, hown, hts⟩ (metX1_isTable l h0 p3) (cwV 1 hts (lw_V q188 q190 qs13 q26 q191) rfl rfl rfl (by decide +kernel) ⟨Nat.le_of_ble_eq_true rfl, Nat.le_of_ble_eq_true rfl⟩) (tw_pre0M hK hP _) rfl rfl hl.1 rfl (lv_room (Nat.le_of_ble_eq_true rfl)) dX1_combine_19 ⟨Nat.le_of_ble_eq_true rfl, Nat.le_of_ble_eq_true rfl⟩) (fun r_5 hr_5 => ?_)
        refine lv_if_eq (tgt := 34) hx hb dX1_combine_22 (by decide) (fun c_6 => ?_) (fun c_6 => ?_)
        · have b_6 : ¬ vp_in p3 4 := hr_5.mp c_6
          refine lv_sipush (v := -1000) hx hb dX1_combine_34 (by decide) ?_
          exact W.iret (v := (-1000 : Int32)) hx hb hr (fun t ht hW => ⟨⟨(-1000 : Int32), (a, b), rfl, ⟨fun h => absurd h.2.2.2.1 b_6, fun _ => ⟨rfl, rfl⟩⟩, by rw [ht]; exact hP, va_K.moved hW.alike hK, hD⟩, hS.F ht⟩) hS.2.2 dX1_combine_37
        · have b_6 : vp_in p3 4 := Classical.not_not.mp (fun h => c_6 (hr_5.mpr h))
          refine lv_aload_n hx hb dX1_combine_25 rfl (lv_at hl 0 rfl) ?_
          refine lv_iload hx hb dX1_combine_26 (lv_at hl 4 rfl) ?_
          refine vp_callSi (W.runV (As := [.int p4]) (rest := []) ⟨hx, hb, hml, hown, hts⟩ (metX1_isTable l h0 p4) (cwV 1 hts (lw_V q188 q190 qs13 q26 q191) rfl rfl rfl (by decide +kernel) ⟨Nat.le_of_ble_eq_true rfl, Nat.le_of_ble_eq_true rfl⟩) (tw_pre0M hK hP _) rfl rfl hl.1 rfl (lv_room (Nat.le_of_ble_eq_true rfl)) dX1_combine_28 ⟨Nat.le_of_ble_eq_true rfl, Nat.le_of_ble_eq_true rfl⟩) (fun r_7 hr_7 => ?_)
          refine lv_if_ne (tgt := 38) hx hb dX1_combine_31 (by decide) (fun c_8 => ?_) (fun c_8 => ?_)
          · have b_8 : vp_in p4 4 := Classical.not_not.mp (fun h => c_8 (hr_7.mpr h))
            refine lv_iconst (v := 0) hx hb dX1_combine_38 (by decide) ?_
            refine lv_istore (lv' := [(5, .int (0 : Int32)), (0, .ref h0), (1, .int p1), (2, .int p2), (3, .int p3), (4, .int p4)]) hx hb dX1_combine_39 hl (by decide) rfl (fun ls hl => ?_)
            have hl : lv_has ls 8 [(0, .ref h0), (1, .int p1), (2, .int p2), (3, .int p3), (4, .int p4), (5, .int (0 : Int32))] := lv_sub hl [1, 2, 3, 4, 5, 0] rfl
            have hl : lv_has ls 8 [(0, .ref h0), (1, .int p1), (2, .int p2), (3, .int p3), (4, .int p4), (5, .int (nI 0))] := hl
            refine tw_loopH (pc := 41) 64 (fun i ls H locs => lv_has ls 8 [(0, .ref h0), (1, .int p1), (2, .int p2), (3, .int p3), (4, .int p4), (5, .int (nI i))] ∧ va_P (dC, dI) tw_cl (tw_M h0 q1 q2 e1 e2 a (tm_cb a b p2 p3 p4 i)) H ∧ va_D A (tw_M h0 q1 q2 e1 e2 a (tm_cb a b p2 p3 p4 i)) ∧ va_S A s.heap H locs) (fun ls H locs hp => ?_) (fun i ls H locs hi_i hp ih_i => ?_) 64 0 ls _ _ (by omega) ⟨hl, hP, hD, hS⟩
            · obtain ⟨hl, hP, hD, hS⟩ := hp
              have hP : va_P (dC, dI) tw_cl (tw_M h0 q1 q2 e1 e2 a (tm_cb a b p2 p3 p4 64)) H := hP
              have hD : va_D A (tw_M h0 q1 q2 e1 e2 a (tm_cb a b p2 p3 p4 64)) := hD
              have hl : lv_has ls 8 [(0, .ref h0), (1, .int p1), (2, .int p2), (3, .int p3), (4, .int p4), (5, .int (nI 64))] := hl
              refine lv_iload hx hb dX1_combine_41 (lv_at hl 5 rfl) ?_
              refine lv_bipush (v := 64) hx hb dX1_combine_43 (by decide) ?_
              refine lv_icmp_ge (tgt := 143) hx hb dX1_combine_45 (by decide) (fun _ => ?_) (fun c => absurd (nI_le (a := 64) (b := 64) (by decide) (by decide)) c)
              refine lv_aload_n hx hb dX1_combine_143 rfl (lv_at hl 0 rfl) ?_
              refine lv_iload_n hx hb dX1_combine_144 rfl (lv_at hl 1 rfl) ?_
              have hFc := va_free (wc := tw_M h0 q1 q2 e1 e2 a (tm_cb a b p2 p3 p4 64)) hD hS hA [0, 1, 2] rfl
              refine va_calli (va_runV (As := [.int p1]) (rest := []) ⟨hx, hb, hml, hown, hts⟩ (metX1_takeMade l dC dI h0 q1 q2 e1 e2 _ a (tm_cb a b p2 p3 p4 64) p1 b_2) (cwV 1 hts (lw_V q208 q210 qs16 q26 q211) rfl rfl rfl (by decide +kernel) ⟨Nat.le_of_ble_eq_true rfl, Nat.le_of_ble_eq_true rfl⟩) (tw_preSM hK hP hD _) rfl rfl hl.1 rfl (lv_room (Nat.le_of_ble_eq_true rfl)) dX1_combine_145 ⟨Nat.le_of_ble_eq_true rfl, Nat.le_of_ble_eq_true rfl⟩) hS (fun q _ h => hFc q h) hFc (fun r_9 u t H1 locs ht hvm hw hB hz1 hk1 hS => ?_)
              obtain ⟨hw1, hw2⟩ := hw
              rw [hw1]
              subst hw2
              obtain ⟨hP1, hK1, hD1⟩ := hB
              rw [ht] at hP1
              obtain ⟨hP, hD⟩ := va_join (wr := []) (w1 := tw_M h0 q1 q2 e1 e2 (tm_tk a (tm_cb a b p2 p3 p4 64) p1 64) (tm_cb a b p2 p3 p4 64)) hP hD [0, 1, 2] [] rfl rfl (by decide) (by decide) hk1 hFc hP1 hD1
              generalize H1 = H at hP hS ⊢
              have hP : va_P (dC, dI) tw_cl (tw_M h0 q1 q2 e1 e2 (tm_tk a (tm_cb a b p2 p3 p4 64) p1 64) (tm_cb a b p2 p3 p4 64)) H := hP
              have hD : va_D A (tw_M h0 q1 q2 e1 e2 (tm_tk a (tm_cb a b p2 p3 p4 64) p1 64) (tm_cb a b p2 p3 p4 64)) := hD
              exact W.iret (v := (tm_co (tm_tk a (tm_cb a b p2 p3 p4 64) p1 64) p1 64)) hx hb hr (fun t ht hW => ⟨⟨(tm_co (tm_tk a (tm_cb a b p2 p3 p4 64) p1 64) p1 64), (tm_tk a (tm_cb a b p2 p3 p4 64) p1 64, (tm_cb a b p2 p3 p4 64)), rfl, ⟨fun _ => ⟨rfl, rfl⟩, fun h => absurd ⟨b_2, c_3, c_4, b_6, b_8⟩ h⟩, by rw [ht]; exact hP, va_K.moved hW.alike hK, hD⟩, hS.F ht⟩) hS.2.2 dX1_combine_148
            · obtain ⟨hl, hP, hD, hS⟩ := hp
              have hP : va_P (dC, dI) tw_cl (tw_M h0 q1 q2 e1 e2 a (tm_cb a b p2 p3 p4 i)) H := hP
              have hD : va_D A (tw_M h0 q1 q2 e1 e2 a (tm_cb a b p2 p3 p4 i)) := hD
              have hl : lv_has ls 8 [(0, .ref h0), (1, .int p1), (2, .int p2), (3, .int p3), (4, .int p4), (5, .int (nI i))] := hl
              refine lv_iload hx hb dX1_combine_41 (lv_at hl 5 rfl) ?_
              refine lv_bipush (v := 64) hx hb dX1_combine_43 (by decide) ?_
              refine lv_icmp_ge (tgt := 143) hx hb dX1_combine_45 (by decide) (fun c => absurd c (nI_ge (a := i) (b := 64) (by omega) (by decide))) (fun _ => ?_)
              refine lv_aload_n hx hb dX1_combine_48 rfl (lv_at hl 0 rfl) ?_
              refine va_get (D := (dC, dI)) (ci := 1) (v := .ref q1) (C := RX1) (T := TX1) (N := 2) hx hb hts in_X1 hown hK hP 0 rfl rfl 0 (by decide) (hts _ q177) (fun _ h9 => h9) rfl dX1_combine_49 ?_
              refine lv_bipush (v := 64) hx hb dX1_combine_52 (by decide) ?_
              refine lv_iload_n hx hb dX1_combine_54 rfl (lv_at hl 3 rfl) ?_
              refine lv_imul hx hb dX1_combine_55 ?_
              refine lv_iload hx hb dX1_combine_56 (lv_at hl 5 rfl) ?_
              refine lv_iadd hx hb dX1_combine_58 ?_
              refine va_iald hx hb hK hP 1 0 rfl rfl (tw_ix b_6 (show i < 64 by omega)) dX1_combine_59 ?_
              refine lv_istore (lv' := [(6, .int (a (((64 : Int32) * p3) + (nI i)).toNatClampNeg)), (0, .ref h0), (1, .int p1), (2, .int p2), (3, .int p3), (4, .int p4), (5, .int (nI i))]) hx hb dX1_combine_60 hl (by decide) rfl (fun ls hl => ?_)
              refine lv_aload_n hx hb dX1_combine_62 rfl (lv_at hl 1 rfl) ?_
              refine va_get (D := (dC, dI)) (ci := 1) (v := .ref q1) (C := RX1) (T := TX1) (N := 2) hx hb hts in_X1 hown hK hP 0 rfl rfl 0 (by decide) (hts _ q177) (fun _ h9 => h9) rfl dX1_combine_63 ?_
              refine lv_bipush (v := 64) hx hb dX1_combine_66 (by decide) ?_
              refine lv_iload hx hb dX1_combine_68 (lv_at hl 5 rfl) ?_
              refine lv_imul hx hb dX1_combine_70 ?_
              refine lv_iload hx hb dX1_combine_71 (lv_at hl 6 rfl) ?_
              refine lv_iadd hx hb dX1_combine_73 ?_
              refine va_iald hx hb hK hP 1 0 rfl rfl (tw_ix b_8 (show i < 64 by omega)) dX1_combine_74 ?_
              refine lv_istore (lv' := [(7, .int (a (((64 : Int32) * p4) + (nI i)).toNatClampNeg)), (6, .int (a (((64 : Int32) * p3) + (nI i)).toNatClampNeg)), (0, .ref h0), (1, .int p1), (2, .int p2), (3, .int p3), (4, .int p4), (5, .int (nI i))]) hx hb dX1_combine_75 hl (by decide) rfl (fun ls hl => ?_)
              refine lv_aload_n hx hb dX1_combine_77 rfl (lv_at hl 2 rfl) ?_
              refine va_get (D := (dC, dI)) (ci := 1) (v := .ref q2) (C := RX1) (T := TX1) (N := 2) hx hb hts in_X1 hown hK hP 0 rfl rfl 1 (by decide) (hts _ q178) (fun _ h9 => h9) rfl dX1_combine_78 ?_
              refine lv_iload hx hb dX1_combine_81 (lv_at hl 7 rfl) ?_
              refine lv_iload_n hx hb dX1_combine_83 rfl (lv_at hl 4 rfl) ?_
              refine lv_if_ne (tgt := 95) hx hb dX1_combine_84 (by decide) (fun c_10 => ?_) (fun c_10 => ?_)
              · refine lv_iload_n hx hb dX1_combine_95 rfl (lv_at hl 4 rfl) ?_
                refine lv_iconst (v := 1) hx hb dX1_combine_96 (by decide) ?_
                refine lv_icmp_ne (tgt := 108) hx hb dX1_combine_97 (by decide) (fun c_11 => ?_) (fun c_11 => ?_)
                · refine lv_iload_n hx hb dX1_combine_108 rfl (lv_at hl 4 rfl) ?_
                  refine lv_iconst (v := 2) hx hb dX1_combine_109 (by decide) ?_
                  refine lv_icmp_ne (tgt := 121) hx hb dX1_combine_110 (by decide) (fun c_12 => ?_) (fun c_12 => ?_)
                  · refine lv_iload hx hb dX1_combine_121 (lv_at hl 0 rfl) ?_
                    refine lv_iconst (v := 1) hx hb dX1_combine_123 (by decide) ?_
                    refine lv_icmp_ne (tgt := 132) hx hb dX1_combine_124 (by decide) (fun c_13 => ?_) (fun c_13 => ?_)
                    · refine lv_iconst (v := 1) hx hb dX1_combine_132 (by decide) ?_
                      refine lv_iload hx hb dX1_combine_133 (lv_at hl 1 rfl) ?_
                      refine lv_isub hx hb dX1_combine_135 ?_
                      refine va_iast hx hb hK hP hD hS 2 1 rfl rfl (vp_in_nI (show i < 64 by omega) (by decide)) dX1_combine_136 (fun H locs hP hD hS => ?_)
                      have hP : va_P (dC, dI) tw_cl (tw_M h0 q1 q2 e1 e2 a (upd (tm_cb a b p2 p3 p4 i) (nI i).toNatClampNeg ((1 : Int32) - (a (((64 : Int32) * p3) + (nI i)).toNatClampNeg)))) H := hP
                      have hD : va_D A (tw_M h0 q1 q2 e1 e2 a (upd (tm_cb a b p2 p3 p4 i) (nI i).toNatClampNeg ((1 : Int32) - (a (((64 : Int32) * p3) + (nI i)).toNatClampNeg)))) := hD
                      refine lv_iinc (v := nI (i + 1)) (lv' := [(5, .int (nI (i + 1))), (7, .int (a (((64 : Int32) * p4) + (nI i)).toNatClampNeg)), (6, .int (a (((64 : Int32) * p3) + (nI i)).toNatClampNeg)), (0, .ref h0), (1, .int p1), (2, .int p2), (3, .int p3), (4, .int p4)]) hx hb dX1_combine_137 hl (k := 7) rfl (nI_1 i) (by decide) rfl (fun ls hl => ?_)
                      refine lv_goto (tgt := 41) hx hb dX1_combine_140 (by decide) ?_
                      have hl : lv_has ls 8 [(0, .ref h0), (1, .int p1), (2, .int p2), (3, .int p3), (4, .int p4), (5, .int (nI (i + 1)))] := lv_sub hl [3, 4, 5, 6, 7, 0] rfl
                      have eA : (upd (tm_cb a b p2 p3 p4 i) (nI i).toNatClampNeg ((1 : Int32) - (a (((64 : Int32) * p3) + (nI i)).toNatClampNeg))) = (tm_cb a b p2 p3 p4 (i + 1)) := by rw [tm_cb_s _ _ _ _ _ i, tm_cop, if_neg c_10, if_neg c_11, if_neg c_12, if_neg c_13]
                      rw [eA] at hP hD
                      exact ih_i ls _ _ ⟨hl, hP, hD, hS⟩
                    · refine lv_iload hx hb dX1_combine_127 (lv_at hl 1 rfl) ?_
                      refine lv_goto (tgt := 136) hx hb dX1_combine_129 (by decide) ?_
                      refine va_iast hx hb hK hP hD hS 2 1 rfl rfl (vp_in_nI (show i < 64 by omega) (by decide)) dX1_combine_136 (fun H locs hP hD hS => ?_)
                      have hP : va_P (dC, dI) tw_cl (tw_M h0 q1 q2 e1 e2 a (upd (tm_cb a b p2 p3 p4 i) (nI i).toNatClampNeg (a (((64 : Int32) * p3) + (nI i)).toNatClampNeg))) H := hP
                      have hD : va_D A (tw_M h0 q1 q2 e1 e2 a (upd (tm_cb a b p2 p3 p4 i) (nI i).toNatClampNeg (a (((64 : Int32) * p3) + (nI i)).toNatClampNeg))) := hD
                      refine lv_iinc (v := nI (i + 1)) (lv' := [(5, .int (nI (i + 1))), (7, .int (a (((64 : Int32) * p4) + (nI i)).toNatClampNeg)), (6, .int (a (((64 : Int32) * p3) + (nI i)).toNatClampNeg)), (0, .ref h0), (1, .int p1), (2, .int p2), (3, .int p3), (4, .int p4)]) hx hb dX1_combine_137 hl (k := 7) rfl (nI_1 i) (by decide) rfl (fun ls hl => ?_)
                      refine lv_goto (tgt := 41) hx hb dX1_combine_140 (by decide) ?_
                      have hl : lv_has ls 8 [(0, .ref h0), (1, .int p1), (2, .int p2), (3, .int p3), (4, .int p4), (5, .int (nI (i + 1)))] := lv_sub hl [3, 4, 5, 6, 7, 0] rfl
                      have eA : (upd (tm_cb a b p2 p3 p4 i) (nI i).toNatClampNeg (a (((64 : Int32) * p3) + (nI i)).toNatClampNeg)) = (tm_cb a b p2 p3 p4 (i + 1)) := by rw [tm_cb_s _ _ _ _ _ i, tm_cop, if_neg c_10, if_neg c_11, if_neg c_12, if_pos c_13]
                      rw [eA] at hP hD
                      exact ih_i ls _ _ ⟨hl, hP, hD, hS⟩
                  · refine lv_iload hx hb dX1_combine_113 (lv_at hl 1 rfl) ?_
                    refine lv_iload hx hb dX1_combine_115 (lv_at hl 0 rfl) ?_
                    refine lv_ior hx hb dX1_combine_117 ?_
                    refine lv_goto (tgt := 136) hx hb dX1_combine_118 (by decide) ?_
                    refine va_iast hx hb hK hP hD hS 2 1 rfl rfl (vp_in_nI (show i < 64 by omega) (by decide)) dX1_combine_136 (fun H locs hP hD hS => ?_)
                    have hP : va_P (dC, dI) tw_cl (tw_M h0 q1 q2 e1 e2 a (upd (tm_cb a b p2 p3 p4 i) (nI i).toNatClampNeg ((a (((64 : Int32) * p3) + (nI i)).toNatClampNeg) ||| (a (((64 : Int32) * p4) + (nI i)).toNatClampNeg)))) H := hP
                    have hD : va_D A (tw_M h0 q1 q2 e1 e2 a (upd (tm_cb a b p2 p3 p4 i) (nI i).toNatClampNeg ((a (((64 : Int32) * p3) + (nI i)).toNatClampNeg) ||| (a (((64 : Int32) * p4) + (nI i)).toNatClampNeg)))) := hD
                    refine lv_iinc (v := nI (i + 1)) (lv' := [(5, .int (nI (i + 1))), (7, .int (a (((64 : Int32) * p4) + (nI i)).toNatClampNeg)), (6, .int (a (((64 : Int32) * p3) + (nI i)).toNatClampNeg)), (0, .ref h0), (1, .int p1), (2, .int p2), (3, .int p3), (4, .int p4)]) hx hb dX1_combine_137 hl (k := 7) rfl (nI_1 i) (by decide) rfl (fun ls hl => ?_)
                    refine lv_goto (tgt := 41) hx hb dX1_combine_140 (by decide) ?_
                    have hl : lv_has ls 8 [(0, .ref h0), (1, .int p1), (2, .int p2), (3, .int p3), (4, .int p4), (5, .int (nI (i + 1)))] := lv_sub hl [3, 4, 5, 6, 7, 0] rfl
                    have eA : (upd (tm_cb a b p2 p3 p4 i) (nI i).toNatClampNeg ((a (((64 : Int32) * p3) + (nI i)).toNatClampNeg) ||| (a (((64 : Int32) * p4) + (nI i)).toNatClampNeg))) = (tm_cb a b p2 p3 p4 (i + 1)) := by rw [tm_cb_s _ _ _ _ _ i, tm_cop, if_neg c_10, if_neg c_11, if_pos c_12]
                    rw [eA] at hP hD
                    exact ih_i ls _ _ ⟨hl, hP, hD, hS⟩
                · refine lv_iload hx hb dX1_combine_100 (lv_at hl 1 rfl) ?_
                  refine lv_iload hx hb dX1_combine_102 (lv_at hl 0 rfl) ?_
                  refine lv_iand hx hb dX1_combine_104 ?_
                  refine lv_goto (tgt := 136) hx hb dX1_combine_105 (by decide) ?_
                  refine va_iast hx hb hK hP hD hS 2 1 rfl rfl (vp_in_nI (show i < 64 by omega) (by decide)) dX1_combine_136 (fun H locs hP hD hS => ?_)
                  have hP : va_P (dC, dI) tw_cl (tw_M h0 q1 q2 e1 e2 a (upd (tm_cb a b p2 p3 p4 i) (nI i).toNatClampNeg ((a (((64 : Int32) * p3) + (nI i)).toNatClampNeg) &&& (a (((64 : Int32) * p4) + (nI i)).toNatClampNeg)))) H := hP
                  have hD : va_D A (tw_M h0 q1 q2 e1 e2 a (upd (tm_cb a b p2 p3 p4 i) (nI i).toNatClampNeg ((a (((64 : Int32) * p3) + (nI i)).toNatClampNeg) &&& (a (((64 : Int32) * p4) + (nI i)).toNatClampNeg)))) := hD
                  refine lv_iinc (v := nI (i + 1)) (lv' := [(5, .int (nI (i + 1))), (7, .int (a (((64 : Int32) * p4) + (nI i)).toNatClampNeg)), (6, .int (a (((64 : Int32) * p3) + (nI i)).toNatClampNeg)), (0, .ref h0), (1, .int p1), (2, .int p2), (3, .int p3), (4, .int p4)]) hx hb dX1_combine_137 hl (k := 7) rfl (nI_1 i) (by decide) rfl (fun ls hl => ?_)
                  refine lv_goto (tgt := 41) hx hb dX1_combine_140 (by decide) ?_
                  have hl : lv_has ls 8 [(0, .ref h0), (1, .int p1), (2, .int p2), (3, .int p3), (4, .int p4), (5, .int (nI (i + 1)))] := lv_sub hl [3, 4, 5, 6, 7, 0] rfl
                  have eA : (upd (tm_cb a b p2 p3 p4 i) (nI i).toNatClampNeg ((a (((64 : Int32) * p3) + (nI i)).toNatClampNeg) &&& (a (((64 : Int32) * p4) + (nI i)).toNatClampNeg))) = (tm_cb a b p2 p3 p4 (i + 1)) := by rw [tm_cb_s _ _ _ _ _ i, tm_cop, if_neg c_10, if_pos c_11]
                  rw [eA] at hP hD
                  exact ih_i ls _ _ ⟨hl, hP, hD, hS⟩
              · refine lv_iload hx hb dX1_combine_87 (lv_at hl 1 rfl) ?_
                refine lv_iload hx hb dX1_combine_89 (lv_at hl 0 rfl) ?_
                refine lv_ixor hx hb dX1_combine_91 ?_
                refine lv_goto (tgt := 136) hx hb dX1_combine_92 (by decide) ?_
                refine va_iast hx hb hK hP hD hS 2 1 rfl rfl (vp_in_nI (show i < 64 by omega) (by decide)) dX1_combine_136 (fun H locs hP hD hS => ?_)
                have hP : va_P (dC, dI) tw_cl (tw_M h0 q1 q2 e1 e2 a (upd (tm_cb a b p2 p3 p4 i) (nI i).toNatClampNeg ((a (((64 : Int32) * p3) + (nI i)).toNatClampNeg) ^^^ (a (((64 : Int32) * p4) + (nI i)).toNatClampNeg)))) H := hP
                have hD : va_D A (tw_M h0 q1 q2 e1 e2 a (upd (tm_cb a b p2 p3 p4 i) (nI i).toNatClampNeg ((a (((64 : Int32) * p3) + (nI i)).toNatClampNeg) ^^^ (a (((64 : Int32) * p4) + (nI i)).toNatClampNeg)))) := hD
                refine lv_iinc (v := nI (i + 1)) (lv' := [(5, .int (nI (i + 1))), (7, .int (a (((64 : Int32) * p4) + (nI i)).toNatClampNeg)), (6, .int (a (((64 : Int32) * p3) + (nI i)).toNatClampNeg)), (0, .ref h0), (1, .int p1), (2, .int p2), (3, .int p3), (4, .int p4)]) hx hb dX1_combine_137 hl (k := 7) rfl (nI_1 i) (by decide) rfl (fun ls hl => ?_)
                refine lv_goto (tgt := 41) hx hb dX1_combine_140 (by decide) ?_
                have hl : lv_has ls 8 [(0, .ref h0), (1, .int p1), (2, .int p2), (3, .int p3), (4, .int p4), (5, .int (nI (i + 1)))] := lv_sub hl [3, 4, 5, 6, 7, 0] rfl
                have eA : (upd (tm_cb a b p2 p3 p4 i) (nI i).toNatClampNeg ((a (((64 : Int32) * p3) + (nI i)).toNatClampNeg) ^^^ (a (((64 : Int32) * p4) + (nI i)).toNatClampNeg))) = (tm_cb a b p2 p3 p4 (i + 1)) := by rw [tm_cb_s _ _ _ _ _ i, tm_cop, if_pos c_10]
                rw [eA] at hP hD
                exact ih_i ls _ _ ⟨hl, hP, hD, hS⟩
          · have b_8 : ¬ vp_in p4 4 := hr_7.mp c_8
            refine lv_sipush (v := -1000) hx hb dX1_combine_34 (by decide) ?_
            exact W.iret (v := (-1000 : Int32)) hx hb hr (fun t ht hW => ⟨⟨(-1000 : Int32), (a, b), rfl, ⟨fun h => absurd h.2.2.2.2 b_8, fun _ => ⟨rfl, rfl⟩⟩, by rw [ht]; exact hP, va_K.moved hW.alike hK, hD⟩, hS.F ht⟩) hS.2.2 dX1_combine_37
set_option maxHeartbeats 4000000 in
set_option maxRecDepth 100000 in
/-- shift(t, r, a, b) -/
theorem metX1_shift (l : Launch) (dC : Nat → ClassId) (dI : Nat → Nat → Nat) (h0 q1 q2 : Nat) (e1 e2 : ClassId) (sz : Nat) (a b : Nat → Int32) (p1 : Int32) (p2 : Int32) (p3 : Int32) (p4 : Int32) : Met l yX1_shift (ws_ yX1_shift cX1_shift 6 (some .int)) ({ frames := 2, cells := 0, slots := 0, locals := 45 }) (va_Pc [.ref h0, .int p1, .int p2, .int p3, .int p4] (tw_SM dC dI h0 q1 q2 e1 e2 sz a b)) (va_Qi (fun (r : Int32) (u : ((Nat → Int32) × (Nat → Int32))) => ((vp_in p1 4 ∧ vp_in p2 4 ∧ vp_in p3 64 ∧ vp_in p4 64) → r = tm_co (tm_tk a (tm_sf a b p2 p3 p4 64) p1 64) p1 64 ∧ u = (tm_tk a (tm_sf a b p2 p3 p4 64) p1 64, tm_sf a b p2 p3 p4 64)) ∧ (¬ (vp_in p1 4 ∧ vp_in p2 4 ∧ vp_in p3 64 ∧ vp_in p4 64) → r = (-1000 : Int32) ∧ u = (a, b))) (tw_BM dC dI h0 q1 q2 e1 e2 (va_A (tw_M h0 q1 q2 e1 e2 a b) sz)) (va_A (tw_M h0 q1 q2 e1 e2 a b) sz)) 0 0 (va_A (tw_M h0 q1 q2 e1 e2 a b) sz) := by
  refine Met.ofW (cc := cX1_shift) (maxL := 6) (ret := (some .int)) (by decide) rfl ?_
  intro p e s m args below meth c s₁ B hml hv
  obtain ⟨rfl, hsz, hP, hK, hD0⟩ := hv
  have hx := B.exec
  have hb := B.bytes
  have hr := B.returns
  have hts := atoms_spec (ws := ws_ yX1_shift cX1_shift 6 (some .int)) B.pre
  have hts : ∀ w ∈ lw_all, w.before _ s = true := fun w h => hts w (List.mem_cons_of_mem _ h)
  have hown : s.vm.findClass RX1 = some m.cls := findClass_of_methodNamed B.named
  have hlocks := B.notSynchronized
  subst hsz
  have hD := hD0.self (sz := s.heap.size)
  generalize hAe : va_A (tw_M h0 q1 q2 e1 e2 a b) s.heap.size = A at hD ⊢
  have hA : ∀ q : Nat, s.heap.size ≤ q → A q := fun q h => by rw [← hAe]; exact Or.inr h
  have hS : va_S A s.heap s.heap [] := va_S.rf
  have hl := lv_entry ([.ref h0, .int p1, .int p2, .int p3, .int p4]) (n := 6) (Nat.le_of_ble_eq_true rfl)
  rw [lg_entry_eq]
  generalize (lg_sl ([.ref h0, .int p1, .int p2, .int p3, .int p4]) ++ List.replicate (6 - (lg_sl ([.ref h0, .int p1, .int p2, .int p3, .int p4])).length) Slot.unset).toArray = ls at hl ⊢
  have hl : lv_has ls 6 [(0, .ref h0), (1, .int p1), (2, .int p2), (3, .int p3), (4, .int p4)] := hl
  refine lv_aload_n hx hb dX1_shift_0 rfl (lv_at hl 0 rfl) ?_
  refine lv_iload_n hx hb dX1_shift_1 rfl (lv_at hl 1 rfl) ?_
  refine vp_callSi (W.runV (As := [.int p1]) (rest := []) ⟨hx, hb, hml, hown, hts⟩ (metX1_isTable l h0 p1) (cwV 1 hts (lw_V q188 q190 qs13 q26 q191) rfl rfl rfl (by decide +kernel) ⟨Nat.le_of_ble_eq_true rfl, Nat.le_of_ble_eq_true rfl⟩) (tw_pre0M hK hP _) rfl rfl hl.1 rfl (lv_room (Nat.le_of_ble_eq_true rfl)) dX1_shift_2 ⟨Nat.le_of_ble_eq_true rfl, Nat.le_of_ble_eq_true rfl⟩) (fun r_1 hr_1 => ?_)
  refine lv_if_eq (tgt := 33) hx hb dX1_shift_5 (by decide) (fun c_2 => ?_) (fun c_2 => ?_)
  · have b_2 : ¬ vp_in p1 4 := hr_1.mp c_2
    refine lv_sipush (v := -1000) hx hb dX1_shift_33 (by decide) ?_
    exact W.iret (v := (-1000 : Int32)) hx hb hr (fun t ht hW => ⟨⟨(-1000 : Int32), (a, b), rfl, ⟨fun h => absurd h.1 b_2, fun _ => ⟨rfl, rfl⟩⟩, by rw [ht]; exact hP, va_K.moved hW.alike hK, hD⟩, hS.F ht⟩) hS.2.2 dX1_shift_36
  · have b_2 : vp_in p1 4 := Classical.not_not.mp (fun h => c_2 (hr_1.mpr h))
    refine lv_aload_n hx hb dX1_shift_8 rfl (lv_at hl 0 rfl) ?_
    refine lv_iload_n hx hb dX1_shift_9 rfl (lv_at hl 2 rfl) ?_
    refine vp_callSi (W.runV (As := [.int p2]) (rest := []) ⟨hx, hb, hml, hown, hts⟩ (metX1_isTable l h0 p2) (cwV 1 hts (lw_V q188 q190 qs13 q26 q191) rfl rfl rfl (by decide +kernel) ⟨Nat.le_of_ble_eq_true rfl, Nat.le_of_ble_eq_true rfl⟩) (tw_pre0M hK hP _) rfl rfl hl.1 rfl (lv_room (Nat.le_of_ble_eq_true rfl)) dX1_shift_10 ⟨Nat.le_of_ble_eq_true rfl, Nat.le_of_ble_eq_true rfl⟩) (fun r_3 hr_3 => ?_)
    refine lv_if_eq (tgt := 33) hx hb dX1_shift_13 (by decide) (fun c_4 => ?_) (fun c_4 => ?_)
    · have b_4 : ¬ vp_in p2 4 := hr_3.mp c_4
      refine lv_sipush (v := -1000) hx hb dX1_shift_33 (by decide) ?_
      exact W.iret (v := (-1000 : Int32)) hx hb hr (fun t ht hW => ⟨⟨(-1000 : Int32), (a, b), rfl, ⟨fun h => absurd h.2.1 b_4, fun _ => ⟨rfl, rfl⟩⟩, by rw [ht]; exact hP, va_K.moved hW.alike hK, hD⟩, hS.F ht⟩) hS.2.2 dX1_shift_36
    · have b_4 : vp_in p2 4 := Classical.not_not.mp (fun h => c_4 (hr_3.mpr h))
      refine lv_aload_n hx hb dX1_shift_16 rfl (lv_at hl 0 rfl) ?_
      refine lv_iload_n hx hb dX1_shift_17 rfl (lv_at hl 3 rfl) ?_
      refine vp_callSi (W.runV (As := [.int p3]) (rest := []) ⟨hx, hb, hml, hown, hts⟩ (metX1_isPoint l h0 p3) (cwV 1 hts (lw_V q192 q194 qs14 q26 q195) rfl rfl rfl (by decide +kernel) ⟨Nat.le_of_ble_eq_true rfl, Nat.le_of_ble_eq_true rfl⟩) (tw_pre0M hK hP _) rfl rfl hl.1 rfl (lv_room (Nat.le_of_ble_eq_true rfl)) dX1_shift_18 ⟨Nat.le_of_ble_eq_true rfl, Nat.le_of_ble_eq_true rfl⟩) (fun r_5 hr_5 => ?_)
      refine lv_if_eq (tgt := 33) hx hb dX1_shift_21 (by decide) (fun c_6 => ?_) (fun c_6 => ?_)
      · have b_6 : ¬ vp_in p3 64 := hr_5.mp c_6
        refine lv_sipush (v := -1000) hx hb dX1_shift_33 (by decide) ?_
        exact W.iret (v := (-1000 : Int32)) hx hb hr (fun t ht hW => ⟨⟨(-1000 : Int32), (a, b), rfl, ⟨fun h => absurd h.2.2.1 b_6, fun _ => ⟨rfl, rfl⟩⟩, by rw [ht]; exact hP, va_K.moved hW.alike hK, hD⟩, hS.F ht⟩) hS.2.2 dX1_shift_36
      · have b_6 : vp_in p3 64 := Classical.not_not.mp (fun h => c_6 (hr_5.mpr h))
        refine lv_aload_n hx hb dX1_shift_24 rfl (lv_at hl 0 rfl) ?_
        refine lv_iload hx hb dX1_shift_25 (lv_at hl 4 rfl) ?_
        refine vp_callSi (W.runV (As := [.int p4]) (rest := []) ⟨hx, hb, hml, hown, hts⟩ (metX1_isPoint l h0 p4) (cwV 1 hts (lw_V q192 q194 qs14 q26 q195) rfl rfl rfl (by decide +kernel) ⟨Nat.le_of_ble_eq_true rfl, Nat.le_of_ble_eq_true rfl⟩) (tw_pre0M hK hP _) rfl rfl hl.1 rfl (lv_room (Nat.le_of_ble_eq_true rfl)) dX1_shift_27 ⟨Nat.le_of_ble_eq_true rfl, Nat.le_of_ble_eq_true rfl⟩) (fun r_7 hr_7 => ?_)
        refine lv_if_ne (tgt := 37) hx hb dX1_shift_30 (by decide) (fun c_8 => ?_) (fun c_8 => ?_)
        · have b_8 : vp_in p4 64 := Classical.not_not.mp (fun h => c_8 (hr_7.mpr h))
          refine lv_iconst (v := 0) hx hb dX1_shift_37 (by decide) ?_
          refine lv_istore (lv' := [(5, .int (0 : Int32)), (0, .ref h0), (1, .int p1), (2, .int p2), (3, .int p3), (4, .int p4)]) hx hb dX1_shift_38 hl (by decide) rfl (fun ls hl => ?_)
          have hl : lv_has ls 6 [(0, .ref h0), (1, .int p1), (2, .int p2), (3, .int p3), (4, .int p4), (5, .int (0 : Int32))] := lv_sub hl [1, 2, 3, 4, 5, 0] rfl
          have hl : lv_has ls 6 [(0, .ref h0), (1, .int p1), (2, .int p2), (3, .int p3), (4, .int p4), (5, .int (nI 0))] := hl
          refine tw_loopH (pc := 40) 64 (fun i ls H locs => lv_has ls 6 [(0, .ref h0), (1, .int p1), (2, .int p2), (3, .int p3), (4, .int p4), (5, .int (nI i))] ∧ va_P (dC, dI) tw_cl (tw_M h0 q1 q2 e1 e2 a (tm_sf a b p2 p3 p4 i)) H ∧ va_D A (tw_M h0 q1 q2 e1 e2 a (tm_sf a b p2 p3 p4 i)) ∧ va_S A s.heap H locs) (fun ls H locs hp => ?_) (fun i ls H locs hi_i hp ih_i => ?_) 64 0 ls _ _ (by omega) ⟨hl, hP, hD, hS⟩
          · obtain ⟨hl, hP, hD, hS⟩ := hp
            have hP : va_P (dC, dI) tw_cl (tw_M h0 q1 q2 e1 e2 a (tm_sf a b p2 p3 p4 64)) H := hP
            have hD : va_D A (tw_M h0 q1 q2 e1 e2 a (tm_sf a b p2 p3 p4 64)) := hD
            have hl : lv_has ls 6 [(0, .ref h0), (1, .int p1), (2, .int p2), (3, .int p3), (4, .int p4), (5, .int (nI 64))] := hl
            refine lv_iload hx hb dX1_shift_40 (lv_at hl 5 rfl) ?_
            refine lv_bipush (v := 64) hx hb dX1_shift_42 (by decide) ?_
            refine lv_icmp_ge (tgt := 83) hx hb dX1_shift_44 (by decide) (fun _ => ?_) (fun c => absurd (nI_le (a := 64) (b := 64) (by decide) (by decide)) c)
            refine lv_aload_n hx hb dX1_shift_83 rfl (lv_at hl 0 rfl) ?_
            refine lv_iload_n hx hb dX1_shift_84 rfl (lv_at hl 1 rfl) ?_
            have hFc := va_free (wc := tw_M h0 q1 q2 e1 e2 a (tm_sf a b p2 p3 p4 64)) hD hS hA [0, 1, 2] rfl
            refine va_calli (va_runV (As := [.int p1]) (rest := []) ⟨hx, hb, hml, hown, hts⟩ (metX1_takeMade l dC dI h0 q1 q2 e1 e2 _ a (tm_sf a b p2 p3 p4 64) p1 b_2) (cwV 1 hts (lw_V q208 q210 qs16 q26 q211) rfl rfl rfl (by decide +kernel) ⟨Nat.le_of_ble_eq_true rfl, Nat.le_of_ble_eq_true rfl⟩) (tw_preSM hK hP hD _) rfl rfl hl.1 rfl (lv_room (Nat.le_of_ble_eq_true rfl)) dX1_shift_85 ⟨Nat.le_of_ble_eq_true rfl, Nat.le_of_ble_eq_true rfl⟩) hS (fun q _ h => hFc q h) hFc (fun r_9 u t H1 locs ht hvm hw hB hz1 hk1 hS => ?_)
            obtain ⟨hw1, hw2⟩ := hw
            rw [hw1]
            subst hw2
            obtain ⟨hP1, hK1, hD1⟩ := hB
            rw [ht] at hP1
            obtain ⟨hP, hD⟩ := va_join (wr := []) (w1 := tw_M h0 q1 q2 e1 e2 (tm_tk a (tm_sf a b p2 p3 p4 64) p1 64) (tm_sf a b p2 p3 p4 64)) hP hD [0, 1, 2] [] rfl rfl (by decide) (by decide) hk1 hFc hP1 hD1
            generalize H1 = H at hP hS ⊢
            have hP : va_P (dC, dI) tw_cl (tw_M h0 q1 q2 e1 e2 (tm_tk a (tm_sf a b p2 p3 p4 64) p1 64) (tm_sf a b p2 p3 p4 64)) H := hP
            have hD : va_D A (tw_M h0 q1 q2 e1 e2 (tm_tk a (tm_sf a b p2 p3 p4 64) p1 64) (tm_sf a b p2 p3 p4 64)) := hD
            exact W.iret (v := (tm_co (tm_tk a (tm_sf a b p2 p3 p4 64) p1 64) p1 64)) hx hb hr (fun t ht hW => ⟨⟨(tm_co (tm_tk a (tm_sf a b p2 p3 p4 64) p1 64) p1 64), (tm_tk a (tm_sf a b p2 p3 p4 64) p1 64, (tm_sf a b p2 p3 p4 64)), rfl, ⟨fun _ => ⟨rfl, rfl⟩, fun h => absurd ⟨b_2, b_4, b_6, b_8⟩ h⟩, by rw [ht]; exact hP, va_K.moved hW.alike hK, hD⟩, hS.F ht⟩) hS.2.2 dX1_shift_88
          · obtain ⟨hl, hP, hD, hS⟩ := hp
            have hP : va_P (dC, dI) tw_cl (tw_M h0 q1 q2 e1 e2 a (tm_sf a b p2 p3 p4 i)) H := hP
            have hD : va_D A (tw_M h0 q1 q2 e1 e2 a (tm_sf a b p2 p3 p4 i)) := hD
            have hl : lv_has ls 6 [(0, .ref h0), (1, .int p1), (2, .int p2), (3, .int p3), (4, .int p4), (5, .int (nI i))] := hl
            refine lv_iload hx hb dX1_shift_40 (lv_at hl 5 rfl) ?_
            refine lv_bipush (v := 64) hx hb dX1_shift_42 (by decide) ?_
            refine lv_icmp_ge (tgt := 83) hx hb dX1_shift_44 (by decide) (fun c => absurd c (nI_ge (a := i) (b := 64) (by omega) (by decide))) (fun _ => ?_)
            refine lv_aload_n hx hb dX1_shift_47 rfl (lv_at hl 0 rfl) ?_
            refine va_get (D := (dC, dI)) (ci := 1) (v := .ref q2) (C := RX1) (T := TX1) (N := 2) hx hb hts in_X1 hown hK hP 0 rfl rfl 1 (by decide) (hts _ q178) (fun _ h9 => h9) rfl dX1_shift_48 ?_
            refine lv_iload hx hb dX1_shift_51 (lv_at hl 5 rfl) ?_
            refine lv_aload_n hx hb dX1_shift_53 rfl (lv_at hl 0 rfl) ?_
            refine va_get (D := (dC, dI)) (ci := 1) (v := .ref q1) (C := RX1) (T := TX1) (N := 2) hx hb hts in_X1 hown hK hP 0 rfl rfl 0 (by decide) (hts _ q177) (fun _ h9 => h9) rfl dX1_shift_54 ?_
            refine lv_bipush (v := 64) hx hb dX1_shift_57 (by decide) ?_
            refine lv_iload_n hx hb dX1_shift_59 rfl (lv_at hl 2 rfl) ?_
            refine lv_imul hx hb dX1_shift_60 ?_
            refine lv_iload hx hb dX1_shift_61 (lv_at hl 5 rfl) ?_
            refine lv_iload_n hx hb dX1_shift_63 rfl (lv_at hl 3 rfl) ?_
            refine lv_ixor hx hb dX1_shift_64 ?_
            refine lv_iadd hx hb dX1_shift_65 ?_
            refine va_iald hx hb hK hP 1 0 rfl rfl (tw_ixx b_4 (show i < 64 by omega) b_6) dX1_shift_66 ?_
            refine lv_aload_n hx hb dX1_shift_67 rfl (lv_at hl 0 rfl) ?_
            refine lv_iload hx hb dX1_shift_68 (lv_at hl 4 rfl) ?_
            refine lv_iload hx hb dX1_shift_70 (lv_at hl 5 rfl) ?_
            refine vp_callSi (W.runV (As := [.int p4, .int (nI i)]) (rest := [.int (a (((64 : Int32) * p2) + ((nI i) ^^^ p3)).toNatClampNeg), .int (nI i), .ref q2]) ⟨hx, hb, hml, hown, hts⟩ (metX1_product l dC dI h0 q1 q2 e1 e2 a (tm_sf a b p2 p3 p4 i) p4 (nI i)) (cwV 2 hts (lw_V q216 q218 qs17 q26 q219) rfl rfl rfl (by decide +kernel) ⟨Nat.le_of_ble_eq_true rfl, Nat.le_of_ble_eq_true rfl⟩) (tw_preM hK hP _) rfl rfl hl.1 rfl (lv_room (Nat.le_of_ble_eq_true rfl)) dX1_shift_72 ⟨Nat.le_of_ble_eq_true rfl, Nat.le_of_ble_eq_true rfl⟩) (fun r_10 hr_10 => ?_)
            rw [hr_10]
            refine lv_ixor hx hb dX1_shift_75 ?_
            refine va_iast hx hb hK hP hD hS 2 1 rfl rfl (vp_in_nI (show i < 64 by omega) (by decide)) dX1_shift_76 (fun H locs hP hD hS => ?_)
            have hP : va_P (dC, dI) tw_cl (tw_M h0 q1 q2 e1 e2 a (upd (tm_sf a b p2 p3 p4 i) (nI i).toNatClampNeg ((a (((64 : Int32) * p2) + ((nI i) ^^^ p3)).toNatClampNeg) ^^^ (tm_pr p4 (nI i))))) H := hP
            have hD : va_D A (tw_M h0 q1 q2 e1 e2 a (upd (tm_sf a b p2 p3 p4 i) (nI i).toNatClampNeg ((a (((64 : Int32) * p2) + ((nI i) ^^^ p3)).toNatClampNeg) ^^^ (tm_pr p4 (nI i))))) := hD
            refine lv_iinc (v := nI (i + 1)) (lv' := [(5, .int (nI (i + 1))), (0, .ref h0), (1, .int p1), (2, .int p2), (3, .int p3), (4, .int p4)]) hx hb dX1_shift_77 hl (k := 5) rfl (nI_1 i) (by decide) rfl (fun ls hl => ?_)
            refine lv_goto (tgt := 40) hx hb dX1_shift_80 (by decide) ?_
            have hl : lv_has ls 6 [(0, .ref h0), (1, .int p1), (2, .int p2), (3, .int p3), (4, .int p4), (5, .int (nI (i + 1)))] := lv_sub hl [1, 2, 3, 4, 5, 0] rfl
            have eA : (upd (tm_sf a b p2 p3 p4 i) (nI i).toNatClampNeg ((a (((64 : Int32) * p2) + ((nI i) ^^^ p3)).toNatClampNeg) ^^^ (tm_pr p4 (nI i)))) = (tm_sf a b p2 p3 p4 (i + 1)) := by rw [tm_sf_s _ _ _ _ _ i]
            rw [eA] at hP hD
            exact ih_i ls _ _ ⟨hl, hP, hD, hS⟩
        · have b_8 : ¬ vp_in p4 64 := hr_7.mp c_8
          refine lv_sipush (v := -1000) hx hb dX1_shift_33 (by decide) ?_
          exact W.iret (v := (-1000 : Int32)) hx hb hr (fun t ht hW => ⟨⟨(-1000 : Int32), (a, b), rfl, ⟨fun h => absurd h.2.2.2 b_8, fun _ => ⟨rfl, rfl⟩⟩, by rw [ht]; exact hP, va_K.moved hW.alike hK, hD⟩, hS.F ht⟩) hS.2.2 dX1_shift_36
end
section
/-! walks of TruthSpectrumModel: value, ones, form, degree, spectrum, distance, nearest -/
set_option maxHeartbeats 4000000 in
set_option maxRecDepth 100000 in
/-- value(t, x) -/
theorem metX1_value (l : Launch) (dC : Nat → ClassId) (dI : Nat → Nat → Nat) (h0 q1 q2 : Nat) (e1 e2 : ClassId) (a b : Nat → Int32) (p1 : Int32) (p2 : Int32) : Met l yX1_value (ws_ yX1_value cX1_value 3 (some .int)) ({ frames := 1, cells := 0, slots := 0, locals := 21 }) (va_Pc [.ref h0, .int p1, .int p2] (tw_RM dC dI h0 q1 q2 e1 e2 a b)) (vp_Si (fun (r : Int32) => ((vp_in p1 4 ∧ vp_in p2 64) → r = a (((64 : Int32) * p1) + p2).toNatClampNeg) ∧ (¬ (vp_in p1 4 ∧ vp_in p2 64) → r = (-1000 : Int32)))) 0 0 (fun _ => False) := by
  refine Met.ofW (cc := cX1_value) (maxL := 3) (ret := (some .int)) (by decide) rfl ?_
  intro p e s m args below meth c s₁ B hml hv
  obtain ⟨rfl, hP, hK⟩ := hv
  have hx := B.exec
  have hb := B.bytes
  have hr := B.returns
  have hts := atoms_spec (ws := ws_ yX1_value cX1_value 3 (some .int)) B.pre
  have hts : ∀ w ∈ lw_all, w.before _ s = true := fun w h => hts w (List.mem_cons_of_mem _ h)
  have hown : s.vm.findClass RX1 = some m.cls := findClass_of_methodNamed B.named
  have hlocks := B.notSynchronized
  have hl := lv_entry ([.ref h0, .int p1, .int p2]) (n := 3) (Nat.le_of_ble_eq_true rfl)
  rw [lg_entry_eq]
  generalize (lg_sl ([.ref h0, .int p1, .int p2]) ++ List.replicate (3 - (lg_sl ([.ref h0, .int p1, .int p2])).length) Slot.unset).toArray = ls at hl ⊢
  have hl : lv_has ls 3 [(0, .ref h0), (1, .int p1), (2, .int p2)] := hl
  refine lv_aload_n hx hb dX1_value_0 rfl (lv_at hl 0 rfl) ?_
  refine lv_iload_n hx hb dX1_value_1 rfl (lv_at hl 1 rfl) ?_
  refine vp_callSi (W.runV (As := [.int p1]) (rest := []) ⟨hx, hb, hml, hown, hts⟩ (metX1_isTable l h0 p1) (cwV 1 hts (lw_V q188 q190 qs13 q26 q191) rfl rfl rfl (by decide +kernel) ⟨Nat.le_of_ble_eq_true rfl, Nat.le_of_ble_eq_true rfl⟩) (tw_pre0M hK hP _) rfl rfl hl.1 rfl (lv_room (Nat.le_of_ble_eq_true rfl)) dX1_value_2 ⟨Nat.le_of_ble_eq_true rfl, Nat.le_of_ble_eq_true rfl⟩) (fun r_1 hr_1 => ?_)
  refine lv_if_eq (tgt := 30) hx hb dX1_value_5 (by decide) (fun c_2 => ?_) (fun c_2 => ?_)
  · have b_2 : ¬ vp_in p1 4 := hr_1.mp c_2
    refine lv_sipush (v := -1000) hx hb dX1_value_30 (by decide) ?_
    exact W.iret (v := (-1000 : Int32)) hx hb hr (fun t ht hW => ⟨(-1000 : Int32), rfl, ⟨fun h => absurd h.1 b_2, fun _ => rfl⟩, ht⟩) (fun _ h => by cases h) dX1_value_33
  · have b_2 : vp_in p1 4 := Classical.not_not.mp (fun h => c_2 (hr_1.mpr h))
    refine lv_aload_n hx hb dX1_value_8 rfl (lv_at hl 0 rfl) ?_
    refine lv_iload_n hx hb dX1_value_9 rfl (lv_at hl 2 rfl) ?_
    refine vp_callSi (W.runV (As := [.int p2]) (rest := []) ⟨hx, hb, hml, hown, hts⟩ (metX1_isPoint l h0 p2) (cwV 1 hts (lw_V q192 q194 qs14 q26 q195) rfl rfl rfl (by decide +kernel) ⟨Nat.le_of_ble_eq_true rfl, Nat.le_of_ble_eq_true rfl⟩) (tw_pre0M hK hP _) rfl rfl hl.1 rfl (lv_room (Nat.le_of_ble_eq_true rfl)) dX1_value_10 ⟨Nat.le_of_ble_eq_true rfl, Nat.le_of_ble_eq_true rfl⟩) (fun r_3 hr_3 => ?_)
    refine lv_if_eq (tgt := 30) hx hb dX1_value_13 (by decide) (fun c_4 => ?_) (fun c_4 => ?_)
    · have b_4 : ¬ vp_in p2 64 := hr_3.mp c_4
      refine lv_sipush (v := -1000) hx hb dX1_value_30 (by decide) ?_
      exact W.iret (v := (-1000 : Int32)) hx hb hr (fun t ht hW => ⟨(-1000 : Int32), rfl, ⟨fun h => absurd h.2 b_4, fun _ => rfl⟩, ht⟩) (fun _ h => by cases h) dX1_value_33
    · have b_4 : vp_in p2 64 := Classical.not_not.mp (fun h => c_4 (hr_3.mpr h))
      refine lv_aload_n hx hb dX1_value_16 rfl (lv_at hl 0 rfl) ?_
      refine va_get (D := (dC, dI)) (ci := 1) (v := .ref q1) (C := RX1) (T := TX1) (N := 2) hx hb hts in_X1 hown hK hP 0 rfl rfl 0 (by decide) (hts _ q177) (fun _ h9 => h9) rfl dX1_value_17 ?_
      refine lv_bipush (v := 64) hx hb dX1_value_20 (by decide) ?_
      refine lv_iload_n hx hb dX1_value_22 rfl (lv_at hl 1 rfl) ?_
      refine lv_imul hx hb dX1_value_23 ?_
      refine lv_iload_n hx hb dX1_value_24 rfl (lv_at hl 2 rfl) ?_
      refine lv_iadd hx hb dX1_value_25 ?_
      refine va_iald hx hb hK hP 1 0 rfl rfl (tw_ixp b_2 b_4) dX1_value_26 ?_
      refine lv_goto (tgt := 33) hx hb dX1_value_27 (by decide) ?_
      exact W.iret (v := (a (((64 : Int32) * p1) + p2).toNatClampNeg)) hx hb hr (fun t ht hW => ⟨(a (((64 : Int32) * p1) + p2).toNatClampNeg), rfl, ⟨fun _ => rfl, fun h => absurd ⟨b_2, b_4⟩ h⟩, ht⟩) (fun _ h => by cases h) dX1_value_33
set_option maxHeartbeats 4000000 in
set_option maxRecDepth 100000 in
/-- ones(t) -/
theorem metX1_ones (l : Launch) (dC : Nat → ClassId) (dI : Nat → Nat → Nat) (h0 q1 q2 : Nat) (e1 e2 : ClassId) (a b : Nat → Int32) (p1 : Int32) : Met l yX1_ones (ws_ yX1_ones cX1_ones 2 (some .int)) ({ frames := 1, cells := 0, slots := 0, locals := 23 }) (va_Pc [.ref h0, .int p1] (tw_RM dC dI h0 q1 q2 e1 e2 a b)) (vp_Si (fun (r : Int32) => ((vp_in p1 4) → r = tm_co a p1 64) ∧ (¬ (vp_in p1 4) → r = (-1000 : Int32)))) 0 0 (fun _ => False) := by
  refine Met.ofW (cc := cX1_ones) (maxL := 2) (ret := (some .int)) (by decide) rfl ?_
  intro p e s m args below meth c s₁ B hml hv
  obtain ⟨rfl, hP, hK⟩ := hv
  have hx := B.exec
  have hb := B.bytes
  have hr := B.returns
  have hts := atoms_spec (ws := ws_ yX1_ones cX1_ones 2 (some .int)) B.pre
  have hts : ∀ w ∈ lw_all, w.before _ s = true := fun w h => hts w (List.mem_cons_of_mem _ h)
  have hown : s.vm.findClass RX1 = some m.cls := findClass_of_methodNamed B.named
  have hlocks := B.notSynchronized
  have hl := lv_entry ([.ref h0, .int p1]) (n := 2) (Nat.le_of_ble_eq_true rfl)
  rw [lg_entry_eq]
  generalize (lg_sl ([.ref h0, .int p1]) ++ List.replicate (2 - (lg_sl ([.ref h0, .int p1])).length) Slot.unset).toArray = ls at hl ⊢
  have hl : lv_has ls 2 [(0, .ref h0), (1, .int p1)] := hl
  refine lv_aload_n hx hb dX1_ones_0 rfl (lv_at hl 0 rfl) ?_
  refine lv_iload_n hx hb dX1_ones_1 rfl (lv_at hl 1 rfl) ?_
  refine vp_callSi (W.runV (As := [.int p1]) (rest := []) ⟨hx, hb, hml, hown, hts⟩ (metX1_isTable l h0 p1) (cwV 1 hts (lw_V q188 q190 qs13 q26 q191) rfl rfl rfl (by decide +kernel) ⟨Nat.le_of_ble_eq_true rfl, Nat.le_of_ble_eq_true rfl⟩) (tw_pre0M hK hP _) rfl rfl hl.1 rfl (lv_room (Nat.le_of_ble_eq_true rfl)) dX1_ones_2 ⟨Nat.le_of_ble_eq_true rfl, Nat.le_of_ble_eq_true rfl⟩) (fun r_1 hr_1 => ?_)
  refine lv_if_eq (tgt := 16) hx hb dX1_ones_5 (by decide) (fun c_2 => ?_) (fun c_2 => ?_)
  · have b_2 : ¬ vp_in p1 4 := hr_1.mp c_2
    refine lv_sipush (v := -1000) hx hb dX1_ones_16 (by decide) ?_
    exact W.iret (v := (-1000 : Int32)) hx hb hr (fun t ht hW => ⟨(-1000 : Int32), rfl, ⟨fun h => absurd h b_2, fun _ => rfl⟩, ht⟩) (fun _ h => by cases h) dX1_ones_19
  · have b_2 : vp_in p1 4 := Classical.not_not.mp (fun h => c_2 (hr_1.mpr h))
    refine lv_aload_n hx hb dX1_ones_8 rfl (lv_at hl 0 rfl) ?_
    refine lv_iload_n hx hb dX1_ones_9 rfl (lv_at hl 1 rfl) ?_
    refine vp_callSi (W.runV (As := [.int p1]) (rest := []) ⟨hx, hb, hml, hown, hts⟩ (metX1_countOnes l dC dI h0 q1 q2 e1 e2 a b p1 b_2) (cwV 1 hts (lw_V q200 q202 qs15 q26 q203) rfl rfl rfl (by decide +kernel) ⟨Nat.le_of_ble_eq_true rfl, Nat.le_of_ble_eq_true rfl⟩) (tw_preM hK hP _) rfl rfl hl.1 rfl (lv_room (Nat.le_of_ble_eq_true rfl)) dX1_ones_10 ⟨Nat.le_of_ble_eq_true rfl, Nat.le_of_ble_eq_true rfl⟩) (fun r_3 hr_3 => ?_)
    rw [hr_3]
    refine lv_goto (tgt := 19) hx hb dX1_ones_13 (by decide) ?_
    exact W.iret (v := (tm_co a p1 64)) hx hb hr (fun t ht hW => ⟨(tm_co a p1 64), rfl, ⟨fun _ => rfl, fun h => absurd b_2 h⟩, ht⟩) (fun _ h => by cases h) dX1_ones_19
set_option maxHeartbeats 4000000 in
set_option maxRecDepth 100000 in
/-- form(t, u) -/
theorem metX1_form (l : Launch) (dC : Nat → ClassId) (dI : Nat → Nat → Nat) (h0 q1 q2 : Nat) (e1 e2 : ClassId) (a b : Nat → Int32) (p1 : Int32) (p2 : Int32) : Met l yX1_form (ws_ yX1_form cX1_form 3 (some .int)) ({ frames := 1, cells := 0, slots := 0, locals := 24 }) (va_Pc [.ref h0, .int p1, .int p2] (tw_RM dC dI h0 q1 q2 e1 e2 a b)) (vp_Si (fun (r : Int32) => ((vp_in p1 4 ∧ vp_in p2 64) → r = tm_fa a p1 p2 64) ∧ (¬ (vp_in p1 4 ∧ vp_in p2 64) → r = (-1000 : Int32)))) 0 0 (fun _ => False) := by
  refine Met.ofW (cc := cX1_form) (maxL := 3) (ret := (some .int)) (by decide) rfl ?_
  intro p e s m args below meth c s₁ B hml hv
  obtain ⟨rfl, hP, hK⟩ := hv
  have hx := B.exec
  have hb := B.bytes
  have hr := B.returns
  have hts := atoms_spec (ws := ws_ yX1_form cX1_form 3 (some .int)) B.pre
  have hts : ∀ w ∈ lw_all, w.before _ s = true := fun w h => hts w (List.mem_cons_of_mem _ h)
  have hown : s.vm.findClass RX1 = some m.cls := findClass_of_methodNamed B.named
  have hlocks := B.notSynchronized
  have hl := lv_entry ([.ref h0, .int p1, .int p2]) (n := 3) (Nat.le_of_ble_eq_true rfl)
  rw [lg_entry_eq]
  generalize (lg_sl ([.ref h0, .int p1, .int p2]) ++ List.replicate (3 - (lg_sl ([.ref h0, .int p1, .int p2])).length) Slot.unset).toArray = ls at hl ⊢
  have hl : lv_has ls 3 [(0, .ref h0), (1, .int p1), (2, .int p2)] := hl
  refine lv_aload_n hx hb dX1_form_0 rfl (lv_at hl 0 rfl) ?_
  refine lv_iload_n hx hb dX1_form_1 rfl (lv_at hl 1 rfl) ?_
  refine vp_callSi (W.runV (As := [.int p1]) (rest := []) ⟨hx, hb, hml, hown, hts⟩ (metX1_isTable l h0 p1) (cwV 1 hts (lw_V q188 q190 qs13 q26 q191) rfl rfl rfl (by decide +kernel) ⟨Nat.le_of_ble_eq_true rfl, Nat.le_of_ble_eq_true rfl⟩) (tw_pre0M hK hP _) rfl rfl hl.1 rfl (lv_room (Nat.le_of_ble_eq_true rfl)) dX1_form_2 ⟨Nat.le_of_ble_eq_true rfl, Nat.le_of_ble_eq_true rfl⟩) (fun r_1 hr_1 => ?_)
  refine lv_if_eq (tgt := 25) hx hb dX1_form_5 (by decide) (fun c_2 => ?_) (fun c_2 => ?_)
  · have b_2 : ¬ vp_in p1 4 := hr_1.mp c_2
    refine lv_sipush (v := -1000) hx hb dX1_form_25 (by decide) ?_
    exact W.iret (v := (-1000 : Int32)) hx hb hr (fun t ht hW => ⟨(-1000 : Int32), rfl, ⟨fun h => absurd h.1 b_2, fun _ => rfl⟩, ht⟩) (fun _ h => by cases h) dX1_form_28
  · have b_2 : vp_in p1 4 := Classical.not_not.mp (fun h => c_2 (hr_1.mpr h))
    refine lv_aload_n hx hb dX1_form_8 rfl (lv_at hl 0 rfl) ?_
    refine lv_iload_n hx hb dX1_form_9 rfl (lv_at hl 2 rfl) ?_
    refine vp_callSi (W.runV (As := [.int p2]) (rest := []) ⟨hx, hb, hml, hown, hts⟩ (metX1_isPoint l h0 p2) (cwV 1 hts (lw_V q192 q194 qs14 q26 q195) rfl rfl rfl (by decide +kernel) ⟨Nat.le_of_ble_eq_true rfl, Nat.le_of_ble_eq_true rfl⟩) (tw_pre0M hK hP _) rfl rfl hl.1 rfl (lv_room (Nat.le_of_ble_eq_true rfl)) dX1_form_10 ⟨Nat.le_of_ble_eq_true rfl, Nat.le_of_ble_eq_true rfl⟩) (fun r_3 hr_3 => ?_)
    refine lv_if_eq (tgt := 25) hx hb dX1_form_13 (by decide) (fun c_4 => ?_) (fun c_4 => ?_)
    · have b_4 : ¬ vp_in p2 64 := hr_3.mp c_4
      refine lv_sipush (v := -1000) hx hb dX1_form_25 (by decide) ?_
      exact W.iret (v := (-1000 : Int32)) hx hb hr (fun t ht hW => ⟨(-1000 : Int32), rfl, ⟨fun h => absurd h.2 b_4, fun _ => rfl⟩, ht⟩) (fun _ h => by cases h) dX1_form_28
    · have b_4 : vp_in p2 64 := Classical.not_not.mp (fun h => c_4 (hr_3.mpr h))
      refine lv_aload_n hx hb dX1_form_16 rfl (lv_at hl 0 rfl) ?_
      refine lv_iload_n hx hb dX1_form_17 rfl (lv_at hl 1 rfl) ?_
      refine lv_iload_n hx hb dX1_form_18 rfl (lv_at hl 2 rfl) ?_
      refine vp_callSi (W.runV (As := [.int p1, .int p2]) (rest := []) ⟨hx, hb, hml, hown, hts⟩ (metX1_formAt l dC dI h0 q1 q2 e1 e2 a b p1 p2 b_2) (cwV 2 hts (lw_V q236 q238 qs19 q26 q239) rfl rfl rfl (by decide +kernel) ⟨Nat.le_of_ble_eq_true rfl, Nat.le_of_ble_eq_true rfl⟩) (tw_preM hK hP _) rfl rfl hl.1 rfl (lv_room (Nat.le_of_ble_eq_true rfl)) dX1_form_19 ⟨Nat.le_of_ble_eq_true rfl, Nat.le_of_ble_eq_true rfl⟩) (fun r_5 hr_5 => ?_)
      rw [hr_5]
      refine lv_goto (tgt := 28) hx hb dX1_form_22 (by decide) ?_
      exact W.iret (v := (tm_fa a p1 p2 64)) hx hb hr (fun t ht hW => ⟨(tm_fa a p1 p2 64), rfl, ⟨fun _ => rfl, fun h => absurd ⟨b_2, b_4⟩ h⟩, ht⟩) (fun _ h => by cases h) dX1_form_28
set_option maxHeartbeats 4000000 in
set_option maxRecDepth 100000 in
/-- degree(t) -/
theorem metX1_degree (l : Launch) (dC : Nat → ClassId) (dI : Nat → Nat → Nat) (h0 q1 q2 : Nat) (e1 e2 : ClassId) (a b : Nat → Int32) (p1 : Int32) : Met l yX1_degree (ws_ yX1_degree cX1_degree 5 (some .int)) ({ frames := 1, cells := 0, slots := 0, locals := 24 }) (va_Pc [.ref h0, .int p1] (tw_RM dC dI h0 q1 q2 e1 e2 a b)) (vp_Si (fun (r : Int32) => ((vp_in p1 4) → r = tm_de a p1 64) ∧ (¬ (vp_in p1 4) → r = (-1000 : Int32)))) 0 0 (fun _ => False) := by
  refine Met.ofW (cc := cX1_degree) (maxL := 5) (ret := (some .int)) (by decide) rfl ?_
  intro p e s m args below meth c s₁ B hml hv
  obtain ⟨rfl, hP, hK⟩ := hv
  have hx := B.exec
  have hb := B.bytes
  have hr := B.returns
  have hts := atoms_spec (ws := ws_ yX1_degree cX1_degree 5 (some .int)) B.pre
  have hts : ∀ w ∈ lw_all, w.before _ s = true := fun w h => hts w (List.mem_cons_of_mem _ h)
  have hown : s.vm.findClass RX1 = some m.cls := findClass_of_methodNamed B.named
  have hlocks := B.notSynchronized
  have hl := lv_entry ([.ref h0, .int p1]) (n := 5) (Nat.le_of_ble_eq_true rfl)
  rw [lg_entry_eq]
  generalize (lg_sl ([.ref h0, .int p1]) ++ List.replicate (5 - (lg_sl ([.ref h0, .int p1])).length) Slot.unset).toArray = ls at hl ⊢
  have hl : lv_has ls 5 [(0, .ref h0), (1, .int p1)] := hl
  refine lv_aload_n hx hb dX1_degree_0 rfl (lv_at hl 0 rfl) ?_
  refine lv_iload_n hx hb dX1_degree_1 rfl (lv_at hl 1 rfl) ?_
  refine vp_callSi (W.runV (As := [.int p1]) (rest := []) ⟨hx, hb, hml, hown, hts⟩ (metX1_isTable l h0 p1) (cwV 1 hts (lw_V q188 q190 qs13 q26 q191) rfl rfl rfl (by decide +kernel) ⟨Nat.le_of_ble_eq_true rfl, Nat.le_of_ble_eq_true rfl⟩) (tw_pre0M hK hP _) rfl rfl hl.1 rfl (lv_room (Nat.le_of_ble_eq_true rfl)) dX1_degree_2 ⟨Nat.le_of_ble_eq_true rfl, Nat.le_of_ble_eq_true rfl⟩) (fun r_1 hr_1 => ?_)
  refine lv_if_ne (tgt := 12) hx hb dX1_degree_5 (by decide) (fun c_2 => ?_) (fun c_2 => ?_)
  · have b_2 : vp_in p1 4 := Classical.not_not.mp (fun h => c_2 (hr_1.mpr h))
    refine lv_iconst (v := 0) hx hb dX1_degree_12 (by decide) ?_
    refine lv_istore_n (lv' := [(2, .int (0 : Int32)), (0, .ref h0), (1, .int p1)]) hx hb dX1_degree_13 rfl hl (by decide) rfl (fun ls hl => ?_)
    refine lv_iconst (v := 0) hx hb dX1_degree_14 (by decide) ?_
    refine lv_istore_n (lv' := [(3, .int (0 : Int32)), (2, .int (0 : Int32)), (0, .ref h0), (1, .int p1)]) hx hb dX1_degree_15 rfl hl (by decide) rfl (fun ls hl => ?_)
    have hl : lv_has ls 5 [(0, .ref h0), (1, .int p1), (2, .int (0 : Int32)), (3, .int (0 : Int32))] := lv_sub hl [2, 3, 1, 0] rfl
    have hl : lv_has ls 5 [(0, .ref h0), (1, .int p1), (2, .int (tm_de a p1 0)), (3, .int (nI 0))] := hl
    refine tw_loop (pc := 16) 64 (fun i ls => lv_has ls 5 [(0, .ref h0), (1, .int p1), (2, .int (tm_de a p1 i)), (3, .int (nI i))]) (fun ls hp => ?_) (fun i ls hi_i hp ih_i => ?_) 64 0 ls (by omega) hl
    · have hl := hp
      have hl : lv_has ls 5 [(0, .ref h0), (1, .int p1), (2, .int (tm_de a p1 64)), (3, .int (nI 64))] := hl
      refine lv_iload_n hx hb dX1_degree_16 rfl (lv_at hl 3 rfl) ?_
      refine lv_bipush (v := 64) hx hb dX1_degree_17 (by decide) ?_
      refine lv_icmp_ge (tgt := 58) hx hb dX1_degree_19 (by decide) (fun _ => ?_) (fun c => absurd (nI_le (a := 64) (b := 64) (by decide) (by decide)) c)
      refine lv_iload_n hx hb dX1_degree_58 rfl (lv_at hl 2 rfl) ?_
      exact W.iret (v := tm_de a p1 64) hx hb hr (fun t ht hW => ⟨tm_de a p1 64, rfl, ⟨fun _ => rfl, fun h => absurd b_2 h⟩, ht⟩) (fun _ h => by cases h) dX1_degree_59
    · have hl := hp
      have hl : lv_has ls 5 [(0, .ref h0), (1, .int p1), (2, .int (tm_de a p1 i)), (3, .int (nI i))] := hl
      refine lv_iload_n hx hb dX1_degree_16 rfl (lv_at hl 3 rfl) ?_
      refine lv_bipush (v := 64) hx hb dX1_degree_17 (by decide) ?_
      refine lv_icmp_ge (tgt := 58) hx hb dX1_degree_19 (by decide) (fun c => absurd c (nI_ge (a := i) (b := 64) (by omega) (by decide))) (fun _ => ?_)
      refine lv_aload_n hx hb dX1_degree_22 rfl (lv_at hl 0 rfl) ?_
      refine lv_iload_n hx hb dX1_degree_23 rfl (lv_at hl 3 rfl) ?_
      refine vp_callSi (W.runV (As := [.int (nI i)]) (rest := []) ⟨hx, hb, hml, hown, hts⟩ (metX1_sizeOf l h0 (nI i)) (cwV 1 hts (lw_V q220 q222 qs18 q26 q223) rfl rfl rfl (by decide +kernel) ⟨Nat.le_of_ble_eq_true rfl, Nat.le_of_ble_eq_true rfl⟩) (tw_pre0M hK hP _) rfl rfl hl.1 rfl (lv_room (Nat.le_of_ble_eq_true rfl)) dX1_degree_24 ⟨Nat.le_of_ble_eq_true rfl, Nat.le_of_ble_eq_true rfl⟩) (fun r_3 hr_3 => ?_)
      rw [hr_3]
      refine lv_istore (lv' := [(4, .int (tc_sz (nI i) 6)), (0, .ref h0), (1, .int p1), (2, .int (tm_de a p1 i)), (3, .int (nI i))]) hx hb dX1_degree_27 hl (by decide) rfl (fun ls hl => ?_)
      refine lv_aload_n hx hb dX1_degree_29 rfl (lv_at hl 1 rfl) ?_
      refine lv_iload_n hx hb dX1_degree_30 rfl (lv_at hl 2 rfl) ?_
      refine lv_iload_n hx hb dX1_degree_31 rfl (lv_at hl 4 rfl) ?_
      refine vp_callSi (W.runV (As := [.int p1, .int (nI i)]) (rest := []) ⟨hx, hb, hml, hown, hts⟩ (metX1_formAt l dC dI h0 q1 q2 e1 e2 a b p1 (nI i) b_2) (cwV 2 hts (lw_V q236 q238 qs19 q26 q239) rfl rfl rfl (by decide +kernel) ⟨Nat.le_of_ble_eq_true rfl, Nat.le_of_ble_eq_true rfl⟩) (tw_preM hK hP _) rfl rfl hl.1 rfl (lv_room (Nat.le_of_ble_eq_true rfl)) dX1_degree_32 ⟨Nat.le_of_ble_eq_true rfl, Nat.le_of_ble_eq_true rfl⟩) (fun r_4 hr_4 => ?_)
      rw [hr_4]
      refine lv_iconst (v := 1) hx hb dX1_degree_35 (by decide) ?_
      refine lv_icmp_ne (tgt := 50) hx hb dX1_degree_36 (by decide) (fun c_5 => ?_) (fun c_5 => ?_)
      · refine lv_iload_n hx hb dX1_degree_50 rfl (lv_at hl 3 rfl) ?_
        refine lv_istore_n (lv' := [(2, .int (tm_de a p1 i)), (4, .int (tc_sz (nI i) 6)), (0, .ref h0), (1, .int p1), (3, .int (nI i))]) hx hb dX1_degree_51 rfl hl (by decide) rfl (fun ls hl => ?_)
        refine lv_iinc (v := nI (i + 1)) (lv' := [(3, .int (nI (i + 1))), (2, .int (tm_de a p1 i)), (4, .int (tc_sz (nI i) 6)), (0, .ref h0), (1, .int p1)]) hx hb dX1_degree_52 hl (k := 4) rfl (nI_1 i) (by decide) rfl (fun ls hl => ?_)
        refine lv_goto (tgt := 16) hx hb dX1_degree_55 (by decide) ?_
        have hl : lv_has ls 5 [(0, .ref h0), (1, .int p1), (2, .int (tm_de a p1 i)), (3, .int (nI (i + 1)))] := lv_sub hl [3, 4, 1, 0] rfl
        exact ih_i ls (tw_has hl (by rw [tm_de_s _ _ i, if_neg c_5]))
      · refine lv_iload hx hb dX1_degree_39 (lv_at hl 0 rfl) ?_
        refine lv_iload_n hx hb dX1_degree_41 rfl (lv_at hl 3 rfl) ?_
        refine lv_icmp_le (tgt := 50) hx hb dX1_degree_42 (by decide) (fun c_6 => ?_) (fun c_6 => ?_)
        · refine lv_iload_n hx hb dX1_degree_50 rfl (lv_at hl 3 rfl) ?_
          refine lv_istore_n (lv' := [(2, .int (tm_de a p1 i)), (4, .int (tc_sz (nI i) 6)), (0, .ref h0), (1, .int p1), (3, .int (nI i))]) hx hb dX1_degree_51 rfl hl (by decide) rfl (fun ls hl => ?_)
          refine lv_iinc (v := nI (i + 1)) (lv' := [(3, .int (nI (i + 1))), (2, .int (tm_de a p1 i)), (4, .int (tc_sz (nI i) 6)), (0, .ref h0), (1, .int p1)]) hx hb dX1_degree_52 hl (k := 4) rfl (nI_1 i) (by decide) rfl (fun ls hl => ?_)
          refine lv_goto (tgt := 16) hx hb dX1_degree_55 (by decide) ?_
          have hl : lv_has ls 5 [(0, .ref h0), (1, .int p1), (2, .int (tm_de a p1 i)), (3, .int (nI (i + 1)))] := lv_sub hl [3, 4, 1, 0] rfl
          exact ih_i ls (tw_has hl (by rw [tm_de_s _ _ i, if_pos c_5, if_pos c_6]))
        · refine lv_iload hx hb dX1_degree_45 (lv_at hl 0 rfl) ?_
          refine lv_goto (tgt := 51) hx hb dX1_degree_47 (by decide) ?_
          refine lv_istore_n (lv' := [(2, .int (tc_sz (nI i) 6)), (4, .int (tc_sz (nI i) 6)), (0, .ref h0), (1, .int p1), (3, .int (nI i))]) hx hb dX1_degree_51 rfl hl (by decide) rfl (fun ls hl => ?_)
          refine lv_iinc (v := nI (i + 1)) (lv' := [(3, .int (nI (i + 1))), (2, .int (tc_sz (nI i) 6)), (4, .int (tc_sz (nI i) 6)), (0, .ref h0), (1, .int p1)]) hx hb dX1_degree_52 hl (k := 4) rfl (nI_1 i) (by decide) rfl (fun ls hl => ?_)
          refine lv_goto (tgt := 16) hx hb dX1_degree_55 (by decide) ?_
          have hl : lv_has ls 5 [(0, .ref h0), (1, .int p1), (2, .int (tc_sz (nI i) 6)), (3, .int (nI (i + 1)))] := lv_sub hl [3, 4, 1, 0] rfl
          exact ih_i ls (tw_has hl (by rw [tm_de_s _ _ i, if_pos c_5, if_neg c_6]))
  · have b_2 : ¬ vp_in p1 4 := hr_1.mp c_2
    refine lv_sipush (v := -1000) hx hb dX1_degree_8 (by decide) ?_
    exact W.iret (v := (-1000 : Int32)) hx hb hr (fun t ht hW => ⟨(-1000 : Int32), rfl, ⟨fun h => absurd h b_2, fun _ => rfl⟩, ht⟩) (fun _ h => by cases h) dX1_degree_11
set_option maxHeartbeats 4000000 in
set_option maxRecDepth 100000 in
/-- spectrum(t, a) -/
theorem metX1_spectrum (l : Launch) (dC : Nat → ClassId) (dI : Nat → Nat → Nat) (h0 q1 q2 : Nat) (e1 e2 : ClassId) (a b : Nat → Int32) (p1 : Int32) (p2 : Int32) : Met l yX1_spectrum (ws_ yX1_spectrum cX1_spectrum 3 (some .int)) ({ frames := 3, cells := 0, slots := 0, locals := 69 }) (va_Pc [.ref h0, .int p1, .int p2] (tw_RM dC dI h0 q1 q2 e1 e2 a b)) (vp_Si (fun (r : Int32) => ((vp_in p1 4 ∧ vp_in p2 64) → r = tm_sa a p1 p2 64) ∧ (¬ (vp_in p1 4 ∧ vp_in p2 64) → r = (-1000 : Int32)))) 0 0 (fun _ => False) := by
  refine Met.ofW (cc := cX1_spectrum) (maxL := 3) (ret := (some .int)) (by decide) rfl ?_
  intro p e s m args below meth c s₁ B hml hv
  obtain ⟨rfl, hP, hK⟩ := hv
  have hx := B.exec
  have hb := B.bytes
  have hr := B.returns
  have hts := atoms_spec (ws := ws_ yX1_spectrum cX1_spectrum 3 (some .int)) B.pre
  have hts : ∀ w ∈ lw_all, w.before _ s = true := fun w h => hts w (List.mem_cons_of_mem _ h)
  have hown : s.vm.findClass RX1 = some m.cls := findClass_of_methodNamed B.named
  have hlocks := B.notSynchronized
  have hl := lv_entry ([.ref h0, .int p1, .int p2]) (n := 3) (Nat.le_of_ble_eq_true rfl)
  rw [lg_entry_eq]
  generalize (lg_sl ([.ref h0, .int p1, .int p2]) ++ List.replicate (3 - (lg_sl ([.ref h0, .int p1, .int p2])).length) Slot.unset).toArray = ls at hl ⊢
  have hl : lv_has ls 3 [(0, .ref h0), (1, .int p1), (2, .int p2)] := hl
  refine lv_aload_n hx hb dX1_spectrum_0 rfl (lv_at hl 0 rfl) ?_
  refine lv_iload_n hx hb dX1_spectrum_1 rfl (lv_at hl 1 rfl) ?_
  refine vp_callSi (W.runV (As := [.int p1]) (rest := []) ⟨hx, hb, hml, hown, hts⟩ (metX1_isTable l h0 p1) (cwV 1 hts (lw_V q188 q190 qs13 q26 q191) rfl rfl rfl (by decide +kernel) ⟨Nat.le_of_ble_eq_true rfl, Nat.le_of_ble_eq_true rfl⟩) (tw_pre0M hK hP _) rfl rfl hl.1 rfl (lv_room (Nat.le_of_ble_eq_true rfl)) dX1_spectrum_2 ⟨Nat.le_of_ble_eq_true rfl, Nat.le_of_ble_eq_true rfl⟩) (fun r_1 hr_1 => ?_)
  refine lv_if_eq (tgt := 25) hx hb dX1_spectrum_5 (by decide) (fun c_2 => ?_) (fun c_2 => ?_)
  · have b_2 : ¬ vp_in p1 4 := hr_1.mp c_2
    refine lv_sipush (v := -1000) hx hb dX1_spectrum_25 (by decide) ?_
    exact W.iret (v := (-1000 : Int32)) hx hb hr (fun t ht hW => ⟨(-1000 : Int32), rfl, ⟨fun h => absurd h.1 b_2, fun _ => rfl⟩, ht⟩) (fun _ h => by cases h) dX1_spectrum_28
  · have b_2 : vp_in p1 4 := Classical.not_not.mp (fun h => c_2 (hr_1.mpr h))
    refine lv_aload_n hx hb dX1_spectrum_8 rfl (lv_at hl 0 rfl) ?_
    refine lv_iload_n hx hb dX1_spectrum_9 rfl (lv_at hl 2 rfl) ?_
    refine vp_callSi (W.runV (As := [.int p2]) (rest := []) ⟨hx, hb, hml, hown, hts⟩ (metX1_isPoint l h0 p2) (cwV 1 hts (lw_V q192 q194 qs14 q26 q195) rfl rfl rfl (by decide +kernel) ⟨Nat.le_of_ble_eq_true rfl, Nat.le_of_ble_eq_true rfl⟩) (tw_pre0M hK hP _) rfl rfl hl.1 rfl (lv_room (Nat.le_of_ble_eq_true rfl)) dX1_spectrum_10 ⟨Nat.le_of_ble_eq_true rfl, Nat.le_of_ble_eq_true rfl⟩) (fun r_3 hr_3 => ?_)
    refine lv_if_eq (tgt := 25) hx hb dX1_spectrum_13 (by decide) (fun c_4 => ?_) (fun c_4 => ?_)
    · have b_4 : ¬ vp_in p2 64 := hr_3.mp c_4
      refine lv_sipush (v := -1000) hx hb dX1_spectrum_25 (by decide) ?_
      exact W.iret (v := (-1000 : Int32)) hx hb hr (fun t ht hW => ⟨(-1000 : Int32), rfl, ⟨fun h => absurd h.2 b_4, fun _ => rfl⟩, ht⟩) (fun _ h => by cases h) dX1_spectrum_28
    · have b_4 : vp_in p2 64 := Classical.not_not.mp (fun h => c_4 (hr_3.mpr h))
      refine lv_aload_n hx hb dX1_spectrum_16 rfl (lv_at hl 0 rfl) ?_
      refine lv_iload_n hx hb dX1_spectrum_17 rfl (lv_at hl 1 rfl) ?_
      refine lv_iload_n hx hb dX1_spectrum_18 rfl (lv_at hl 2 rfl) ?_
      refine vp_callSi (W.runV (As := [.int p1, .int p2]) (rest := []) ⟨hx, hb, hml, hown, hts⟩ (metX1_spectrumAt l dC dI h0 q1 q2 e1 e2 a b p1 p2 b_2) (cwV 2 hts (lw_V q248 q250 qs20 q26 q251) rfl rfl rfl (by decide +kernel) ⟨Nat.le_of_ble_eq_true rfl, Nat.le_of_ble_eq_true rfl⟩) (tw_preM hK hP _) rfl rfl hl.1 rfl (lv_room (Nat.le_of_ble_eq_true rfl)) dX1_spectrum_19 ⟨Nat.le_of_ble_eq_true rfl, Nat.le_of_ble_eq_true rfl⟩) (fun r_5 hr_5 => ?_)
      rw [hr_5]
      refine lv_goto (tgt := 28) hx hb dX1_spectrum_22 (by decide) ?_
      exact W.iret (v := (tm_sa a p1 p2 64)) hx hb hr (fun t ht hW => ⟨(tm_sa a p1 p2 64), rfl, ⟨fun _ => rfl, fun h => absurd ⟨b_2, b_4⟩ h⟩, ht⟩) (fun _ h => by cases h) dX1_spectrum_28
set_option maxHeartbeats 4000000 in
set_option maxRecDepth 100000 in
/-- distance(t) -/
theorem metX1_distance (l : Launch) (dC : Nat → ClassId) (dI : Nat → Nat → Nat) (h0 q1 q2 : Nat) (e1 e2 : ClassId) (a b : Nat → Int32) (p1 : Int32) : Met l yX1_distance (ws_ yX1_distance cX1_distance 5 (some .int)) ({ frames := 3, cells := 0, slots := 0, locals := 69 }) (va_Pc [.ref h0, .int p1] (tw_RM dC dI h0 q1 q2 e1 e2 a b)) (vp_Si (fun (r : Int32) => ((vp_in p1 4) → r = tm_di a p1 64) ∧ (¬ (vp_in p1 4) → r = (-1000 : Int32)))) 0 0 (fun _ => False) := by
  refine Met.ofW (cc := cX1_distance) (maxL := 5) (ret := (some .int)) (by decide) rfl ?_
  intro p e s m args below meth c s₁ B hml hv
  obtain ⟨rfl, hP, hK⟩ := hv
  have hx := B.exec
  have hb := B.bytes
  have hr := B.returns
  have hts := atoms_spec (ws := ws_ yX1_distance cX1_distance 5 (some .int)) B.pre
  have hts : ∀ w ∈ lw_all, w.before _ s = true := fun w h => hts w (List.mem_cons_of_mem _ h)
  have hown : s.vm.findClass RX1 = some m.cls := findClass_of_methodNamed B.named
  have hlocks := B.notSynchronized
  have hl := lv_entry ([.ref h0, .int p1]) (n := 5) (Nat.le_of_ble_eq_true rfl)
  rw [lg_entry_eq]
  generalize (lg_sl ([.ref h0, .int p1]) ++ List.replicate (5 - (lg_sl ([.ref h0, .int p1])).length) Slot.unset).toArray = ls at hl ⊢
  have hl : lv_has ls 5 [(0, .ref h0), (1, .int p1)] := hl
  refine lv_aload_n hx hb dX1_distance_0 rfl (lv_at hl 0 rfl) ?_
  refine lv_iload_n hx hb dX1_distance_1 rfl (lv_at hl 1 rfl) ?_
  refine vp_callSi (W.runV (As := [.int p1]) (rest := []) ⟨hx, hb, hml, hown, hts⟩ (metX1_isTable l h0 p1) (cwV 1 hts (lw_V q188 q190 qs13 q26 q191) rfl rfl rfl (by decide +kernel) ⟨Nat.le_of_ble_eq_true rfl, Nat.le_of_ble_eq_true rfl⟩) (tw_pre0M hK hP _) rfl rfl hl.1 rfl (lv_room (Nat.le_of_ble_eq_true rfl)) dX1_distance_2 ⟨Nat.le_of_ble_eq_true rfl, Nat.le_of_ble_eq_true rfl⟩) (fun r_1 hr_1 => ?_)
  refine lv_if_ne (tgt := 12) hx hb dX1_distance_5 (by decide) (fun c_2 => ?_) (fun c_2 => ?_)
  · have b_2 : vp_in p1 4 := Classical.not_not.mp (fun h => c_2 (hr_1.mpr h))
    refine lv_bipush (v := 64) hx hb dX1_distance_12 (by decide) ?_
    refine lv_istore_n (lv' := [(2, .int (64 : Int32)), (0, .ref h0), (1, .int p1)]) hx hb dX1_distance_14 rfl hl (by decide) rfl (fun ls hl => ?_)
    refine lv_iconst (v := 0) hx hb dX1_distance_15 (by decide) ?_
    refine lv_istore_n (lv' := [(3, .int (0 : Int32)), (2, .int (64 : Int32)), (0, .ref h0), (1, .int p1)]) hx hb dX1_distance_16 rfl hl (by decide) rfl (fun ls hl => ?_)
    have hl : lv_has ls 5 [(0, .ref h0), (1, .int p1), (2, .int (64 : Int32)), (3, .int (0 : Int32))] := lv_sub hl [2, 3, 1, 0] rfl
    have hl : lv_has ls 5 [(0, .ref h0), (1, .int p1), (2, .int (tm_di a p1 0)), (3, .int (nI 0))] := hl
    refine tw_loop (pc := 17) 64 (fun i ls => lv_has ls 5 [(0, .ref h0), (1, .int p1), (2, .int (tm_di a p1 i)), (3, .int (nI i))]) (fun ls hp => ?_) (fun i ls hi_i hp ih_i => ?_) 64 0 ls (by omega) hl
    · have hl := hp
      have hl : lv_has ls 5 [(0, .ref h0), (1, .int p1), (2, .int (tm_di a p1 64)), (3, .int (nI 64))] := hl
      refine lv_iload_n hx hb dX1_distance_17 rfl (lv_at hl 3 rfl) ?_
      refine lv_bipush (v := 64) hx hb dX1_distance_18 (by decide) ?_
      refine lv_icmp_ge (tgt := 50) hx hb dX1_distance_20 (by decide) (fun _ => ?_) (fun c => absurd (nI_le (a := 64) (b := 64) (by decide) (by decide)) c)
      refine lv_iload_n hx hb dX1_distance_50 rfl (lv_at hl 2 rfl) ?_
      exact W.iret (v := tm_di a p1 64) hx hb hr (fun t ht hW => ⟨tm_di a p1 64, rfl, ⟨fun _ => rfl, fun h => absurd b_2 h⟩, ht⟩) (fun _ h => by cases h) dX1_distance_51
    · have hl := hp
      have hl : lv_has ls 5 [(0, .ref h0), (1, .int p1), (2, .int (tm_di a p1 i)), (3, .int (nI i))] := hl
      refine lv_iload_n hx hb dX1_distance_17 rfl (lv_at hl 3 rfl) ?_
      refine lv_bipush (v := 64) hx hb dX1_distance_18 (by decide) ?_
      refine lv_icmp_ge (tgt := 50) hx hb dX1_distance_20 (by decide) (fun c => absurd c (nI_ge (a := i) (b := 64) (by omega) (by decide))) (fun _ => ?_)
      refine lv_aload_n hx hb dX1_distance_23 rfl (lv_at hl 0 rfl) ?_
      refine lv_iload_n hx hb dX1_distance_24 rfl (lv_at hl 1 rfl) ?_
      refine lv_iload_n hx hb dX1_distance_25 rfl (lv_at hl 3 rfl) ?_
      refine vp_callSi (W.runV (As := [.int p1, .int (nI i)]) (rest := []) ⟨hx, hb, hml, hown, hts⟩ (metX1_changes l dC dI h0 q1 q2 e1 e2 a b p1 (nI i) b_2) (cwV 2 hts (lw_V q256 q258 qs21 q26 q259) rfl rfl rfl (by decide +kernel) ⟨Nat.le_of_ble_eq_true rfl, Nat.le_of_ble_eq_true rfl⟩) (tw_preM hK hP _) rfl rfl hl.1 rfl (lv_room (Nat.le_of_ble_eq_true rfl)) dX1_distance_26 ⟨Nat.le_of_ble_eq_true rfl, Nat.le_of_ble_eq_true rfl⟩) (fun r_3 hr_3 => ?_)
      rw [hr_3]
      refine lv_istore (lv' := [(4, .int (tm_chg a p1 (nI i))), (0, .ref h0), (1, .int p1), (2, .int (tm_di a p1 i)), (3, .int (nI i))]) hx hb dX1_distance_29 hl (by decide) rfl (fun ls hl => ?_)
      refine lv_iload hx hb dX1_distance_31 (lv_at hl 0 rfl) ?_
      refine lv_iload_n hx hb dX1_distance_33 rfl (lv_at hl 3 rfl) ?_
      refine lv_icmp_ge (tgt := 42) hx hb dX1_distance_34 (by decide) (fun c_4 => ?_) (fun c_4 => ?_)
      · refine lv_iload_n hx hb dX1_distance_42 rfl (lv_at hl 3 rfl) ?_
        refine lv_istore_n (lv' := [(2, .int (tm_di a p1 i)), (4, .int (tm_chg a p1 (nI i))), (0, .ref h0), (1, .int p1), (3, .int (nI i))]) hx hb dX1_distance_43 rfl hl (by decide) rfl (fun ls hl => ?_)
        refine lv_iinc (v := nI (i + 1)) (lv' := [(3, .int (nI (i + 1))), (2, .int (tm_di a p1 i)), (4, .int (tm_chg a p1 (nI i))), (0, .ref h0), (1, .int p1)]) hx hb dX1_distance_44 hl (k := 4) rfl (nI_1 i) (by decide) rfl (fun ls hl => ?_)
        refine lv_goto (tgt := 17) hx hb dX1_distance_47 (by decide) ?_
        have hl : lv_has ls 5 [(0, .ref h0), (1, .int p1), (2, .int (tm_di a p1 i)), (3, .int (nI (i + 1)))] := lv_sub hl [3, 4, 1, 0] rfl
        exact ih_i ls (tw_has hl (by rw [tm_di_s _ _ i, if_pos c_4]))
      · refine lv_iload hx hb dX1_distance_37 (lv_at hl 0 rfl) ?_
        refine lv_goto (tgt := 43) hx hb dX1_distance_39 (by decide) ?_
        refine lv_istore_n (lv' := [(2, .int (tm_chg a p1 (nI i))), (4, .int (tm_chg a p1 (nI i))), (0, .ref h0), (1, .int p1), (3, .int (nI i))]) hx hb dX1_distance_43 rfl hl (by decide) rfl (fun ls hl => ?_)
        refine lv_iinc (v := nI (i + 1)) (lv' := [(3, .int (nI (i + 1))), (2, .int (tm_chg a p1 (nI i))), (4, .int (tm_chg a p1 (nI i))), (0, .ref h0), (1, .int p1)]) hx hb dX1_distance_44 hl (k := 4) rfl (nI_1 i) (by decide) rfl (fun ls hl => ?_)
        refine lv_goto (tgt := 17) hx hb dX1_distance_47 (by decide) ?_
        have hl : lv_has ls 5 [(0, .ref h0), (1, .int p1), (2, .int (tm_chg a p1 (nI i))), (3, .int (nI (i + 1)))] := lv_sub hl [3, 4, 1, 0] rfl
        exact ih_i ls (tw_has hl (by rw [tm_di_s _ _ i, if_neg c_4]))
  · have b_2 : ¬ vp_in p1 4 := hr_1.mp c_2
    refine lv_sipush (v := -1000) hx hb dX1_distance_8 (by decide) ?_
    exact W.iret (v := (-1000 : Int32)) hx hb hr (fun t ht hW => ⟨(-1000 : Int32), rfl, ⟨fun h => absurd h b_2, fun _ => rfl⟩, ht⟩) (fun _ h => by cases h) dX1_distance_11
set_option maxHeartbeats 4000000 in
set_option maxRecDepth 100000 in
/-- nearest(t) -/
theorem metX1_nearest (l : Launch) (dC : Nat → ClassId) (dI : Nat → Nat → Nat) (h0 q1 q2 : Nat) (e1 e2 : ClassId) (a b : Nat → Int32) (p1 : Int32) : Met l yX1_nearest (ws_ yX1_nearest cX1_nearest 4 (some .int)) ({ frames := 3, cells := 0, slots := 0, locals := 69 }) (va_Pc [.ref h0, .int p1] (tw_RM dC dI h0 q1 q2 e1 e2 a b)) (vp_Si (fun (r : Int32) => ((vp_in p1 4) → r = tm_ne a p1 63) ∧ (¬ (vp_in p1 4) → r = (-1000 : Int32)))) 0 0 (fun _ => False) := by
  refine Met.ofW (cc := cX1_nearest) (maxL := 4) (ret := (some .int)) (by decide) rfl ?_
  intro p e s m args below meth c s₁ B hml hv
  obtain ⟨rfl, hP, hK⟩ := hv
  have hx := B.exec
  have hb := B.bytes
  have hr := B.returns
  have hts := atoms_spec (ws := ws_ yX1_nearest cX1_nearest 4 (some .int)) B.pre
  have hts : ∀ w ∈ lw_all, w.before _ s = true := fun w h => hts w (List.mem_cons_of_mem _ h)
  have hown : s.vm.findClass RX1 = some m.cls := findClass_of_methodNamed B.named
  have hlocks := B.notSynchronized
  have hl := lv_entry ([.ref h0, .int p1]) (n := 4) (Nat.le_of_ble_eq_true rfl)
  rw [lg_entry_eq]
  generalize (lg_sl ([.ref h0, .int p1]) ++ List.replicate (4 - (lg_sl ([.ref h0, .int p1])).length) Slot.unset).toArray = ls at hl ⊢
  have hl : lv_has ls 4 [(0, .ref h0), (1, .int p1)] := hl
  refine lv_aload_n hx hb dX1_nearest_0 rfl (lv_at hl 0 rfl) ?_
  refine lv_iload_n hx hb dX1_nearest_1 rfl (lv_at hl 1 rfl) ?_
  refine vp_callSi (W.runV (As := [.int p1]) (rest := []) ⟨hx, hb, hml, hown, hts⟩ (metX1_isTable l h0 p1) (cwV 1 hts (lw_V q188 q190 qs13 q26 q191) rfl rfl rfl (by decide +kernel) ⟨Nat.le_of_ble_eq_true rfl, Nat.le_of_ble_eq_true rfl⟩) (tw_pre0M hK hP _) rfl rfl hl.1 rfl (lv_room (Nat.le_of_ble_eq_true rfl)) dX1_nearest_2 ⟨Nat.le_of_ble_eq_true rfl, Nat.le_of_ble_eq_true rfl⟩) (fun r_1 hr_1 => ?_)
  refine lv_if_ne (tgt := 12) hx hb dX1_nearest_5 (by decide) (fun c_2 => ?_) (fun c_2 => ?_)
  · have b_2 : vp_in p1 4 := Classical.not_not.mp (fun h => c_2 (hr_1.mpr h))
    refine lv_iconst (v := 0) hx hb dX1_nearest_12 (by decide) ?_
    refine lv_istore_n (lv' := [(2, .int (0 : Int32)), (0, .ref h0), (1, .int p1)]) hx hb dX1_nearest_13 rfl hl (by decide) rfl (fun ls hl => ?_)
    refine lv_iconst (v := 1) hx hb dX1_nearest_14 (by decide) ?_
    refine lv_istore_n (lv' := [(3, .int (1 : Int32)), (2, .int (0 : Int32)), (0, .ref h0), (1, .int p1)]) hx hb dX1_nearest_15 rfl hl (by decide) rfl (fun ls hl => ?_)
    have hl : lv_has ls 4 [(0, .ref h0), (1, .int p1), (2, .int (0 : Int32)), (3, .int (1 : Int32))] := lv_sub hl [2, 3, 1, 0] rfl
    have hl : lv_has ls 4 [(0, .ref h0), (1, .int p1), (2, .int (tm_ne a p1 0)), (3, .int (nI (0 + 1)))] := hl
    refine tw_loop (pc := 16) 63 (fun i ls => lv_has ls 4 [(0, .ref h0), (1, .int p1), (2, .int (tm_ne a p1 i)), (3, .int (nI (i + 1)))]) (fun ls hp => ?_) (fun i ls hi_i hp ih_i => ?_) 63 0 ls (by omega) hl
    · have hl := hp
      have hl : lv_has ls 4 [(0, .ref h0), (1, .int p1), (2, .int (tm_ne a p1 63)), (3, .int (nI (63 + 1)))] := hl
      refine lv_iload_n hx hb dX1_nearest_16 rfl (lv_at hl 3 rfl) ?_
      refine lv_bipush (v := 64) hx hb dX1_nearest_17 (by decide) ?_
      refine lv_icmp_ge (tgt := 49) hx hb dX1_nearest_19 (by decide) (fun _ => ?_) (fun c => absurd (nI_le (a := 64) (b := 63 + 1) (by decide) (by decide)) c)
      refine lv_iload_n hx hb dX1_nearest_49 rfl (lv_at hl 2 rfl) ?_
      exact W.iret (v := tm_ne a p1 63) hx hb hr (fun t ht hW => ⟨tm_ne a p1 63, rfl, ⟨fun _ => rfl, fun h => absurd b_2 h⟩, ht⟩) (fun _ h => by cases h) dX1_nearest_50
    · have hl := hp
      have hl : lv_has ls 4 [(0, .ref h0), (1, .int p1), (2, .int (tm_ne a p1 i)), (3, .int (nI (i + 1)))] := hl
      refine lv_iload_n hx hb dX1_nearest_16 rfl (lv_at hl 3 rfl) ?_
      refine lv_bipush (v := 64) hx hb dX1_nearest_17 (by decide) ?_
      refine lv_icmp_ge (tgt := 49) hx hb dX1_nearest_19 (by decide) (fun c => absurd c (nI_ge (a := i + 1) (b := 64) (by omega) (by decide))) (fun _ => ?_)
      refine lv_aload_n hx hb dX1_nearest_22 rfl (lv_at hl 0 rfl) ?_
      refine lv_iload_n hx hb dX1_nearest_23 rfl (lv_at hl 1 rfl) ?_
      refine lv_iload_n hx hb dX1_nearest_24 rfl (lv_at hl 3 rfl) ?_
      refine vp_callSi (W.runV (As := [.int p1, .int (nI (i + 1))]) (rest := []) ⟨hx, hb, hml, hown, hts⟩ (metX1_changes l dC dI h0 q1 q2 e1 e2 a b p1 (nI (i + 1)) b_2) (cwV 2 hts (lw_V q256 q258 qs21 q26 q259) rfl rfl rfl (by decide +kernel) ⟨Nat.le_of_ble_eq_true rfl, Nat.le_of_ble_eq_true rfl⟩) (tw_preM hK hP _) rfl rfl hl.1 rfl (lv_room (Nat.le_of_ble_eq_true rfl)) dX1_nearest_25 ⟨Nat.le_of_ble_eq_true rfl, Nat.le_of_ble_eq_true rfl⟩) (fun r_3 hr_3 => ?_)
      rw [hr_3]
      refine lv_aload_n hx hb dX1_nearest_28 rfl (lv_at hl 0 rfl) ?_
      refine lv_iload_n hx hb dX1_nearest_29 rfl (lv_at hl 1 rfl) ?_
      refine lv_iload_n hx hb dX1_nearest_30 rfl (lv_at hl 2 rfl) ?_
      refine vp_callSi (W.runV (As := [.int p1, .int (tm_ne a p1 i)]) (rest := [.int (tm_chg a p1 (nI (i + 1)))]) ⟨hx, hb, hml, hown, hts⟩ (metX1_changes l dC dI h0 q1 q2 e1 e2 a b p1 (tm_ne a p1 i) b_2) (cwV 2 hts (lw_V q256 q258 qs21 q26 q259) rfl rfl rfl (by decide +kernel) ⟨Nat.le_of_ble_eq_true rfl, Nat.le_of_ble_eq_true rfl⟩) (tw_preM hK hP _) rfl rfl hl.1 rfl (lv_room (Nat.le_of_ble_eq_true rfl)) dX1_nearest_31 ⟨Nat.le_of_ble_eq_true rfl, Nat.le_of_ble_eq_true rfl⟩) (fun r_4 hr_4 => ?_)
      rw [hr_4]
      refine lv_icmp_ge (tgt := 41) hx hb dX1_nearest_34 (by decide) (fun c_5 => ?_) (fun c_5 => ?_)
      · refine lv_iload_n hx hb dX1_nearest_41 rfl (lv_at hl 2 rfl) ?_
        refine lv_istore_n (lv' := [(2, .int (tm_ne a p1 i)), (0, .ref h0), (1, .int p1), (3, .int (nI (i + 1)))]) hx hb dX1_nearest_42 rfl hl (by decide) rfl (fun ls hl => ?_)
        refine lv_iinc (v := nI (i + 1 + 1)) (lv' := [(3, .int (nI (i + 1 + 1))), (2, .int (tm_ne a p1 i)), (0, .ref h0), (1, .int p1)]) hx hb dX1_nearest_43 hl (k := 3) rfl (nI_1 (i + 1)) (by decide) rfl (fun ls hl => ?_)
        refine lv_goto (tgt := 16) hx hb dX1_nearest_46 (by decide) ?_
        have hl : lv_has ls 4 [(0, .ref h0), (1, .int p1), (2, .int (tm_ne a p1 i)), (3, .int (nI (i + 1 + 1)))] := lv_sub hl [2, 3, 1, 0] rfl
        exact ih_i ls (tw_has hl (by rw [tm_ne_s _ _ i, if_pos c_5]))
      · refine lv_iload_n hx hb dX1_nearest_37 rfl (lv_at hl 3 rfl) ?_
        refine lv_goto (tgt := 42) hx hb dX1_nearest_38 (by decide) ?_
        refine lv_istore_n (lv' := [(2, .int (nI (i + 1))), (0, .ref h0), (1, .int p1), (3, .int (nI (i + 1)))]) hx hb dX1_nearest_42 rfl hl (by decide) rfl (fun ls hl => ?_)
        refine lv_iinc (v := nI (i + 1 + 1)) (lv' := [(3, .int (nI (i + 1 + 1))), (2, .int (nI (i + 1))), (0, .ref h0), (1, .int p1)]) hx hb dX1_nearest_43 hl (k := 3) rfl (nI_1 (i + 1)) (by decide) rfl (fun ls hl => ?_)
        refine lv_goto (tgt := 16) hx hb dX1_nearest_46 (by decide) ?_
        have hl : lv_has ls 4 [(0, .ref h0), (1, .int p1), (2, .int (nI (i + 1))), (3, .int (nI (i + 1 + 1)))] := lv_sub hl [2, 3, 1, 0] rfl
        exact ih_i ls (tw_has hl (by rw [tm_ne_s _ _ i, if_neg c_5]))
  · have b_2 : ¬ vp_in p1 4 := hr_1.mp c_2
    refine lv_sipush (v := -1000) hx hb dX1_nearest_8 (by decide) ?_
    exact W.iret (v := (-1000 : Int32)) hx hb hr (fun t ht hW => ⟨(-1000 : Int32), rfl, ⟨fun h => absurd h b_2, fun _ => rfl⟩, ht⟩) (fun _ h => by cases h) dX1_nearest_11
end
section
/-! walks of TruthSpectrumModel: immunity, autocorrelation, variables, structures, shifted -/
set_option maxHeartbeats 4000000 in
set_option maxRecDepth 100000 in
/-- immunity(t) -/
theorem metX1_immunity (l : Launch) (dC : Nat → ClassId) (dI : Nat → Nat → Nat) (h0 q1 q2 : Nat) (e1 e2 : ClassId) (a b : Nat → Int32) (p1 : Int32) : Met l yX1_immunity (ws_ yX1_immunity cX1_immunity 5 (some .int)) ({ frames := 3, cells := 0, slots := 0, locals := 69 }) (va_Pc [.ref h0, .int p1] (tw_RM dC dI h0 q1 q2 e1 e2 a b)) (vp_Si (fun (r : Int32) => ((vp_in p1 4) → r = tm_im a p1 63 - (1 : Int32)) ∧ (¬ (vp_in p1 4) → r = (-1000 : Int32)))) 0 0 (fun _ => False) := by
  refine Met.ofW (cc := cX1_immunity) (maxL := 5) (ret := (some .int)) (by decide) rfl ?_
  intro p e s m args below meth c s₁ B hml hv
  obtain ⟨rfl, hP, hK⟩ := hv
  have hx := B.exec
  have hb := B.bytes
  have hr := B.returns
  have hts := atoms_spec (ws := ws_ yX1_immunity cX1_immunity 5 (some .int)) B.pre
  have hts : ∀ w ∈ lw_all, w.before _ s = true := fun w h => hts w (List.mem_cons_of_mem _ h)
  have hown : s.vm.findClass RX1 = some m.cls := findClass_of_methodNamed B.named
  have hlocks := B.notSynchronized
  have hl := lv_entry ([.ref h0, .int p1]) (n := 5) (Nat.le_of_ble_eq_true rfl)
  rw [lg_entry_eq]
  generalize (lg_sl ([.ref h0, .int p1]) ++ List.replicate (5 - (lg_sl ([.ref h0, .int p1])).length) Slot.unset).toArray = ls at hl ⊢
  have hl : lv_has ls 5 [(0, .ref h0), (1, .int p1)] := hl
  refine lv_aload_n hx hb dX1_immunity_0 rfl (lv_at hl 0 rfl) ?_
  refine lv_iload_n hx hb dX1_immunity_1 rfl (lv_at hl 1 rfl) ?_
  refine vp_callSi (W.runV (As := [.int p1]) (rest := []) ⟨hx, hb, hml, hown, hts⟩ (metX1_isTable l h0 p1) (cwV 1 hts (lw_V q188 q190 qs13 q26 q191) rfl rfl rfl (by decide +kernel) ⟨Nat.le_of_ble_eq_true rfl, Nat.le_of_ble_eq_true rfl⟩) (tw_pre0M hK hP _) rfl rfl hl.1 rfl (lv_room (Nat.le_of_ble_eq_true rfl)) dX1_immunity_2 ⟨Nat.le_of_ble_eq_true rfl, Nat.le_of_ble_eq_true rfl⟩) (fun r_1 hr_1 => ?_)
  refine lv_if_ne (tgt := 12) hx hb dX1_immunity_5 (by decide) (fun c_2 => ?_) (fun c_2 => ?_)
  · have b_2 : vp_in p1 4 := Classical.not_not.mp (fun h => c_2 (hr_1.mpr h))
    refine lv_bipush (v := 7) hx hb dX1_immunity_12 (by decide) ?_
    refine lv_istore_n (lv' := [(2, .int (7 : Int32)), (0, .ref h0), (1, .int p1)]) hx hb dX1_immunity_14 rfl hl (by decide) rfl (fun ls hl => ?_)
    refine lv_iconst (v := 1) hx hb dX1_immunity_15 (by decide) ?_
    refine lv_istore_n (lv' := [(3, .int (1 : Int32)), (2, .int (7 : Int32)), (0, .ref h0), (1, .int p1)]) hx hb dX1_immunity_16 rfl hl (by decide) rfl (fun ls hl => ?_)
    have hl : lv_has ls 5 [(0, .ref h0), (1, .int p1), (2, .int (7 : Int32)), (3, .int (1 : Int32))] := lv_sub hl [2, 3, 1, 0] rfl
    have hl : lv_has ls 5 [(0, .ref h0), (1, .int p1), (2, .int (tm_im a p1 0)), (3, .int (nI (0 + 1)))] := hl
    refine tw_loop (pc := 17) 63 (fun i ls => lv_has ls 5 [(0, .ref h0), (1, .int p1), (2, .int (tm_im a p1 i)), (3, .int (nI (i + 1)))]) (fun ls hp => ?_) (fun i ls hi_i hp ih_i => ?_) 63 0 ls (by omega) hl
    · have hl := hp
      have hl : lv_has ls 5 [(0, .ref h0), (1, .int p1), (2, .int (tm_im a p1 63)), (3, .int (nI (63 + 1)))] := hl
      refine lv_iload_n hx hb dX1_immunity_17 rfl (lv_at hl 3 rfl) ?_
      refine lv_bipush (v := 64) hx hb dX1_immunity_18 (by decide) ?_
      refine lv_icmp_ge (tgt := 58) hx hb dX1_immunity_20 (by decide) (fun _ => ?_) (fun c => absurd (nI_le (a := 64) (b := 63 + 1) (by decide) (by decide)) c)
      refine lv_iload_n hx hb dX1_immunity_58 rfl (lv_at hl 2 rfl) ?_
      refine lv_iconst (v := 1) hx hb dX1_immunity_59 (by decide) ?_
      refine lv_isub hx hb dX1_immunity_60 ?_
      exact W.iret (v := ((tm_im a p1 63) - (1 : Int32))) hx hb hr (fun t ht hW => ⟨((tm_im a p1 63) - (1 : Int32)), rfl, ⟨fun _ => rfl, fun h => absurd b_2 h⟩, ht⟩) (fun _ h => by cases h) dX1_immunity_61
    · have hl := hp
      have hl : lv_has ls 5 [(0, .ref h0), (1, .int p1), (2, .int (tm_im a p1 i)), (3, .int (nI (i + 1)))] := hl
      refine lv_iload_n hx hb dX1_immunity_17 rfl (lv_at hl 3 rfl) ?_
      refine lv_bipush (v := 64) hx hb dX1_immunity_18 (by decide) ?_
      refine lv_icmp_ge (tgt := 58) hx hb dX1_immunity_20 (by decide) (fun c => absurd c (nI_ge (a := i + 1) (b := 64) (by omega) (by decide))) (fun _ => ?_)
      refine lv_aload_n hx hb dX1_immunity_23 rfl (lv_at hl 0 rfl) ?_
      refine lv_iload_n hx hb dX1_immunity_24 rfl (lv_at hl 3 rfl) ?_
      refine vp_callSi (W.runV (As := [.int (nI (i + 1))]) (rest := []) ⟨hx, hb, hml, hown, hts⟩ (metX1_sizeOf l h0 (nI (i + 1))) (cwV 1 hts (lw_V q220 q222 qs18 q26 q223) rfl rfl rfl (by decide +kernel) ⟨Nat.le_of_ble_eq_true rfl, Nat.le_of_ble_eq_true rfl⟩) (tw_pre0M hK hP _) rfl rfl hl.1 rfl (lv_room (Nat.le_of_ble_eq_true rfl)) dX1_immunity_25 ⟨Nat.le_of_ble_eq_true rfl, Nat.le_of_ble_eq_true rfl⟩) (fun r_3 hr_3 => ?_)
      rw [hr_3]
      refine lv_istore (lv' := [(4, .int (tc_sz (nI (i + 1)) 6)), (0, .ref h0), (1, .int p1), (2, .int (tm_im a p1 i)), (3, .int (nI (i + 1)))]) hx hb dX1_immunity_28 hl (by decide) rfl (fun ls hl => ?_)
      refine lv_aload_n hx hb dX1_immunity_30 rfl (lv_at hl 1 rfl) ?_
      refine lv_iload_n hx hb dX1_immunity_31 rfl (lv_at hl 2 rfl) ?_
      refine lv_iload_n hx hb dX1_immunity_32 rfl (lv_at hl 4 rfl) ?_
      refine vp_callSi (W.runV (As := [.int p1, .int (nI (i + 1))]) (rest := []) ⟨hx, hb, hml, hown, hts⟩ (metX1_spectrumAt l dC dI h0 q1 q2 e1 e2 a b p1 (nI (i + 1)) b_2) (cwV 2 hts (lw_V q248 q250 qs20 q26 q251) rfl rfl rfl (by decide +kernel) ⟨Nat.le_of_ble_eq_true rfl, Nat.le_of_ble_eq_true rfl⟩) (tw_preM hK hP _) rfl rfl hl.1 rfl (lv_room (Nat.le_of_ble_eq_true rfl)) dX1_immunity_33 ⟨Nat.le_of_ble_eq_true rfl, Nat.le_of_ble_eq_true rfl⟩) (fun r_4 hr_4 => ?_)
      rw [hr_4]
      refine lv_if_eq (tgt := 50) hx hb dX1_immunity_36 (by decide) (fun c_5 => ?_) (fun c_5 => ?_)
      · refine lv_iload_n hx hb dX1_immunity_50 rfl (lv_at hl 3 rfl) ?_
        refine lv_istore_n (lv' := [(2, .int (tm_im a p1 i)), (4, .int (tc_sz (nI (i + 1)) 6)), (0, .ref h0), (1, .int p1), (3, .int (nI (i + 1)))]) hx hb dX1_immunity_51 rfl hl (by decide) rfl (fun ls hl => ?_)
        refine lv_iinc (v := nI (i + 1 + 1)) (lv' := [(3, .int (nI (i + 1 + 1))), (2, .int (tm_im a p1 i)), (4, .int (tc_sz (nI (i + 1)) 6)), (0, .ref h0), (1, .int p1)]) hx hb dX1_immunity_52 hl (k := 4) rfl (nI_1 (i + 1)) (by decide) rfl (fun ls hl => ?_)
        refine lv_goto (tgt := 17) hx hb dX1_immunity_55 (by decide) ?_
        have hl : lv_has ls 5 [(0, .ref h0), (1, .int p1), (2, .int (tm_im a p1 i)), (3, .int (nI (i + 1 + 1)))] := lv_sub hl [3, 4, 1, 0] rfl
        exact ih_i ls (tw_has hl (by rw [tm_im_s _ _ i, if_pos c_5]))
      · refine lv_iload hx hb dX1_immunity_39 (lv_at hl 0 rfl) ?_
        refine lv_iload_n hx hb dX1_immunity_41 rfl (lv_at hl 3 rfl) ?_
        refine lv_icmp_ge (tgt := 50) hx hb dX1_immunity_42 (by decide) (fun c_6 => ?_) (fun c_6 => ?_)
        · refine lv_iload_n hx hb dX1_immunity_50 rfl (lv_at hl 3 rfl) ?_
          refine lv_istore_n (lv' := [(2, .int (tm_im a p1 i)), (4, .int (tc_sz (nI (i + 1)) 6)), (0, .ref h0), (1, .int p1), (3, .int (nI (i + 1)))]) hx hb dX1_immunity_51 rfl hl (by decide) rfl (fun ls hl => ?_)
          refine lv_iinc (v := nI (i + 1 + 1)) (lv' := [(3, .int (nI (i + 1 + 1))), (2, .int (tm_im a p1 i)), (4, .int (tc_sz (nI (i + 1)) 6)), (0, .ref h0), (1, .int p1)]) hx hb dX1_immunity_52 hl (k := 4) rfl (nI_1 (i + 1)) (by decide) rfl (fun ls hl => ?_)
          refine lv_goto (tgt := 17) hx hb dX1_immunity_55 (by decide) ?_
          have hl : lv_has ls 5 [(0, .ref h0), (1, .int p1), (2, .int (tm_im a p1 i)), (3, .int (nI (i + 1 + 1)))] := lv_sub hl [3, 4, 1, 0] rfl
          exact ih_i ls (tw_has hl (by rw [tm_im_s _ _ i, if_neg c_5, if_pos c_6]))
        · refine lv_iload hx hb dX1_immunity_45 (lv_at hl 0 rfl) ?_
          refine lv_goto (tgt := 51) hx hb dX1_immunity_47 (by decide) ?_
          refine lv_istore_n (lv' := [(2, .int (tc_sz (nI (i + 1)) 6)), (4, .int (tc_sz (nI (i + 1)) 6)), (0, .ref h0), (1, .int p1), (3, .int (nI (i + 1)))]) hx hb dX1_immunity_51 rfl hl (by decide) rfl (fun ls hl => ?_)
          refine lv_iinc (v := nI (i + 1 + 1)) (lv' := [(3, .int (nI (i + 1 + 1))), (2, .int (tc_sz (nI (i + 1)) 6)), (4, .int (tc_sz (nI (i + 1)) 6)), (0, .ref h0), (1, .int p1)]) hx hb dX1_immunity_52 hl (k := 4) rfl (nI_1 (i + 1)) (by decide) rfl (fun ls hl => ?_)
          refine lv_goto (tgt := 17) hx hb dX1_immunity_55 (by decide) ?_
          have hl : lv_has ls 5 [(0, .ref h0), (1, .int p1), (2, .int (tc_sz (nI (i + 1)) 6)), (3, .int (nI (i + 1 + 1)))] := lv_sub hl [3, 4, 1, 0] rfl
          exact ih_i ls (tw_has hl (by rw [tm_im_s _ _ i, if_neg c_5, if_neg c_6]))
  · have b_2 : ¬ vp_in p1 4 := hr_1.mp c_2
    refine lv_sipush (v := -1000) hx hb dX1_immunity_8 (by decide) ?_
    exact W.iret (v := (-1000 : Int32)) hx hb hr (fun t ht hW => ⟨(-1000 : Int32), rfl, ⟨fun h => absurd h b_2, fun _ => rfl⟩, ht⟩) (fun _ h => by cases h) dX1_immunity_11
set_option maxHeartbeats 4000000 in
set_option maxRecDepth 100000 in
/-- autocorrelation(t, a) -/
theorem metX1_autocorrelation (l : Launch) (dC : Nat → ClassId) (dI : Nat → Nat → Nat) (h0 q1 q2 : Nat) (e1 e2 : ClassId) (a b : Nat → Int32) (p1 : Int32) (p2 : Int32) : Met l yX1_autocorrelation (ws_ yX1_autocorrelation cX1_autocorrelation 3 (some .int)) ({ frames := 1, cells := 0, slots := 0, locals := 24 }) (va_Pc [.ref h0, .int p1, .int p2] (tw_RM dC dI h0 q1 q2 e1 e2 a b)) (vp_Si (fun (r : Int32) => ((vp_in p1 4 ∧ vp_in p2 64) → r = (2 : Int32) * tm_sm a p1 p2 64 - (64 : Int32)) ∧ (¬ (vp_in p1 4 ∧ vp_in p2 64) → r = (-1000 : Int32)))) 0 0 (fun _ => False) := by
  refine Met.ofW (cc := cX1_autocorrelation) (maxL := 3) (ret := (some .int)) (by decide) rfl ?_
  intro p e s m args below meth c s₁ B hml hv
  obtain ⟨rfl, hP, hK⟩ := hv
  have hx := B.exec
  have hb := B.bytes
  have hr := B.returns
  have hts := atoms_spec (ws := ws_ yX1_autocorrelation cX1_autocorrelation 3 (some .int)) B.pre
  have hts : ∀ w ∈ lw_all, w.before _ s = true := fun w h => hts w (List.mem_cons_of_mem _ h)
  have hown : s.vm.findClass RX1 = some m.cls := findClass_of_methodNamed B.named
  have hlocks := B.notSynchronized
  have hl := lv_entry ([.ref h0, .int p1, .int p2]) (n := 3) (Nat.le_of_ble_eq_true rfl)
  rw [lg_entry_eq]
  generalize (lg_sl ([.ref h0, .int p1, .int p2]) ++ List.replicate (3 - (lg_sl ([.ref h0, .int p1, .int p2])).length) Slot.unset).toArray = ls at hl ⊢
  have hl : lv_has ls 3 [(0, .ref h0), (1, .int p1), (2, .int p2)] := hl
  refine lv_aload_n hx hb dX1_autocorrelation_0 rfl (lv_at hl 0 rfl) ?_
  refine lv_iload_n hx hb dX1_autocorrelation_1 rfl (lv_at hl 1 rfl) ?_
  refine vp_callSi (W.runV (As := [.int p1]) (rest := []) ⟨hx, hb, hml, hown, hts⟩ (metX1_isTable l h0 p1) (cwV 1 hts (lw_V q188 q190 qs13 q26 q191) rfl rfl rfl (by decide +kernel) ⟨Nat.le_of_ble_eq_true rfl, Nat.le_of_ble_eq_true rfl⟩) (tw_pre0M hK hP _) rfl rfl hl.1 rfl (lv_room (Nat.le_of_ble_eq_true rfl)) dX1_autocorrelation_2 ⟨Nat.le_of_ble_eq_true rfl, Nat.le_of_ble_eq_true rfl⟩) (fun r_1 hr_1 => ?_)
  refine lv_if_eq (tgt := 30) hx hb dX1_autocorrelation_5 (by decide) (fun c_2 => ?_) (fun c_2 => ?_)
  · have b_2 : ¬ vp_in p1 4 := hr_1.mp c_2
    refine lv_sipush (v := -1000) hx hb dX1_autocorrelation_30 (by decide) ?_
    exact W.iret (v := (-1000 : Int32)) hx hb hr (fun t ht hW => ⟨(-1000 : Int32), rfl, ⟨fun h => absurd h.1 b_2, fun _ => rfl⟩, ht⟩) (fun _ h => by cases h) dX1_autocorrelation_33
  · have b_2 : vp_in p1 4 := Classical.not_not.mp (fun h => c_2 (hr_1.mpr h))
    refine lv_aload_n hx hb dX1_autocorrelation_8 rfl (lv_at hl 0 rfl) ?_
    refine lv_iload_n hx hb dX1_autocorrelation_9 rfl (lv_at hl 2 rfl) ?_
    refine vp_callSi (W.runV (As := [.int p2]) (rest := []) ⟨hx, hb, hml, hown, hts⟩ (metX1_isPoint l h0 p2) (cwV 1 hts (lw_V q192 q194 qs14 q26 q195) rfl rfl rfl (by decide +kernel) ⟨Nat.le_of_ble_eq_true rfl, Nat.le_of_ble_eq_true rfl⟩) (tw_pre0M hK hP _) rfl rfl hl.1 rfl (lv_room (Nat.le_of_ble_eq_true rfl)) dX1_autocorrelation_10 ⟨Nat.le_of_ble_eq_true rfl, Nat.le_of_ble_eq_true rfl⟩) (fun r_3 hr_3 => ?_)
    refine lv_if_eq (tgt := 30) hx hb dX1_autocorrelation_13 (by decide) (fun c_4 => ?_) (fun c_4 => ?_)
    · have b_4 : ¬ vp_in p2 64 := hr_3.mp c_4
      refine lv_sipush (v := -1000) hx hb dX1_autocorrelation_30 (by decide) ?_
      exact W.iret (v := (-1000 : Int32)) hx hb hr (fun t ht hW => ⟨(-1000 : Int32), rfl, ⟨fun h => absurd h.2 b_4, fun _ => rfl⟩, ht⟩) (fun _ h => by cases h) dX1_autocorrelation_33
    · have b_4 : vp_in p2 64 := Classical.not_not.mp (fun h => c_4 (hr_3.mpr h))
      refine lv_iconst (v := 2) hx hb dX1_autocorrelation_16 (by decide) ?_
      refine lv_aload_n hx hb dX1_autocorrelation_17 rfl (lv_at hl 0 rfl) ?_
      refine lv_iload_n hx hb dX1_autocorrelation_18 rfl (lv_at hl 1 rfl) ?_
      refine lv_iload_n hx hb dX1_autocorrelation_19 rfl (lv_at hl 2 rfl) ?_
      refine vp_callSi (W.runV (As := [.int p1, .int p2]) (rest := [.int (2 : Int32)]) ⟨hx, hb, hml, hown, hts⟩ (metX1_sames l dC dI h0 q1 q2 e1 e2 a b p1 p2 b_2 b_4) (cwV 2 hts (lw_V q272 q274 qs22 q26 q275) rfl rfl rfl (by decide +kernel) ⟨Nat.le_of_ble_eq_true rfl, Nat.le_of_ble_eq_true rfl⟩) (tw_preM hK hP _) rfl rfl hl.1 rfl (lv_room (Nat.le_of_ble_eq_true rfl)) dX1_autocorrelation_20 ⟨Nat.le_of_ble_eq_true rfl, Nat.le_of_ble_eq_true rfl⟩) (fun r_5 hr_5 => ?_)
      rw [hr_5]
      refine lv_imul hx hb dX1_autocorrelation_23 ?_
      refine lv_bipush (v := 64) hx hb dX1_autocorrelation_24 (by decide) ?_
      refine lv_isub hx hb dX1_autocorrelation_26 ?_
      refine lv_goto (tgt := 33) hx hb dX1_autocorrelation_27 (by decide) ?_
      exact W.iret (v := (((2 : Int32) * (tm_sm a p1 p2 64)) - (64 : Int32))) hx hb hr (fun t ht hW => ⟨(((2 : Int32) * (tm_sm a p1 p2 64)) - (64 : Int32)), rfl, ⟨fun _ => rfl, fun h => absurd ⟨b_2, b_4⟩ h⟩, ht⟩) (fun _ h => by cases h) dX1_autocorrelation_33
set_option maxHeartbeats 4000000 in
set_option maxRecDepth 100000 in
/-- variables(t) -/
theorem metX1_variables (l : Launch) (dC : Nat → ClassId) (dI : Nat → Nat → Nat) (h0 q1 q2 : Nat) (e1 e2 : ClassId) (a b : Nat → Int32) (p1 : Int32) : Met l yX1_variables (ws_ yX1_variables cX1_variables 4 (some .int)) ({ frames := 1, cells := 0, slots := 0, locals := 24 }) (va_Pc [.ref h0, .int p1] (tw_RM dC dI h0 q1 q2 e1 e2 a b)) (vp_Si (fun (r : Int32) => ((vp_in p1 4) → r = tm_va a p1 6) ∧ (¬ (vp_in p1 4) → r = (-1000 : Int32)))) 0 0 (fun _ => False) := by
  refine Met.ofW (cc := cX1_variables) (maxL := 4) (ret := (some .int)) (by decide) rfl ?_
  intro p e s m args below meth c s₁ B hml hv
  obtain ⟨rfl, hP, hK⟩ := hv
  have hx := B.exec
  have hb := B.bytes
  have hr := B.returns
  have hts := atoms_spec (ws := ws_ yX1_variables cX1_variables 4 (some .int)) B.pre
  have hts : ∀ w ∈ lw_all, w.before _ s = true := fun w h => hts w (List.mem_cons_of_mem _ h)
  have hown : s.vm.findClass RX1 = some m.cls := findClass_of_methodNamed B.named
  have hlocks := B.notSynchronized
  have hl := lv_entry ([.ref h0, .int p1]) (n := 4) (Nat.le_of_ble_eq_true rfl)
  rw [lg_entry_eq]
  generalize (lg_sl ([.ref h0, .int p1]) ++ List.replicate (4 - (lg_sl ([.ref h0, .int p1])).length) Slot.unset).toArray = ls at hl ⊢
  have hl : lv_has ls 4 [(0, .ref h0), (1, .int p1)] := hl
  refine lv_aload_n hx hb dX1_variables_0 rfl (lv_at hl 0 rfl) ?_
  refine lv_iload_n hx hb dX1_variables_1 rfl (lv_at hl 1 rfl) ?_
  refine vp_callSi (W.runV (As := [.int p1]) (rest := []) ⟨hx, hb, hml, hown, hts⟩ (metX1_isTable l h0 p1) (cwV 1 hts (lw_V q188 q190 qs13 q26 q191) rfl rfl rfl (by decide +kernel) ⟨Nat.le_of_ble_eq_true rfl, Nat.le_of_ble_eq_true rfl⟩) (tw_pre0M hK hP _) rfl rfl hl.1 rfl (lv_room (Nat.le_of_ble_eq_true rfl)) dX1_variables_2 ⟨Nat.le_of_ble_eq_true rfl, Nat.le_of_ble_eq_true rfl⟩) (fun r_1 hr_1 => ?_)
  refine lv_if_ne (tgt := 12) hx hb dX1_variables_5 (by decide) (fun c_2 => ?_) (fun c_2 => ?_)
  · have b_2 : vp_in p1 4 := Classical.not_not.mp (fun h => c_2 (hr_1.mpr h))
    refine lv_iconst (v := 0) hx hb dX1_variables_12 (by decide) ?_
    refine lv_istore_n (lv' := [(2, .int (0 : Int32)), (0, .ref h0), (1, .int p1)]) hx hb dX1_variables_13 rfl hl (by decide) rfl (fun ls hl => ?_)
    refine lv_iconst (v := 0) hx hb dX1_variables_14 (by decide) ?_
    refine lv_istore_n (lv' := [(3, .int (0 : Int32)), (2, .int (0 : Int32)), (0, .ref h0), (1, .int p1)]) hx hb dX1_variables_15 rfl hl (by decide) rfl (fun ls hl => ?_)
    have hl : lv_has ls 4 [(0, .ref h0), (1, .int p1), (2, .int (0 : Int32)), (3, .int (0 : Int32))] := lv_sub hl [2, 3, 1, 0] rfl
    have hl : lv_has ls 4 [(0, .ref h0), (1, .int p1), (2, .int (tm_va a p1 0)), (3, .int (nI 0))] := hl
    refine tw_loop (pc := 16) 6 (fun i ls => lv_has ls 4 [(0, .ref h0), (1, .int p1), (2, .int (tm_va a p1 i)), (3, .int (nI i))]) (fun ls hp => ?_) (fun i ls hi_i hp ih_i => ?_) 6 0 ls (by omega) hl
    · have hl := hp
      have hl : lv_has ls 4 [(0, .ref h0), (1, .int p1), (2, .int (tm_va a p1 6)), (3, .int (nI 6))] := hl
      refine lv_iload_n hx hb dX1_variables_16 rfl (lv_at hl 3 rfl) ?_
      refine lv_bipush (v := 6) hx hb dX1_variables_17 (by decide) ?_
      refine lv_icmp_ge (tgt := 51) hx hb dX1_variables_19 (by decide) (fun _ => ?_) (fun c => absurd (nI_le (a := 6) (b := 6) (by decide) (by decide)) c)
      refine lv_iload_n hx hb dX1_variables_51 rfl (lv_at hl 2 rfl) ?_
      exact W.iret (v := tm_va a p1 6) hx hb hr (fun t ht hW => ⟨tm_va a p1 6, rfl, ⟨fun _ => rfl, fun h => absurd b_2 h⟩, ht⟩) (fun _ h => by cases h) dX1_variables_52
    · have hl := hp
      have hl : lv_has ls 4 [(0, .ref h0), (1, .int p1), (2, .int (tm_va a p1 i)), (3, .int (nI i))] := hl
      refine lv_iload_n hx hb dX1_variables_16 rfl (lv_at hl 3 rfl) ?_
      refine lv_bipush (v := 6) hx hb dX1_variables_17 (by decide) ?_
      refine lv_icmp_ge (tgt := 51) hx hb dX1_variables_19 (by decide) (fun c => absurd c (nI_ge (a := i) (b := 6) (by omega) (by decide))) (fun _ => ?_)
      refine lv_aload_n hx hb dX1_variables_22 rfl (lv_at hl 0 rfl) ?_
      refine lv_iload_n hx hb dX1_variables_23 rfl (lv_at hl 1 rfl) ?_
      refine lv_iconst (v := 1) hx hb dX1_variables_24 (by decide) ?_
      refine lv_iload_n hx hb dX1_variables_25 rfl (lv_at hl 3 rfl) ?_
      refine lv_ishl hx hb dX1_variables_26 ?_
      refine vp_callSi (W.runV (As := [.int p1, .int ((1 : Int32) <<< ((nI i) &&& 31))]) (rest := []) ⟨hx, hb, hml, hown, hts⟩ (metX1_sames l dC dI h0 q1 q2 e1 e2 a b p1 ((1 : Int32) <<< ((nI i) &&& 31)) b_2 (tw_b1 i (show i < 6 by omega))) (cwV 2 hts (lw_V q272 q274 qs22 q26 q275) rfl rfl rfl (by decide +kernel) ⟨Nat.le_of_ble_eq_true rfl, Nat.le_of_ble_eq_true rfl⟩) (tw_preM hK hP _) rfl rfl hl.1 rfl (lv_room (Nat.le_of_ble_eq_true rfl)) dX1_variables_27 ⟨Nat.le_of_ble_eq_true rfl, Nat.le_of_ble_eq_true rfl⟩) (fun r_3 hr_3 => ?_)
      rw [hr_3]
      refine lv_bipush (v := 64) hx hb dX1_variables_30 (by decide) ?_
      refine lv_icmp_ge (tgt := 43) hx hb dX1_variables_32 (by decide) (fun c_4 => ?_) (fun c_4 => ?_)
      · refine lv_iload_n hx hb dX1_variables_43 rfl (lv_at hl 2 rfl) ?_
        refine lv_istore_n (lv' := [(2, .int (tm_va a p1 i)), (0, .ref h0), (1, .int p1), (3, .int (nI i))]) hx hb dX1_variables_44 rfl hl (by decide) rfl (fun ls hl => ?_)
        refine lv_iinc (v := nI (i + 1)) (lv' := [(3, .int (nI (i + 1))), (2, .int (tm_va a p1 i)), (0, .ref h0), (1, .int p1)]) hx hb dX1_variables_45 hl (k := 3) rfl (nI_1 i) (by decide) rfl (fun ls hl => ?_)
        refine lv_goto (tgt := 16) hx hb dX1_variables_48 (by decide) ?_
        have hl : lv_has ls 4 [(0, .ref h0), (1, .int p1), (2, .int (tm_va a p1 i)), (3, .int (nI (i + 1)))] := lv_sub hl [2, 3, 1, 0] rfl
        exact ih_i ls (tw_has hl (by rw [tm_va_s _ _ i, if_pos c_4]))
      · refine lv_iload_n hx hb dX1_variables_35 rfl (lv_at hl 2 rfl) ?_
        refine lv_iconst (v := 1) hx hb dX1_variables_36 (by decide) ?_
        refine lv_iload_n hx hb dX1_variables_37 rfl (lv_at hl 3 rfl) ?_
        refine lv_ishl hx hb dX1_variables_38 ?_
        refine lv_ior hx hb dX1_variables_39 ?_
        refine lv_goto (tgt := 44) hx hb dX1_variables_40 (by decide) ?_
        refine lv_istore_n (lv' := [(2, .int ((tm_va a p1 i) ||| ((1 : Int32) <<< ((nI i) &&& 31)))), (0, .ref h0), (1, .int p1), (3, .int (nI i))]) hx hb dX1_variables_44 rfl hl (by decide) rfl (fun ls hl => ?_)
        refine lv_iinc (v := nI (i + 1)) (lv' := [(3, .int (nI (i + 1))), (2, .int ((tm_va a p1 i) ||| ((1 : Int32) <<< ((nI i) &&& 31)))), (0, .ref h0), (1, .int p1)]) hx hb dX1_variables_45 hl (k := 3) rfl (nI_1 i) (by decide) rfl (fun ls hl => ?_)
        refine lv_goto (tgt := 16) hx hb dX1_variables_48 (by decide) ?_
        have hl : lv_has ls 4 [(0, .ref h0), (1, .int p1), (2, .int ((tm_va a p1 i) ||| ((1 : Int32) <<< ((nI i) &&& 31)))), (3, .int (nI (i + 1)))] := lv_sub hl [2, 3, 1, 0] rfl
        exact ih_i ls (tw_has hl (by rw [tm_va_s _ _ i, if_neg c_4]))
  · have b_2 : ¬ vp_in p1 4 := hr_1.mp c_2
    refine lv_sipush (v := -1000) hx hb dX1_variables_8 (by decide) ?_
    exact W.iret (v := (-1000 : Int32)) hx hb hr (fun t ht hW => ⟨(-1000 : Int32), rfl, ⟨fun h => absurd h b_2, fun _ => rfl⟩, ht⟩) (fun _ h => by cases h) dX1_variables_11
set_option maxHeartbeats 4000000 in
set_option maxRecDepth 100000 in
/-- structures(t) -/
theorem metX1_structures (l : Launch) (dC : Nat → ClassId) (dI : Nat → Nat → Nat) (h0 q1 q2 : Nat) (e1 e2 : ClassId) (a b : Nat → Int32) (p1 : Int32) : Met l yX1_structures (ws_ yX1_structures cX1_structures 5 (some .int)) ({ frames := 1, cells := 0, slots := 0, locals := 24 }) (va_Pc [.ref h0, .int p1] (tw_RM dC dI h0 q1 q2 e1 e2 a b)) (vp_Si (fun (r : Int32) => ((vp_in p1 4) → r = tm_st a p1 64) ∧ (¬ (vp_in p1 4) → r = (-1000 : Int32)))) 0 0 (fun _ => False) := by
  refine Met.ofW (cc := cX1_structures) (maxL := 5) (ret := (some .int)) (by decide) rfl ?_
  intro p e s m args below meth c s₁ B hml hv
  obtain ⟨rfl, hP, hK⟩ := hv
  have hx := B.exec
  have hb := B.bytes
  have hr := B.returns
  have hts := atoms_spec (ws := ws_ yX1_structures cX1_structures 5 (some .int)) B.pre
  have hts : ∀ w ∈ lw_all, w.before _ s = true := fun w h => hts w (List.mem_cons_of_mem _ h)
  have hown : s.vm.findClass RX1 = some m.cls := findClass_of_methodNamed B.named
  have hlocks := B.notSynchronized
  have hl := lv_entry ([.ref h0, .int p1]) (n := 5) (Nat.le_of_ble_eq_true rfl)
  rw [lg_entry_eq]
  generalize (lg_sl ([.ref h0, .int p1]) ++ List.replicate (5 - (lg_sl ([.ref h0, .int p1])).length) Slot.unset).toArray = ls at hl ⊢
  have hl : lv_has ls 5 [(0, .ref h0), (1, .int p1)] := hl
  refine lv_aload_n hx hb dX1_structures_0 rfl (lv_at hl 0 rfl) ?_
  refine lv_iload_n hx hb dX1_structures_1 rfl (lv_at hl 1 rfl) ?_
  refine vp_callSi (W.runV (As := [.int p1]) (rest := []) ⟨hx, hb, hml, hown, hts⟩ (metX1_isTable l h0 p1) (cwV 1 hts (lw_V q188 q190 qs13 q26 q191) rfl rfl rfl (by decide +kernel) ⟨Nat.le_of_ble_eq_true rfl, Nat.le_of_ble_eq_true rfl⟩) (tw_pre0M hK hP _) rfl rfl hl.1 rfl (lv_room (Nat.le_of_ble_eq_true rfl)) dX1_structures_2 ⟨Nat.le_of_ble_eq_true rfl, Nat.le_of_ble_eq_true rfl⟩) (fun r_1 hr_1 => ?_)
  refine lv_if_ne (tgt := 12) hx hb dX1_structures_5 (by decide) (fun c_2 => ?_) (fun c_2 => ?_)
  · have b_2 : vp_in p1 4 := Classical.not_not.mp (fun h => c_2 (hr_1.mpr h))
    refine lv_iconst (v := 0) hx hb dX1_structures_12 (by decide) ?_
    refine lv_istore_n (lv' := [(2, .int (0 : Int32)), (0, .ref h0), (1, .int p1)]) hx hb dX1_structures_13 rfl hl (by decide) rfl (fun ls hl => ?_)
    refine lv_iconst (v := 0) hx hb dX1_structures_14 (by decide) ?_
    refine lv_istore_n (lv' := [(3, .int (0 : Int32)), (2, .int (0 : Int32)), (0, .ref h0), (1, .int p1)]) hx hb dX1_structures_15 rfl hl (by decide) rfl (fun ls hl => ?_)
    have hl : lv_has ls 5 [(0, .ref h0), (1, .int p1), (2, .int (0 : Int32)), (3, .int (0 : Int32))] := lv_sub hl [2, 3, 1, 0] rfl
    have hl : lv_has ls 5 [(0, .ref h0), (1, .int p1), (2, .int (tm_st a p1 0)), (3, .int (nI 0))] := hl
    refine tw_loop (pc := 16) 64 (fun i ls => lv_has ls 5 [(0, .ref h0), (1, .int p1), (2, .int (tm_st a p1 i)), (3, .int (nI i))]) (fun ls hp => ?_) (fun i ls hi_i hp ih_i => ?_) 64 0 ls (by omega) hl
    · have hl := hp
      have hl : lv_has ls 5 [(0, .ref h0), (1, .int p1), (2, .int (tm_st a p1 64)), (3, .int (nI 64))] := hl
      refine lv_iload_n hx hb dX1_structures_16 rfl (lv_at hl 3 rfl) ?_
      refine lv_bipush (v := 64) hx hb dX1_structures_17 (by decide) ?_
      refine lv_icmp_ge (tgt := 56) hx hb dX1_structures_19 (by decide) (fun _ => ?_) (fun c => absurd (nI_le (a := 64) (b := 64) (by decide) (by decide)) c)
      refine lv_iload_n hx hb dX1_structures_56 rfl (lv_at hl 2 rfl) ?_
      exact W.iret (v := tm_st a p1 64) hx hb hr (fun t ht hW => ⟨tm_st a p1 64, rfl, ⟨fun _ => rfl, fun h => absurd b_2 h⟩, ht⟩) (fun _ h => by cases h) dX1_structures_57
    · have hl := hp
      have hl : lv_has ls 5 [(0, .ref h0), (1, .int p1), (2, .int (tm_st a p1 i)), (3, .int (nI i))] := hl
      refine lv_iload_n hx hb dX1_structures_16 rfl (lv_at hl 3 rfl) ?_
      refine lv_bipush (v := 64) hx hb dX1_structures_17 (by decide) ?_
      refine lv_icmp_ge (tgt := 56) hx hb dX1_structures_19 (by decide) (fun c => absurd c (nI_ge (a := i) (b := 64) (by omega) (by decide))) (fun _ => ?_)
      refine lv_aload_n hx hb dX1_structures_22 rfl (lv_at hl 0 rfl) ?_
      refine lv_iload_n hx hb dX1_structures_23 rfl (lv_at hl 1 rfl) ?_
      refine lv_iload_n hx hb dX1_structures_24 rfl (lv_at hl 3 rfl) ?_
      refine vp_callSi (W.runV (As := [.int p1, .int (nI i)]) (rest := []) ⟨hx, hb, hml, hown, hts⟩ (metX1_sames l dC dI h0 q1 q2 e1 e2 a b p1 (nI i) b_2 (vp_in_nI (show i < 64 by omega) (by decide))) (cwV 2 hts (lw_V q272 q274 qs22 q26 q275) rfl rfl rfl (by decide +kernel) ⟨Nat.le_of_ble_eq_true rfl, Nat.le_of_ble_eq_true rfl⟩) (tw_preM hK hP _) rfl rfl hl.1 rfl (lv_room (Nat.le_of_ble_eq_true rfl)) dX1_structures_25 ⟨Nat.le_of_ble_eq_true rfl, Nat.le_of_ble_eq_true rfl⟩) (fun r_3 hr_3 => ?_)
      rw [hr_3]
      refine lv_istore (lv' := [(4, .int (tm_sm a p1 (nI i) 64)), (0, .ref h0), (1, .int p1), (2, .int (tm_st a p1 i)), (3, .int (nI i))]) hx hb dX1_structures_28 hl (by decide) rfl (fun ls hl => ?_)
      refine lv_iload hx hb dX1_structures_30 (lv_at hl 0 rfl) ?_
      refine lv_if_eq (tgt := 42) hx hb dX1_structures_32 (by decide) (fun c_4 => ?_) (fun c_4 => ?_)
      · refine lv_iload_n hx hb dX1_structures_42 rfl (lv_at hl 3 rfl) ?_
        refine lv_iconst (v := 1) hx hb dX1_structures_43 (by decide) ?_
        refine lv_iadd hx hb dX1_structures_44 ?_
        refine lv_goto (tgt := 49) hx hb dX1_structures_45 (by decide) ?_
        refine lv_istore_n (lv' := [(2, .int ((tm_st a p1 i) + (1 : Int32))), (4, .int (tm_sm a p1 (nI i) 64)), (0, .ref h0), (1, .int p1), (3, .int (nI i))]) hx hb dX1_structures_49 rfl hl (by decide) rfl (fun ls hl => ?_)
        refine lv_iinc (v := nI (i + 1)) (lv' := [(3, .int (nI (i + 1))), (2, .int ((tm_st a p1 i) + (1 : Int32))), (4, .int (tm_sm a p1 (nI i) 64)), (0, .ref h0), (1, .int p1)]) hx hb dX1_structures_50 hl (k := 4) rfl (nI_1 i) (by decide) rfl (fun ls hl => ?_)
        refine lv_goto (tgt := 16) hx hb dX1_structures_53 (by decide) ?_
        have hl : lv_has ls 5 [(0, .ref h0), (1, .int p1), (2, .int ((tm_st a p1 i) + (1 : Int32))), (3, .int (nI (i + 1)))] := lv_sub hl [3, 4, 1, 0] rfl
        exact ih_i ls (tw_has hl (by rw [tm_st_s _ _ i, if_pos c_4]))
      · refine lv_iload hx hb dX1_structures_35 (lv_at hl 0 rfl) ?_
        refine lv_bipush (v := 64) hx hb dX1_structures_37 (by decide) ?_
        refine lv_icmp_ne (tgt := 48) hx hb dX1_structures_39 (by decide) (fun c_5 => ?_) (fun c_5 => ?_)
        · refine lv_iload_n hx hb dX1_structures_48 rfl (lv_at hl 3 rfl) ?_
          refine lv_istore_n (lv' := [(2, .int (tm_st a p1 i)), (4, .int (tm_sm a p1 (nI i) 64)), (0, .ref h0), (1, .int p1), (3, .int (nI i))]) hx hb dX1_structures_49 rfl hl (by decide) rfl (fun ls hl => ?_)
          refine lv_iinc (v := nI (i + 1)) (lv' := [(3, .int (nI (i + 1))), (2, .int (tm_st a p1 i)), (4, .int (tm_sm a p1 (nI i) 64)), (0, .ref h0), (1, .int p1)]) hx hb dX1_structures_50 hl (k := 4) rfl (nI_1 i) (by decide) rfl (fun ls hl => ?_)
          refine lv_goto (tgt := 16) hx hb dX1_structures_53 (by decide) ?_
          have hl : lv_has ls 5 [(0, .ref h0), (1, .int p1), (2, .int (tm_st a p1 i)), (3, .int (nI (i + 1)))] := lv_sub hl [3, 4, 1, 0] rfl
          exact ih_i ls (tw_has hl (by rw [tm_st_s _ _ i, if_neg c_4, if_neg c_5]))
        · refine lv_iload_n hx hb dX1_structures_42 rfl (lv_at hl 3 rfl) ?_
          refine lv_iconst (v := 1) hx hb dX1_structures_43 (by decide) ?_
          refine lv_iadd hx hb dX1_structures_44 ?_
          refine lv_goto (tgt := 49) hx hb dX1_structures_45 (by decide) ?_
          refine lv_istore_n (lv' := [(2, .int ((tm_st a p1 i) + (1 : Int32))), (4, .int (tm_sm a p1 (nI i) 64)), (0, .ref h0), (1, .int p1), (3, .int (nI i))]) hx hb dX1_structures_49 rfl hl (by decide) rfl (fun ls hl => ?_)
          refine lv_iinc (v := nI (i + 1)) (lv' := [(3, .int (nI (i + 1))), (2, .int ((tm_st a p1 i) + (1 : Int32))), (4, .int (tm_sm a p1 (nI i) 64)), (0, .ref h0), (1, .int p1)]) hx hb dX1_structures_50 hl (k := 4) rfl (nI_1 i) (by decide) rfl (fun ls hl => ?_)
          refine lv_goto (tgt := 16) hx hb dX1_structures_53 (by decide) ?_
          have hl : lv_has ls 5 [(0, .ref h0), (1, .int p1), (2, .int ((tm_st a p1 i) + (1 : Int32))), (3, .int (nI (i + 1)))] := lv_sub hl [3, 4, 1, 0] rfl
          exact ih_i ls (tw_has hl (by rw [tm_st_s _ _ i, if_neg c_4, if_pos c_5]))
  · have b_2 : ¬ vp_in p1 4 := hr_1.mp c_2
    refine lv_sipush (v := -1000) hx hb dX1_structures_8 (by decide) ?_
    exact W.iret (v := (-1000 : Int32)) hx hb hr (fun t ht hW => ⟨(-1000 : Int32), rfl, ⟨fun h => absurd h b_2, fun _ => rfl⟩, ht⟩) (fun _ h => by cases h) dX1_structures_11
set_option maxHeartbeats 4000000 in
set_option maxRecDepth 100000 in
/-- shifted(t, r) -/
theorem metX1_shifted (l : Launch) (dC : Nat → ClassId) (dI : Nat → Nat → Nat) (h0 q1 q2 : Nat) (e1 e2 : ClassId) (a b : Nat → Int32) (p1 : Int32) (p2 : Int32) : Met l yX1_shifted (ws_ yX1_shifted cX1_shifted 4 (some .boolean)) ({ frames := 3, cells := 0, slots := 0, locals := 70 }) (va_Pc [.ref h0, .int p1, .int p2] (tw_RM dC dI h0 q1 q2 e1 e2 a b)) (vp_Si (fun (r : Int32) => ((vp_in p1 4 ∧ vp_in p2 4) → tw_fnd (tm_hit a p1 p2) 4096 r) ∧ (¬ (vp_in p1 4 ∧ vp_in p2 4) → r = 0))) 0 0 (fun _ => False) := by
  refine Met.ofW (cc := cX1_shifted) (maxL := 4) (ret := (some .boolean)) (by decide) rfl ?_
  intro p e s m args below meth c s₁ B hml hv
  obtain ⟨rfl, hP, hK⟩ := hv
  have hx := B.exec
  have hb := B.bytes
  have hr := B.returns
  have hts := atoms_spec (ws := ws_ yX1_shifted cX1_shifted 4 (some .boolean)) B.pre
  have hts : ∀ w ∈ lw_all, w.before _ s = true := fun w h => hts w (List.mem_cons_of_mem _ h)
  have hown : s.vm.findClass RX1 = some m.cls := findClass_of_methodNamed B.named
  have hlocks := B.notSynchronized
  have hl := lv_entry ([.ref h0, .int p1, .int p2]) (n := 4) (Nat.le_of_ble_eq_true rfl)
  rw [lg_entry_eq]
  generalize (lg_sl ([.ref h0, .int p1, .int p2]) ++ List.replicate (4 - (lg_sl ([.ref h0, .int p1, .int p2])).length) Slot.unset).toArray = ls at hl ⊢
  have hl : lv_has ls 4 [(0, .ref h0), (1, .int p1), (2, .int p2)] := hl
  refine lv_aload_n hx hb dX1_shifted_0 rfl (lv_at hl 0 rfl) ?_
  refine lv_iload_n hx hb dX1_shifted_1 rfl (lv_at hl 1 rfl) ?_
  refine vp_callSi (W.runV (As := [.int p1]) (rest := []) ⟨hx, hb, hml, hown, hts⟩ (metX1_isTable l h0 p1) (cwV 1 hts (lw_V q188 q190 qs13 q26 q191) rfl rfl rfl (by decide +kernel) ⟨Nat.le_of_ble_eq_true rfl, Nat.le_of_ble_eq_true rfl⟩) (tw_pre0M hK hP _) rfl rfl hl.1 rfl (lv_room (Nat.le_of_ble_eq_true rfl)) dX1_shifted_2 ⟨Nat.le_of_ble_eq_true rfl, Nat.le_of_ble_eq_true rfl⟩) (fun r_1 hr_1 => ?_)
  refine lv_if_eq (tgt := 16) hx hb dX1_shifted_5 (by decide) (fun c_2 => ?_) (fun c_2 => ?_)
  · have b_2 : ¬ vp_in p1 4 := hr_1.mp c_2
    refine lv_iconst (v := 0) hx hb dX1_shifted_16 (by decide) ?_
    exact W.zret (v := (0 : Int32)) hx hb hr rfl (fun t ht hW => ⟨(0 : Int32), rfl, ⟨fun h => absurd h.1 b_2, fun _ => rfl⟩, ht⟩) (fun _ h => by cases h) dX1_shifted_17
  · have b_2 : vp_in p1 4 := Classical.not_not.mp (fun h => c_2 (hr_1.mpr h))
    refine lv_aload_n hx hb dX1_shifted_8 rfl (lv_at hl 0 rfl) ?_
    refine lv_iload_n hx hb dX1_shifted_9 rfl (lv_at hl 2 rfl) ?_
    refine vp_callSi (W.runV (As := [.int p2]) (rest := []) ⟨hx, hb, hml, hown, hts⟩ (metX1_isTable l h0 p2) (cwV 1 hts (lw_V q188 q190 qs13 q26 q191) rfl rfl rfl (by decide +kernel) ⟨Nat.le_of_ble_eq_true rfl, Nat.le_of_ble_eq_true rfl⟩) (tw_pre0M hK hP _) rfl rfl hl.1 rfl (lv_room (Nat.le_of_ble_eq_true rfl)) dX1_shifted_10 ⟨Nat.le_of_ble_eq_true rfl, Nat.le_of_ble_eq_true rfl⟩) (fun r_3 hr_3 => ?_)
    refine lv_if_ne (tgt := 18) hx hb dX1_shifted_13 (by decide) (fun c_4 => ?_) (fun c_4 => ?_)
    · have b_4 : vp_in p2 4 := Classical.not_not.mp (fun h => c_4 (hr_3.mpr h))
      refine lv_iconst (v := 0) hx hb dX1_shifted_18 (by decide) ?_
      refine lv_istore_n (lv' := [(3, .int (0 : Int32)), (0, .ref h0), (1, .int p1), (2, .int p2)]) hx hb dX1_shifted_19 rfl hl (by decide) rfl (fun ls hl => ?_)
      have hl : lv_has ls 4 [(0, .ref h0), (1, .int p1), (2, .int p2), (3, .int (0 : Int32))] := lv_sub hl [1, 2, 3, 0] rfl
      have hl : lv_has ls 4 [(0, .ref h0), (1, .int p1), (2, .int p2), (3, .int (nI 0))] := hl
      refine tw_loop (pc := 20) 4096 (fun i ls => lv_has ls 4 [(0, .ref h0), (1, .int p1), (2, .int p2), (3, .int (nI i))] ∧ ∀ k, k < i → ¬ tm_hit a p1 p2 k) (fun ls hp => ?_) (fun i ls hi_i hp ih_i => ?_) 4096 0 ls (by omega) ⟨hl, lt_0⟩
      · obtain ⟨hl, hX_i⟩ := hp
        have hl : lv_has ls 4 [(0, .ref h0), (1, .int p1), (2, .int p2), (3, .int (nI 4096))] := hl
        have hX_i : ∀ k, k < 4096 → ¬ tm_hit a p1 p2 k := hX_i
        refine lv_iload_n hx hb dX1_shifted_20 rfl (lv_at hl 3 rfl) ?_
        refine lv_sipush (v := 4096) hx hb dX1_shifted_21 (by decide) ?_
        refine lv_icmp_ge (tgt := 52) hx hb dX1_shifted_24 (by decide) (fun _ => ?_) (fun c => absurd (nI_le (a := 4096) (b := 4096) (by decide) (by decide)) c)
        refine lv_iconst (v := 0) hx hb dX1_shifted_52 (by decide) ?_
        exact W.zret (v := (0 : Int32)) hx hb hr rfl (fun t ht hW => ⟨(0 : Int32), rfl, ⟨fun _ => Or.inr ⟨rfl, hX_i⟩, fun h => absurd ⟨b_2, b_4⟩ h⟩, ht⟩) (fun _ h => by cases h) dX1_shifted_53
      · obtain ⟨hl, hX_i⟩ := hp
        have hl : lv_has ls 4 [(0, .ref h0), (1, .int p1), (2, .int p2), (3, .int (nI i))] := hl
        have hX_i : ∀ k, k < i → ¬ tm_hit a p1 p2 k := hX_i
        refine lv_iload_n hx hb dX1_shifted_20 rfl (lv_at hl 3 rfl) ?_
        refine lv_sipush (v := 4096) hx hb dX1_shifted_21 (by decide) ?_
        refine lv_icmp_ge (tgt := 52) hx hb dX1_shifted_24 (by decide) (fun c => absurd c (nI_ge (a := i) (b := 4096) (by omega) (by decide))) (fun _ => ?_)
        refine lv_aload_n hx hb dX1_shifted_27 rfl (lv_at hl 0 rfl) ?_
        refine lv_iload_n hx hb dX1_shifted_28 rfl (lv_at hl 1 rfl) ?_
        refine lv_iload_n hx hb dX1_shifted_29 rfl (lv_at hl 2 rfl) ?_
        refine lv_iload_n hx hb dX1_shifted_30 rfl (lv_at hl 3 rfl) ?_
        refine lv_bipush (v := 64) hx hb dX1_shifted_31 (by decide) ?_
        refine lv_idiv hx hb dX1_shifted_33 (by decide) ?_
        refine lv_iload_n hx hb dX1_shifted_34 rfl (lv_at hl 3 rfl) ?_
        refine lv_bipush (v := 64) hx hb dX1_shifted_35 (by decide) ?_
        refine lv_irem hx hb dX1_shifted_37 (by decide) ?_
        refine vp_callSi (W.runV (As := [.int p1, .int p2, .int ((nI i) / (64 : Int32)), .int ((nI i) - (nI i) / (64 : Int32) * (64 : Int32))]) (rest := []) ⟨hx, hb, hml, hown, hts⟩ (metX1_comesBy l dC dI h0 q1 q2 e1 e2 a b p1 p2 ((nI i) / (64 : Int32)) ((nI i) - (nI i) / (64 : Int32) * (64 : Int32)) b_2 b_4 (tw_div (show i < 4096 by omega))) (cwV 4 hts (lw_V q288 q290 qs23 q26 q291) rfl rfl rfl (by decide +kernel) ⟨Nat.le_of_ble_eq_true rfl, Nat.le_of_ble_eq_true rfl⟩) (tw_preM hK hP _) rfl rfl hl.1 rfl (lv_room (Nat.le_of_ble_eq_true rfl)) dX1_shifted_38 ⟨Nat.le_of_ble_eq_true rfl, Nat.le_of_ble_eq_true rfl⟩) (fun r_5 hr_5 => ?_)
        refine lv_if_eq (tgt := 46) hx hb dX1_shifted_41 (by decide) (fun c_6 => ?_) (fun c_6 => ?_)
        · have b_6 : ¬ tm_by a p1 p2 ((nI i) / (64 : Int32)) ((nI i) - (nI i) / (64 : Int32) * (64 : Int32)) := hr_5.mp c_6
          refine lv_iinc (v := nI (i + 1)) (lv' := [(3, .int (nI (i + 1))), (0, .ref h0), (1, .int p1), (2, .int p2)]) hx hb dX1_shifted_46 hl (k := 3) rfl (nI_1 i) (by decide) rfl (fun ls hl => ?_)
          refine lv_goto (tgt := 20) hx hb dX1_shifted_49 (by decide) ?_
          have hl : lv_has ls 4 [(0, .ref h0), (1, .int p1), (2, .int p2), (3, .int (nI (i + 1)))] := lv_sub hl [1, 2, 3, 0] rfl
          exact ih_i ls ⟨hl, lt_s hX_i b_6⟩
        · have b_6 : tm_by a p1 p2 ((nI i) / (64 : Int32)) ((nI i) - (nI i) / (64 : Int32) * (64 : Int32)) := Classical.not_not.mp (fun h => c_6 (hr_5.mpr h))
          refine lv_iconst (v := 1) hx hb dX1_shifted_44 (by decide) ?_
          exact W.zret (v := (1 : Int32)) hx hb hr rfl (fun t ht hW => ⟨(1 : Int32), rfl, ⟨fun _ => Or.inl ⟨rfl, i, hi_i, b_6⟩, fun h => absurd ⟨b_2, b_4⟩ h⟩, ht⟩) (fun _ h => by cases h) dX1_shifted_45
    · have b_4 : ¬ vp_in p2 4 := hr_3.mp c_4
      refine lv_iconst (v := 0) hx hb dX1_shifted_16 (by decide) ?_
      exact W.zret (v := (0 : Int32)) hx hb hr rfl (fun t ht hW => ⟨(0 : Int32), rfl, ⟨fun h => absurd h.2 b_4, fun _ => rfl⟩, ht⟩) (fun _ h => by cases h) dX1_shifted_17
end
section
/-! the plain law, 1: words by their digits; the relation of the two classes -/
set_option maxRecDepth 100000
def tl_bit (w : Int64) (x : Nat) : Bool := w.toBitVec.getLsbD x
def tl_b (c : Bool) : Int32 := if c then 1 else 0
theorem tl_ext {u v : Int64} (h : ∀ x, x < 64 → tl_bit u x = tl_bit v x) : u = v := Int64.toBitVec_inj.mp (BitVec.eq_of_getLsbD_eq (fun i hi => h i hi))
theorem tl_and (u v : Int64) (x : Nat) : tl_bit (u &&& v) x = (tl_bit u x && tl_bit v x) := by unfold tl_bit; rw [Int64.toBitVec_and, BitVec.getLsbD_and]
theorem tl_or (u v : Int64) (x : Nat) : tl_bit (u ||| v) x = (tl_bit u x || tl_bit v x) := by unfold tl_bit; rw [Int64.toBitVec_or, BitVec.getLsbD_or]
theorem tl_xor (u v : Int64) (x : Nat) : tl_bit (u ^^^ v) x = (tl_bit u x ^^ tl_bit v x) := by unfold tl_bit; rw [Int64.toBitVec_xor, BitVec.getLsbD_xor]
theorem tl_m1 : ∀ x, x < 64 → tl_bit (-1) x = true := by decide +kernel
theorem tl_1 : ∀ x, x < 64 → tl_bit 1 x = decide (x = 0) := by decide +kernel
theorem tl_0 (x : Nat) : tl_bit 0 x = false := BitVec.getLsbD_zero
theorem tl_not (w : Int64) {x : Nat} (hx : x < 64) : tl_bit (w ^^^ (-1 : Int64)) x = !(tl_bit w x) := by
  rw [tl_xor, tl_m1 x hx, Bool.xor_true]
theorem tl_ushr {k : Nat} (hk : k < 64) (w : Int64) (x : Nat) : tl_bit (tc_ushr w (nI k)) x = tl_bit w (k + x) := by
  have hc : ∀ k, k < 64 → ((nI k).toInt64.toUInt64 &&& Int64.toUInt64 63) = UInt64.ofNat k := by decide +kernel
  unfold tl_bit tc_ushr
  rw [hc k hk]
  have e : (w.toUInt64 >>> UInt64.ofNat k).toInt64.toBitVec = w.toBitVec >>> k := by
    apply BitVec.eq_of_toNat_eq
    show (w.toUInt64 >>> UInt64.ofNat k).toNat = _
    have h1 : (UInt64.ofNat k).toNat = k := Nat.mod_eq_of_lt (by omega)
    rw [UInt64.toNat_shiftRight, h1, Nat.mod_eq_of_lt hk, BitVec.toNat_ushiftRight]
    rfl
  rw [e, BitVec.getLsbD_ushiftRight]
theorem tl_shl {k : Nat} (hk : k < 64) (w : Int64) {x : Nat} (hx : x < 64) : tl_bit (tc_shl w (nI k)) x = (decide (k ≤ x) && tl_bit w (x - k)) := by
  have hc : ∀ k, k < 64 → (((nI k).toInt64 &&& 63).toBitVec.smod 64).toNat = k := by decide +kernel
  unfold tl_bit tc_shl
  rw [Int64.toBitVec_shiftLeft]
  show (w.toBitVec <<< (((nI k).toInt64 &&& 63).toBitVec.smod 64).toNat).getLsbD x = _
  rw [hc k hk, BitVec.getLsbD_shiftLeft]
  rcases Nat.lt_or_ge x k with h | h
  · simp [h, Nat.not_le.mpr h]
  · simp [hx, h, Nat.not_lt.mpr h]
theorem tl_dg {x : Nat} (hx : x < 64) (w : Int64) : tc_dg w (nI x) = tl_b (tl_bit w x) := by
  have e : tc_ushr w (nI x) &&& (1 : Int64) = (if tl_bit w x then 1 else 0) := by
    apply tl_ext
    intro y hy
    rw [tl_and, tl_ushr hx, tl_1 y hy]
    rcases Nat.eq_zero_or_pos y with h0 | h0
    · subst h0
      rw [Nat.add_zero]
      cases tl_bit w x
      · decide
      · decide
    · have h1 : decide (y = 0) = false := decide_eq_false (by omega)
      rw [h1, Bool.and_false]
      cases tl_bit w x
      · exact (tl_0 y).symm
      · show false = tl_bit 1 y
        rw [tl_1 y hy, h1]
  unfold tc_dg
  rw [e]
  cases tl_bit w x
  · decide
  · decide
theorem tl_low : ∀ i, i < 6 → ∀ x, x < 64 → tl_bit (tc_low i) x = !(x.testBit i) := by decide +kernel
theorem tl_lw {i : Nat} (hi : i < 6) {x : Nat} (hx : x < 64) : tl_bit (tc_low (nI i).toNatClampNeg) x = !(x.testBit i) := by
  rw [nI_clamp (by omega)]
  exact tl_low i hi x hx
theorem tl_p2 : ∀ i, i < 6 → ((1 : Int32) <<< (nI i &&& 31)) = nI (2 ^ i) := by decide +kernel
theorem tl_p2lt : ∀ i, i < 6 → 2 ^ i < 64 := by decide
theorem tl_dig : ∀ i, i < 6 → ∀ a, a < 64 → ((nI a >>> (nI i &&& 31)) &&& (1 : Int32)) = tl_b (a.testBit i) := by decide +kernel
theorem tl_b1 (c : Bool) : tl_b c = 1 ↔ c = true := by cases c <;> decide
theorem tl_b0 (c : Bool) : tl_b c = 0 ↔ c = false := by cases c <;> decide
theorem tl_binj (c d : Bool) : tl_b c = tl_b d ↔ c = d := by cases c <;> cases d <;> decide
theorem tl_bxor (c d : Bool) : tl_b c ^^^ tl_b d = tl_b (c ^^ d) := by cases c <;> cases d <;> decide
theorem tl_band (c d : Bool) : tl_b c &&& tl_b d = tl_b (c && d) := by cases c <;> cases d <;> decide
theorem tl_bor (c d : Bool) : tl_b c ||| tl_b d = tl_b (c || d) := by cases c <;> cases d <;> decide
theorem tl_bsub (c : Bool) : (1 : Int32) - tl_b c = tl_b (!c) := by cases c <;> decide
theorem tl_bnat (c : Bool) : tl_b c = nI c.toNat := by cases c <;> decide
theorem tl_andN (a b : Nat) : nI a &&& nI b = nI (a &&& b) := by
  apply Int32.toBitVec_inj.1
  show BitVec.ofNat 32 a &&& BitVec.ofNat 32 b = BitVec.ofNat 32 (a &&& b)
  apply BitVec.eq_of_getLsbD_eq
  intro i hi
  simp [hi]
/-- the reference's array holds the digits of the class's words -/
def tl_R (f : Nat → Int64) (a : Nat → Int32) : Prop := ∀ t, t < 4 → ∀ x, x < 64 → a (64 * t + x) = tl_b (tl_bit (f t) x)
theorem tl_ix {t x : Nat} (ht : t < 4) (hx : x < 64) : (((64 : Int32) * nI t) + nI x).toNatClampNeg = 64 * t + x := by rw [tw_64, nI_clamp (by omega)]
theorem tl_ixx {t x y : Nat} (ht : t < 4) (hx : x < 64) (hy : y < 64) : (((64 : Int32) * nI t) + (nI x ^^^ nI y)).toNatClampNeg = 64 * t + (x ^^^ y) := by
  rw [tw_xor]
  exact tl_ix ht (tw_xlt hx hy)
/-- x.b, by digits below i -/
def tl_pp : Nat → Nat → Bool
  | 0, _ => false
  | i + 1, y => tl_pp i y ^^ y.testBit i
theorem tl_pr {a x : Nat} (ha : a < 64) (hx : x < 64) : tm_pr (nI a) (nI x) = tl_b (tl_pp 6 (a &&& x)) := by
  have h : ∀ y, y < 64 → (tc_sz (nI y) 6 &&& (1 : Int32)) = tl_b (tl_pp 6 y) := by decide +kernel
  unfold tm_pr
  rw [tl_andN]
  exact h _ (Nat.and_lt_two_pow (n := 6) _ hx)
/-- how many of the first n hold -/
def tl_cnt (F : Nat → Bool) : Nat → Nat
  | 0 => 0
  | n + 1 => tl_cnt F n + (F n).toNat
theorem tl_cnt_le (F : Nat → Bool) : ∀ n, tl_cnt F n ≤ n := by
  intro n
  induction n with
  | zero => exact Nat.le_refl 0
  | succ n ih =>
    have h : (F n).toNat ≤ 1 := by cases F n <;> decide
    show tl_cnt F n + (F n).toNat ≤ n + 1
    omega
theorem tl_cnt_congr {F G : Nat → Bool} : ∀ n, (∀ x, x < n → F x = G x) → tl_cnt F n = tl_cnt G n := by
  intro n
  induction n with
  | zero => intro _; rfl
  | succ n ih =>
    intro h
    show tl_cnt F n + (F n).toNat = tl_cnt G n + (G n).toNat
    rw [ih (fun x hx => h x (by omega)), h n (by omega)]
theorem tl_cnt_all {F : Nat → Bool} : ∀ n, tl_cnt F n = n ↔ ∀ x, x < n → F x = true := by
  intro n
  induction n with
  | zero => exact ⟨fun _ x hx => absurd hx (by omega), fun _ => rfl⟩
  | succ n ih =>
    have hle := tl_cnt_le F n
    have e : tl_cnt F (n + 1) = tl_cnt F n + (F n).toNat := rfl
    constructor
    · intro h x hx
      cases hb : F n with
      | false => rw [e, hb] at h; have : (false).toNat = 0 := rfl; omega
      | true =>
        rw [e, hb] at h
        have : (true).toNat = 1 := rfl
        rcases Nat.lt_or_ge x n with q | q
        · exact ih.mp (by omega) x q
        · rw [show x = n by omega]; exact hb
    · intro h
      rw [e, ih.mpr (fun x hx => h x (by omega)), h n (by omega)]
      rfl
theorem tl_co {f : Nat → Int64} {a : Nat → Int32} (hR : tl_R f a) {t : Nat} (ht : t < 4) : ∀ n, n ≤ 64 → tm_co a (nI t) n = nI (tl_cnt (tl_bit (f t)) n) := by
  intro n
  induction n with
  | zero => intro _; exact nI_0.symm
  | succ n ih =>
    intro hn
    rw [tm_co_s, ih (by omega), tl_ix ht (by omega), hR t ht n (by omega), tl_bnat, nI_add]
    rfl
end
section
/-! the plain law, 2: onesOf counts the digits -/
set_option maxRecDepth 100000
def tl_u (x : Int64) : Nat := x.toUInt64.toNat
theorem tl_u_lt (x : Int64) : tl_u x < 18446744073709551616 := x.toUInt64.toNat_lt
theorem tl_u_of (x : Int64) : x = lN (tl_u x) := Int64.toBitVec_inj.mp (by show x.toBitVec = BitVec.ofNat 64 x.toBitVec.toNat; simp)
theorem tl_u_add (x y : Int64) : tl_u (x + y) = (tl_u x + tl_u y) % 18446744073709551616 := by
  show (x.toUInt64 + y.toUInt64).toNat = _
  exact UInt64.toNat_add _ _
theorem tl_u_mul (x y : Int64) : tl_u (x * y) = (tl_u x * tl_u y) % 18446744073709551616 := by
  show (x.toUInt64 * y.toUInt64).toNat = _
  exact UInt64.toNat_mul _ _
theorem tl_u_sub {x y : Int64} (h : tl_u y ≤ tl_u x) : tl_u (x - y) = tl_u x - tl_u y := by
  show (x.toUInt64 - y.toUInt64).toNat = _
  rw [UInt64.toNat_sub]
  have h1 := tl_u_lt x
  have h2 := tl_u_lt y
  unfold tl_u at *
  omega
theorem tl_u_and (x y : Int64) : tl_u (x &&& y) = tl_u x &&& tl_u y := by
  show (x.toUInt64 &&& y.toUInt64).toNat = _
  exact UInt64.toNat_and _ _
theorem tl_u_shr (x : Int64) {k : Nat} (hk : k < 64) : tl_u (tc_ushr x (nI k)) = tl_u x / 2 ^ k := by
  have hc : ∀ k, k < 64 → ((nI k).toInt64.toUInt64 &&& Int64.toUInt64 63) = UInt64.ofNat k := by decide +kernel
  unfold tc_ushr
  rw [hc k hk]
  show (x.toUInt64 >>> UInt64.ofNat k).toNat = _
  have h1 : (UInt64.ofNat k).toNat = k := Nat.mod_eq_of_lt (by omega)
  rw [UInt64.toNat_shiftRight, h1, Nat.mod_eq_of_lt hk, Nat.shiftRight_eq_div_pow]
  rfl
/-- a number by its bytes -/
def tl_v : List Nat → Nat
  | [] => 0
  | y :: ys => y + 256 * tl_v ys
theorem tl_land {x m X M : Nat} (hx : x < 256) (hm : m < 256) : (x + 256 * X) &&& (m + 256 * M) = (x &&& m) + 256 * (X &&& M) := by
  have h1 : ((x + 256 * X) &&& (m + 256 * M)) % 2 ^ 8 = x &&& m := by
    rw [Nat.and_mod_two_pow, show (x + 256 * X) % 2 ^ 8 = x by omega, show (m + 256 * M) % 2 ^ 8 = m by omega]
  have h2 : ((x + 256 * X) &&& (m + 256 * M)) / 2 ^ 8 = X &&& M := by
    rw [Nat.and_div_two_pow, show (x + 256 * X) / 2 ^ 8 = X by omega, show (m + 256 * M) / 2 ^ 8 = M by omega]
  generalize (x + 256 * X) &&& (m + 256 * M) = z at *
  omega
theorem tl_vadd (p q : Nat → Nat) : ∀ ys : List Nat, tl_v (ys.map p) + tl_v (ys.map q) = tl_v (ys.map fun y => p y + q y) := by
  intro ys
  induction ys with
  | nil => rfl
  | cons y ys ih =>
    show p y + 256 * tl_v (ys.map p) + (q y + 256 * tl_v (ys.map q)) = p y + q y + 256 * tl_v (ys.map fun y => p y + q y)
    rw [← ih]
    omega
theorem tl_vand (m : Nat) (hm : m < 256) : ∀ ys : List Nat, (∀ y ∈ ys, y < 256) → tl_v ys &&& tl_v (ys.map fun _ => m) = tl_v (ys.map fun y => y &&& m) := by
  intro ys
  induction ys with
  | nil => intro _; exact Nat.zero_and _
  | cons y ys ih =>
    intro h
    show (y + 256 * tl_v ys) &&& (m + 256 * tl_v (ys.map fun _ => m)) = (y &&& m) + 256 * tl_v (ys.map fun y => y &&& m)
    rw [tl_land (h y List.mem_cons_self) hm, ih (fun z hz => h z (List.mem_cons_of_mem _ hz))]
theorem tl_s1 : ∀ ys : List Nat, (∀ y ∈ ys, y < 256) → (tl_v ys / 2) &&& tl_v (ys.map fun _ => 85) = tl_v (ys.map fun y => (y / 2) &&& 85) := by
  intro ys
  induction ys with
  | nil => intro _; rfl
  | cons y ys ih =>
    intro h
    have hy := h y List.mem_cons_self
    have d : ∀ y, y < 256 → ∀ b, b < 2 → (y / 2 + 128 * b) &&& 85 = (y / 2) &&& 85 := by decide +kernel
    show ((y + 256 * tl_v ys) / 2) &&& (85 + 256 * tl_v (ys.map fun _ => 85)) = ((y / 2) &&& 85) + 256 * tl_v (ys.map fun y => (y / 2) &&& 85)
    rw [show (y + 256 * tl_v ys) / 2 = (y / 2 + 128 * (tl_v ys % 2)) + 256 * (tl_v ys / 2) by omega, tl_land (by omega) (by decide), ih (fun z hz => h z (List.mem_cons_of_mem _ hz)), d y hy _ (Nat.mod_lt _ (by decide))]
theorem tl_s2 : ∀ ys : List Nat, (∀ y ∈ ys, y < 256) → (tl_v ys / 4) &&& tl_v (ys.map fun _ => 51) = tl_v (ys.map fun y => (y / 4) &&& 51) := by
  intro ys
  induction ys with
  | nil => intro _; rfl
  | cons y ys ih =>
    intro h
    have hy := h y List.mem_cons_self
    have d : ∀ y, y < 256 → ∀ b, b < 4 → (y / 4 + 64 * b) &&& 51 = (y / 4) &&& 51 := by decide +kernel
    show ((y + 256 * tl_v ys) / 4) &&& (51 + 256 * tl_v (ys.map fun _ => 51)) = ((y / 4) &&& 51) + 256 * tl_v (ys.map fun y => (y / 4) &&& 51)
    rw [show (y + 256 * tl_v ys) / 4 = (y / 4 + 64 * (tl_v ys % 4)) + 256 * (tl_v ys / 4) by omega, tl_land (by omega) (by decide), ih (fun z hz => h z (List.mem_cons_of_mem _ hz)), d y hy _ (Nat.mod_lt _ (by decide))]
theorem tl_s3 : ∀ ys : List Nat, (∀ y ∈ ys, y % 16 ≤ 4 ∧ y / 16 ≤ 4) → (tl_v ys + tl_v ys / 16) &&& tl_v (ys.map fun _ => 15) = tl_v (ys.map fun y => (y + y / 16) &&& 15) := by
  intro ys
  induction ys with
  | nil => intro _; rfl
  | cons y ys ih =>
    intro h
    obtain ⟨hy1, hy2⟩ := h y List.mem_cons_self
    have hv : tl_v ys % 16 ≤ 4 := by
      cases ys with
      | nil => decide
      | cons z zs =>
        have hz := (h z (List.mem_cons_of_mem _ List.mem_cons_self)).1
        show (z + 256 * tl_v zs) % 16 ≤ 4
        omega
    have d : ∀ y, y < 69 → ∀ b, b < 5 → (y + y / 16 + 16 * b) &&& 15 = (y + y / 16) &&& 15 := by decide +kernel
    show ((y + 256 * tl_v ys) + (y + 256 * tl_v ys) / 16) &&& (15 + 256 * tl_v (ys.map fun _ => 15)) = ((y + y / 16) &&& 15) + 256 * tl_v (ys.map fun y => (y + y / 16) &&& 15)
    rw [show (y + 256 * tl_v ys) + (y + 256 * tl_v ys) / 16 = (y + y / 16 + 16 * (tl_v ys % 16)) + 256 * (tl_v ys + tl_v ys / 16) by omega, tl_land (by omega) (by decide), ih (fun z hz => h z (List.mem_cons_of_mem _ hz)), d y (by omega) _ (by omega)]
def tl_A (y : Nat) : Nat := y - ((y / 2) &&& 85)
def tl_B (y : Nat) : Nat := (y &&& 51) + ((y / 4) &&& 51)
def tl_Cc (y : Nat) : Nat := (y + y / 16) &&& 15
def tl_pc (y : Nat) : Nat := y % 2 + y / 2 % 2 + y / 4 % 2 + y / 8 % 2 + y / 16 % 2 + y / 32 % 2 + y / 64 % 2 + y / 128 % 2
theorem tl_byte : ∀ y, y < 256 → ((y / 2) &&& 85) ≤ y ∧ tl_A y < 256 ∧ tl_B (tl_A y) % 16 ≤ 4 ∧ tl_B (tl_A y) / 16 ≤ 4 ∧ tl_Cc (tl_B (tl_A y)) = tl_pc y ∧ tl_pc y ≤ 8 := by decide +kernel
theorem tl_bytes (n : Nat) (h : n < 18446744073709551616) : ∃ y0 y1 y2 y3 y4 y5 y6 y7, (y0 < 256 ∧ y1 < 256 ∧ y2 < 256 ∧ y3 < 256 ∧ y4 < 256 ∧ y5 < 256 ∧ y6 < 256 ∧ y7 < 256) ∧ n = tl_v [y0, y1, y2, y3, y4, y5, y6, y7] := by
  refine ⟨n % 256, n / 256 % 256, n / 256 / 256 % 256, n / 256 / 256 / 256 % 256, n / 256 / 256 / 256 / 256 % 256, n / 256 / 256 / 256 / 256 / 256 % 256, n / 256 / 256 / 256 / 256 / 256 / 256 % 256, n / 256 / 256 / 256 / 256 / 256 / 256 / 256 % 256, ?_, ?_⟩
  · omega
  · simp only [tl_v]
    omega
theorem tl_cnt_add (F : Nat → Bool) (m : Nat) : ∀ n, tl_cnt F (m + n) = tl_cnt F m + tl_cnt (fun i => F (m + i)) n := by
  intro n
  induction n with
  | zero => rfl
  | succ n ih =>
    show tl_cnt F (m + n) + (F (m + n)).toNat = _
    rw [ih]
    show _ = tl_cnt F m + (tl_cnt (fun i => F (m + i)) n + (F (m + n)).toNat)
    omega
theorem tl_dt (z : Nat) : (decide (z % 2 = 1)).toNat = z % 2 := by
  rcases Nat.mod_two_eq_zero_or_one z with h | h <;> simp [h]
theorem tl_cnt8 (y V : Nat) (hy : y < 256) : tl_cnt (y + 256 * V).testBit 8 = tl_pc y := by
  have hb : ∀ r, ((y + 256 * V).testBit r).toNat = (y + 256 * V) / 2 ^ r % 2 := by
    intro r
    rw [Nat.testBit_eq_decide_div_mod_eq, tl_dt]
  simp only [tl_cnt, hb, tl_pc, Nat.reducePow]
  omega
theorem tl_cntv : ∀ ys : List Nat, (∀ y ∈ ys, y < 256) → tl_cnt (tl_v ys).testBit (8 * ys.length) = (ys.map tl_pc).sum := by
  intro ys
  induction ys with
  | nil => intro _; rfl
  | cons y ys ih =>
    intro h
    have e : 8 * (y :: ys).length = 8 + 8 * ys.length := by rw [List.length_cons]; omega
    rw [e, tl_cnt_add]
    show tl_cnt (y + 256 * tl_v ys).testBit 8 + tl_cnt (fun i => (y + 256 * tl_v ys).testBit (8 + i)) (8 * ys.length) = _
    have e2 : (fun i => (y + 256 * tl_v ys).testBit (8 + i)) = (tl_v ys).testBit := by
      funext i
      rw [Nat.testBit_eq_decide_div_mod_eq, Nat.testBit_eq_decide_div_mod_eq, Nat.pow_add, ← Nat.div_div_eq_div_mul, show (y + 256 * tl_v ys) / 2 ^ 8 = tl_v ys by have := h y List.mem_cons_self; omega]
    rw [e2, tl_cnt8 y _ (h y List.mem_cons_self), ih (fun z hz => h z (List.mem_cons_of_mem _ hz)), List.map_cons, List.sum_cons]
theorem tl_top (c0 c1 c2 c3 c4 c5 c6 c7 : Nat) (h : c0 ≤ 8 ∧ c1 ≤ 8 ∧ c2 ≤ 8 ∧ c3 ≤ 8 ∧ c4 ≤ 8 ∧ c5 ≤ 8 ∧ c6 ≤ 8 ∧ c7 ≤ 8) : tl_v [c0, c1, c2, c3, c4, c5, c6, c7] * 72340172838076673 % 18446744073709551616 / 2 ^ 56 = c0 + c1 + c2 + c3 + c4 + c5 + c6 + c7 := by
  have e : tl_v [c0, c1, c2, c3, c4, c5, c6, c7] * 72340172838076673 = ((1 * (c0) + 256 * (c0 + c1) + 65536 * (c0 + c1 + c2) + 16777216 * (c0 + c1 + c2 + c3) + 4294967296 * (c0 + c1 + c2 + c3 + c4) + 1099511627776 * (c0 + c1 + c2 + c3 + c4 + c5) + 281474976710656 * (c0 + c1 + c2 + c3 + c4 + c5 + c6)) + 72057594037927936 * (c0 + c1 + c2 + c3 + c4 + c5 + c6 + c7)) + 18446744073709551616 * (1 * (c1 + c2 + c3 + c4 + c5 + c6 + c7) + 256 * (c2 + c3 + c4 + c5 + c6 + c7) + 65536 * (c3 + c4 + c5 + c6 + c7) + 16777216 * (c4 + c5 + c6 + c7) + 4294967296 * (c5 + c6 + c7) + 1099511627776 * (c6 + c7) + 281474976710656 * (c7)) := by
    simp only [tl_v]
    omega
  have l : 1 * (c0) + 256 * (c0 + c1) + 65536 * (c0 + c1 + c2) + 16777216 * (c0 + c1 + c2 + c3) + 4294967296 * (c0 + c1 + c2 + c3 + c4) + 1099511627776 * (c0 + c1 + c2 + c3 + c4 + c5) + 281474976710656 * (c0 + c1 + c2 + c3 + c4 + c5 + c6) < 72057594037927936 := by omega
  rw [e, Nat.add_mul_mod_self_left]
  generalize 1 * (c0) + 256 * (c0 + c1) + 65536 * (c0 + c1 + c2) + 16777216 * (c0 + c1 + c2 + c3) + 4294967296 * (c0 + c1 + c2 + c3 + c4) + 1099511627776 * (c0 + c1 + c2 + c3 + c4 + c5) + 281474976710656 * (c0 + c1 + c2 + c3 + c4 + c5 + c6) = L at l
  rw [Nat.mod_eq_of_lt (by omega)]
  show (L + 72057594037927936 * (c0 + c1 + c2 + c3 + c4 + c5 + c6 + c7)) / 72057594037927936 = _
  omega
theorem tl_ones (w : Int64) : tc_ones w = nI (tl_cnt (tl_bit w) 64) := by
  obtain ⟨y0, y1, y2, y3, y4, y5, y6, y7, ⟨h0, h1, h2, h3, h4, h5, h6, h7⟩, hn⟩ := tl_bytes (tl_u w) (tl_u_lt w)
  generalize hys : [y0, y1, y2, y3, y4, y5, y6, y7] = ys at hn
  have hlt : ∀ y ∈ ys, y < 256 := by
    rw [← hys]
    intro y hy
    simp only [List.mem_cons, List.not_mem_nil, or_false] at hy
    rcases hy with e | e | e | e | e | e | e | e <;> rw [e] <;> assumption
  have hlen : ys.length = 8 := by rw [← hys]; rfl
  have m85 : tl_v (ys.map fun _ => 85) = tl_u (tc_low (0 : Int32).toNatClampNeg) := by
    rw [← hys]
    show tl_v [85, 85, 85, 85, 85, 85, 85, 85] = _
    decide +kernel
  have m51 : ∀ p : Nat → Nat, tl_v ((ys.map p).map fun _ => 51) = tl_u (tc_low (1 : Int32).toNatClampNeg) := by
    intro p
    rw [← hys]
    show tl_v [51, 51, 51, 51, 51, 51, 51, 51] = _
    decide +kernel
  have m15 : ∀ p : Nat → Nat, tl_v ((ys.map p).map fun _ => 15) = tl_u (tc_low (2 : Int32).toNatClampNeg) := by
    intro p
    rw [← hys]
    show tl_v [15, 15, 15, 15, 15, 15, 15, 15] = _
    decide +kernel
  -- first stage
  have e1 : tl_u (tc_ushr w (1 : Int32) &&& tc_low (0 : Int32).toNatClampNeg) = tl_v (ys.map fun y => (y / 2) &&& 85) := by
    rw [tl_u_and, show tl_u (tc_ushr w (1 : Int32)) = tl_u w / 2 ^ 1 from tl_u_shr w (k := 1) (by decide), hn, ← m85]
    exact tl_s1 ys hlt
  have hsum : tl_v (ys.map fun y => (y / 2) &&& 85) + tl_v (ys.map tl_A) = tl_v ys := by
    rw [tl_vadd]
    have : (ys.map fun y => ((y / 2) &&& 85) + tl_A y) = ys := by
      conv => rhs; rw [← List.map_id ys]
      apply List.map_congr_left
      intro y hy
      have := (tl_byte y (hlt y hy)).1
      unfold tl_A
      show _ = y
      omega
    rw [this]
  have a1 : tl_u (tc_oa w) = tl_v (ys.map tl_A) := by
    unfold tc_oa
    rw [tl_u_sub (by rw [e1, hn]; omega), e1, hn]
    omega
  -- second stage
  have hltA : ∀ y ∈ ys.map tl_A, y < 256 := by
    intro y hy
    obtain ⟨z, hz, rfl⟩ := List.mem_map.mp hy
    exact (tl_byte z (hlt z hz)).2.1
  have a2 : tl_u (tc_ob (tc_oa w)) = tl_v ((ys.map tl_A).map tl_B) := by
    unfold tc_ob
    have x1 : tl_u (tc_oa w &&& tc_low (1 : Int32).toNatClampNeg) = tl_v ((ys.map tl_A).map fun y => y &&& 51) := by
      rw [tl_u_and, a1, ← m51 tl_A]
      exact tl_vand 51 (by decide) _ hltA
    have x2 : tl_u (tc_ushr (tc_oa w) (2 : Int32) &&& tc_low (1 : Int32).toNatClampNeg) = tl_v ((ys.map tl_A).map fun y => (y / 4) &&& 51) := by
      rw [tl_u_and, show tl_u (tc_ushr (tc_oa w) (2 : Int32)) = tl_u (tc_oa w) / 2 ^ 2 from tl_u_shr _ (k := 2) (by decide), a1, ← m51 tl_A]
      exact tl_s2 _ hltA
    rw [tl_u_add, x1, x2, tl_vadd]
    show tl_v ((ys.map tl_A).map tl_B) % _ = _
    apply Nat.mod_eq_of_lt
    rw [← hys]
    have b0 := (tl_byte y0 h0).2.2
    have b1 := (tl_byte y1 h1).2.2
    have b2 := (tl_byte y2 h2).2.2
    have b3 := (tl_byte y3 h3).2.2
    have b4 := (tl_byte y4 h4).2.2
    have b5 := (tl_byte y5 h5).2.2
    have b6 := (tl_byte y6 h6).2.2
    have b7 := (tl_byte y7 h7).2.2
    simp only [List.map_cons, List.map_nil, tl_v]
    omega
  -- third stage
  have hB : ∀ y ∈ (ys.map tl_A).map tl_B, y % 16 ≤ 4 ∧ y / 16 ≤ 4 := by
    intro y hy
    obtain ⟨z, hz, rfl⟩ := List.mem_map.mp hy
    obtain ⟨u, hu, rfl⟩ := List.mem_map.mp hz
    have q := (tl_byte u (hlt u hu)).2.2
    exact ⟨q.1, q.2.1⟩
  have hBv : tl_v ((ys.map tl_A).map tl_B) + tl_v ((ys.map tl_A).map tl_B) / 16 < 18446744073709551616 := by
    rw [← hys]
    have b0 := (tl_byte y0 h0).2.2
    have b1 := (tl_byte y1 h1).2.2
    have b2 := (tl_byte y2 h2).2.2
    have b3 := (tl_byte y3 h3).2.2
    have b4 := (tl_byte y4 h4).2.2
    have b5 := (tl_byte y5 h5).2.2
    have b6 := (tl_byte y6 h6).2.2
    have b7 := (tl_byte y7 h7).2.2
    simp only [List.map_cons, List.map_nil, tl_v]
    omega
  have a3 : tl_u (tc_oc (tc_ob (tc_oa w))) = tl_v (((ys.map tl_A).map tl_B).map tl_Cc) := by
    unfold tc_oc
    rw [tl_u_and, tl_u_add, show tl_u (tc_ushr (tc_ob (tc_oa w)) (4 : Int32)) = tl_u (tc_ob (tc_oa w)) / 2 ^ 4 from tl_u_shr _ (k := 4) (by decide), a2, Nat.mod_eq_of_lt hBv, ← m15 (fun y => tl_B (tl_A y))]
    have e := tl_s3 _ hB
    rw [List.map_map] at e ⊢
    exact e
  -- the sum
  have hfin : ((ys.map tl_A).map tl_B).map tl_Cc = ys.map tl_pc := by
    rw [List.map_map, List.map_map]
    apply List.map_congr_left
    intro y hy
    exact (tl_byte y (hlt y hy)).2.2.2.2.1
  have hcnt : tl_cnt (tl_bit w) 64 = (ys.map tl_pc).sum := by
    have e := tl_cntv ys hlt
    rw [hlen, ← hn] at e
    exact e
  have htop : tl_u (tc_ushr (tc_oc (tc_ob (tc_oa w)) * (72340172838076673 : Int64)) (56 : Int32)) = (ys.map tl_pc).sum := by
    rw [show tl_u (tc_ushr (tc_oc (tc_ob (tc_oa w)) * (72340172838076673 : Int64)) (56 : Int32)) = tl_u (tc_oc (tc_ob (tc_oa w)) * (72340172838076673 : Int64)) / 2 ^ 56 from tl_u_shr _ (k := 56) (by decide), tl_u_mul, a3, hfin, show tl_u (72340172838076673 : Int64) = 72340172838076673 by decide +kernel, ← hys]
    simp only [List.map_cons, List.map_nil]
    rw [tl_top _ _ _ _ _ _ _ _ ⟨(tl_byte y0 h0).2.2.2.2.2, (tl_byte y1 h1).2.2.2.2.2, (tl_byte y2 h2).2.2.2.2.2, (tl_byte y3 h3).2.2.2.2.2, (tl_byte y4 h4).2.2.2.2.2, (tl_byte y5 h5).2.2.2.2.2, (tl_byte y6 h6).2.2.2.2.2, (tl_byte y7 h7).2.2.2.2.2⟩]
    simp only [List.sum_cons, List.sum_nil]
    omega
  unfold tc_ones
  rw [tl_u_of (tc_ushr (tc_oc (tc_ob (tc_oa w)) * (72340172838076673 : Int64)) (56 : Int32)), htop, lN_i, hcnt]
end
section
/-! the plain law, 3: forms, moved and linear words, shifted -/
set_option maxRecDepth 100000
def tl_lp (M F : Nat → Bool) : Nat → Bool
  | 0 => false
  | n + 1 => tl_lp M F n ^^ (M n && F n)
theorem tl_lp_xor (M N F : Nat → Bool) : ∀ n, (tl_lp M F n ^^ tl_lp N F n) = tl_lp (fun x => M x ^^ N x) F n := by
  intro n
  induction n with
  | zero => rfl
  | succ n ih =>
    show ((tl_lp M F n ^^ (M n && F n)) ^^ (tl_lp N F n ^^ (N n && F n))) = (tl_lp (fun x => M x ^^ N x) F n ^^ ((M n ^^ N n) && F n))
    rw [← ih]
    cases tl_lp M F n <;> cases tl_lp N F n <;> cases M n <;> cases N n <;> cases F n <;> rfl
theorem tl_lp_congr {M N F G : Nat → Bool} : ∀ n, (∀ x, x < n → M x = N x) → (∀ x, x < n → F x = G x) → tl_lp M F n = tl_lp N G n := by
  intro n
  induction n with
  | zero => intro _ _; rfl
  | succ n ih =>
    intro h1 h2
    show (tl_lp M F n ^^ (M n && F n)) = (tl_lp N G n ^^ (N n && G n))
    rw [ih (fun x hx => h1 x (by omega)) (fun x hx => h2 x (by omega)), h1 n (by omega), h2 n (by omega)]
theorem tl_lp_one (F : Nat → Bool) (u : Nat) : ∀ n, tl_lp (fun x => decide (u = x)) F n = (decide (u < n) && F u) := by
  intro n
  induction n with
  | zero => rfl
  | succ n ih =>
    show (tl_lp (fun x => decide (u = x)) F n ^^ (decide (u = n) && F n)) = _
    rw [ih]
    rcases Nat.lt_trichotomy u n with h | h | h
    · rw [decide_eq_true h, decide_eq_false (by omega : ¬ u = n), decide_eq_true (by omega : u < n + 1)]
      cases F u <;> rfl
    · subst h
      rw [decide_eq_false (by omega : ¬ u < u), decide_eq_true rfl, decide_eq_true (by omega : u < u + 1)]
      cases F u <;> rfl
    · rw [decide_eq_false (by omega : ¬ u < n), decide_eq_false (by omega : ¬ u = n), decide_eq_false (by omega : ¬ u < n + 1)]
      rfl
theorem tl_lp_pt (M : Nat → Bool) (u : Nat) : ∀ n, tl_lp M (fun x => decide (u = x)) n = (decide (u < n) && M u) := by
  intro n
  induction n with
  | zero => rfl
  | succ n ih =>
    show (tl_lp M (fun x => decide (u = x)) n ^^ (M n && decide (u = n))) = _
    rw [ih]
    rcases Nat.lt_trichotomy u n with h | h | h
    · rw [decide_eq_true h, decide_eq_false (by omega : ¬ u = n), decide_eq_true (by omega : u < n + 1), Bool.and_false, Bool.xor_false]
    · subst h
      rw [decide_eq_false (by omega : ¬ u < u), decide_eq_true rfl, decide_eq_true (by omega : u < u + 1)]
      cases M u <;> rfl
    · rw [decide_eq_false (by omega : ¬ u < n), decide_eq_false (by omega : ¬ u = n), decide_eq_false (by omega : ¬ u < n + 1), Bool.and_false]
      rfl
theorem tl_bb (a b c : Bool) : (a && (b && c)) = ((a && c) && b) := by cases a <;> cases b <;> cases c <;> rfl
/-- which digits of a word go into digit u of its transform, after i variables -/
def tl_mk : Nat → Nat → Nat
  | 0, u => 2 ^ u
  | i + 1, u => if u.testBit i then tl_mk i u ^^^ tl_mk i (u - 2 ^ i) else tl_mk i u
theorem tl_mk_s (i u : Nat) : tl_mk (i + 1) u = if u.testBit i then tl_mk i u ^^^ tl_mk i (u - 2 ^ i) else tl_mk i u := rfl
theorem tl_d1 : ∀ i, i < 6 → ∀ u, u < 64 → (decide (2 ^ i ≤ u) && !((u - 2 ^ i).testBit i)) = u.testBit i := by decide +kernel
theorem tl_tr (w : Int64) : ∀ i, i ≤ 6 → ∀ u, u < 64 → tl_bit (tc_tr w i) u = tl_lp (tl_mk i u).testBit (tl_bit w) 64 := by
  intro i
  induction i with
  | zero =>
    intro _ u hu
    have e := tl_lp_one (tl_bit w) u 64
    rw [decide_eq_true hu, Bool.true_and] at e
    rw [tl_lp_congr (M := (tl_mk 0 u).testBit) (N := fun x => decide (u = x)) (F := tl_bit w) (G := tl_bit w) 64 (fun x _ => Nat.testBit_two_pow) (fun _ _ => rfl), e]
    rfl
  | succ i ih =>
    intro hi u hu
    have hi : i < 6 := hi
    have hu2 : u - 2 ^ i < 64 := Nat.lt_of_le_of_lt (Nat.sub_le _ _) hu
    rw [tc_tr_s, tl_xor, tl_p2 i hi, tl_shl (tl_p2lt i hi) _ hu, tl_and, tl_lw hi hu2, tl_bb, tl_d1 i hi u hu, tl_mk_s]
    by_cases h : u.testBit i = true
    · rw [if_pos h, h, Bool.true_and, ih (by omega) u hu, ih (by omega) (u - 2 ^ i) hu2, tl_lp_xor]
      exact tl_lp_congr 64 (fun x _ => (Nat.testBit_xor ..).symm) (fun _ _ => rfl)
    · have h' : u.testBit i = false := by simpa using h
      rw [if_neg h, h', Bool.false_and, Bool.xor_false, ih (by omega) u hu]
theorem tl_mk6 : ∀ u, u < 64 → ∀ x, x < 64 → (tl_mk 6 u).testBit x = decide ((nI x &&& (nI u ^^^ (-1 : Int32))) = 0) := by decide +kernel
theorem tl_fa {f : Nat → Int64} {a : Nat → Int32} (hR : tl_R f a) {t u : Nat} (ht : t < 4) (hu : u < 64) : ∀ n, n ≤ 64 → tm_fa a (nI t) (nI u) n = tl_b (tl_lp (tl_mk 6 u).testBit (tl_bit (f t)) n) := by
  intro n
  induction n with
  | zero => intro _; rfl
  | succ n ih =>
    intro hn
    rw [tm_fa_s, ih (by omega), tl_ix ht (by omega), hR t ht n (by omega)]
    by_cases c : (nI n &&& (nI u ^^^ (-1 : Int32))) = 0
    · rw [if_pos c, tl_bxor]
      show _ = tl_b (tl_lp (tl_mk 6 u).testBit (tl_bit (f t)) n ^^ ((tl_mk 6 u).testBit n && tl_bit (f t) n))
      rw [tl_mk6 u hu n (by omega), decide_eq_true c, Bool.true_and]
    · rw [if_neg c]
      show _ = tl_b (tl_lp (tl_mk 6 u).testBit (tl_bit (f t)) n ^^ ((tl_mk 6 u).testBit n && tl_bit (f t) n))
      rw [tl_mk6 u hu n (by omega), decide_eq_false c, Bool.false_and, Bool.xor_false]
theorem tl_form {f : Nat → Int64} {a : Nat → Int32} (hR : tl_R f a) {t u : Nat} (ht : t < 4) (hu : u < 64) : tc_dg (tc_tr (f t) 6) (nI u) = tm_fa a (nI t) (nI u) 64 := by
  rw [tl_dg hu, tl_tr _ 6 (by decide) u hu, tl_fa hR ht hu 64 (by decide)]
theorem tl_deg {f : Nat → Int64} {a : Nat → Int32} (hR : tl_R f a) {t : Nat} (ht : t < 4) : ∀ n, n ≤ 64 → tc_deg (tc_tr (f t) 6) n = tm_de a (nI t) n := by
  intro n
  induction n with
  | zero => intro _; rfl
  | succ n ih =>
    intro hn
    rw [tc_deg_s, tm_de_s, ih (by omega), tl_form hR ht (show n < 64 by omega)]
-- moved
theorem tl_d2 : ∀ i, i < 6 → ∀ x, x < 64 → (x.testBit i = true → 2 ^ i ≤ x ∧ (x - 2 ^ i).testBit i = false ∧ x ^^^ 2 ^ i = x - 2 ^ i) ∧ (x.testBit i = false → x ^^^ 2 ^ i = 2 ^ i + x ∧ (decide (2 ^ i ≤ x) && !((x - 2 ^ i).testBit i)) = false) := by decide +kernel
theorem tl_sw (v : Int64) {i : Nat} (hi : i < 6) {x : Nat} (hx : x < 64) : tl_bit (tc_shl (v &&& tc_low (nI i).toNatClampNeg) ((1 : Int32) <<< (nI i &&& 31)) ||| (tc_ushr v ((1 : Int32) <<< (nI i &&& 31)) &&& tc_low (nI i).toNatClampNeg)) x = tl_bit v (x ^^^ 2 ^ i) := by
  have hx2 : x - 2 ^ i < 64 := Nat.lt_of_le_of_lt (Nat.sub_le _ _) hx
  rw [tl_p2 i hi, tl_or, tl_shl (tl_p2lt i hi) _ hx, tl_and, tl_and, tl_ushr (tl_p2lt i hi), tl_lw hi hx, tl_lw hi hx2]
  obtain ⟨d1, d2⟩ := tl_d2 i hi x hx
  cases h : x.testBit i
  · obtain ⟨e1, e2⟩ := d2 h
    rw [tl_bb, e2, e1, Bool.false_and, Bool.false_or, Bool.not_false, Bool.and_true]
  · obtain ⟨e1, e2, e3⟩ := d1 h
    rw [e2, e3, decide_eq_true e1, Bool.true_and, Bool.not_false, Bool.and_true, Bool.not_true, Bool.and_false, Bool.or_false]
theorem tl_d3 : ∀ i, i < 6 → ∀ a, a < 64 → (a.testBit i = true → 2 ^ i ^^^ (a % 2 ^ i) = a % 2 ^ (i + 1)) ∧ (a.testBit i = false → a % 2 ^ i = a % 2 ^ (i + 1)) := by decide +kernel
theorem tl_on {i a : Nat} (hi : i < 6) (ha : a < 64) (c : ((nI a >>> (nI i &&& 31)) &&& (1 : Int32)) = 1) : a.testBit i = true := by
  rw [tl_dig i hi a ha] at c
  exact (tl_b1 _).mp c
theorem tl_off {i a : Nat} (hi : i < 6) (ha : a < 64) (c : ¬ ((nI a >>> (nI i &&& 31)) &&& (1 : Int32)) = 1) : a.testBit i = false := by
  cases h : a.testBit i with
  | false => rfl
  | true => exact absurd (by rw [tl_dig i hi a ha, h]; rfl) c
theorem tl_mvi (w : Int64) {a : Nat} (ha : a < 64) : ∀ i, i ≤ 6 → ∀ x, x < 64 → tl_bit (tc_mv w (nI a) i) x = tl_bit w (x ^^^ (a % 2 ^ i)) := by
  intro i
  induction i with
  | zero =>
    intro _ x _
    rw [Nat.pow_zero, Nat.mod_one, Nat.xor_zero]
    rfl
  | succ i ih =>
    intro hi x hx
    have hi : i < 6 := hi
    rw [tc_mv_s]
    by_cases c : ((nI a >>> (nI i &&& 31)) &&& (1 : Int32)) = 1
    · rw [if_pos c, tl_sw _ hi hx, ih (by omega) _ (tw_xlt hx (tl_p2lt i hi)), Nat.xor_assoc, (tl_d3 i hi a ha).1 (tl_on hi ha c)]
    · rw [if_neg c, ih (by omega) x hx, (tl_d3 i hi a ha).2 (tl_off hi ha c)]
theorem tl_mv (w : Int64) {a : Nat} (ha : a < 64) {x : Nat} (hx : x < 64) : tl_bit (tc_mv w (nI a) 6) x = tl_bit w (x ^^^ a) := by
  rw [tl_mvi w ha 6 (by decide) x hx, Nat.mod_eq_of_lt (show a < 2 ^ 6 from ha)]
-- linear
theorem tl_lni {b : Nat} (hb : b < 64) : ∀ i, i ≤ 6 → ∀ x, x < 64 → tl_bit (tc_ln (nI b) i) x = tl_pp i (b &&& x) := by
  intro i
  induction i with
  | zero =>
    intro _ x _
    exact tl_0 x
  | succ i ih =>
    intro hi x hx
    have hi : i < 6 := hi
    rw [tc_ln_s]
    show _ = (tl_pp i (b &&& x) ^^ (b &&& x).testBit i)
    rw [Nat.testBit_and]
    by_cases c : ((nI b >>> (nI i &&& 31)) &&& (1 : Int32)) = 1
    · rw [if_pos c, tl_xor, ih (by omega) x hx, tl_not _ hx, tl_lw hi hx, Bool.not_not, tl_on hi hb c, Bool.true_and]
    · rw [if_neg c, ih (by omega) x hx, tl_off hi hb c, Bool.false_and, Bool.xor_false]
theorem tl_ln {b : Nat} (hb : b < 64) {x : Nat} (hx : x < 64) : tl_bit (tc_ln (nI b) 6) x = tl_pp 6 (b &&& x) := tl_lni hb 6 (by decide) x hx
-- shifted
def tl_bn (v : Int64) : Nat → Nat
  | 0 => 0
  | i + 1 => tl_bn v i + (tl_bit v (2 ^ i)).toNat * 2 ^ i
theorem tl_bn_lt (v : Int64) : ∀ i, tl_bn v i < 2 ^ i := by
  intro i
  induction i with
  | zero => exact Nat.one_pos
  | succ i ih =>
    show tl_bn v i + (tl_bit v (2 ^ i)).toNat * 2 ^ i < 2 ^ (i + 1)
    rw [Nat.pow_succ]
    cases tl_bit v (2 ^ i)
    · show tl_bn v i + 0 * 2 ^ i < _
      omega
    · show tl_bn v i + 1 * 2 ^ i < _
      omega
theorem tl_d4 : ∀ i, i < 6 → ∀ k, k < 64 → k < 2 ^ i → ∀ c : Bool, (nI k ||| (tl_b c <<< (nI i &&& 31))) = nI (k + c.toNat * 2 ^ i) := by decide +kernel
theorem tl_sb (v : Int64) : ∀ i, i ≤ 6 → tc_sb v i = nI (tl_bn v i) := by
  intro i
  induction i with
  | zero => intro _; rfl
  | succ i ih =>
    intro hi
    have hi : i < 6 := hi
    have hl := tl_bn_lt v i
    have h2 := tl_p2lt i hi
    rw [tc_sb_s, ih (by omega), tl_p2 i hi, tl_dg (tl_p2lt i hi), tl_d4 i hi (tl_bn v i) (by omega) hl]
    rfl
theorem tl_d5 : ∀ b, b < 64 → ∀ j, j < 6 → tl_pp 6 (b &&& 2 ^ j) = b.testBit j := by decide +kernel
theorem tl_d6 : ∀ b, b < 64 → 0 + (b.testBit 0).toNat * 2 ^ 0 + (b.testBit 1).toNat * 2 ^ 1 + (b.testBit 2).toNat * 2 ^ 2 + (b.testBit 3).toNat * 2 ^ 3 + (b.testBit 4).toNat * 2 ^ 4 + (b.testBit 5).toNat * 2 ^ 5 = b := by decide +kernel
theorem tl_bn6 {v : Int64} {b : Nat} (hb : b < 64) (h : ∀ j, j < 6 → tl_bit v (2 ^ j) = b.testBit j) : tl_bn v 6 = b := by
  have e : tl_bn v 6 = 0 + (tl_bit v (2 ^ 0)).toNat * 2 ^ 0 + (tl_bit v (2 ^ 1)).toNat * 2 ^ 1 + (tl_bit v (2 ^ 2)).toNat * 2 ^ 2 + (tl_bit v (2 ^ 3)).toNat * 2 ^ 3 + (tl_bit v (2 ^ 4)).toNat * 2 ^ 4 + (tl_bit v (2 ^ 5)).toNat * 2 ^ 5 := rfl
  rw [e, h 0 (by decide), h 1 (by decide), h 2 (by decide), h 3 (by decide), h 4 (by decide), h 5 (by decide)]
  exact tl_d6 b hb
theorem tl_hit (w v : Int64) {a : Nat} (ha : a < 64) : tc_hit w v a ↔ ∃ b, b < 64 ∧ ∀ x, x < 64 → (tl_bit v (x ^^^ a) ^^ tl_bit w x) = tl_pp 6 (b &&& x) := by
  unfold tc_hit
  rw [lg_cmp_eq]
  have hrest : ∀ x, x < 64 → tl_bit (tc_mv v (nI a) 6 ^^^ w) x = (tl_bit v (x ^^^ a) ^^ tl_bit w x) := by
    intro x hx
    rw [tl_xor, tl_mv v ha hx]
  generalize tc_mv v (nI a) 6 ^^^ w = rest at hrest ⊢
  rw [tl_sb rest 6 (by decide)]
  have hl : tl_bn rest 6 < 64 := tl_bn_lt rest 6
  constructor
  · intro h
    refine ⟨tl_bn rest 6, hl, fun x hx => ?_⟩
    have e : tl_bit rest x = tl_bit (tc_ln (nI (tl_bn rest 6)) 6) x := congrArg (fun z => tl_bit z x) h
    rw [tl_ln hl hx] at e
    rw [← hrest x hx]
    exact e
  · rintro ⟨b, hb, h⟩
    have hbn : tl_bn rest 6 = b := tl_bn6 hb (fun j hj => by
      rw [hrest _ (tl_p2lt j hj), h _ (tl_p2lt j hj), tl_d5 b hb j hj])
    rw [hbn]
    apply tl_ext
    intro x hx
    rw [tl_ln hb hx, hrest x hx, h x hx]
theorem tl_mhit {f : Nat → Int64} {a : Nat → Int32} (hR : tl_R f a) {t r n : Nat} (ht : t < 4) (hr : r < 4) (hn : n < 4096) : tm_hit a (nI t) (nI r) n ↔ ∀ x, x < 64 → tl_bit (f t) x = (tl_bit (f r) (x ^^^ (n / 64)) ^^ tl_pp 6 ((n % 64) &&& x)) := by
  have e1 : nI n / (64 : Int32) = nI (n / 64) := pk_div (a := n) (d := 64) (by omega) (by decide) (by decide)
  have e2 : nI n - nI n / (64 : Int32) * (64 : Int32) = nI (n % 64) := pk_rem (a := n) (d := 64) (by omega) (by decide) (by decide)
  have hd : n / 64 < 64 := by omega
  have hm : n % 64 < 64 := by omega
  have key : ∀ x, x < 64 → (tm_eq a (nI t) (nI r) (nI (n / 64)) (nI (n % 64)) x ↔ tl_bit (f t) x = (tl_bit (f r) (x ^^^ (n / 64)) ^^ tl_pp 6 ((n % 64) &&& x))) := by
    intro x hx
    unfold tm_eq
    rw [tl_ix ht hx, tl_ixx hr hx hd, hR t ht x hx, hR r hr _ (tw_xlt hx hd), tl_pr hm hx, tl_bxor, tl_binj]
  unfold tm_hit tm_by
  rw [e2, e1]
  exact ⟨fun h x hx => (key x hx).mp (h x hx), fun h x hx => (key x hx).mpr (h x hx)⟩
theorem tl_x3 (p q r : Bool) : (p ^^ q) = r ↔ q = (p ^^ r) := by cases p <;> cases q <;> cases r <;> decide
theorem tl_shifted {f : Nat → Int64} {a : Nat → Int32} (hR : tl_R f a) {t r : Nat} (ht : t < 4) (hr : r < 4) {r1 r2 : Int32} (h1 : tw_fnd (tc_hit (f t) (f r)) 64 r1) (h2 : tw_fnd (tm_hit a (nI t) (nI r)) 4096 r2) : r1 = r2 := by
  have fwd : ∀ k, k < 64 → tc_hit (f t) (f r) k → ∃ n, n < 4096 ∧ tm_hit a (nI t) (nI r) n := by
    intro k hk h
    obtain ⟨b, hb, h⟩ := (tl_hit _ _ hk).mp h
    refine ⟨64 * k + b, by omega, (tl_mhit hR ht hr (by omega)).mpr (fun x hx => ?_)⟩
    rw [show (64 * k + b) / 64 = k by omega, show (64 * k + b) % 64 = b by omega]
    exact (tl_x3 _ _ _).mp (h x hx)
  have bwd : ∀ n, n < 4096 → tm_hit a (nI t) (nI r) n → ∃ k, k < 64 ∧ tc_hit (f t) (f r) k := by
    intro n hn h
    have h := (tl_mhit hR ht hr hn).mp h
    exact ⟨n / 64, by omega, (tl_hit _ _ (by omega)).mpr ⟨n % 64, by omega, fun x hx => (tl_x3 _ _ _).mpr (h x hx)⟩⟩
  rcases h1 with ⟨e1, k, hk, hp⟩ | ⟨e1, hall1⟩ <;> rcases h2 with ⟨e2, n, hn, hq⟩ | ⟨e2, hall2⟩
  · rw [e1, e2]
  · obtain ⟨n, hn, hq⟩ := fwd k hk hp
    exact absurd hq (hall2 n hn)
  · obtain ⟨k, hk, hp⟩ := bwd n hn hq
    exact absurd hp (hall1 k hk)
  · rw [e1, e2]
end
section
/-! the plain law, 4: put, turnForm, combine, shift keep the relation -/
set_option maxRecDepth 100000
theorem tl_R_set {f : Nat → Int64} {a a2 : Nat → Int32} (hR : tl_R f a) {t : Nat} {v : Int64} (h1 : ∀ x, x < 64 → a2 (64 * t + x) = tl_b (tl_bit v x)) (h2 : ∀ t', t' < 4 → t' ≠ t → ∀ x, x < 64 → a2 (64 * t' + x) = a (64 * t' + x)) : tl_R (vp_updL f t v) a2 := by
  intro t' ht' x hx
  by_cases e : t' = t
  · subst e
    rw [pk_uLs]
    exact h1 x hx
  · rw [pk_uLn e, h2 t' ht' e x hx]
    exact hR t' ht' x hx
theorem tl_cl {t : Nat} (ht : t < 64) : (nI t).toNatClampNeg = t := nI_clamp (by omega)
/-- 0 or 1 -/
theorem tl_01 {v : Int32} (h0 : ¬ v < 0) (h1 : v ≤ (1 : Int32)) : ∃ c : Bool, v = tl_b c := by
  obtain ⟨j, hj, rfl⟩ := nI_of2 (M := 1) (n := 1) (by decide) h0 h1
  rcases (show j = 0 ∨ j = 1 by omega) with rfl | rfl
  · exact ⟨false, rfl⟩
  · exact ⟨true, rfl⟩
theorem tl_one (u : Nat) (hu : u < 64) {x : Nat} (hx : x < 64) : tl_bit (tc_shl (1 : Int64) (nI u)) x = decide (u = x) := by
  rw [tl_shl hu _ hx, tl_1 _ (Nat.lt_of_le_of_lt (Nat.sub_le _ _) hx)]
  by_cases h : u = x
  · subst h
    rw [decide_eq_true (Nat.le_refl u), decide_eq_true (Nat.sub_self u), decide_eq_true rfl]
    rfl
  · rw [decide_eq_false h]
    by_cases h2 : u ≤ x
    · rw [decide_eq_false (by omega : ¬ x - u = 0), Bool.and_false]
    · rw [decide_eq_false h2, Bool.false_and]
theorem tl_put {f : Nat → Int64} {a : Nat → Int32} (hR : tl_R f a) {t x : Nat} (ht : t < 4) (hx : x < 64) (c : Bool) : tc_dg (f (nI t).toNatClampNeg) (nI x) = a (((64 : Int32) * nI t) + nI x).toNatClampNeg ∧ tl_R (tc_put f (nI t) (nI x) (tl_b c)) (upd a (((64 : Int32) * nI t) + nI x).toNatClampNeg (tl_b c)) := by
  unfold tc_put
  rw [tl_cl (by omega), tl_dg hx, tl_ix ht hx]
  refine ⟨(hR t ht x hx).symm, ?_⟩
  by_cases h : tl_b (tl_bit (f t) x) = tl_b c
  · rw [if_pos h]
    intro t' ht' x' hx'
    by_cases e : 64 * t' + x' = 64 * t + x
    · obtain ⟨rfl, rfl⟩ : t' = t ∧ x' = x := by omega
      rw [pk_us, h]
    · rw [pk_un e]
      exact hR t' ht' x' hx'
  · rw [if_neg h]
    refine tl_R_set hR (fun y hy => ?_) (fun t' ht' ne y hy => ?_)
    · rw [tl_xor, tl_one x hx hy]
      by_cases e : x = y
      · subst e
        rw [pk_us, decide_eq_true rfl, Bool.xor_true]
        have h3 : ¬ tl_bit (f t) x = c := fun q => h (by rw [q])
        rw [tl_binj]
        revert h3
        cases c <;> cases tl_bit (f t) x <;> simp
      · rw [pk_un (by omega), decide_eq_false e, Bool.xor_false]
        exact hR t ht y hy
    · rw [pk_un (by omega)]
-- the reference's loops over a table
theorem tl_tf {a : Nat → Int32} {t u : Nat} (ht : t < 4) : ∀ n, n ≤ 64 → ∀ t', t' < 4 → ∀ x, x < 64 → tm_tf a (nI t) (nI u) n (64 * t' + x) = if t' = t ∧ x < n then (if (nI u &&& (nI x ^^^ (-1 : Int32))) = 0 then (1 : Int32) - a (64 * t + x) else a (64 * t + x)) else a (64 * t' + x) := by
  intro n
  induction n with
  | zero =>
    intro _ t' _ x _
    rw [if_neg (fun h => absurd h.2 (by omega))]
    rfl
  | succ n ih =>
    intro hn t' ht' x hx
    have ih := ih (by omega)
    rw [tm_tf_s, tl_ix ht (show n < 64 by omega), ih t ht n (by omega), if_neg (fun h => absurd h.2 (by omega) : ¬ (t = t ∧ n < n))]
    by_cases e : 64 * t' + x = 64 * t + n
    · obtain ⟨rfl, rfl⟩ : t' = t ∧ x = n := by omega
      rw [pk_us, if_pos (⟨rfl, by omega⟩ : t' = t' ∧ x < x + 1)]
    · rw [pk_un e, ih t' ht' x hx]
      by_cases h : t' = t ∧ x < n
      · rw [if_pos h, if_pos (⟨h.1, by omega⟩ : t' = t ∧ x < n + 1)]
      · rw [if_neg h, if_neg (fun q : t' = t ∧ x < n + 1 => h ⟨q.1, by omega⟩)]
theorem tl_tk {a b : Nat → Int32} {t : Nat} (ht : t < 4) : ∀ n, n ≤ 64 → ∀ t', t' < 4 → ∀ x, x < 64 → tm_tk a b (nI t) n (64 * t' + x) = if t' = t ∧ x < n then b x else a (64 * t' + x) := by
  intro n
  induction n with
  | zero =>
    intro _ t' _ x _
    rw [if_neg (fun h => absurd h.2 (by omega))]
    rfl
  | succ n ih =>
    intro hn t' ht' x hx
    have ih := ih (by omega)
    rw [tm_tk_s, tl_ix ht (show n < 64 by omega), tl_cl (show n < 64 by omega)]
    by_cases e : 64 * t' + x = 64 * t + n
    · obtain ⟨rfl, rfl⟩ : t' = t ∧ x = n := by omega
      rw [pk_us, if_pos (⟨rfl, by omega⟩ : t' = t' ∧ x < x + 1)]
    · rw [pk_un e, ih t' ht' x hx]
      by_cases h : t' = t ∧ x < n
      · rw [if_pos h, if_pos (⟨h.1, by omega⟩ : t' = t ∧ x < n + 1)]
      · rw [if_neg h, if_neg (fun q : t' = t ∧ x < n + 1 => h ⟨q.1, by omega⟩)]
theorem tl_R_tk {f : Nat → Int64} {a b : Nat → Int32} (hR : tl_R f a) {t : Nat} (ht : t < 4) {v : Int64} (h : ∀ x, x < 64 → b x = tl_b (tl_bit v x)) : tl_R (vp_updL f t v) (tm_tk a b (nI t) 64) := by
  refine tl_R_set hR (fun x hx => ?_) (fun t' ht' ne x hx => ?_)
  · rw [tl_tk ht 64 (by decide) t ht x hx, if_pos ⟨rfl, hx⟩]
    exact h x hx
  · rw [tl_tk ht 64 (by decide) t' ht' x hx, if_neg (fun q => ne q.1)]
theorem tl_cb {a b : Nat → Int32} {op : Int32} {r s : Nat} (hr : r < 4) (hs : s < 4) : ∀ n, n ≤ 64 → ∀ x, x < n → tm_cb a b op (nI r) (nI s) n x = tm_cop op (a (64 * r + x)) (a (64 * s + x)) := by
  intro n
  induction n with
  | zero => intro _ x hx; exact absurd hx (by omega)
  | succ n ih =>
    intro hn x hx
    rw [tm_cb_s, tl_ix hr (show n < 64 by omega), tl_ix hs (show n < 64 by omega), tl_cl (show n < 64 by omega)]
    by_cases e : x = n
    · subst e
      rw [pk_us]
    · rw [pk_un e, ih (by omega) x (by omega)]
theorem tl_sf {a b : Nat → Int32} {r y z : Nat} (hr : r < 4) (hy : y < 64) : ∀ n, n ≤ 64 → ∀ x, x < n → tm_sf a b (nI r) (nI y) (nI z) n x = a (64 * r + (x ^^^ y)) ^^^ tm_pr (nI z) (nI x) := by
  intro n
  induction n with
  | zero => intro _ x hx; exact absurd hx (by omega)
  | succ n ih =>
    intro hn x hx
    rw [tm_sf_s, tl_ixx hr (show n < 64 by omega) hy, tl_cl (show n < 64 by omega)]
    by_cases e : x = n
    · subst e
      rw [pk_us]
    · rw [pk_un e, ih (by omega) x (by omega)]
/-- after a write of table t: both count its ones -/
theorem tl_same {f : Nat → Int64} {a : Nat → Int32} (hR : tl_R f a) {t : Nat} (ht : t < 4) : tc_ones (f (nI t).toNatClampNeg) = tm_co a (nI t) 64 := by
  rw [tl_cl (by omega), tl_ones, tl_co hR ht 64 (by decide)]
theorem tl_turn {f : Nat → Int64} {a : Nat → Int32} (hR : tl_R f a) {t u : Nat} (ht : t < 4) (hu : u < 64) : tl_R (tc_turn f (nI t) (nI u)) (tm_tf a (nI t) (nI u) 64) := by
  unfold tc_turn
  rw [tl_cl (by omega)]
  refine tl_R_set hR (fun x hx => ?_) (fun t' ht' ne x hx => ?_)
  · have e : tl_bit (tc_tr (tc_shl (1 : Int64) (nI u)) 6) x = decide ((nI u &&& (nI x ^^^ (-1 : Int32))) = 0) := by
      rw [tl_tr _ 6 (by decide) x hx, tl_lp_congr (N := (tl_mk 6 x).testBit) (G := fun y => decide (u = y)) 64 (fun _ _ => rfl) (fun y hy => tl_one u hu hy), tl_lp_pt, decide_eq_true hu, Bool.true_and, tl_mk6 x hx u hu]
    rw [tl_tf ht 64 (by decide) t ht x hx, if_pos ⟨rfl, hx⟩, tl_xor, e, hR t ht x hx]
    by_cases c : (nI u &&& (nI x ^^^ (-1 : Int32))) = 0
    · rw [if_pos c, decide_eq_true c, Bool.xor_true, tl_bsub]
    · rw [if_neg c, decide_eq_false c, Bool.xor_false]
  · rw [tl_tf ht 64 (by decide) t' ht' x hx, if_neg (fun q => ne q.1)]
theorem tl_cop (op : Int32) (v w : Int64) {x : Nat} (hx : x < 64) : tm_cop op (tl_b (tl_bit v x)) (tl_b (tl_bit w x)) = tl_b (tl_bit (tc_cop op v w) x) := by
  unfold tm_cop tc_cop
  by_cases h0 : op = 0
  · rw [if_pos h0, if_pos h0, tl_xor, tl_bxor]
  · rw [if_neg h0, if_neg h0]
    by_cases h1 : op = 1
    · rw [if_pos h1, if_pos h1, tl_and, tl_band]
    · rw [if_neg h1, if_neg h1]
      by_cases h2 : op = 2
      · rw [if_pos h2, if_pos h2, tl_or, tl_bor]
      · rw [if_neg h2, if_neg h2, tl_not _ hx, tl_xor, tl_bsub]
        cases tl_bit v x <;> cases tl_bit w x <;> decide
theorem tl_comb {f : Nat → Int64} {a : Nat → Int32} (hR : tl_R f a) (b : Nat → Int32) {t r s : Nat} (op : Int32) (ht : t < 4) (hr : r < 4) (hs : s < 4) : tl_R (tc_comb f (nI t) op (nI r) (nI s)) (tm_tk a (tm_cb a b op (nI r) (nI s) 64) (nI t) 64) := by
  unfold tc_comb
  rw [tl_cl (show t < 64 by omega), tl_cl (show r < 64 by omega), tl_cl (show s < 64 by omega)]
  refine tl_R_tk hR ht (fun x hx => ?_)
  rw [tl_cb hr hs 64 (by decide) x hx, hR r hr x hx, hR s hs x hx, tl_cop op _ _ hx]
theorem tl_shft {f : Nat → Int64} {a : Nat → Int32} (hR : tl_R f a) (b : Nat → Int32) {t r y z : Nat} (ht : t < 4) (hr : r < 4) (hy : y < 64) (hz : z < 64) : tl_R (tc_shift f (nI t) (nI r) (nI y) (nI z)) (tm_tk a (tm_sf a b (nI r) (nI y) (nI z) 64) (nI t) 64) := by
  unfold tc_shift
  rw [tl_cl (show t < 64 by omega), tl_cl (show r < 64 by omega)]
  refine tl_R_tk hR ht (fun x hx => ?_)
  rw [tl_sf hr hy 64 (by decide) x hx, hR r hr _ (tw_xlt hx hy), tl_pr hz hx, tl_bxor, tl_xor, tl_mv _ hy hx, tl_ln hz hx]
end
section
/-! the plain law, 5: spectra -/
set_option maxRecDepth 100000
def tl_S (h : Nat → Int) : Nat → Int
  | 0 => 0
  | n + 1 => tl_S h n + h n
theorem tl_S_congr {h k : Nat → Int} : ∀ n, (∀ x, x < n → h x = k x) → tl_S h n = tl_S k n := by
  intro n
  induction n with
  | zero => intro _; rfl
  | succ n ih =>
    intro e
    show tl_S h n + h n = tl_S k n + k n
    rw [ih (fun x hx => e x (by omega)), e n (by omega)]
theorem tl_S_add (h k : Nat → Int) : ∀ n, tl_S h n + tl_S k n = tl_S (fun x => h x + k x) n := by
  intro n
  induction n with
  | zero => rfl
  | succ n ih =>
    show tl_S h n + h n + (tl_S k n + k n) = tl_S (fun x => h x + k x) n + (h n + k n)
    rw [← ih]
    omega
theorem tl_S_sub (h k : Nat → Int) : ∀ n, tl_S h n - tl_S k n = tl_S (fun x => h x - k x) n := by
  intro n
  induction n with
  | zero => rfl
  | succ n ih =>
    show tl_S h n + h n - (tl_S k n + k n) = tl_S (fun x => h x - k x) n + (h n - k n)
    rw [← ih]
    omega
theorem tl_S_mulL (c : Int) (h : Nat → Int) : ∀ n, c * tl_S h n = tl_S (fun x => c * h x) n := by
  intro n
  induction n with
  | zero => exact Int.mul_zero c
  | succ n ih =>
    show c * (tl_S h n + h n) = tl_S (fun x => c * h x) n + c * h n
    rw [← ih, Int.mul_add]
theorem tl_S_mulR (c : Int) (h : Nat → Int) (n : Nat) : tl_S h n * c = tl_S (fun x => h x * c) n := by
  rw [Int.mul_comm, tl_S_mulL]
  exact tl_S_congr n (fun x _ => Int.mul_comm _ _)
theorem tl_S_zero : ∀ n, tl_S (fun _ => 0) n = 0 := by
  intro n
  induction n with
  | zero => rfl
  | succ n ih =>
    show tl_S (fun _ => 0) n + 0 = 0
    rw [ih]
    rfl
theorem tl_S_swap (h : Nat → Nat → Int) (k : Nat) : ∀ n, tl_S (fun x => tl_S (fun y => h x y) k) n = tl_S (fun y => tl_S (fun x => h x y) n) k := by
  intro n
  induction n with
  | zero => exact (tl_S_zero k).symm
  | succ n ih =>
    show tl_S (fun x => tl_S (fun y => h x y) k) n + tl_S (fun y => h n y) k = tl_S (fun y => tl_S (fun x => h x y) n + h n y) k
    rw [ih, tl_S_add]
theorem tl_S_one (c : Int) (g : Nat → Int) (u : Nat) : ∀ n, tl_S (fun y => (if u = y then c else 0) * g y) n = if u < n then c * g u else 0 := by
  intro n
  induction n with
  | zero => rfl
  | succ n ih =>
    show tl_S (fun y => (if u = y then c else 0) * g y) n + (if u = n then c else 0) * g n = _
    rw [ih]
    rcases Nat.lt_trichotomy u n with h | h | h
    · rw [if_pos h, if_neg (by omega : ¬ u = n), if_pos (by omega : u < n + 1), Int.zero_mul, Int.add_zero]
    · subst h
      rw [if_neg (by omega : ¬ u < u), if_pos rfl, if_pos (by omega : u < u + 1), Int.zero_add]
    · rw [if_neg (by omega : ¬ u < n), if_neg (by omega : ¬ u = n), if_neg (by omega : ¬ u < n + 1), Int.zero_mul, Int.add_zero]
-- one stage of spread
def tl_base (i y : Nat) : Nat := if y.testBit i then y - 2 ^ i else y
def tl_new (i : Nat) (g : Nat → Int32) (y : Nat) : Int32 := if y.testBit i then g (y - 2 ^ i) - g y else g y + g (y + 2 ^ i)
theorem tl_e1 : ∀ i, i < 6 → ∀ y, y < 64 → (tl_base i y).testBit i = false ∧ (y = tl_base i y ∨ y = tl_base i y + 2 ^ i) ∧ tl_base i y ≤ y := by decide +kernel
theorem tl_e2 : ∀ i, i < 6 → ∀ n, n < 64 → n.testBit i = false → n + 2 ^ i < 64 ∧ (n + 2 ^ i).testBit i = true ∧ tl_base i n = n ∧ tl_base i (n + 2 ^ i) = n ∧ ¬ n = n + 2 ^ i := by decide +kernel
theorem tl_z {i a : Nat} (hi : i < 6) (ha : a < 64) : ((nI a >>> (nI i &&& 31)) &&& (1 : Int32)) = 0 ↔ a.testBit i = false := by
  rw [tl_dig i hi a ha, tl_b0]
theorem tl_sp1 {i : Nat} (hi : i < 6) (g : Nat → Int32) : ∀ n, n ≤ 64 → ∀ y, y < 64 → tc_sp1 i g n y = if tl_base i y < n then tl_new i g y else g y := by
  intro n
  induction n with
  | zero =>
    intro _ y _
    rw [if_neg (Nat.not_lt_zero _)]
    rfl
  | succ n ih =>
    intro hn y hy
    have ih := ih (by omega)
    have hn6 : n < 64 := by omega
    obtain ⟨b1, b2, b3⟩ := tl_e1 i hi y hy
    rw [tc_sp1_s]
    by_cases c : ((nI n >>> (nI i &&& 31)) &&& (1 : Int32)) = 0
    · have hb := (tl_z hi hn6).mp c
      obtain ⟨d1, d2, d3, d4, d5⟩ := tl_e2 i hi n hn6 hb
      have e1 : (nI n).toNatClampNeg = n := tl_cl hn6
      have e2 : (nI n + ((1 : Int32) <<< (nI i &&& 31))).toNatClampNeg = n + 2 ^ i := by
        rw [tl_p2 i hi, nI_add]
        exact tl_cl d1
      have r1 : tc_sp1 i g n n = g n := by rw [ih n hn6, d3, if_neg (Nat.lt_irrefl n)]
      have r2 : tc_sp1 i g n (n + 2 ^ i) = g (n + 2 ^ i) := by rw [ih _ d1, d4, if_neg (Nat.lt_irrefl n)]
      rw [if_pos c, e1, e2, r1, r2]
      by_cases y1 : y = n + 2 ^ i
      · rw [y1, pk_us, d4, if_pos (Nat.lt_succ_self n), tl_new, d2, if_pos rfl, Nat.add_sub_cancel]
      · rw [pk_un y1]
        by_cases y2 : y = n
        · rw [y2, pk_us, d3, if_pos (Nat.lt_succ_self n), tl_new, hb]
          rfl
        · rw [pk_un y2, ih y hy]
          have ne : tl_base i y ≠ n := by
            intro e
            rw [e] at b2
            rcases b2 with q | q
            · exact y2 q
            · exact y1 q
          by_cases h : tl_base i y < n
          · rw [if_pos h, if_pos (by omega : tl_base i y < n + 1)]
          · rw [if_neg h, if_neg (by omega : ¬ tl_base i y < n + 1)]
    · rw [if_neg c, ih y hy]
      have ne : tl_base i y ≠ n := by
        intro e
        rw [e] at b1
        exact c ((tl_z hi hn6).mpr b1)
      by_cases h : tl_base i y < n
      · rw [if_pos h, if_pos (by omega : tl_base i y < n + 1)]
      · rw [if_neg h, if_neg (by omega : ¬ tl_base i y < n + 1)]
/-- the coefficients of spread, after i digits -/
def tl_C : Nat → Nat → Nat → Int
  | 0, y, x => if y = x then 1 else 0
  | i + 1, y, x => if y.testBit i then tl_C i (y - 2 ^ i) x - tl_C i y x else tl_C i y x + tl_C i (y + 2 ^ i) x
theorem tl_C_s (i y x : Nat) : tl_C (i + 1) y x = if y.testBit i then tl_C i (y - 2 ^ i) x - tl_C i y x else tl_C i y x + tl_C i (y + 2 ^ i) x := rfl
theorem tl_spC {g : Nat → Int32} {G : Nat → Int} (hg : ∀ x, x < 64 → g x = Int32.ofInt (G x)) : ∀ i, i ≤ 6 → ∀ y, y < 64 → tc_sp g i y = Int32.ofInt (tl_S (fun x => tl_C i y x * G x) 64) := by
  intro i
  induction i with
  | zero =>
    intro _ y hy
    have e := tl_S_one 1 G y 64
    rw [if_pos hy, Int.one_mul] at e
    show g y = Int32.ofInt (tl_S (fun x => (if y = x then 1 else 0) * G x) 64)
    rw [e]
    exact hg y hy
  | succ i ih =>
    intro hi y hy
    have ih := ih (by omega)
    have hi : i < 6 := hi
    obtain ⟨-, -, b3⟩ := tl_e1 i hi y hy
    rw [tc_sp_s, tl_sp1 hi _ 64 (by decide) y hy, if_pos (by omega : tl_base i y < 64)]
    unfold tl_new
    by_cases h : y.testBit i = true
    · have hy2 : y - 2 ^ i < 64 := Nat.lt_of_le_of_lt (Nat.sub_le _ _) hy
      rw [if_pos h, ih _ hy2, ih _ hy, ← Int32.ofInt_sub, tl_S_sub]
      congr 1
      refine tl_S_congr 64 (fun x _ => ?_)
      rw [tl_C_s, if_pos h, Int.sub_mul]
    · have h' : y.testBit i = false := by simpa using h
      obtain ⟨d1, -⟩ := tl_e2 i hi y hy h'
      rw [if_neg h, ih _ d1, ih _ hy, ← Int32.ofInt_add, tl_S_add]
      congr 1
      refine tl_S_congr 64 (fun x _ => ?_)
      rw [tl_C_s, if_neg h, Int.add_mul]
def tl_sg (c : Bool) : Int := if c then -1 else 1
def tl_ch (a x : Nat) : Int := tl_sg (tl_pp 6 (a &&& x))
theorem tl_C6 : ∀ a, a < 64 → ∀ x, x < 64 → tl_C 6 a x = tl_ch a x := by decide +kernel
/-- the spectrum of F at a -/
def tl_W (F : Nat → Bool) (a : Nat) : Int := tl_S (fun x => tl_ch a x * tl_sg (F x)) 64
theorem tl_spW {g : Nat → Int32} {G : Nat → Int} (hg : ∀ x, x < 64 → g x = Int32.ofInt (G x)) {a : Nat} (ha : a < 64) : tc_sp g 6 a = Int32.ofInt (tl_S (fun x => tl_ch a x * G x) 64) := by
  rw [tl_spC hg 6 (by decide) a ha]
  congr 1
  exact tl_S_congr 64 (fun x hx => by rw [tl_C6 a ha x hx])
theorem tl_fi (w : Int64) (g : Nat → Int32) : ∀ n, n ≤ 64 → ∀ y, y < n → tc_fi w g n y = Int32.ofInt (tl_sg (tl_bit w y)) := by
  intro n
  induction n with
  | zero => intro _ y hy; exact absurd hy (by omega)
  | succ n ih =>
    intro hn y hy
    rw [tc_fi_s, tl_cl (show n < 64 by omega), tl_dg (show n < 64 by omega)]
    by_cases e : y = n
    · subst e
      rw [pk_us]
      cases tl_bit w y <;> decide
    · rw [pk_un e, ih (by omega) y (by omega)]
theorem tl_spec (w : Int64) (g : Nat → Int32) {a : Nat} (ha : a < 64) : tc_spec w g a = Int32.ofInt (tl_W (tl_bit w) a) := tl_spW (G := fun x => tl_sg (tl_bit w x)) (fun x hx => tl_fi w g 64 (by decide) x hx) ha
theorem tl_sgx (p q : Bool) : tl_sg p * tl_sg q = tl_sg (p ^^ q) := by cases p <;> cases q <;> decide
theorem tl_sa {f : Nat → Int64} {a : Nat → Int32} (hR : tl_R f a) {t u : Nat} (ht : t < 4) (hu : u < 64) : ∀ n, n ≤ 64 → tm_sa a (nI t) (nI u) n = Int32.ofInt (tl_S (fun x => tl_ch u x * tl_sg (tl_bit (f t) x)) n) := by
  intro n
  induction n with
  | zero => intro _; rfl
  | succ n ih =>
    intro hn
    rw [tm_sa_s, ih (by omega), tl_ix ht (show n < 64 by omega), hR t ht n (by omega), tl_pr hu (show n < 64 by omega)]
    show _ = Int32.ofInt (tl_S (fun x => tl_ch u x * tl_sg (tl_bit (f t) x)) n + tl_ch u n * tl_sg (tl_bit (f t) n))
    rw [Int32.ofInt_add]
    unfold tl_ch
    rw [tl_sgx]
    generalize Int32.ofInt (tl_S (fun x => tl_sg (tl_pp 6 (u &&& x)) * tl_sg (tl_bit (f t) x)) n) = z
    cases tl_bit (f t) n <;> cases tl_pp 6 (u &&& n)
    · rw [if_pos rfl]; rfl
    · rw [if_neg (by decide)]
      show z - 1 = z + Int32.ofInt (-1)
      rw [Int32.sub_eq_add_neg]
      rfl
    · rw [if_neg (by decide)]
      show z - 1 = z + Int32.ofInt (-1)
      rw [Int32.sub_eq_add_neg]
      rfl
    · rw [if_pos rfl]; rfl
theorem tl_spectrum {f : Nat → Int64} {a : Nat → Int32} (hR : tl_R f a) (g : Nat → Int32) {t u : Nat} (ht : t < 4) (hu : u < 64) : tc_spec (f t) g u = tm_sa a (nI t) (nI u) 64 := by
  rw [tl_spec _ _ hu, tl_sa hR ht hu 64 (by decide)]
  rfl
theorem tl_imm {f : Nat → Int64} {a : Nat → Int32} (hR : tl_R f a) (g : Nat → Int32) {t : Nat} (ht : t < 4) : ∀ i, i ≤ 63 → tc_im (tc_spec (f t) g) i = tm_im a (nI t) i := by
  intro i
  induction i with
  | zero => intro _; rfl
  | succ i ih =>
    intro hi
    rw [tc_im_s, tm_im_s, ih (by omega), tl_cl (show i + 1 < 64 by omega), tl_spectrum hR g ht (show i + 1 < 64 by omega)]
-- nearest, distance
/-- at how many points F is not u.x -/
def tl_dc (F : Nat → Bool) (u n : Nat) : Nat := tl_cnt (fun x => F x ^^ tl_pp 6 (u &&& x)) n
def tl_c (k : Nat) : Nat := if 64 - k ≤ k then 64 - k else k
theorem tl_c_le (k : Nat) : tl_c k ≤ 32 := by
  unfold tl_c
  split <;> omega
theorem tl_chn {f : Nat → Int64} {a : Nat → Int32} (hR : tl_R f a) {t u : Nat} (ht : t < 4) (hu : u < 64) : ∀ n, n ≤ 64 → tm_ch a (nI t) (nI u) n = nI (tl_dc (tl_bit (f t)) u n) := by
  intro n
  induction n with
  | zero => intro _; exact nI_0.symm
  | succ n ih =>
    intro hn
    rw [tm_ch_s, ih (by omega), tl_ix ht (show n < 64 by omega), hR t ht n (by omega), tl_pr hu (show n < 64 by omega)]
    show _ = nI (tl_dc (tl_bit (f t)) u n + (tl_bit (f t) n ^^ tl_pp 6 (u &&& n)).toNat)
    cases tl_bit (f t) n <;> cases tl_pp 6 (u &&& n)
    · rw [if_pos rfl]; rfl
    · rw [if_neg (by decide)]; exact nI_1 _
    · rw [if_neg (by decide)]; exact nI_1 _
    · rw [if_pos rfl]; rfl
theorem tl_Wn (F : Nat → Bool) (u : Nat) : ∀ n, tl_S (fun x => tl_ch u x * tl_sg (F x)) n = (n : Int) - 2 * (tl_dc F u n : Int) := by
  intro n
  induction n with
  | zero => rfl
  | succ n ih =>
    show tl_S (fun x => tl_ch u x * tl_sg (F x)) n + tl_ch u n * tl_sg (F n) = ((n + 1 : Nat) : Int) - 2 * ((tl_dc F u n + (F n ^^ tl_pp 6 (u &&& n)).toNat : Nat) : Int)
    rw [ih]
    unfold tl_ch
    rw [tl_sgx]
    cases F n <;> cases tl_pp 6 (u &&& n) <;> simp only [tl_sg, Bool.xor_false, Bool.xor_true, Bool.not_false, Bool.not_true, Bool.toNat_false, Bool.toNat_true, if_true, Bool.false_eq_true, if_false] <;> omega
theorem tl_d8 : ∀ k : Nat, k < 65 → tc_mag (Int32.ofInt (64 - 2 * (k : Int))) = nI (64 - 2 * tl_c k) := by decide +kernel
theorem tl_mag (w : Int64) (g : Nat → Int32) {u : Nat} (hu : u < 64) : tc_mag (tc_spec w g u) = nI (64 - 2 * tl_c (tl_dc (tl_bit w) u 64)) := by
  have h : tl_dc (tl_bit w) u 64 ≤ 64 := tl_cnt_le _ 64
  rw [tl_spec _ _ hu]
  unfold tl_W
  rw [tl_Wn]
  exact tl_d8 _ (by omega)
theorem tl_chg {f : Nat → Int64} {a : Nat → Int32} (hR : tl_R f a) {t u : Nat} (ht : t < 4) (hu : u < 64) : tm_chg a (nI t) (nI u) = nI (tl_c (tl_dc (tl_bit (f t)) u 64)) := by
  have h : tl_dc (tl_bit (f t)) u 64 ≤ 64 := tl_cnt_le _ 64
  unfold tm_chg
  rw [tl_chn hR ht hu 64 (by decide)]
  generalize tl_dc (tl_bit (f t)) u 64 = k at h
  have e : (64 : Int32) - nI k = nI (64 - k) := pk_sub h
  rw [e]
  unfold tl_c
  by_cases q : 64 - k ≤ k
  · rw [if_pos q, if_pos ((nI_leI (by omega) (by omega)).mpr q)]
  · rw [if_neg q, if_neg (fun z => q ((nI_leI (by omega) (by omega)).mp z))]
theorem tl_near {f : Nat → Int64} {a : Nat → Int32} (hR : tl_R f a) (g : Nat → Int32) {t : Nat} (ht : t < 4) : ∀ i, i ≤ 63 → ∃ b, b < 64 ∧ tc_pk (tc_spec (f t) g) i = nI b ∧ tm_ne a (nI t) i = nI b ∧ tm_di a (nI t) (i + 1) = nI (tl_c (tl_dc (tl_bit (f t)) b 64)) := by
  intro i
  induction i with
  | zero =>
    intro _
    refine ⟨0, by decide, nI_0.symm, nI_0.symm, ?_⟩
    have hc := tl_c_le (tl_dc (tl_bit (f t)) 0 64)
    rw [tm_di_s, tl_chg hR ht (by decide : 0 < 64), if_neg (fun z => ?_)]
    have z : nI 64 ≤ nI (tl_c (tl_dc (tl_bit (f t)) 0 64)) := z
    have := (nI_leI (by decide) (by omega)).mp z
    omega
  | succ i ih =>
    intro hi
    obtain ⟨b, hb, e1, e2, e3⟩ := ih (by omega)
    have hi2 : i + 1 < 64 := by omega
    have c1 := tl_c_le (tl_dc (tl_bit (f t)) b 64)
    have c2 := tl_c_le (tl_dc (tl_bit (f t)) (i + 1) 64)
    rw [tc_pk_s, tm_ne_s, tm_di_s, e1, e2, e3, tl_cl hi2, tl_cl hb, tl_mag _ _ hi2, tl_mag _ _ hb, tl_chg hR ht hb, tl_chg hR ht hi2]
    by_cases q : tl_c (tl_dc (tl_bit (f t)) b 64) ≤ tl_c (tl_dc (tl_bit (f t)) (i + 1) 64)
    · refine ⟨b, hb, ?_, ?_, ?_⟩
      · rw [if_pos ((nI_leI (by omega) (by omega)).mpr (by omega))]
      · rw [if_pos ((nI_leI (by omega) (by omega)).mpr q)]
      · rw [if_pos ((nI_leI (by omega) (by omega)).mpr q)]
    · refine ⟨i + 1, hi2, ?_, ?_, ?_⟩
      · rw [if_neg (fun z => q (by have := (nI_leI (by omega) (by omega)).mp z; omega))]
      · rw [if_neg (fun z => q ((nI_leI (by omega) (by omega)).mp z))]
      · rw [if_neg (fun z => q ((nI_leI (by omega) (by omega)).mp z))]
theorem tl_nearest {f : Nat → Int64} {a : Nat → Int32} (hR : tl_R f a) (g : Nat → Int32) {t : Nat} (ht : t < 4) : tc_pk (tc_spec (f t) g) 63 = tm_ne a (nI t) 63 := by
  obtain ⟨b, -, e1, e2, -⟩ := tl_near hR g ht 63 (by decide)
  rw [e1, e2]
theorem tl_d9 : ∀ k, k < 33 → (32 : Int32) - nI (64 - 2 * k) / (2 : Int32) = nI k := by decide +kernel
theorem tl_dist {f : Nat → Int64} {a : Nat → Int32} (hR : tl_R f a) (g : Nat → Int32) {t : Nat} (ht : t < 4) : (32 : Int32) - tc_mag ((tc_spec (f t) g) (tc_pk (tc_spec (f t) g) 63).toNatClampNeg) / (2 : Int32) = tm_di a (nI t) 64 := by
  obtain ⟨b, hb, e1, -, e3⟩ := tl_near hR g ht 63 (by decide)
  have c1 := tl_c_le (tl_dc (tl_bit (f t)) b 64)
  rw [e1, e3, tl_cl hb, tl_mag _ _ hb]
  exact tl_d9 _ (by omega)
end
section
/-! the plain law, 6: correlations -/
set_option maxRecDepth 100000
theorem tl_pp_xor (y z : Nat) : ∀ i, tl_pp i (y ^^^ z) = (tl_pp i y ^^ tl_pp i z) := by
  intro i
  induction i with
  | zero => rfl
  | succ i ih =>
    show (tl_pp i (y ^^^ z) ^^ (y ^^^ z).testBit i) = ((tl_pp i y ^^ y.testBit i) ^^ (tl_pp i z ^^ z.testBit i))
    rw [ih, Nat.testBit_xor]
    cases tl_pp i y <;> cases tl_pp i z <;> cases y.testBit i <;> cases z.testBit i <;> rfl
theorem tl_and_xor (b x y : Nat) : (b &&& x) ^^^ (b &&& y) = b &&& (x ^^^ y) := by
  apply Nat.eq_of_testBit_eq
  intro i
  rw [Nat.testBit_xor, Nat.testBit_and, Nat.testBit_and, Nat.testBit_and, Nat.testBit_xor]
  cases b.testBit i <;> cases x.testBit i <;> cases y.testBit i <;> rfl
theorem tl_ch_mul (b x y : Nat) : tl_ch b x * tl_ch b y = tl_ch b (x ^^^ y) := by
  unfold tl_ch
  rw [tl_sgx, ← tl_pp_xor, tl_and_xor]
theorem tl_ch_comm (a b : Nat) : tl_ch a b = tl_ch b a := by
  unfold tl_ch
  rw [Nat.and_comm]
theorem tl_sum0 : ∀ z, z < 64 → tl_S (fun b => tl_ch b z) 64 = if z = 0 then 64 else 0 := by decide +kernel
theorem tl_x0 {u y : Nat} : u ^^^ y = 0 ↔ u = y := by
  constructor
  · intro h
    have e : (u ^^^ y) ^^^ y = 0 ^^^ y := by rw [h]
    rwa [Nat.xor_assoc, Nat.xor_self, Nat.xor_zero, Nat.zero_xor] at e
  · intro h
    rw [h, Nat.xor_self]
theorem tl_K {a x y : Nat} (ha : a < 64) (hx : x < 64) (hy : y < 64) : tl_S (fun b => tl_ch a b * (tl_ch b x * tl_ch b y)) 64 = if x ^^^ a = y then 64 else 0 := by
  rw [tl_S_congr (k := fun b => tl_ch b ((x ^^^ a) ^^^ y)) 64 (fun b _ => by
    rw [tl_ch_comm a b, ← Int.mul_assoc, Int.mul_comm (tl_ch b a), tl_ch_mul, tl_ch_mul]), tl_sum0 _ (tw_xlt (tw_xlt hx ha) hy)]
  by_cases h : x ^^^ a = y
  · rw [if_pos h, if_pos (tl_x0.mpr h)]
  · rw [if_neg h, if_neg (fun q => h (tl_x0.mp q))]
/-- the correlation of F at a -/
def tl_ac (F : Nat → Bool) (a : Nat) : Int := tl_S (fun x => tl_sg (F x) * tl_sg (F (x ^^^ a))) 64
theorem tl_sq3 (F : Nat → Bool) (a b : Nat) : tl_ch a b * (tl_W F b * tl_W F b) = tl_S (fun x => tl_S (fun y => (tl_ch a b * (tl_ch b x * tl_ch b y)) * (tl_sg (F x) * tl_sg (F y))) 64) 64 := by
  have e : tl_W F b * tl_W F b = tl_S (fun x => tl_S (fun y => (tl_ch b x * tl_sg (F x)) * (tl_ch b y * tl_sg (F y))) 64) 64 := by
    conv => lhs; lhs; unfold tl_W
    rw [tl_S_mulR]
    refine tl_S_congr 64 (fun x _ => ?_)
    unfold tl_W
    rw [tl_S_mulL]
  rw [e, tl_S_mulL]
  refine tl_S_congr 64 (fun x _ => ?_)
  rw [tl_S_mulL]
  refine tl_S_congr 64 (fun y _ => ?_)
  generalize tl_ch a b = p
  generalize tl_ch b x = q
  generalize tl_ch b y = r
  generalize tl_sg (F x) = u
  generalize tl_sg (F y) = v
  rw [Int.mul_assoc q u, ← Int.mul_assoc u r v, Int.mul_comm u r, Int.mul_assoc r u v, ← Int.mul_assoc q r, ← Int.mul_assoc p (q * r)]
theorem tl_wk (F : Nat → Bool) {a : Nat} (ha : a < 64) : tl_S (fun b => tl_ch a b * (tl_W F b * tl_W F b)) 64 = 64 * tl_ac F a := by
  rw [tl_S_congr 64 (fun b _ => tl_sq3 F a b), tl_S_swap]
  unfold tl_ac
  rw [tl_S_mulL]
  refine tl_S_congr 64 (fun x hx => ?_)
  rw [tl_S_swap]
  have hxa : x ^^^ a < 64 := tw_xlt hx ha
  rw [tl_S_congr (k := fun y => (if x ^^^ a = y then 64 else 0) * (tl_sg (F x) * tl_sg (F y))) 64 (fun y hy => by rw [← tl_S_mulR, tl_K ha hx hy]), tl_S_one, if_pos hxa]
theorem tl_acn (F : Nat → Bool) (a : Nat) : ∀ n, tl_S (fun x => tl_sg (F x) * tl_sg (F (x ^^^ a))) n = 2 * (tl_cnt (fun x => !(F x ^^ F (x ^^^ a))) n : Int) - (n : Int) := by
  intro n
  induction n with
  | zero => rfl
  | succ n ih =>
    show tl_S (fun x => tl_sg (F x) * tl_sg (F (x ^^^ a))) n + tl_sg (F n) * tl_sg (F (n ^^^ a)) = 2 * ((tl_cnt (fun x => !(F x ^^ F (x ^^^ a))) n + (!(F n ^^ F (n ^^^ a))).toNat : Nat) : Int) - ((n + 1 : Nat) : Int)
    rw [ih, tl_sgx]
    cases F n <;> cases F (n ^^^ a) <;> simp only [tl_sg, Bool.xor_false, Bool.xor_true, Bool.not_false, Bool.not_true, Bool.toNat_false, Bool.toNat_true, if_true, Bool.false_eq_true, if_false] <;> omega
theorem tl_sm {f : Nat → Int64} {a : Nat → Int32} (hR : tl_R f a) {t u : Nat} (ht : t < 4) (hu : u < 64) : ∀ n, n ≤ 64 → tm_sm a (nI t) (nI u) n = nI (tl_cnt (fun x => !(tl_bit (f t) x ^^ tl_bit (f t) (x ^^^ u))) n) := by
  intro n
  induction n with
  | zero => intro _; exact nI_0.symm
  | succ n ih =>
    intro hn
    have hn6 : n < 64 := by omega
    rw [tm_sm_s, ih (by omega), tl_ix ht hn6, tl_ixx ht hn6 hu, hR t ht n hn6, hR t ht _ (tw_xlt hn6 hu)]
    show _ = nI (tl_cnt (fun x => !(tl_bit (f t) x ^^ tl_bit (f t) (x ^^^ u))) n + (!(tl_bit (f t) n ^^ tl_bit (f t) (n ^^^ u))).toNat)
    cases tl_bit (f t) n <;> cases tl_bit (f t) (n ^^^ u)
    · rw [if_pos rfl]; exact nI_1 _
    · rw [if_neg (by decide)]; rfl
    · rw [if_neg (by decide)]; rfl
    · rw [if_pos rfl]; exact nI_1 _
theorem tl_sq (G : Nat → Int32) : ∀ n, n ≤ 64 → ∀ y, y < 64 → tc_sq G n y = if y < n then G y * G y else G y := by
  intro n
  induction n with
  | zero => intro _ y _; rw [if_neg (Nat.not_lt_zero _)]; rfl
  | succ n ih =>
    intro hn y hy
    have hn6 : n < 64 := by omega
    rw [tc_sq_s, tl_cl hn6, ih (by omega) n hn6, if_neg (Nat.lt_irrefl n)]
    by_cases e : y = n
    · subst e
      rw [pk_us, if_pos (Nat.lt_succ_self y)]
    · rw [pk_un e, ih (by omega) y hy]
      by_cases h : y < n
      · rw [if_pos h, if_pos (by omega : y < n + 1)]
      · rw [if_neg h, if_neg (by omega : ¬ y < n + 1)]
theorem tl_dv (G : Nat → Int32) : ∀ n, n ≤ 64 → ∀ y, y < 64 → tc_dv G n y = if y < n then G y / (64 : Int32) else G y := by
  intro n
  induction n with
  | zero => intro _ y _; rw [if_neg (Nat.not_lt_zero _)]; rfl
  | succ n ih =>
    intro hn y hy
    have hn6 : n < 64 := by omega
    rw [tc_dv_s, tl_cl hn6, ih (by omega) n hn6, if_neg (Nat.lt_irrefl n)]
    by_cases e : y = n
    · subst e
      rw [pk_us, if_pos (Nat.lt_succ_self y)]
    · rw [pk_un e, ih (by omega) y hy]
      by_cases h : y < n
      · rw [if_pos h, if_pos (by omega : y < n + 1)]
      · rw [if_neg h, if_neg (by omega : ¬ y < n + 1)]
theorem tl_d10 : ∀ k : Nat, k < 65 → Int32.ofInt (64 * (2 * (k : Int) - 64)) / (64 : Int32) = (2 : Int32) * nI k - (64 : Int32) := by decide +kernel
theorem tl_auto {f : Nat → Int64} {a : Nat → Int32} (hR : tl_R f a) (g : Nat → Int32) {t u : Nat} (ht : t < 4) (hu : u < 64) : tc_cor (f t) g u = (2 : Int32) * tm_sm a (nI t) (nI u) 64 - (64 : Int32) := by
  have hk := tl_cnt_le (fun x => !(tl_bit (f t) x ^^ tl_bit (f t) (x ^^^ u))) 64
  unfold tc_cor
  rw [tl_dv _ 64 (by decide) u hu, if_pos hu, tl_spW (G := fun b => tl_W (tl_bit (f t)) b * tl_W (tl_bit (f t)) b) (fun b hb => by
    rw [tl_sq _ 64 (by decide) b hb, if_pos hb, tl_spec _ _ hb, Int32.ofInt_mul]) hu, tl_wk _ hu, tl_sm hR ht hu 64 (by decide)]
  unfold tl_ac
  rw [tl_acn]
  exact tl_d10 _ (by omega)
theorem tl_d11 : ∀ k, k < 65 → (tc_mag ((2 : Int32) * nI k - (64 : Int32)) = 64 ↔ (nI k = 0 ∨ nI k = 64)) := by decide +kernel
theorem tl_struct {f : Nat → Int64} {a : Nat → Int32} (hR : tl_R f a) (g : Nat → Int32) {t : Nat} (ht : t < 4) : ∀ n, n ≤ 64 → tc_st (tc_cor (f t) g) n = tm_st a (nI t) n := by
  intro n
  induction n with
  | zero => intro _; rfl
  | succ n ih =>
    intro hn
    have hn6 : n < 64 := by omega
    have hk := tl_cnt_le (fun x => !(tl_bit (f t) x ^^ tl_bit (f t) (x ^^^ n))) 64
    rw [tc_st_s, tm_st_s, ih (by omega), tl_cl hn6, tl_auto hR g ht hn6, tl_sm hR ht hn6 64 (by decide)]
    have d := tl_d11 _ (show tl_cnt (fun x => !(tl_bit (f t) x ^^ tl_bit (f t) (x ^^^ n))) 64 < 65 by omega)
    generalize nI (tl_cnt (fun x => !(tl_bit (f t) x ^^ tl_bit (f t) (x ^^^ n))) 64) = z at d
    by_cases h0 : z = 0
    · rw [if_pos (d.mpr (Or.inl h0)), if_pos h0]
    · rw [if_neg h0]
      by_cases h1 : z = 64
      · rw [if_pos (d.mpr (Or.inr h1)), if_pos h1]
      · rw [if_neg (fun q => (d.mp q).elim h0 h1), if_neg h1]
theorem tl_vars {f : Nat → Int64} {a : Nat → Int32} (hR : tl_R f a) {t : Nat} (ht : t < 4) : ∀ n, n ≤ 6 → tc_va (f t) n = tm_va a (nI t) n := by
  intro n
  induction n with
  | zero => intro _; rfl
  | succ n ih =>
    intro hn
    have hn6 : n < 6 := by omega
    have hp := tl_p2lt n hn6
    have hk := tl_cnt_le (fun x => !(tl_bit (f t) x ^^ tl_bit (f t) (x ^^^ 2 ^ n))) 64
    rw [tc_va_s, tm_va_s, ih (by omega), tl_p2 n hn6, tl_sm hR ht hp 64 (by decide)]
    have key : lg_cmp (tc_mv (f t) (nI (2 ^ n)) 6) (f t) = 0 ↔ (64 : Int32) ≤ nI (tl_cnt (fun x => !(tl_bit (f t) x ^^ tl_bit (f t) (x ^^^ 2 ^ n))) 64) := by
      rw [lg_cmp_eq]
      have e : ((64 : Int32) ≤ nI (tl_cnt (fun x => !(tl_bit (f t) x ^^ tl_bit (f t) (x ^^^ 2 ^ n))) 64)) ↔ tl_cnt (fun x => !(tl_bit (f t) x ^^ tl_bit (f t) (x ^^^ 2 ^ n))) 64 = 64 := by
        constructor
        · intro q
          have q : nI 64 ≤ nI (tl_cnt (fun x => !(tl_bit (f t) x ^^ tl_bit (f t) (x ^^^ 2 ^ n))) 64) := q
          have := (nI_leI (by decide) (by omega)).mp q
          omega
        · intro q
          rw [q]
          exact nI_le (a := 64) (b := 64) (Nat.le_refl _) (by decide)
      rw [e, tl_cnt_all]
      constructor
      · intro q x hx
        have r := tl_mv (f t) hp hx
        rw [q] at r
        show (!(tl_bit (f t) x ^^ tl_bit (f t) (x ^^^ 2 ^ n))) = true
        rw [← r]
        cases tl_bit (f t) x <;> rfl
      · intro q
        apply tl_ext
        intro x hx
        rw [tl_mv (f t) hp hx]
        have r : (!(tl_bit (f t) x ^^ tl_bit (f t) (x ^^^ 2 ^ n))) = true := q x hx
        revert r
        cases tl_bit (f t) x <;> cases tl_bit (f t) (x ^^^ 2 ^ n) <;> decide
    by_cases c : lg_cmp (tc_mv (f t) (nI (2 ^ n)) 6) (f t) = 0
    · rw [if_pos c, if_pos (key.mp c)]
    · rw [if_neg c, if_neg (fun q => c (key.mpr q))]
end
section
/-! the answers agree, and the relation is kept: one row for each of the sixteen calls -/
set_option maxRecDepth 100000
theorem ta_put {f : Nat → Int64} {g a d : Nat → Int32} (hR : tl_R f a) {p1 p2 p3 r1 r2 : Int32} {u1 : (Nat → Int64) × (Nat → Int32)} {u2 : (Nat → Int32) × (Nat → Int32)} (h1 : ((vp_in p1 4 ∧ vp_in p2 64 ∧ ¬ p3 < 0 ∧ p3 ≤ (1 : Int32)) → r1 = tc_dg (f p1.toNatClampNeg) p2 ∧ u1 = (tc_put f p1 p2 p3, g)) ∧ (¬ (vp_in p1 4 ∧ vp_in p2 64 ∧ ¬ p3 < 0 ∧ p3 ≤ (1 : Int32)) → r1 = (-1000 : Int32) ∧ u1 = (f, g))) (h2 : ((vp_in p1 4 ∧ vp_in p2 64 ∧ ¬ p3 < 0 ∧ p3 ≤ (1 : Int32)) → r2 = a (((64 : Int32) * p1) + p2).toNatClampNeg ∧ u2 = (upd a (((64 : Int32) * p1) + p2).toNatClampNeg p3, d)) ∧ (¬ (vp_in p1 4 ∧ vp_in p2 64 ∧ ¬ p3 < 0 ∧ p3 ≤ (1 : Int32)) → r2 = (-1000 : Int32) ∧ u2 = (a, d))) : r1 = r2 ∧ tl_R u1.1 u2.1 := by
  by_cases v : vp_in p1 4 ∧ vp_in p2 64 ∧ ¬ p3 < 0 ∧ p3 ≤ (1 : Int32)
  · have h1 := h1.1 v
    have h2 := h2.1 v
    obtain ⟨v1, v2, v3, v4⟩ := v
    obtain ⟨t, ht, rfl⟩ := vp_in_of v1 (by decide)
    obtain ⟨x, hx, rfl⟩ := vp_in_of v2 (by decide)
    obtain ⟨c, rfl⟩ := tl_01 v3 v4
    obtain ⟨q1, q2⟩ := tl_put hR ht hx c
    refine ⟨by rw [h1.1, h2.1, q1], ?_⟩
    rw [h1.2, h2.2]
    exact q2
  · have h1 := h1.2 v
    have h2 := h2.2 v
    refine ⟨by rw [h1.1, h2.1], ?_⟩
    rw [h1.2, h2.2]
    exact hR
theorem ta_turnForm {f : Nat → Int64} {g a d : Nat → Int32} (hR : tl_R f a) {p1 p2 r1 r2 : Int32} {u1 : (Nat → Int64) × (Nat → Int32)} {u2 : (Nat → Int32) × (Nat → Int32)} (h1 : ((vp_in p1 4 ∧ vp_in p2 64) → r1 = tc_ones (tc_turn f p1 p2 p1.toNatClampNeg) ∧ u1 = (tc_turn f p1 p2, g)) ∧ (¬ (vp_in p1 4 ∧ vp_in p2 64) → r1 = (-1000 : Int32) ∧ u1 = (f, g))) (h2 : ((vp_in p1 4 ∧ vp_in p2 64) → r2 = tm_co (tm_tf a p1 p2 64) p1 64 ∧ u2 = (tm_tf a p1 p2 64, d)) ∧ (¬ (vp_in p1 4 ∧ vp_in p2 64) → r2 = (-1000 : Int32) ∧ u2 = (a, d))) : r1 = r2 ∧ tl_R u1.1 u2.1 := by
  by_cases v : vp_in p1 4 ∧ vp_in p2 64
  · have h1 := h1.1 v
    have h2 := h2.1 v
    obtain ⟨v1, v2⟩ := v
    obtain ⟨t, ht, rfl⟩ := vp_in_of v1 (by decide)
    obtain ⟨u, hu, rfl⟩ := vp_in_of v2 (by decide)
    have q := tl_turn hR ht hu
    refine ⟨by rw [h1.1, h2.1]; exact tl_same q ht, ?_⟩
    rw [h1.2, h2.2]
    exact q
  · have h1 := h1.2 v
    have h2 := h2.2 v
    refine ⟨by rw [h1.1, h2.1], ?_⟩
    rw [h1.2, h2.2]
    exact hR
theorem ta_combine {f : Nat → Int64} {g a d : Nat → Int32} (hR : tl_R f a) {p1 p2 p3 p4 r1 r2 : Int32} {u1 : (Nat → Int64) × (Nat → Int32)} {u2 : (Nat → Int32) × (Nat → Int32)} (h1 : ((vp_in p1 4 ∧ ¬ p2 < 0 ∧ ¬ (3 : Int32) < p2 ∧ vp_in p3 4 ∧ vp_in p4 4) → r1 = tc_ones (tc_comb f p1 p2 p3 p4 p1.toNatClampNeg) ∧ u1 = (tc_comb f p1 p2 p3 p4, g)) ∧ (¬ (vp_in p1 4 ∧ ¬ p2 < 0 ∧ ¬ (3 : Int32) < p2 ∧ vp_in p3 4 ∧ vp_in p4 4) → r1 = (-1000 : Int32) ∧ u1 = (f, g))) (h2 : ((vp_in p1 4 ∧ ¬ p2 < 0 ∧ ¬ (3 : Int32) < p2 ∧ vp_in p3 4 ∧ vp_in p4 4) → r2 = tm_co (tm_tk a (tm_cb a d p2 p3 p4 64) p1 64) p1 64 ∧ u2 = (tm_tk a (tm_cb a d p2 p3 p4 64) p1 64, tm_cb a d p2 p3 p4 64)) ∧ (¬ (vp_in p1 4 ∧ ¬ p2 < 0 ∧ ¬ (3 : Int32) < p2 ∧ vp_in p3 4 ∧ vp_in p4 4) → r2 = (-1000 : Int32) ∧ u2 = (a, d))) : r1 = r2 ∧ tl_R u1.1 u2.1 := by
  by_cases v : vp_in p1 4 ∧ ¬ p2 < 0 ∧ ¬ (3 : Int32) < p2 ∧ vp_in p3 4 ∧ vp_in p4 4
  · have h1 := h1.1 v
    have h2 := h2.1 v
    obtain ⟨v1, v2, v3, v4, v5⟩ := v
    obtain ⟨t, ht, rfl⟩ := vp_in_of v1 (by decide)
    obtain ⟨r, hr, rfl⟩ := vp_in_of v4 (by decide)
    obtain ⟨s, hs, rfl⟩ := vp_in_of v5 (by decide)
    have q := tl_comb hR d p2 ht hr hs
    refine ⟨by rw [h1.1, h2.1]; exact tl_same q ht, ?_⟩
    rw [h1.2, h2.2]
    exact q
  · have h1 := h1.2 v
    have h2 := h2.2 v
    refine ⟨by rw [h1.1, h2.1], ?_⟩
    rw [h1.2, h2.2]
    exact hR
theorem ta_shift {f : Nat → Int64} {g a d : Nat → Int32} (hR : tl_R f a) {p1 p2 p3 p4 r1 r2 : Int32} {u1 : (Nat → Int64) × (Nat → Int32)} {u2 : (Nat → Int32) × (Nat → Int32)} (h1 : ((vp_in p1 4 ∧ vp_in p2 4 ∧ vp_in p3 64 ∧ vp_in p4 64) → r1 = tc_ones (tc_shift f p1 p2 p3 p4 p1.toNatClampNeg) ∧ u1 = (tc_shift f p1 p2 p3 p4, g)) ∧ (¬ (vp_in p1 4 ∧ vp_in p2 4 ∧ vp_in p3 64 ∧ vp_in p4 64) → r1 = (-1000 : Int32) ∧ u1 = (f, g))) (h2 : ((vp_in p1 4 ∧ vp_in p2 4 ∧ vp_in p3 64 ∧ vp_in p4 64) → r2 = tm_co (tm_tk a (tm_sf a d p2 p3 p4 64) p1 64) p1 64 ∧ u2 = (tm_tk a (tm_sf a d p2 p3 p4 64) p1 64, tm_sf a d p2 p3 p4 64)) ∧ (¬ (vp_in p1 4 ∧ vp_in p2 4 ∧ vp_in p3 64 ∧ vp_in p4 64) → r2 = (-1000 : Int32) ∧ u2 = (a, d))) : r1 = r2 ∧ tl_R u1.1 u2.1 := by
  by_cases v : vp_in p1 4 ∧ vp_in p2 4 ∧ vp_in p3 64 ∧ vp_in p4 64
  · have h1 := h1.1 v
    have h2 := h2.1 v
    obtain ⟨v1, v2, v3, v4⟩ := v
    obtain ⟨t, ht, rfl⟩ := vp_in_of v1 (by decide)
    obtain ⟨r, hr, rfl⟩ := vp_in_of v2 (by decide)
    obtain ⟨y, hy, rfl⟩ := vp_in_of v3 (by decide)
    obtain ⟨z, hz, rfl⟩ := vp_in_of v4 (by decide)
    have q := tl_shft hR d ht hr hy hz
    refine ⟨by rw [h1.1, h2.1]; exact tl_same q ht, ?_⟩
    rw [h1.2, h2.2]
    exact q
  · have h1 := h1.2 v
    have h2 := h2.2 v
    refine ⟨by rw [h1.1, h2.1], ?_⟩
    rw [h1.2, h2.2]
    exact hR
theorem ta_value {f : Nat → Int64} {g a d : Nat → Int32} (hR : tl_R f a) {p1 p2 r1 r2 : Int32} (h1 : ((vp_in p1 4 ∧ vp_in p2 64) → r1 = tc_dg (f p1.toNatClampNeg) p2) ∧ (¬ (vp_in p1 4 ∧ vp_in p2 64) → r1 = (-1000 : Int32))) (h2 : ((vp_in p1 4 ∧ vp_in p2 64) → r2 = a (((64 : Int32) * p1) + p2).toNatClampNeg) ∧ (¬ (vp_in p1 4 ∧ vp_in p2 64) → r2 = (-1000 : Int32))) : r1 = r2 ∧ tl_R f a := by
  by_cases v : vp_in p1 4 ∧ vp_in p2 64
  · have h1 := h1.1 v
    have h2 := h2.1 v
    obtain ⟨v1, v2⟩ := v
    obtain ⟨t, ht, rfl⟩ := vp_in_of v1 (by decide)
    obtain ⟨x, hx, rfl⟩ := vp_in_of v2 (by decide)
    rw [tl_cl (show t < 64 by omega), tl_dg hx] at h1
    rw [tl_ix ht hx, hR t ht x hx] at h2
    exact ⟨by rw [h1, h2], hR⟩
  · have h1 := h1.2 v
    have h2 := h2.2 v
    exact ⟨by rw [h1, h2], hR⟩
theorem ta_ones {f : Nat → Int64} {g a d : Nat → Int32} (hR : tl_R f a) {p1 r1 r2 : Int32} (h1 : ((vp_in p1 4) → r1 = tc_ones (f p1.toNatClampNeg)) ∧ (¬ (vp_in p1 4) → r1 = (-1000 : Int32))) (h2 : ((vp_in p1 4) → r2 = tm_co a p1 64) ∧ (¬ (vp_in p1 4) → r2 = (-1000 : Int32))) : r1 = r2 ∧ tl_R f a := by
  by_cases v : vp_in p1 4
  · have h1 := h1.1 v
    have h2 := h2.1 v
    have v1 := v
    obtain ⟨t, ht, rfl⟩ := vp_in_of v1 (by decide)
    exact ⟨by rw [h1, h2]; exact tl_same hR ht, hR⟩
  · have h1 := h1.2 v
    have h2 := h2.2 v
    exact ⟨by rw [h1, h2], hR⟩
theorem ta_form {f : Nat → Int64} {g a d : Nat → Int32} (hR : tl_R f a) {p1 p2 r1 r2 : Int32} (h1 : ((vp_in p1 4 ∧ vp_in p2 64) → r1 = tc_dg (tc_tr (f p1.toNatClampNeg) 6) p2) ∧ (¬ (vp_in p1 4 ∧ vp_in p2 64) → r1 = (-1000 : Int32))) (h2 : ((vp_in p1 4 ∧ vp_in p2 64) → r2 = tm_fa a p1 p2 64) ∧ (¬ (vp_in p1 4 ∧ vp_in p2 64) → r2 = (-1000 : Int32))) : r1 = r2 ∧ tl_R f a := by
  by_cases v : vp_in p1 4 ∧ vp_in p2 64
  · have h1 := h1.1 v
    have h2 := h2.1 v
    obtain ⟨v1, v2⟩ := v
    obtain ⟨t, ht, rfl⟩ := vp_in_of v1 (by decide)
    obtain ⟨u, hu, rfl⟩ := vp_in_of v2 (by decide)
    rw [tl_cl (show t < 64 by omega), tl_form hR ht hu] at h1
    exact ⟨by rw [h1, h2], hR⟩
  · have h1 := h1.2 v
    have h2 := h2.2 v
    exact ⟨by rw [h1, h2], hR⟩
theorem ta_degree {f : Nat → Int64} {g a d : Nat → Int32} (hR : tl_R f a) {p1 r1 r2 : Int32} (h1 : ((vp_in p1 4) → r1 = tc_deg (tc_tr (f p1.toNatClampNeg) 6) 64) ∧ (¬ (vp_in p1 4) → r1 = (-1000 : Int32))) (h2 : ((vp_in p1 4) → r2 = tm_de a p1 64) ∧ (¬ (vp_in p1 4) → r2 = (-1000 : Int32))) : r1 = r2 ∧ tl_R f a := by
  by_cases v : vp_in p1 4
  · have h1 := h1.1 v
    have h2 := h2.1 v
    have v1 := v
    obtain ⟨t, ht, rfl⟩ := vp_in_of v1 (by decide)
    rw [tl_cl (show t < 64 by omega), tl_deg hR ht 64 (by decide)] at h1
    exact ⟨by rw [h1, h2], hR⟩
  · have h1 := h1.2 v
    have h2 := h2.2 v
    exact ⟨by rw [h1, h2], hR⟩
theorem ta_spectrum {f : Nat → Int64} {g a d : Nat → Int32} (hR : tl_R f a) {p1 p2 r1 r2 : Int32} {u1 : (Nat → Int64) × (Nat → Int32)} (h1 : ((vp_in p1 4 ∧ vp_in p2 64) → r1 = tc_spec (f p1.toNatClampNeg) g p2.toNatClampNeg ∧ u1 = (f, tc_spec (f p1.toNatClampNeg) g)) ∧ (¬ (vp_in p1 4 ∧ vp_in p2 64) → r1 = (-1000 : Int32) ∧ u1 = (f, g))) (h2 : ((vp_in p1 4 ∧ vp_in p2 64) → r2 = tm_sa a p1 p2 64) ∧ (¬ (vp_in p1 4 ∧ vp_in p2 64) → r2 = (-1000 : Int32))) : r1 = r2 ∧ tl_R u1.1 a := by
  by_cases v : vp_in p1 4 ∧ vp_in p2 64
  · have h1 := h1.1 v
    have h2 := h2.1 v
    obtain ⟨v1, v2⟩ := v
    obtain ⟨t, ht, rfl⟩ := vp_in_of v1 (by decide)
    obtain ⟨u, hu, rfl⟩ := vp_in_of v2 (by decide)
    obtain ⟨h1, h3⟩ := h1
    rw [tl_cl (show t < 64 by omega)] at h1
    rw [tl_cl hu, tl_spectrum hR g ht hu] at h1
    refine ⟨by rw [h1, h2], ?_⟩
    rw [h3]
    exact hR
  · have h1 := h1.2 v
    have h2 := h2.2 v
    refine ⟨by rw [h1.1, h2], ?_⟩
    rw [h1.2]
    exact hR
theorem ta_distance {f : Nat → Int64} {g a d : Nat → Int32} (hR : tl_R f a) {p1 r1 r2 : Int32} {u1 : (Nat → Int64) × (Nat → Int32)} (h1 : ((vp_in p1 4) → r1 = (32 : Int32) - tc_mag ((tc_spec (f p1.toNatClampNeg) g) (tc_pk (tc_spec (f p1.toNatClampNeg) g) 63).toNatClampNeg) / (2 : Int32) ∧ u1 = (f, tc_spec (f p1.toNatClampNeg) g)) ∧ (¬ (vp_in p1 4) → r1 = (-1000 : Int32) ∧ u1 = (f, g))) (h2 : ((vp_in p1 4) → r2 = tm_di a p1 64) ∧ (¬ (vp_in p1 4) → r2 = (-1000 : Int32))) : r1 = r2 ∧ tl_R u1.1 a := by
  by_cases v : vp_in p1 4
  · have h1 := h1.1 v
    have h2 := h2.1 v
    have v1 := v
    obtain ⟨t, ht, rfl⟩ := vp_in_of v1 (by decide)
    obtain ⟨h1, h3⟩ := h1
    rw [tl_cl (show t < 64 by omega)] at h1
    rw [tl_dist hR g ht] at h1
    refine ⟨by rw [h1, h2], ?_⟩
    rw [h3]
    exact hR
  · have h1 := h1.2 v
    have h2 := h2.2 v
    refine ⟨by rw [h1.1, h2], ?_⟩
    rw [h1.2]
    exact hR
theorem ta_nearest {f : Nat → Int64} {g a d : Nat → Int32} (hR : tl_R f a) {p1 r1 r2 : Int32} {u1 : (Nat → Int64) × (Nat → Int32)} (h1 : ((vp_in p1 4) → r1 = tc_pk (tc_spec (f p1.toNatClampNeg) g) 63 ∧ u1 = (f, tc_spec (f p1.toNatClampNeg) g)) ∧ (¬ (vp_in p1 4) → r1 = (-1000 : Int32) ∧ u1 = (f, g))) (h2 : ((vp_in p1 4) → r2 = tm_ne a p1 63) ∧ (¬ (vp_in p1 4) → r2 = (-1000 : Int32))) : r1 = r2 ∧ tl_R u1.1 a := by
  by_cases v : vp_in p1 4
  · have h1 := h1.1 v
    have h2 := h2.1 v
    have v1 := v
    obtain ⟨t, ht, rfl⟩ := vp_in_of v1 (by decide)
    obtain ⟨h1, h3⟩ := h1
    rw [tl_cl (show t < 64 by omega)] at h1
    rw [tl_nearest hR g ht] at h1
    refine ⟨by rw [h1, h2], ?_⟩
    rw [h3]
    exact hR
  · have h1 := h1.2 v
    have h2 := h2.2 v
    refine ⟨by rw [h1.1, h2], ?_⟩
    rw [h1.2]
    exact hR
theorem ta_immunity {f : Nat → Int64} {g a d : Nat → Int32} (hR : tl_R f a) {p1 r1 r2 : Int32} {u1 : (Nat → Int64) × (Nat → Int32)} (h1 : ((vp_in p1 4) → r1 = tc_im (tc_spec (f p1.toNatClampNeg) g) 63 - (1 : Int32) ∧ u1 = (f, tc_spec (f p1.toNatClampNeg) g)) ∧ (¬ (vp_in p1 4) → r1 = (-1000 : Int32) ∧ u1 = (f, g))) (h2 : ((vp_in p1 4) → r2 = tm_im a p1 63 - (1 : Int32)) ∧ (¬ (vp_in p1 4) → r2 = (-1000 : Int32))) : r1 = r2 ∧ tl_R u1.1 a := by
  by_cases v : vp_in p1 4
  · have h1 := h1.1 v
    have h2 := h2.1 v
    have v1 := v
    obtain ⟨t, ht, rfl⟩ := vp_in_of v1 (by decide)
    obtain ⟨h1, h3⟩ := h1
    rw [tl_cl (show t < 64 by omega)] at h1
    rw [tl_imm hR g ht 63 (by decide)] at h1
    refine ⟨by rw [h1, h2], ?_⟩
    rw [h3]
    exact hR
  · have h1 := h1.2 v
    have h2 := h2.2 v
    refine ⟨by rw [h1.1, h2], ?_⟩
    rw [h1.2]
    exact hR
theorem ta_autocorrelation {f : Nat → Int64} {g a d : Nat → Int32} (hR : tl_R f a) {p1 p2 r1 r2 : Int32} {u1 : (Nat → Int64) × (Nat → Int32)} (h1 : ((vp_in p1 4 ∧ vp_in p2 64) → r1 = tc_cor (f p1.toNatClampNeg) g p2.toNatClampNeg ∧ u1 = (f, tc_cor (f p1.toNatClampNeg) g)) ∧ (¬ (vp_in p1 4 ∧ vp_in p2 64) → r1 = (-1000 : Int32) ∧ u1 = (f, g))) (h2 : ((vp_in p1 4 ∧ vp_in p2 64) → r2 = (2 : Int32) * tm_sm a p1 p2 64 - (64 : Int32)) ∧ (¬ (vp_in p1 4 ∧ vp_in p2 64) → r2 = (-1000 : Int32))) : r1 = r2 ∧ tl_R u1.1 a := by
  by_cases v : vp_in p1 4 ∧ vp_in p2 64
  · have h1 := h1.1 v
    have h2 := h2.1 v
    obtain ⟨v1, v2⟩ := v
    obtain ⟨t, ht, rfl⟩ := vp_in_of v1 (by decide)
    obtain ⟨u, hu, rfl⟩ := vp_in_of v2 (by decide)
    obtain ⟨h1, h3⟩ := h1
    rw [tl_cl (show t < 64 by omega)] at h1
    rw [tl_cl hu, tl_auto hR g ht hu] at h1
    refine ⟨by rw [h1, h2], ?_⟩
    rw [h3]
    exact hR
  · have h1 := h1.2 v
    have h2 := h2.2 v
    refine ⟨by rw [h1.1, h2], ?_⟩
    rw [h1.2]
    exact hR
theorem ta_variables {f : Nat → Int64} {g a d : Nat → Int32} (hR : tl_R f a) {p1 r1 r2 : Int32} (h1 : ((vp_in p1 4) → r1 = tc_va (f p1.toNatClampNeg) 6) ∧ (¬ (vp_in p1 4) → r1 = (-1000 : Int32))) (h2 : ((vp_in p1 4) → r2 = tm_va a p1 6) ∧ (¬ (vp_in p1 4) → r2 = (-1000 : Int32))) : r1 = r2 ∧ tl_R f a := by
  by_cases v : vp_in p1 4
  · have h1 := h1.1 v
    have h2 := h2.1 v
    have v1 := v
    obtain ⟨t, ht, rfl⟩ := vp_in_of v1 (by decide)
    rw [tl_cl (show t < 64 by omega), tl_vars hR ht 6 (by decide)] at h1
    exact ⟨by rw [h1, h2], hR⟩
  · have h1 := h1.2 v
    have h2 := h2.2 v
    exact ⟨by rw [h1, h2], hR⟩
theorem ta_structures {f : Nat → Int64} {g a d : Nat → Int32} (hR : tl_R f a) {p1 r1 r2 : Int32} {u1 : (Nat → Int64) × (Nat → Int32)} (h1 : ((vp_in p1 4) → r1 = tc_st (tc_cor (f p1.toNatClampNeg) g) 64 ∧ u1 = (f, tc_cor (f p1.toNatClampNeg) g)) ∧ (¬ (vp_in p1 4) → r1 = (-1000 : Int32) ∧ u1 = (f, g))) (h2 : ((vp_in p1 4) → r2 = tm_st a p1 64) ∧ (¬ (vp_in p1 4) → r2 = (-1000 : Int32))) : r1 = r2 ∧ tl_R u1.1 a := by
  by_cases v : vp_in p1 4
  · have h1 := h1.1 v
    have h2 := h2.1 v
    have v1 := v
    obtain ⟨t, ht, rfl⟩ := vp_in_of v1 (by decide)
    obtain ⟨h1, h3⟩ := h1
    rw [tl_cl (show t < 64 by omega)] at h1
    rw [tl_struct hR g ht 64 (by decide)] at h1
    refine ⟨by rw [h1, h2], ?_⟩
    rw [h3]
    exact hR
  · have h1 := h1.2 v
    have h2 := h2.2 v
    refine ⟨by rw [h1.1, h2], ?_⟩
    rw [h1.2]
    exact hR
theorem ta_shifted {f : Nat → Int64} {g a d : Nat → Int32} (hR : tl_R f a) {p1 p2 r1 r2 : Int32} (h1 : ((vp_in p1 4 ∧ vp_in p2 4) → tw_fnd (tc_hit (f p1.toNatClampNeg) (f p2.toNatClampNeg)) 64 r1) ∧ (¬ (vp_in p1 4 ∧ vp_in p2 4) → r1 = 0)) (h2 : ((vp_in p1 4 ∧ vp_in p2 4) → tw_fnd (tm_hit a p1 p2) 4096 r2) ∧ (¬ (vp_in p1 4 ∧ vp_in p2 4) → r2 = 0)) : r1 = r2 ∧ tl_R f a := by
  by_cases v : vp_in p1 4 ∧ vp_in p2 4
  · have h1 := h1.1 v
    have h2 := h2.1 v
    obtain ⟨v1, v2⟩ := v
    obtain ⟨t, ht, rfl⟩ := vp_in_of v1 (by decide)
    obtain ⟨r, hr, rfl⟩ := vp_in_of v2 (by decide)
    rw [tl_cl (show t < 64 by omega), tl_cl (show r < 64 by omega)] at h1
    exact ⟨tl_shifted hR ht hr h1 h2, hR⟩
  · have h1 := h1.2 v
    have h2 := h2.2 v
    exact ⟨by rw [h1, h2], hR⟩
end
section
/-! the law's own entry -/
set_option maxRecDepth 100000
abbrev cL_law : ByteArray := code
theorem dL_law_0 : decode cL_law 0 = .ok (.new 7, 3) := by decide +kernel
theorem dL_law_3 : decode cL_law 3 = .ok (.dup, 1) := by decide +kernel
theorem dL_law_4 : decode cL_law 4 = .ok (.invokespecial 9, 3) := by decide +kernel
theorem dL_law_7 : decode cL_law 7 = .ok (.astore_n 1, 1) := by decide +kernel
theorem dL_law_8 : decode cL_law 8 = .ok (.new 10, 3) := by decide +kernel
theorem dL_law_11 : decode cL_law 11 = .ok (.dup, 1) := by decide +kernel
theorem dL_law_12 : decode cL_law 12 = .ok (.invokespecial 12, 3) := by decide +kernel
theorem dL_law_15 : decode cL_law 15 = .ok (.astore_n 2, 1) := by decide +kernel
theorem dL_law_16 : decode cL_law 16 = .ok (.iconst 0, 1) := by decide +kernel
theorem dL_law_17 : decode cL_law 17 = .ok (.istore_n 3, 1) := by decide +kernel
theorem dL_law_18 : decode cL_law 18 = .ok (.iload_n 3, 1) := by decide +kernel
theorem dL_law_19 : decode cL_law 19 = .ok (.aload_n 0, 1) := by decide +kernel
theorem dL_law_20 : decode cL_law 20 = .ok (.arraylength, 1) := by decide +kernel
theorem dL_law_21 : decode cL_law 21 = .ok (.iconst 5, 1) := by decide +kernel
theorem dL_law_22 : decode cL_law 22 = .ok (.isub, 1) := by decide +kernel
theorem dL_law_23 : decode cL_law 23 = .ok (.if_icmp .gt 603, 3) := by decide +kernel
theorem dL_law_26 : decode cL_law 26 = .ok (.aload_n 0, 1) := by decide +kernel
theorem dL_law_27 : decode cL_law 27 = .ok (.iload_n 3, 1) := by decide +kernel
theorem dL_law_28 : decode cL_law 28 = .ok (.iaload, 1) := by decide +kernel
theorem dL_law_29 : decode cL_law 29 = .ok (.bipush 15, 2) := by decide +kernel
theorem dL_law_31 : decode cL_law 31 = .ok (.iand, 1) := by decide +kernel
theorem dL_law_32 : decode cL_law 32 = .ok (.tableswitch 588 0 15 #[80, 123, 156, 209, 262, 295, 318, 351, 374, 407, 430, 453, 476, 509, 532, 555], 80) := by decide +kernel
theorem dL_law_112 : decode cL_law 112 = .ok (.aload_n 1, 1) := by decide +kernel
theorem dL_law_113 : decode cL_law 113 = .ok (.aload_n 0, 1) := by decide +kernel
theorem dL_law_114 : decode cL_law 114 = .ok (.iload_n 3, 1) := by decide +kernel
theorem dL_law_115 : decode cL_law 115 = .ok (.iconst 1, 1) := by decide +kernel
theorem dL_law_116 : decode cL_law 116 = .ok (.iadd, 1) := by decide +kernel
theorem dL_law_117 : decode cL_law 117 = .ok (.iaload, 1) := by decide +kernel
theorem dL_law_118 : decode cL_law 118 = .ok (.aload_n 0, 1) := by decide +kernel
theorem dL_law_119 : decode cL_law 119 = .ok (.iload_n 3, 1) := by decide +kernel
theorem dL_law_120 : decode cL_law 120 = .ok (.iconst 2, 1) := by decide +kernel
theorem dL_law_121 : decode cL_law 121 = .ok (.iadd, 1) := by decide +kernel
theorem dL_law_122 : decode cL_law 122 = .ok (.iaload, 1) := by decide +kernel
theorem dL_law_123 : decode cL_law 123 = .ok (.aload_n 0, 1) := by decide +kernel
theorem dL_law_124 : decode cL_law 124 = .ok (.iload_n 3, 1) := by decide +kernel
theorem dL_law_125 : decode cL_law 125 = .ok (.iconst 3, 1) := by decide +kernel
theorem dL_law_126 : decode cL_law 126 = .ok (.iadd, 1) := by decide +kernel
theorem dL_law_127 : decode cL_law 127 = .ok (.iaload, 1) := by decide +kernel
theorem dL_law_128 : decode cL_law 128 = .ok (.invokevirtual 13, 3) := by decide +kernel
theorem dL_law_131 : decode cL_law 131 = .ok (.aload_n 2, 1) := by decide +kernel
theorem dL_law_132 : decode cL_law 132 = .ok (.aload_n 0, 1) := by decide +kernel
theorem dL_law_133 : decode cL_law 133 = .ok (.iload_n 3, 1) := by decide +kernel
theorem dL_law_134 : decode cL_law 134 = .ok (.iconst 1, 1) := by decide +kernel
theorem dL_law_135 : decode cL_law 135 = .ok (.iadd, 1) := by decide +kernel
theorem dL_law_136 : decode cL_law 136 = .ok (.iaload, 1) := by decide +kernel
theorem dL_law_137 : decode cL_law 137 = .ok (.aload_n 0, 1) := by decide +kernel
theorem dL_law_138 : decode cL_law 138 = .ok (.iload_n 3, 1) := by decide +kernel
theorem dL_law_139 : decode cL_law 139 = .ok (.iconst 2, 1) := by decide +kernel
theorem dL_law_140 : decode cL_law 140 = .ok (.iadd, 1) := by decide +kernel
theorem dL_law_141 : decode cL_law 141 = .ok (.iaload, 1) := by decide +kernel
theorem dL_law_142 : decode cL_law 142 = .ok (.aload_n 0, 1) := by decide +kernel
theorem dL_law_143 : decode cL_law 143 = .ok (.iload_n 3, 1) := by decide +kernel
theorem dL_law_144 : decode cL_law 144 = .ok (.iconst 3, 1) := by decide +kernel
theorem dL_law_145 : decode cL_law 145 = .ok (.iadd, 1) := by decide +kernel
theorem dL_law_146 : decode cL_law 146 = .ok (.iaload, 1) := by decide +kernel
theorem dL_law_147 : decode cL_law 147 = .ok (.invokevirtual 17, 3) := by decide +kernel
theorem dL_law_150 : decode cL_law 150 = .ok (.if_icmp .eq 470, 3) := by decide +kernel
theorem dL_law_153 : decode cL_law 153 = .ok (.iconst 0, 1) := by decide +kernel
theorem dL_law_154 : decode cL_law 154 = .ok (.ireturn, 1) := by decide +kernel
theorem dL_law_155 : decode cL_law 155 = .ok (.aload_n 1, 1) := by decide +kernel
theorem dL_law_156 : decode cL_law 156 = .ok (.aload_n 0, 1) := by decide +kernel
theorem dL_law_157 : decode cL_law 157 = .ok (.iload_n 3, 1) := by decide +kernel
theorem dL_law_158 : decode cL_law 158 = .ok (.iconst 1, 1) := by decide +kernel
theorem dL_law_159 : decode cL_law 159 = .ok (.iadd, 1) := by decide +kernel
theorem dL_law_160 : decode cL_law 160 = .ok (.iaload, 1) := by decide +kernel
theorem dL_law_161 : decode cL_law 161 = .ok (.aload_n 0, 1) := by decide +kernel
theorem dL_law_162 : decode cL_law 162 = .ok (.iload_n 3, 1) := by decide +kernel
theorem dL_law_163 : decode cL_law 163 = .ok (.iconst 2, 1) := by decide +kernel
theorem dL_law_164 : decode cL_law 164 = .ok (.iadd, 1) := by decide +kernel
theorem dL_law_165 : decode cL_law 165 = .ok (.iaload, 1) := by decide +kernel
theorem dL_law_166 : decode cL_law 166 = .ok (.invokevirtual 18, 3) := by decide +kernel
theorem dL_law_169 : decode cL_law 169 = .ok (.aload_n 2, 1) := by decide +kernel
theorem dL_law_170 : decode cL_law 170 = .ok (.aload_n 0, 1) := by decide +kernel
theorem dL_law_171 : decode cL_law 171 = .ok (.iload_n 3, 1) := by decide +kernel
theorem dL_law_172 : decode cL_law 172 = .ok (.iconst 1, 1) := by decide +kernel
theorem dL_law_173 : decode cL_law 173 = .ok (.iadd, 1) := by decide +kernel
theorem dL_law_174 : decode cL_law 174 = .ok (.iaload, 1) := by decide +kernel
theorem dL_law_175 : decode cL_law 175 = .ok (.aload_n 0, 1) := by decide +kernel
theorem dL_law_176 : decode cL_law 176 = .ok (.iload_n 3, 1) := by decide +kernel
theorem dL_law_177 : decode cL_law 177 = .ok (.iconst 2, 1) := by decide +kernel
theorem dL_law_178 : decode cL_law 178 = .ok (.iadd, 1) := by decide +kernel
theorem dL_law_179 : decode cL_law 179 = .ok (.iaload, 1) := by decide +kernel
theorem dL_law_180 : decode cL_law 180 = .ok (.invokevirtual 22, 3) := by decide +kernel
theorem dL_law_183 : decode cL_law 183 = .ok (.if_icmp .eq 437, 3) := by decide +kernel
theorem dL_law_186 : decode cL_law 186 = .ok (.iconst 0, 1) := by decide +kernel
theorem dL_law_187 : decode cL_law 187 = .ok (.ireturn, 1) := by decide +kernel
theorem dL_law_188 : decode cL_law 188 = .ok (.aload_n 1, 1) := by decide +kernel
theorem dL_law_189 : decode cL_law 189 = .ok (.aload_n 0, 1) := by decide +kernel
theorem dL_law_190 : decode cL_law 190 = .ok (.iload_n 3, 1) := by decide +kernel
theorem dL_law_191 : decode cL_law 191 = .ok (.iconst 1, 1) := by decide +kernel
theorem dL_law_192 : decode cL_law 192 = .ok (.iadd, 1) := by decide +kernel
theorem dL_law_193 : decode cL_law 193 = .ok (.iaload, 1) := by decide +kernel
theorem dL_law_194 : decode cL_law 194 = .ok (.aload_n 0, 1) := by decide +kernel
theorem dL_law_195 : decode cL_law 195 = .ok (.iload_n 3, 1) := by decide +kernel
theorem dL_law_196 : decode cL_law 196 = .ok (.iconst 2, 1) := by decide +kernel
theorem dL_law_197 : decode cL_law 197 = .ok (.iadd, 1) := by decide +kernel
theorem dL_law_198 : decode cL_law 198 = .ok (.iaload, 1) := by decide +kernel
theorem dL_law_199 : decode cL_law 199 = .ok (.aload_n 0, 1) := by decide +kernel
theorem dL_law_200 : decode cL_law 200 = .ok (.iload_n 3, 1) := by decide +kernel
theorem dL_law_201 : decode cL_law 201 = .ok (.iconst 3, 1) := by decide +kernel
theorem dL_law_202 : decode cL_law 202 = .ok (.iadd, 1) := by decide +kernel
theorem dL_law_203 : decode cL_law 203 = .ok (.iaload, 1) := by decide +kernel
theorem dL_law_204 : decode cL_law 204 = .ok (.aload_n 0, 1) := by decide +kernel
theorem dL_law_205 : decode cL_law 205 = .ok (.iload_n 3, 1) := by decide +kernel
theorem dL_law_206 : decode cL_law 206 = .ok (.iconst 4, 1) := by decide +kernel
theorem dL_law_207 : decode cL_law 207 = .ok (.iadd, 1) := by decide +kernel
theorem dL_law_208 : decode cL_law 208 = .ok (.iaload, 1) := by decide +kernel
theorem dL_law_209 : decode cL_law 209 = .ok (.invokevirtual 23, 3) := by decide +kernel
theorem dL_law_212 : decode cL_law 212 = .ok (.aload_n 2, 1) := by decide +kernel
theorem dL_law_213 : decode cL_law 213 = .ok (.aload_n 0, 1) := by decide +kernel
theorem dL_law_214 : decode cL_law 214 = .ok (.iload_n 3, 1) := by decide +kernel
theorem dL_law_215 : decode cL_law 215 = .ok (.iconst 1, 1) := by decide +kernel
theorem dL_law_216 : decode cL_law 216 = .ok (.iadd, 1) := by decide +kernel
theorem dL_law_217 : decode cL_law 217 = .ok (.iaload, 1) := by decide +kernel
theorem dL_law_218 : decode cL_law 218 = .ok (.aload_n 0, 1) := by decide +kernel
theorem dL_law_219 : decode cL_law 219 = .ok (.iload_n 3, 1) := by decide +kernel
theorem dL_law_220 : decode cL_law 220 = .ok (.iconst 2, 1) := by decide +kernel
theorem dL_law_221 : decode cL_law 221 = .ok (.iadd, 1) := by decide +kernel
theorem dL_law_222 : decode cL_law 222 = .ok (.iaload, 1) := by decide +kernel
theorem dL_law_223 : decode cL_law 223 = .ok (.aload_n 0, 1) := by decide +kernel
theorem dL_law_224 : decode cL_law 224 = .ok (.iload_n 3, 1) := by decide +kernel
theorem dL_law_225 : decode cL_law 225 = .ok (.iconst 3, 1) := by decide +kernel
theorem dL_law_226 : decode cL_law 226 = .ok (.iadd, 1) := by decide +kernel
theorem dL_law_227 : decode cL_law 227 = .ok (.iaload, 1) := by decide +kernel
theorem dL_law_228 : decode cL_law 228 = .ok (.aload_n 0, 1) := by decide +kernel
theorem dL_law_229 : decode cL_law 229 = .ok (.iload_n 3, 1) := by decide +kernel
theorem dL_law_230 : decode cL_law 230 = .ok (.iconst 4, 1) := by decide +kernel
theorem dL_law_231 : decode cL_law 231 = .ok (.iadd, 1) := by decide +kernel
theorem dL_law_232 : decode cL_law 232 = .ok (.iaload, 1) := by decide +kernel
theorem dL_law_233 : decode cL_law 233 = .ok (.invokevirtual 27, 3) := by decide +kernel
theorem dL_law_236 : decode cL_law 236 = .ok (.if_icmp .eq 384, 3) := by decide +kernel
theorem dL_law_239 : decode cL_law 239 = .ok (.iconst 0, 1) := by decide +kernel
theorem dL_law_240 : decode cL_law 240 = .ok (.ireturn, 1) := by decide +kernel
theorem dL_law_241 : decode cL_law 241 = .ok (.aload_n 1, 1) := by decide +kernel
theorem dL_law_242 : decode cL_law 242 = .ok (.aload_n 0, 1) := by decide +kernel
theorem dL_law_243 : decode cL_law 243 = .ok (.iload_n 3, 1) := by decide +kernel
theorem dL_law_244 : decode cL_law 244 = .ok (.iconst 1, 1) := by decide +kernel
theorem dL_law_245 : decode cL_law 245 = .ok (.iadd, 1) := by decide +kernel
theorem dL_law_246 : decode cL_law 246 = .ok (.iaload, 1) := by decide +kernel
theorem dL_law_247 : decode cL_law 247 = .ok (.aload_n 0, 1) := by decide +kernel
theorem dL_law_248 : decode cL_law 248 = .ok (.iload_n 3, 1) := by decide +kernel
theorem dL_law_249 : decode cL_law 249 = .ok (.iconst 2, 1) := by decide +kernel
theorem dL_law_250 : decode cL_law 250 = .ok (.iadd, 1) := by decide +kernel
theorem dL_law_251 : decode cL_law 251 = .ok (.iaload, 1) := by decide +kernel
theorem dL_law_252 : decode cL_law 252 = .ok (.aload_n 0, 1) := by decide +kernel
theorem dL_law_253 : decode cL_law 253 = .ok (.iload_n 3, 1) := by decide +kernel
theorem dL_law_254 : decode cL_law 254 = .ok (.iconst 3, 1) := by decide +kernel
theorem dL_law_255 : decode cL_law 255 = .ok (.iadd, 1) := by decide +kernel
theorem dL_law_256 : decode cL_law 256 = .ok (.iaload, 1) := by decide +kernel
theorem dL_law_257 : decode cL_law 257 = .ok (.aload_n 0, 1) := by decide +kernel
theorem dL_law_258 : decode cL_law 258 = .ok (.iload_n 3, 1) := by decide +kernel
theorem dL_law_259 : decode cL_law 259 = .ok (.iconst 4, 1) := by decide +kernel
theorem dL_law_260 : decode cL_law 260 = .ok (.iadd, 1) := by decide +kernel
theorem dL_law_261 : decode cL_law 261 = .ok (.iaload, 1) := by decide +kernel
theorem dL_law_262 : decode cL_law 262 = .ok (.invokevirtual 28, 3) := by decide +kernel
theorem dL_law_265 : decode cL_law 265 = .ok (.aload_n 2, 1) := by decide +kernel
theorem dL_law_266 : decode cL_law 266 = .ok (.aload_n 0, 1) := by decide +kernel
theorem dL_law_267 : decode cL_law 267 = .ok (.iload_n 3, 1) := by decide +kernel
theorem dL_law_268 : decode cL_law 268 = .ok (.iconst 1, 1) := by decide +kernel
theorem dL_law_269 : decode cL_law 269 = .ok (.iadd, 1) := by decide +kernel
theorem dL_law_270 : decode cL_law 270 = .ok (.iaload, 1) := by decide +kernel
theorem dL_law_271 : decode cL_law 271 = .ok (.aload_n 0, 1) := by decide +kernel
theorem dL_law_272 : decode cL_law 272 = .ok (.iload_n 3, 1) := by decide +kernel
theorem dL_law_273 : decode cL_law 273 = .ok (.iconst 2, 1) := by decide +kernel
theorem dL_law_274 : decode cL_law 274 = .ok (.iadd, 1) := by decide +kernel
theorem dL_law_275 : decode cL_law 275 = .ok (.iaload, 1) := by decide +kernel
theorem dL_law_276 : decode cL_law 276 = .ok (.aload_n 0, 1) := by decide +kernel
theorem dL_law_277 : decode cL_law 277 = .ok (.iload_n 3, 1) := by decide +kernel
theorem dL_law_278 : decode cL_law 278 = .ok (.iconst 3, 1) := by decide +kernel
theorem dL_law_279 : decode cL_law 279 = .ok (.iadd, 1) := by decide +kernel
theorem dL_law_280 : decode cL_law 280 = .ok (.iaload, 1) := by decide +kernel
theorem dL_law_281 : decode cL_law 281 = .ok (.aload_n 0, 1) := by decide +kernel
theorem dL_law_282 : decode cL_law 282 = .ok (.iload_n 3, 1) := by decide +kernel
theorem dL_law_283 : decode cL_law 283 = .ok (.iconst 4, 1) := by decide +kernel
theorem dL_law_284 : decode cL_law 284 = .ok (.iadd, 1) := by decide +kernel
theorem dL_law_285 : decode cL_law 285 = .ok (.iaload, 1) := by decide +kernel
theorem dL_law_286 : decode cL_law 286 = .ok (.invokevirtual 31, 3) := by decide +kernel
theorem dL_law_289 : decode cL_law 289 = .ok (.if_icmp .eq 331, 3) := by decide +kernel
theorem dL_law_292 : decode cL_law 292 = .ok (.iconst 0, 1) := by decide +kernel
theorem dL_law_293 : decode cL_law 293 = .ok (.ireturn, 1) := by decide +kernel
theorem dL_law_294 : decode cL_law 294 = .ok (.aload_n 1, 1) := by decide +kernel
theorem dL_law_295 : decode cL_law 295 = .ok (.aload_n 0, 1) := by decide +kernel
theorem dL_law_296 : decode cL_law 296 = .ok (.iload_n 3, 1) := by decide +kernel
theorem dL_law_297 : decode cL_law 297 = .ok (.iconst 1, 1) := by decide +kernel
theorem dL_law_298 : decode cL_law 298 = .ok (.iadd, 1) := by decide +kernel
theorem dL_law_299 : decode cL_law 299 = .ok (.iaload, 1) := by decide +kernel
theorem dL_law_300 : decode cL_law 300 = .ok (.aload_n 0, 1) := by decide +kernel
theorem dL_law_301 : decode cL_law 301 = .ok (.iload_n 3, 1) := by decide +kernel
theorem dL_law_302 : decode cL_law 302 = .ok (.iconst 2, 1) := by decide +kernel
theorem dL_law_303 : decode cL_law 303 = .ok (.iadd, 1) := by decide +kernel
theorem dL_law_304 : decode cL_law 304 = .ok (.iaload, 1) := by decide +kernel
theorem dL_law_305 : decode cL_law 305 = .ok (.invokevirtual 32, 3) := by decide +kernel
theorem dL_law_308 : decode cL_law 308 = .ok (.aload_n 2, 1) := by decide +kernel
theorem dL_law_309 : decode cL_law 309 = .ok (.aload_n 0, 1) := by decide +kernel
theorem dL_law_310 : decode cL_law 310 = .ok (.iload_n 3, 1) := by decide +kernel
theorem dL_law_311 : decode cL_law 311 = .ok (.iconst 1, 1) := by decide +kernel
theorem dL_law_312 : decode cL_law 312 = .ok (.iadd, 1) := by decide +kernel
theorem dL_law_313 : decode cL_law 313 = .ok (.iaload, 1) := by decide +kernel
theorem dL_law_314 : decode cL_law 314 = .ok (.aload_n 0, 1) := by decide +kernel
theorem dL_law_315 : decode cL_law 315 = .ok (.iload_n 3, 1) := by decide +kernel
theorem dL_law_316 : decode cL_law 316 = .ok (.iconst 2, 1) := by decide +kernel
theorem dL_law_317 : decode cL_law 317 = .ok (.iadd, 1) := by decide +kernel
theorem dL_law_318 : decode cL_law 318 = .ok (.iaload, 1) := by decide +kernel
theorem dL_law_319 : decode cL_law 319 = .ok (.invokevirtual 35, 3) := by decide +kernel
theorem dL_law_322 : decode cL_law 322 = .ok (.if_icmp .eq 298, 3) := by decide +kernel
theorem dL_law_325 : decode cL_law 325 = .ok (.iconst 0, 1) := by decide +kernel
theorem dL_law_326 : decode cL_law 326 = .ok (.ireturn, 1) := by decide +kernel
theorem dL_law_327 : decode cL_law 327 = .ok (.aload_n 1, 1) := by decide +kernel
theorem dL_law_328 : decode cL_law 328 = .ok (.aload_n 0, 1) := by decide +kernel
theorem dL_law_329 : decode cL_law 329 = .ok (.iload_n 3, 1) := by decide +kernel
theorem dL_law_330 : decode cL_law 330 = .ok (.iconst 1, 1) := by decide +kernel
theorem dL_law_331 : decode cL_law 331 = .ok (.iadd, 1) := by decide +kernel
theorem dL_law_332 : decode cL_law 332 = .ok (.iaload, 1) := by decide +kernel
theorem dL_law_333 : decode cL_law 333 = .ok (.invokevirtual 36, 3) := by decide +kernel
theorem dL_law_336 : decode cL_law 336 = .ok (.aload_n 2, 1) := by decide +kernel
theorem dL_law_337 : decode cL_law 337 = .ok (.aload_n 0, 1) := by decide +kernel
theorem dL_law_338 : decode cL_law 338 = .ok (.iload_n 3, 1) := by decide +kernel
theorem dL_law_339 : decode cL_law 339 = .ok (.iconst 1, 1) := by decide +kernel
theorem dL_law_340 : decode cL_law 340 = .ok (.iadd, 1) := by decide +kernel
theorem dL_law_341 : decode cL_law 341 = .ok (.iaload, 1) := by decide +kernel
theorem dL_law_342 : decode cL_law 342 = .ok (.invokevirtual 40, 3) := by decide +kernel
theorem dL_law_345 : decode cL_law 345 = .ok (.if_icmp .eq 275, 3) := by decide +kernel
theorem dL_law_348 : decode cL_law 348 = .ok (.iconst 0, 1) := by decide +kernel
theorem dL_law_349 : decode cL_law 349 = .ok (.ireturn, 1) := by decide +kernel
theorem dL_law_350 : decode cL_law 350 = .ok (.aload_n 1, 1) := by decide +kernel
theorem dL_law_351 : decode cL_law 351 = .ok (.aload_n 0, 1) := by decide +kernel
theorem dL_law_352 : decode cL_law 352 = .ok (.iload_n 3, 1) := by decide +kernel
theorem dL_law_353 : decode cL_law 353 = .ok (.iconst 1, 1) := by decide +kernel
theorem dL_law_354 : decode cL_law 354 = .ok (.iadd, 1) := by decide +kernel
theorem dL_law_355 : decode cL_law 355 = .ok (.iaload, 1) := by decide +kernel
theorem dL_law_356 : decode cL_law 356 = .ok (.aload_n 0, 1) := by decide +kernel
theorem dL_law_357 : decode cL_law 357 = .ok (.iload_n 3, 1) := by decide +kernel
theorem dL_law_358 : decode cL_law 358 = .ok (.iconst 2, 1) := by decide +kernel
theorem dL_law_359 : decode cL_law 359 = .ok (.iadd, 1) := by decide +kernel
theorem dL_law_360 : decode cL_law 360 = .ok (.iaload, 1) := by decide +kernel
theorem dL_law_361 : decode cL_law 361 = .ok (.invokevirtual 41, 3) := by decide +kernel
theorem dL_law_364 : decode cL_law 364 = .ok (.aload_n 2, 1) := by decide +kernel
theorem dL_law_365 : decode cL_law 365 = .ok (.aload_n 0, 1) := by decide +kernel
theorem dL_law_366 : decode cL_law 366 = .ok (.iload_n 3, 1) := by decide +kernel
theorem dL_law_367 : decode cL_law 367 = .ok (.iconst 1, 1) := by decide +kernel
theorem dL_law_368 : decode cL_law 368 = .ok (.iadd, 1) := by decide +kernel
theorem dL_law_369 : decode cL_law 369 = .ok (.iaload, 1) := by decide +kernel
theorem dL_law_370 : decode cL_law 370 = .ok (.aload_n 0, 1) := by decide +kernel
theorem dL_law_371 : decode cL_law 371 = .ok (.iload_n 3, 1) := by decide +kernel
theorem dL_law_372 : decode cL_law 372 = .ok (.iconst 2, 1) := by decide +kernel
theorem dL_law_373 : decode cL_law 373 = .ok (.iadd, 1) := by decide +kernel
theorem dL_law_374 : decode cL_law 374 = .ok (.iaload, 1) := by decide +kernel
theorem dL_law_375 : decode cL_law 375 = .ok (.invokevirtual 44, 3) := by decide +kernel
theorem dL_law_378 : decode cL_law 378 = .ok (.if_icmp .eq 242, 3) := by decide +kernel
theorem dL_law_381 : decode cL_law 381 = .ok (.iconst 0, 1) := by decide +kernel
theorem dL_law_382 : decode cL_law 382 = .ok (.ireturn, 1) := by decide +kernel
theorem dL_law_383 : decode cL_law 383 = .ok (.aload_n 1, 1) := by decide +kernel
theorem dL_law_384 : decode cL_law 384 = .ok (.aload_n 0, 1) := by decide +kernel
theorem dL_law_385 : decode cL_law 385 = .ok (.iload_n 3, 1) := by decide +kernel
theorem dL_law_386 : decode cL_law 386 = .ok (.iconst 1, 1) := by decide +kernel
theorem dL_law_387 : decode cL_law 387 = .ok (.iadd, 1) := by decide +kernel
theorem dL_law_388 : decode cL_law 388 = .ok (.iaload, 1) := by decide +kernel
theorem dL_law_389 : decode cL_law 389 = .ok (.invokevirtual 45, 3) := by decide +kernel
theorem dL_law_392 : decode cL_law 392 = .ok (.aload_n 2, 1) := by decide +kernel
theorem dL_law_393 : decode cL_law 393 = .ok (.aload_n 0, 1) := by decide +kernel
theorem dL_law_394 : decode cL_law 394 = .ok (.iload_n 3, 1) := by decide +kernel
theorem dL_law_395 : decode cL_law 395 = .ok (.iconst 1, 1) := by decide +kernel
theorem dL_law_396 : decode cL_law 396 = .ok (.iadd, 1) := by decide +kernel
theorem dL_law_397 : decode cL_law 397 = .ok (.iaload, 1) := by decide +kernel
theorem dL_law_398 : decode cL_law 398 = .ok (.invokevirtual 48, 3) := by decide +kernel
theorem dL_law_401 : decode cL_law 401 = .ok (.if_icmp .eq 219, 3) := by decide +kernel
theorem dL_law_404 : decode cL_law 404 = .ok (.iconst 0, 1) := by decide +kernel
theorem dL_law_405 : decode cL_law 405 = .ok (.ireturn, 1) := by decide +kernel
theorem dL_law_406 : decode cL_law 406 = .ok (.aload_n 1, 1) := by decide +kernel
theorem dL_law_407 : decode cL_law 407 = .ok (.aload_n 0, 1) := by decide +kernel
theorem dL_law_408 : decode cL_law 408 = .ok (.iload_n 3, 1) := by decide +kernel
theorem dL_law_409 : decode cL_law 409 = .ok (.iconst 1, 1) := by decide +kernel
theorem dL_law_410 : decode cL_law 410 = .ok (.iadd, 1) := by decide +kernel
theorem dL_law_411 : decode cL_law 411 = .ok (.iaload, 1) := by decide +kernel
theorem dL_law_412 : decode cL_law 412 = .ok (.aload_n 0, 1) := by decide +kernel
theorem dL_law_413 : decode cL_law 413 = .ok (.iload_n 3, 1) := by decide +kernel
theorem dL_law_414 : decode cL_law 414 = .ok (.iconst 2, 1) := by decide +kernel
theorem dL_law_415 : decode cL_law 415 = .ok (.iadd, 1) := by decide +kernel
theorem dL_law_416 : decode cL_law 416 = .ok (.iaload, 1) := by decide +kernel
theorem dL_law_417 : decode cL_law 417 = .ok (.invokevirtual 49, 3) := by decide +kernel
theorem dL_law_420 : decode cL_law 420 = .ok (.aload_n 2, 1) := by decide +kernel
theorem dL_law_421 : decode cL_law 421 = .ok (.aload_n 0, 1) := by decide +kernel
theorem dL_law_422 : decode cL_law 422 = .ok (.iload_n 3, 1) := by decide +kernel
theorem dL_law_423 : decode cL_law 423 = .ok (.iconst 1, 1) := by decide +kernel
theorem dL_law_424 : decode cL_law 424 = .ok (.iadd, 1) := by decide +kernel
theorem dL_law_425 : decode cL_law 425 = .ok (.iaload, 1) := by decide +kernel
theorem dL_law_426 : decode cL_law 426 = .ok (.aload_n 0, 1) := by decide +kernel
theorem dL_law_427 : decode cL_law 427 = .ok (.iload_n 3, 1) := by decide +kernel
theorem dL_law_428 : decode cL_law 428 = .ok (.iconst 2, 1) := by decide +kernel
theorem dL_law_429 : decode cL_law 429 = .ok (.iadd, 1) := by decide +kernel
theorem dL_law_430 : decode cL_law 430 = .ok (.iaload, 1) := by decide +kernel
theorem dL_law_431 : decode cL_law 431 = .ok (.invokevirtual 52, 3) := by decide +kernel
theorem dL_law_434 : decode cL_law 434 = .ok (.if_icmp .eq 186, 3) := by decide +kernel
theorem dL_law_437 : decode cL_law 437 = .ok (.iconst 0, 1) := by decide +kernel
theorem dL_law_438 : decode cL_law 438 = .ok (.ireturn, 1) := by decide +kernel
theorem dL_law_439 : decode cL_law 439 = .ok (.aload_n 1, 1) := by decide +kernel
theorem dL_law_440 : decode cL_law 440 = .ok (.aload_n 0, 1) := by decide +kernel
theorem dL_law_441 : decode cL_law 441 = .ok (.iload_n 3, 1) := by decide +kernel
theorem dL_law_442 : decode cL_law 442 = .ok (.iconst 1, 1) := by decide +kernel
theorem dL_law_443 : decode cL_law 443 = .ok (.iadd, 1) := by decide +kernel
theorem dL_law_444 : decode cL_law 444 = .ok (.iaload, 1) := by decide +kernel
theorem dL_law_445 : decode cL_law 445 = .ok (.invokevirtual 53, 3) := by decide +kernel
theorem dL_law_448 : decode cL_law 448 = .ok (.aload_n 2, 1) := by decide +kernel
theorem dL_law_449 : decode cL_law 449 = .ok (.aload_n 0, 1) := by decide +kernel
theorem dL_law_450 : decode cL_law 450 = .ok (.iload_n 3, 1) := by decide +kernel
theorem dL_law_451 : decode cL_law 451 = .ok (.iconst 1, 1) := by decide +kernel
theorem dL_law_452 : decode cL_law 452 = .ok (.iadd, 1) := by decide +kernel
theorem dL_law_453 : decode cL_law 453 = .ok (.iaload, 1) := by decide +kernel
theorem dL_law_454 : decode cL_law 454 = .ok (.invokevirtual 56, 3) := by decide +kernel
theorem dL_law_457 : decode cL_law 457 = .ok (.if_icmp .eq 163, 3) := by decide +kernel
theorem dL_law_460 : decode cL_law 460 = .ok (.iconst 0, 1) := by decide +kernel
theorem dL_law_461 : decode cL_law 461 = .ok (.ireturn, 1) := by decide +kernel
theorem dL_law_462 : decode cL_law 462 = .ok (.aload_n 1, 1) := by decide +kernel
theorem dL_law_463 : decode cL_law 463 = .ok (.aload_n 0, 1) := by decide +kernel
theorem dL_law_464 : decode cL_law 464 = .ok (.iload_n 3, 1) := by decide +kernel
theorem dL_law_465 : decode cL_law 465 = .ok (.iconst 1, 1) := by decide +kernel
theorem dL_law_466 : decode cL_law 466 = .ok (.iadd, 1) := by decide +kernel
theorem dL_law_467 : decode cL_law 467 = .ok (.iaload, 1) := by decide +kernel
theorem dL_law_468 : decode cL_law 468 = .ok (.invokevirtual 57, 3) := by decide +kernel
theorem dL_law_471 : decode cL_law 471 = .ok (.aload_n 2, 1) := by decide +kernel
theorem dL_law_472 : decode cL_law 472 = .ok (.aload_n 0, 1) := by decide +kernel
theorem dL_law_473 : decode cL_law 473 = .ok (.iload_n 3, 1) := by decide +kernel
theorem dL_law_474 : decode cL_law 474 = .ok (.iconst 1, 1) := by decide +kernel
theorem dL_law_475 : decode cL_law 475 = .ok (.iadd, 1) := by decide +kernel
theorem dL_law_476 : decode cL_law 476 = .ok (.iaload, 1) := by decide +kernel
theorem dL_law_477 : decode cL_law 477 = .ok (.invokevirtual 60, 3) := by decide +kernel
theorem dL_law_480 : decode cL_law 480 = .ok (.if_icmp .eq 140, 3) := by decide +kernel
theorem dL_law_483 : decode cL_law 483 = .ok (.iconst 0, 1) := by decide +kernel
theorem dL_law_484 : decode cL_law 484 = .ok (.ireturn, 1) := by decide +kernel
theorem dL_law_485 : decode cL_law 485 = .ok (.aload_n 1, 1) := by decide +kernel
theorem dL_law_486 : decode cL_law 486 = .ok (.aload_n 0, 1) := by decide +kernel
theorem dL_law_487 : decode cL_law 487 = .ok (.iload_n 3, 1) := by decide +kernel
theorem dL_law_488 : decode cL_law 488 = .ok (.iconst 1, 1) := by decide +kernel
theorem dL_law_489 : decode cL_law 489 = .ok (.iadd, 1) := by decide +kernel
theorem dL_law_490 : decode cL_law 490 = .ok (.iaload, 1) := by decide +kernel
theorem dL_law_491 : decode cL_law 491 = .ok (.invokevirtual 61, 3) := by decide +kernel
theorem dL_law_494 : decode cL_law 494 = .ok (.aload_n 2, 1) := by decide +kernel
theorem dL_law_495 : decode cL_law 495 = .ok (.aload_n 0, 1) := by decide +kernel
theorem dL_law_496 : decode cL_law 496 = .ok (.iload_n 3, 1) := by decide +kernel
theorem dL_law_497 : decode cL_law 497 = .ok (.iconst 1, 1) := by decide +kernel
theorem dL_law_498 : decode cL_law 498 = .ok (.iadd, 1) := by decide +kernel
theorem dL_law_499 : decode cL_law 499 = .ok (.iaload, 1) := by decide +kernel
theorem dL_law_500 : decode cL_law 500 = .ok (.invokevirtual 64, 3) := by decide +kernel
theorem dL_law_503 : decode cL_law 503 = .ok (.if_icmp .eq 117, 3) := by decide +kernel
theorem dL_law_506 : decode cL_law 506 = .ok (.iconst 0, 1) := by decide +kernel
theorem dL_law_507 : decode cL_law 507 = .ok (.ireturn, 1) := by decide +kernel
theorem dL_law_508 : decode cL_law 508 = .ok (.aload_n 1, 1) := by decide +kernel
theorem dL_law_509 : decode cL_law 509 = .ok (.aload_n 0, 1) := by decide +kernel
theorem dL_law_510 : decode cL_law 510 = .ok (.iload_n 3, 1) := by decide +kernel
theorem dL_law_511 : decode cL_law 511 = .ok (.iconst 1, 1) := by decide +kernel
theorem dL_law_512 : decode cL_law 512 = .ok (.iadd, 1) := by decide +kernel
theorem dL_law_513 : decode cL_law 513 = .ok (.iaload, 1) := by decide +kernel
theorem dL_law_514 : decode cL_law 514 = .ok (.aload_n 0, 1) := by decide +kernel
theorem dL_law_515 : decode cL_law 515 = .ok (.iload_n 3, 1) := by decide +kernel
theorem dL_law_516 : decode cL_law 516 = .ok (.iconst 2, 1) := by decide +kernel
theorem dL_law_517 : decode cL_law 517 = .ok (.iadd, 1) := by decide +kernel
theorem dL_law_518 : decode cL_law 518 = .ok (.iaload, 1) := by decide +kernel
theorem dL_law_519 : decode cL_law 519 = .ok (.invokevirtual 65, 3) := by decide +kernel
theorem dL_law_522 : decode cL_law 522 = .ok (.aload_n 2, 1) := by decide +kernel
theorem dL_law_523 : decode cL_law 523 = .ok (.aload_n 0, 1) := by decide +kernel
theorem dL_law_524 : decode cL_law 524 = .ok (.iload_n 3, 1) := by decide +kernel
theorem dL_law_525 : decode cL_law 525 = .ok (.iconst 1, 1) := by decide +kernel
theorem dL_law_526 : decode cL_law 526 = .ok (.iadd, 1) := by decide +kernel
theorem dL_law_527 : decode cL_law 527 = .ok (.iaload, 1) := by decide +kernel
theorem dL_law_528 : decode cL_law 528 = .ok (.aload_n 0, 1) := by decide +kernel
theorem dL_law_529 : decode cL_law 529 = .ok (.iload_n 3, 1) := by decide +kernel
theorem dL_law_530 : decode cL_law 530 = .ok (.iconst 2, 1) := by decide +kernel
theorem dL_law_531 : decode cL_law 531 = .ok (.iadd, 1) := by decide +kernel
theorem dL_law_532 : decode cL_law 532 = .ok (.iaload, 1) := by decide +kernel
theorem dL_law_533 : decode cL_law 533 = .ok (.invokevirtual 68, 3) := by decide +kernel
theorem dL_law_536 : decode cL_law 536 = .ok (.if_icmp .eq 84, 3) := by decide +kernel
theorem dL_law_539 : decode cL_law 539 = .ok (.iconst 0, 1) := by decide +kernel
theorem dL_law_540 : decode cL_law 540 = .ok (.ireturn, 1) := by decide +kernel
theorem dL_law_541 : decode cL_law 541 = .ok (.aload_n 1, 1) := by decide +kernel
theorem dL_law_542 : decode cL_law 542 = .ok (.aload_n 0, 1) := by decide +kernel
theorem dL_law_543 : decode cL_law 543 = .ok (.iload_n 3, 1) := by decide +kernel
theorem dL_law_544 : decode cL_law 544 = .ok (.iconst 1, 1) := by decide +kernel
theorem dL_law_545 : decode cL_law 545 = .ok (.iadd, 1) := by decide +kernel
theorem dL_law_546 : decode cL_law 546 = .ok (.iaload, 1) := by decide +kernel
theorem dL_law_547 : decode cL_law 547 = .ok (.invokevirtual 69, 3) := by decide +kernel
theorem dL_law_550 : decode cL_law 550 = .ok (.aload_n 2, 1) := by decide +kernel
theorem dL_law_551 : decode cL_law 551 = .ok (.aload_n 0, 1) := by decide +kernel
theorem dL_law_552 : decode cL_law 552 = .ok (.iload_n 3, 1) := by decide +kernel
theorem dL_law_553 : decode cL_law 553 = .ok (.iconst 1, 1) := by decide +kernel
theorem dL_law_554 : decode cL_law 554 = .ok (.iadd, 1) := by decide +kernel
theorem dL_law_555 : decode cL_law 555 = .ok (.iaload, 1) := by decide +kernel
theorem dL_law_556 : decode cL_law 556 = .ok (.invokevirtual 72, 3) := by decide +kernel
theorem dL_law_559 : decode cL_law 559 = .ok (.if_icmp .eq 61, 3) := by decide +kernel
theorem dL_law_562 : decode cL_law 562 = .ok (.iconst 0, 1) := by decide +kernel
theorem dL_law_563 : decode cL_law 563 = .ok (.ireturn, 1) := by decide +kernel
theorem dL_law_564 : decode cL_law 564 = .ok (.aload_n 1, 1) := by decide +kernel
theorem dL_law_565 : decode cL_law 565 = .ok (.aload_n 0, 1) := by decide +kernel
theorem dL_law_566 : decode cL_law 566 = .ok (.iload_n 3, 1) := by decide +kernel
theorem dL_law_567 : decode cL_law 567 = .ok (.iconst 1, 1) := by decide +kernel
theorem dL_law_568 : decode cL_law 568 = .ok (.iadd, 1) := by decide +kernel
theorem dL_law_569 : decode cL_law 569 = .ok (.iaload, 1) := by decide +kernel
theorem dL_law_570 : decode cL_law 570 = .ok (.invokevirtual 73, 3) := by decide +kernel
theorem dL_law_573 : decode cL_law 573 = .ok (.aload_n 2, 1) := by decide +kernel
theorem dL_law_574 : decode cL_law 574 = .ok (.aload_n 0, 1) := by decide +kernel
theorem dL_law_575 : decode cL_law 575 = .ok (.iload_n 3, 1) := by decide +kernel
theorem dL_law_576 : decode cL_law 576 = .ok (.iconst 1, 1) := by decide +kernel
theorem dL_law_577 : decode cL_law 577 = .ok (.iadd, 1) := by decide +kernel
theorem dL_law_578 : decode cL_law 578 = .ok (.iaload, 1) := by decide +kernel
theorem dL_law_579 : decode cL_law 579 = .ok (.invokevirtual 76, 3) := by decide +kernel
theorem dL_law_582 : decode cL_law 582 = .ok (.if_icmp .eq 38, 3) := by decide +kernel
theorem dL_law_585 : decode cL_law 585 = .ok (.iconst 0, 1) := by decide +kernel
theorem dL_law_586 : decode cL_law 586 = .ok (.ireturn, 1) := by decide +kernel
theorem dL_law_587 : decode cL_law 587 = .ok (.aload_n 1, 1) := by decide +kernel
theorem dL_law_588 : decode cL_law 588 = .ok (.aload_n 0, 1) := by decide +kernel
theorem dL_law_589 : decode cL_law 589 = .ok (.iload_n 3, 1) := by decide +kernel
theorem dL_law_590 : decode cL_law 590 = .ok (.iconst 1, 1) := by decide +kernel
theorem dL_law_591 : decode cL_law 591 = .ok (.iadd, 1) := by decide +kernel
theorem dL_law_592 : decode cL_law 592 = .ok (.iaload, 1) := by decide +kernel
theorem dL_law_593 : decode cL_law 593 = .ok (.aload_n 0, 1) := by decide +kernel
theorem dL_law_594 : decode cL_law 594 = .ok (.iload_n 3, 1) := by decide +kernel
theorem dL_law_595 : decode cL_law 595 = .ok (.iconst 2, 1) := by decide +kernel
theorem dL_law_596 : decode cL_law 596 = .ok (.iadd, 1) := by decide +kernel
theorem dL_law_597 : decode cL_law 597 = .ok (.iaload, 1) := by decide +kernel
theorem dL_law_598 : decode cL_law 598 = .ok (.invokevirtual 77, 3) := by decide +kernel
theorem dL_law_601 : decode cL_law 601 = .ok (.aload_n 2, 1) := by decide +kernel
theorem dL_law_602 : decode cL_law 602 = .ok (.aload_n 0, 1) := by decide +kernel
theorem dL_law_603 : decode cL_law 603 = .ok (.iload_n 3, 1) := by decide +kernel
theorem dL_law_604 : decode cL_law 604 = .ok (.iconst 1, 1) := by decide +kernel
theorem dL_law_605 : decode cL_law 605 = .ok (.iadd, 1) := by decide +kernel
theorem dL_law_606 : decode cL_law 606 = .ok (.iaload, 1) := by decide +kernel
theorem dL_law_607 : decode cL_law 607 = .ok (.aload_n 0, 1) := by decide +kernel
theorem dL_law_608 : decode cL_law 608 = .ok (.iload_n 3, 1) := by decide +kernel
theorem dL_law_609 : decode cL_law 609 = .ok (.iconst 2, 1) := by decide +kernel
theorem dL_law_610 : decode cL_law 610 = .ok (.iadd, 1) := by decide +kernel
theorem dL_law_611 : decode cL_law 611 = .ok (.iaload, 1) := by decide +kernel
theorem dL_law_612 : decode cL_law 612 = .ok (.invokevirtual 81, 3) := by decide +kernel
theorem dL_law_615 : decode cL_law 615 = .ok (.if_icmp .eq 5, 3) := by decide +kernel
theorem dL_law_618 : decode cL_law 618 = .ok (.iconst 0, 1) := by decide +kernel
theorem dL_law_619 : decode cL_law 619 = .ok (.ireturn, 1) := by decide +kernel
theorem dL_law_620 : decode cL_law 620 = .ok (.iinc 3 5, 3) := by decide +kernel
theorem dL_law_623 : decode cL_law 623 = .ok (.goto (-605), 3) := by decide +kernel
theorem dL_law_626 : decode cL_law 626 = .ok (.iconst 1, 1) := by decide +kernel
theorem dL_law_627 : decode cL_law 627 = .ok (.ireturn, 1) := by decide +kernel
end
section
/-! THE CLAIM OUT OF ONE WALK OF THE LAW'S BODY. Your part is whole_start (and what it stands on); all else here is the same for every law, but numbers. -/
def R_law : String := "TruthSpectrumLaw"
def lw_P (b : Addr) (xs : List Int32) (args : Array Value) (s : State) : Prop := args = #[.ref b] ∧ s.IntsAt b xs ∧ xs.length ≤ 320 ∧ (Jvm.Cond.and given_1 narrow_1).before args s = true
def lw_Q (_ : Array Value) (s : State) (o : Outcome) (t : State) : Prop := o = .returned (some (.int 1)) ∧ Framed s o t [] 600000 7290000
def lw_Z (below : List Frame) (a : Array Value) (s : State) : State → Prop := fun t => ∃ o, t.status = .running ∧ Ended t below o ∧ lw_Q a s o t
/-- the law's own end, with 1 on the stack, nothing written that was there before, its room as the claim has it -/
theorem lw_ret {p : Program} {l : Launch} {e : Env} {s : State} {m : MethodId} {below : List Frame} {meth : Method} {c : Code} {b : Nat} (hx : p.tables.exec = Jvm.exec) (hb : c.code = code) (hr : meth.sig.returnType = ret) (hlocks : meth.locks = false) {pc : Nat} {H : Heap} {ls : Array Slot} (hdg : decode code pc = .ok (.ireturn, 1)) : W p l e room_1 s m #[Value.ref b] below meth c H [] 600000 7290000 (lw_Z below #[Value.ref b] s) (F0 m pc ls [.int 1]) := by
  intro T hT X
  obtain ⟨fs, hret, hrun, hended, hW, hframe⟩ := X.leave (v := some (.int 1)) (hlocks := hlocks) (fun h => by rw [hr] at h; cases h)
  have hmeth' : T.vm.method? m = some meth := X.method'
  refine ⟨T.setFrames fs, ?_, .returned (some (.int 1)), hrun, hended, rfl, ⟨_, rfl⟩, hW, hframe⟩
  jvm_step X.here [X.here.top, hx, hb, hdg, hmeth', hr, ret, narrow_b1]
  (try refine ⟨rfl, ?_⟩); (try refine ⟨rfl, ?_⟩)
  first | (intro acts; rw [hret _ acts rfl rfl rfl]) | rw [hret _ _ rfl rfl rfl]
  exact Steps.refl _
/-- what holds at the law's entry: the machine, the code, the tables' words (any of lw_tbl by 'hts w (by decide +kernel)'), the script of L ints xs at the cell b, what the Statement gives of the start (any of its parts by flat_of_before) -/
def lw_At (p : Program) (s : State) (m : MethodId) (meth : Method) (c : Code) (b L : Nat) (xs : Nat → Int32) : Prop :=
  p.tables.exec = Jvm.exec ∧ c.code = code ∧ meth.sig.returnType = ret ∧ c.maxLocals = 4 ∧ s.vm.findClass R_law = some m.cls ∧ (∀ w ∈ lw_tbl, w.before #[Value.ref b] s = true) ∧ va_X b L xs s s.heap ∧ b < s.heap.size ∧ meth.locks = false ∧ (Jvm.Cond.and given_1 narrow_1).before #[Value.ref b] s = true
abbrev tw_W (xh x1 x2 x3 : Nat) (xe1 xe2 xe3 : ClassId) (mh m1 m2 : Nat) (me1 me2 : ClassId) (f : Nat → Int64) (g a d : Nat → Int32) : va_W := [(xh, .inr (0, [.ref x1, .ref x2, .ref x3])), (x1, .inl (xe1, 4, .inr (.inl f))), (x2, .inl (xe2, 6, .inr (.inl tc_low))), (x3, .inl (xe3, 64, .inl g)), (mh, .inr (1, [.ref m1, .ref m2])), (m1, .inl (me1, 256, .inl a)), (m2, .inl (me2, 64, .inl d))]
abbrev tw_TW (xe1 xe2 xe3 me1 me2 : ClassId) : List (ClassId × FieldType) := [(xe1, .long), (xe2, .long), (xe3, .int), (me1, .int), (me2, .int)]
/-- what the law's loop holds: the cells of both objects, in relation -/
def tw_I (dC : Nat → ClassId) (dI : Nat → Nat → Nat) (xh x1 x2 x3 : Nat) (xe1 xe2 xe3 : ClassId) (mh m1 m2 : Nat) (me1 me2 : ClassId) (s : State) (f : Nat → Int64) (g a d : Nat → Int32) (H : Heap) (locs : List Loc) : Prop := tl_R f a ∧ va_P (dC, dI) tw_cl (tw_W xh x1 x2 x3 xe1 xe2 xe3 mh m1 m2 me1 me2 f g a d) H ∧ va_D (fun q : Nat => s.heap.size ≤ q) (tw_W xh x1 x2 x3 xe1 xe2 xe3 mh m1 m2 me1 me2 f g a d) ∧ va_S (fun q : Nat => s.heap.size ≤ q) s.heap H locs
/-- what comes behind a case: the step of the loop at 620 -/
def tw_next (p : Program) (l : Launch) (e : Env) (s : State) (m : MethodId) (below : List Frame) (meth : Method) (c : Code) (b : Nat) (dC : Nat → ClassId) (dI : Nat → Nat → Nat) (xh x1 x2 x3 : Nat) (xe1 xe2 xe3 : ClassId) (mh m1 m2 : Nat) (me1 me2 : ClassId) (i : Int32) : Prop := ∀ (f : Nat → Int64) (g a d : Nat → Int32) (H : Heap) (locs : List Loc) (ls : Array Slot), tw_I dC dI xh x1 x2 x3 xe1 xe2 xe3 mh m1 m2 me1 me2 s f g a d H locs → lv_has ls 4 [(0, .ref b), (1, .ref xh), (2, .ref mh), (3, .int i)] → W p l e room_1 s m #[Value.ref b] below meth c H locs 7 399 (lw_Z below #[Value.ref b] s) (F0 m 620 ls [])
end
section
/-! the law's cases 0 to 7 -/
set_option maxHeartbeats 4000000 in
set_option maxRecDepth 100000 in
/-- case 0: put -/
theorem law_put {p : Program} {l : Launch} {e : Env} {s : State} {m : MethodId} {below : List Frame} {meth : Method} {c : Code} {b L : Nat} {xs : Nat → Int32} (C0 : lw_At p s m meth c b L xs) {dC : Nat → ClassId} {dI : Nat → Nat → Nat} {xh x1 x2 x3 : Nat} {xe1 xe2 xe3 : ClassId} {mh m1 m2 : Nat} {me1 me2 : ClassId} (hK : va_K (dC, dI) tw_cl (tw_TW xe1 xe2 xe3 me1 me2) s) (i : Int32) (j1 : vp_in (i + (1 : Int32)) L) (j2 : vp_in (i + (2 : Int32)) L) (j3 : vp_in (i + (3 : Int32)) L) (j4 : vp_in (i + (4 : Int32)) L) (kk : tw_next p l e s m below meth c b dC dI xh x1 x2 x3 xe1 xe2 xe3 mh m1 m2 me1 me2 i) (f : Nat → Int64) (g a d : Nat → Int32) (H : Heap) (locs : List Loc) (ls : Array Slot) (hI : tw_I dC dI xh x1 x2 x3 xe1 xe2 xe3 mh m1 m2 me1 me2 s f g a d H locs) (hl : lv_has ls 4 [(0, .ref b), (1, .ref xh), (2, .ref mh), (3, .int i)]) : W p l e room_1 s m #[Value.ref b] below meth c H locs 7 399 (lw_Z below #[Value.ref b] s) (F0 m 112 ls []) := by
  obtain ⟨hx, hb, hr, hml, hown, hts0, hX, hbl, hlocks, hgv⟩ := C0
  have hts : ∀ w ∈ lw_all, w.before #[Value.ref b] s = true := fun w h => hts0 w (lw_all_tbl h)
  have hA : ∀ q : Nat, s.heap.size ≤ q → (fun q : Nat => s.heap.size ≤ q) q := fun _ h => h
  have hbA : ¬ (fun q : Nat => s.heap.size ≤ q) b := Nat.not_le.mpr hbl
  obtain ⟨hR, hP, hD, hS⟩ := hI
  refine lv_aload_n hx hb dL_law_112 rfl (lv_at hl 1 rfl) ?_
  refine lv_aload_n hx hb dL_law_113 rfl (lv_at hl 0 rfl) ?_
  refine lv_iload_n hx hb dL_law_114 rfl (lv_at hl 3 rfl) ?_
  refine lv_iconst (v := 1) hx hb dL_law_115 (by decide) ?_
  refine lv_iadd hx hb dL_law_116 ?_
  refine va_sld hx hb hX hbl hbA hS j1 dL_law_117 ?_
  refine lv_aload_n hx hb dL_law_118 rfl (lv_at hl 0 rfl) ?_
  refine lv_iload_n hx hb dL_law_119 rfl (lv_at hl 3 rfl) ?_
  refine lv_iconst (v := 2) hx hb dL_law_120 (by decide) ?_
  refine lv_iadd hx hb dL_law_121 ?_
  refine va_sld hx hb hX hbl hbA hS j2 dL_law_122 ?_
  refine lv_aload_n hx hb dL_law_123 rfl (lv_at hl 0 rfl) ?_
  refine lv_iload_n hx hb dL_law_124 rfl (lv_at hl 3 rfl) ?_
  refine lv_iconst (v := 3) hx hb dL_law_125 (by decide) ?_
  refine lv_iadd hx hb dL_law_126 ?_
  refine va_sld hx hb hX hbl hbA hS j3 dL_law_127 ?_
  have hPc := hP.sub (ws' := tw_C xh x1 x2 x3 xe1 xe2 xe3 f g) [0, 1, 2, 3] rfl
  have hKc := hK.sub (tys' := tw_TC xe1 xe2 xe3) [0, 1, 2] rfl
  have hDc := hD.sub (ws' := tw_C xh x1 x2 x3 xe1 xe2 xe3 f g) [0, 1, 2, 3] (by decide) rfl
  have hFc := va_free (wc := tw_C xh x1 x2 x3 xe1 xe2 xe3 f g) hD hS hA [0, 1, 2, 3] rfl
  refine va_calli (va_runV (As := [.int (xs (i + (1 : Int32)).toNatClampNeg), .int (xs (i + (2 : Int32)).toNatClampNeg), .int (xs (i + (3 : Int32)).toNatClampNeg)]) (rest := []) ⟨hx, hb, hml, hown, hts⟩ (metX0_put l dC dI xh x1 x2 x3 xe1 xe2 xe3 _ f g (xs (i + (1 : Int32)).toNatClampNeg) (xs (i + (2 : Int32)).toNatClampNeg) (xs (i + (3 : Int32)).toNatClampNeg)) (cwV 3 hts (lw_V q53 q54 q55 q25 q56) rfl rfl rfl (by decide +kernel) ⟨Nat.le_of_ble_eq_true rfl, Nat.le_of_ble_eq_true rfl⟩) (tw_preSC hKc hPc hDc _) rfl rfl hl.1 rfl (lv_room (Nat.le_of_ble_eq_true rfl)) dL_law_128 ⟨Nat.le_of_ble_eq_true rfl, Nat.le_of_ble_eq_true rfl⟩) hS (fun q _ h => hFc q h) hFc (fun r_1 u_1 t H1 locs ht hvm hr_1 hB hz1 hk1 hS => ?_)
  obtain ⟨hP1, hK1, hD1⟩ := hB
  rw [ht] at hP1
  obtain ⟨hP, hD⟩ := va_join (wr := tw_M mh m1 m2 me1 me2 a d) (w1 := tw_C xh x1 x2 x3 xe1 xe2 xe3 u_1.1 u_1.2) hP hD [0, 1, 2, 3] [4, 5, 6] rfl rfl (by decide) (by decide) hk1 hFc hP1 hD1
  have hP := hP.sub (ws' := tw_W xh x1 x2 x3 xe1 xe2 xe3 mh m1 m2 me1 me2 u_1.1 u_1.2 a d) [3, 4, 5, 6, 0, 1, 2] rfl
  have hD := hD.sub (ws' := tw_W xh x1 x2 x3 xe1 xe2 xe3 mh m1 m2 me1 me2 u_1.1 u_1.2 a d) [3, 4, 5, 6, 0, 1, 2] (by decide) rfl
  generalize H1 = H at hP hS ⊢
  refine lv_aload_n hx hb dL_law_131 rfl (lv_at hl 2 rfl) ?_
  refine lv_aload_n hx hb dL_law_132 rfl (lv_at hl 0 rfl) ?_
  refine lv_iload_n hx hb dL_law_133 rfl (lv_at hl 3 rfl) ?_
  refine lv_iconst (v := 1) hx hb dL_law_134 (by decide) ?_
  refine lv_iadd hx hb dL_law_135 ?_
  refine va_sld hx hb hX hbl hbA hS j1 dL_law_136 ?_
  refine lv_aload_n hx hb dL_law_137 rfl (lv_at hl 0 rfl) ?_
  refine lv_iload_n hx hb dL_law_138 rfl (lv_at hl 3 rfl) ?_
  refine lv_iconst (v := 2) hx hb dL_law_139 (by decide) ?_
  refine lv_iadd hx hb dL_law_140 ?_
  refine va_sld hx hb hX hbl hbA hS j2 dL_law_141 ?_
  refine lv_aload_n hx hb dL_law_142 rfl (lv_at hl 0 rfl) ?_
  refine lv_iload_n hx hb dL_law_143 rfl (lv_at hl 3 rfl) ?_
  refine lv_iconst (v := 3) hx hb dL_law_144 (by decide) ?_
  refine lv_iadd hx hb dL_law_145 ?_
  refine va_sld hx hb hX hbl hbA hS j3 dL_law_146 ?_
  have hPc := hP.sub (ws' := tw_M mh m1 m2 me1 me2 a d) [4, 5, 6] rfl
  have hKc := hK.sub (tys' := tw_TM me1 me2) [3, 4] rfl
  have hDc := hD.sub (ws' := tw_M mh m1 m2 me1 me2 a d) [4, 5, 6] (by decide) rfl
  have hFc := va_free (wc := tw_M mh m1 m2 me1 me2 a d) hD hS hA [4, 5, 6] rfl
  refine va_calli (va_runV (As := [.int (xs (i + (1 : Int32)).toNatClampNeg), .int (xs (i + (2 : Int32)).toNatClampNeg), .int (xs (i + (3 : Int32)).toNatClampNeg)]) (rest := [.int r_1]) ⟨hx, hb, hml, hown, hts⟩ (metX1_put l dC dI mh m1 m2 me1 me2 _ a d (xs (i + (1 : Int32)).toNatClampNeg) (xs (i + (2 : Int32)).toNatClampNeg) (xs (i + (3 : Int32)).toNatClampNeg)) (cwV 3 hts (lw_V q184 q185 q186 q26 q187) rfl rfl rfl (by decide +kernel) ⟨Nat.le_of_ble_eq_true rfl, Nat.le_of_ble_eq_true rfl⟩) (tw_preSM hKc hPc hDc _) rfl rfl hl.1 rfl (lv_room (Nat.le_of_ble_eq_true rfl)) dL_law_147 ⟨Nat.le_of_ble_eq_true rfl, Nat.le_of_ble_eq_true rfl⟩) hS (fun q _ h => hFc q h) hFc (fun r_2 u_2 t H1 locs ht hvm hr_2 hB hz1 hk1 hS => ?_)
  obtain ⟨hP1, hK1, hD1⟩ := hB
  rw [ht] at hP1
  obtain ⟨hP, hD⟩ := va_join (wr := tw_C xh x1 x2 x3 xe1 xe2 xe3 u_1.1 u_1.2) (w1 := tw_M mh m1 m2 me1 me2 u_2.1 u_2.2) hP hD [4, 5, 6] [0, 1, 2, 3] rfl rfl (by decide) (by decide) hk1 hFc hP1 hD1
  have hP := hP.sub (ws' := tw_W xh x1 x2 x3 xe1 xe2 xe3 mh m1 m2 me1 me2 u_1.1 u_1.2 u_2.1 u_2.2) [0, 1, 2, 3, 4, 5, 6] rfl
  have hD := hD.sub (ws' := tw_W xh x1 x2 x3 xe1 xe2 xe3 mh m1 m2 me1 me2 u_1.1 u_1.2 u_2.1 u_2.2) [0, 1, 2, 3, 4, 5, 6] (by decide) rfl
  generalize H1 = H at hP hS ⊢
  have hans := ta_put (g := g) (d := d) hR hr_1 hr_2
  refine lv_icmp_eq (tgt := 620) hx hb dL_law_150 (by decide) (fun _ => ?_) (fun c_9 => absurd hans.1 c_9)
  exact kk u_1.1 u_1.2 u_2.1 u_2.2 _ _ ls ⟨hans.2, hP, hD, hS⟩ hl
set_option maxHeartbeats 4000000 in
set_option maxRecDepth 100000 in
/-- case 1: turnForm -/
theorem law_turnForm {p : Program} {l : Launch} {e : Env} {s : State} {m : MethodId} {below : List Frame} {meth : Method} {c : Code} {b L : Nat} {xs : Nat → Int32} (C0 : lw_At p s m meth c b L xs) {dC : Nat → ClassId} {dI : Nat → Nat → Nat} {xh x1 x2 x3 : Nat} {xe1 xe2 xe3 : ClassId} {mh m1 m2 : Nat} {me1 me2 : ClassId} (hK : va_K (dC, dI) tw_cl (tw_TW xe1 xe2 xe3 me1 me2) s) (i : Int32) (j1 : vp_in (i + (1 : Int32)) L) (j2 : vp_in (i + (2 : Int32)) L) (j3 : vp_in (i + (3 : Int32)) L) (j4 : vp_in (i + (4 : Int32)) L) (kk : tw_next p l e s m below meth c b dC dI xh x1 x2 x3 xe1 xe2 xe3 mh m1 m2 me1 me2 i) (f : Nat → Int64) (g a d : Nat → Int32) (H : Heap) (locs : List Loc) (ls : Array Slot) (hI : tw_I dC dI xh x1 x2 x3 xe1 xe2 xe3 mh m1 m2 me1 me2 s f g a d H locs) (hl : lv_has ls 4 [(0, .ref b), (1, .ref xh), (2, .ref mh), (3, .int i)]) : W p l e room_1 s m #[Value.ref b] below meth c H locs 7 399 (lw_Z below #[Value.ref b] s) (F0 m 155 ls []) := by
  obtain ⟨hx, hb, hr, hml, hown, hts0, hX, hbl, hlocks, hgv⟩ := C0
  have hts : ∀ w ∈ lw_all, w.before #[Value.ref b] s = true := fun w h => hts0 w (lw_all_tbl h)
  have hA : ∀ q : Nat, s.heap.size ≤ q → (fun q : Nat => s.heap.size ≤ q) q := fun _ h => h
  have hbA : ¬ (fun q : Nat => s.heap.size ≤ q) b := Nat.not_le.mpr hbl
  obtain ⟨hR, hP, hD, hS⟩ := hI
  refine lv_aload_n hx hb dL_law_155 rfl (lv_at hl 1 rfl) ?_
  refine lv_aload_n hx hb dL_law_156 rfl (lv_at hl 0 rfl) ?_
  refine lv_iload_n hx hb dL_law_157 rfl (lv_at hl 3 rfl) ?_
  refine lv_iconst (v := 1) hx hb dL_law_158 (by decide) ?_
  refine lv_iadd hx hb dL_law_159 ?_
  refine va_sld hx hb hX hbl hbA hS j1 dL_law_160 ?_
  refine lv_aload_n hx hb dL_law_161 rfl (lv_at hl 0 rfl) ?_
  refine lv_iload_n hx hb dL_law_162 rfl (lv_at hl 3 rfl) ?_
  refine lv_iconst (v := 2) hx hb dL_law_163 (by decide) ?_
  refine lv_iadd hx hb dL_law_164 ?_
  refine va_sld hx hb hX hbl hbA hS j2 dL_law_165 ?_
  have hPc := hP.sub (ws' := tw_C xh x1 x2 x3 xe1 xe2 xe3 f g) [0, 1, 2, 3] rfl
  have hKc := hK.sub (tys' := tw_TC xe1 xe2 xe3) [0, 1, 2] rfl
  have hDc := hD.sub (ws' := tw_C xh x1 x2 x3 xe1 xe2 xe3 f g) [0, 1, 2, 3] (by decide) rfl
  have hFc := va_free (wc := tw_C xh x1 x2 x3 xe1 xe2 xe3 f g) hD hS hA [0, 1, 2, 3] rfl
  refine va_calli (va_runV (As := [.int (xs (i + (1 : Int32)).toNatClampNeg), .int (xs (i + (2 : Int32)).toNatClampNeg)]) (rest := []) ⟨hx, hb, hml, hown, hts⟩ (metX0_turnForm l dC dI xh x1 x2 x3 xe1 xe2 xe3 _ f g (xs (i + (1 : Int32)).toNatClampNeg) (xs (i + (2 : Int32)).toNatClampNeg)) (cwV 2 hts (lw_V q69 q70 q71 q25 q72) rfl rfl rfl (by decide +kernel) ⟨Nat.le_of_ble_eq_true rfl, Nat.le_of_ble_eq_true rfl⟩) (tw_preSC hKc hPc hDc _) rfl rfl hl.1 rfl (lv_room (Nat.le_of_ble_eq_true rfl)) dL_law_166 ⟨Nat.le_of_ble_eq_true rfl, Nat.le_of_ble_eq_true rfl⟩) hS (fun q _ h => hFc q h) hFc (fun r_1 u_1 t H1 locs ht hvm hr_1 hB hz1 hk1 hS => ?_)
  obtain ⟨hP1, hK1, hD1⟩ := hB
  rw [ht] at hP1
  obtain ⟨hP, hD⟩ := va_join (wr := tw_M mh m1 m2 me1 me2 a d) (w1 := tw_C xh x1 x2 x3 xe1 xe2 xe3 u_1.1 u_1.2) hP hD [0, 1, 2, 3] [4, 5, 6] rfl rfl (by decide) (by decide) hk1 hFc hP1 hD1
  have hP := hP.sub (ws' := tw_W xh x1 x2 x3 xe1 xe2 xe3 mh m1 m2 me1 me2 u_1.1 u_1.2 a d) [3, 4, 5, 6, 0, 1, 2] rfl
  have hD := hD.sub (ws' := tw_W xh x1 x2 x3 xe1 xe2 xe3 mh m1 m2 me1 me2 u_1.1 u_1.2 a d) [3, 4, 5, 6, 0, 1, 2] (by decide) rfl
  generalize H1 = H at hP hS ⊢
  refine lv_aload_n hx hb dL_law_169 rfl (lv_at hl 2 rfl) ?_
  refine lv_aload_n hx hb dL_law_170 rfl (lv_at hl 0 rfl) ?_
  refine lv_iload_n hx hb dL_law_171 rfl (lv_at hl 3 rfl) ?_
  refine lv_iconst (v := 1) hx hb dL_law_172 (by decide) ?_
  refine lv_iadd hx hb dL_law_173 ?_
  refine va_sld hx hb hX hbl hbA hS j1 dL_law_174 ?_
  refine lv_aload_n hx hb dL_law_175 rfl (lv_at hl 0 rfl) ?_
  refine lv_iload_n hx hb dL_law_176 rfl (lv_at hl 3 rfl) ?_
  refine lv_iconst (v := 2) hx hb dL_law_177 (by decide) ?_
  refine lv_iadd hx hb dL_law_178 ?_
  refine va_sld hx hb hX hbl hbA hS j2 dL_law_179 ?_
  have hPc := hP.sub (ws' := tw_M mh m1 m2 me1 me2 a d) [4, 5, 6] rfl
  have hKc := hK.sub (tys' := tw_TM me1 me2) [3, 4] rfl
  have hDc := hD.sub (ws' := tw_M mh m1 m2 me1 me2 a d) [4, 5, 6] (by decide) rfl
  have hFc := va_free (wc := tw_M mh m1 m2 me1 me2 a d) hD hS hA [4, 5, 6] rfl
  refine va_calli (va_runV (As := [.int (xs (i + (1 : Int32)).toNatClampNeg), .int (xs (i + (2 : Int32)).toNatClampNeg)]) (rest := [.int r_1]) ⟨hx, hb, hml, hown, hts⟩ (metX1_turnForm l dC dI mh m1 m2 me1 me2 _ a d (xs (i + (1 : Int32)).toNatClampNeg) (xs (i + (2 : Int32)).toNatClampNeg)) (cwV 2 hts (lw_V q196 q197 q198 q26 q199) rfl rfl rfl (by decide +kernel) ⟨Nat.le_of_ble_eq_true rfl, Nat.le_of_ble_eq_true rfl⟩) (tw_preSM hKc hPc hDc _) rfl rfl hl.1 rfl (lv_room (Nat.le_of_ble_eq_true rfl)) dL_law_180 ⟨Nat.le_of_ble_eq_true rfl, Nat.le_of_ble_eq_true rfl⟩) hS (fun q _ h => hFc q h) hFc (fun r_2 u_2 t H1 locs ht hvm hr_2 hB hz1 hk1 hS => ?_)
  obtain ⟨hP1, hK1, hD1⟩ := hB
  rw [ht] at hP1
  obtain ⟨hP, hD⟩ := va_join (wr := tw_C xh x1 x2 x3 xe1 xe2 xe3 u_1.1 u_1.2) (w1 := tw_M mh m1 m2 me1 me2 u_2.1 u_2.2) hP hD [4, 5, 6] [0, 1, 2, 3] rfl rfl (by decide) (by decide) hk1 hFc hP1 hD1
  have hP := hP.sub (ws' := tw_W xh x1 x2 x3 xe1 xe2 xe3 mh m1 m2 me1 me2 u_1.1 u_1.2 u_2.1 u_2.2) [0, 1, 2, 3, 4, 5, 6] rfl
  have hD := hD.sub (ws' := tw_W xh x1 x2 x3 xe1 xe2 xe3 mh m1 m2 me1 me2 u_1.1 u_1.2 u_2.1 u_2.2) [0, 1, 2, 3, 4, 5, 6] (by decide) rfl
  generalize H1 = H at hP hS ⊢
  have hans := ta_turnForm (g := g) (d := d) hR hr_1 hr_2
  refine lv_icmp_eq (tgt := 620) hx hb dL_law_183 (by decide) (fun _ => ?_) (fun c_9 => absurd hans.1 c_9)
  exact kk u_1.1 u_1.2 u_2.1 u_2.2 _ _ ls ⟨hans.2, hP, hD, hS⟩ hl
set_option maxHeartbeats 4000000 in
set_option maxRecDepth 100000 in
/-- case 2: combine -/
theorem law_combine {p : Program} {l : Launch} {e : Env} {s : State} {m : MethodId} {below : List Frame} {meth : Method} {c : Code} {b L : Nat} {xs : Nat → Int32} (C0 : lw_At p s m meth c b L xs) {dC : Nat → ClassId} {dI : Nat → Nat → Nat} {xh x1 x2 x3 : Nat} {xe1 xe2 xe3 : ClassId} {mh m1 m2 : Nat} {me1 me2 : ClassId} (hK : va_K (dC, dI) tw_cl (tw_TW xe1 xe2 xe3 me1 me2) s) (i : Int32) (j1 : vp_in (i + (1 : Int32)) L) (j2 : vp_in (i + (2 : Int32)) L) (j3 : vp_in (i + (3 : Int32)) L) (j4 : vp_in (i + (4 : Int32)) L) (kk : tw_next p l e s m below meth c b dC dI xh x1 x2 x3 xe1 xe2 xe3 mh m1 m2 me1 me2 i) (f : Nat → Int64) (g a d : Nat → Int32) (H : Heap) (locs : List Loc) (ls : Array Slot) (hI : tw_I dC dI xh x1 x2 x3 xe1 xe2 xe3 mh m1 m2 me1 me2 s f g a d H locs) (hl : lv_has ls 4 [(0, .ref b), (1, .ref xh), (2, .ref mh), (3, .int i)]) : W p l e room_1 s m #[Value.ref b] below meth c H locs 7 399 (lw_Z below #[Value.ref b] s) (F0 m 188 ls []) := by
  obtain ⟨hx, hb, hr, hml, hown, hts0, hX, hbl, hlocks, hgv⟩ := C0
  have hts : ∀ w ∈ lw_all, w.before #[Value.ref b] s = true := fun w h => hts0 w (lw_all_tbl h)
  have hA : ∀ q : Nat, s.heap.size ≤ q → (fun q : Nat => s.heap.size ≤ q) q := fun _ h => h
  have hbA : ¬ (fun q : Nat => s.heap.size ≤ q) b := Nat.not_le.mpr hbl
  obtain ⟨hR, hP, hD, hS⟩ := hI
  refine lv_aload_n hx hb dL_law_188 rfl (lv_at hl 1 rfl) ?_
  refine lv_aload_n hx hb dL_law_189 rfl (lv_at hl 0 rfl) ?_
  refine lv_iload_n hx hb dL_law_190 rfl (lv_at hl 3 rfl) ?_
  refine lv_iconst (v := 1) hx hb dL_law_191 (by decide) ?_
  refine lv_iadd hx hb dL_law_192 ?_
  refine va_sld hx hb hX hbl hbA hS j1 dL_law_193 ?_
  refine lv_aload_n hx hb dL_law_194 rfl (lv_at hl 0 rfl) ?_
  refine lv_iload_n hx hb dL_law_195 rfl (lv_at hl 3 rfl) ?_
  refine lv_iconst (v := 2) hx hb dL_law_196 (by decide) ?_
  refine lv_iadd hx hb dL_law_197 ?_
  refine va_sld hx hb hX hbl hbA hS j2 dL_law_198 ?_
  refine lv_aload_n hx hb dL_law_199 rfl (lv_at hl 0 rfl) ?_
  refine lv_iload_n hx hb dL_law_200 rfl (lv_at hl 3 rfl) ?_
  refine lv_iconst (v := 3) hx hb dL_law_201 (by decide) ?_
  refine lv_iadd hx hb dL_law_202 ?_
  refine va_sld hx hb hX hbl hbA hS j3 dL_law_203 ?_
  refine lv_aload_n hx hb dL_law_204 rfl (lv_at hl 0 rfl) ?_
  refine lv_iload_n hx hb dL_law_205 rfl (lv_at hl 3 rfl) ?_
  refine lv_iconst (v := 4) hx hb dL_law_206 (by decide) ?_
  refine lv_iadd hx hb dL_law_207 ?_
  refine va_sld hx hb hX hbl hbA hS j4 dL_law_208 ?_
  have hPc := hP.sub (ws' := tw_C xh x1 x2 x3 xe1 xe2 xe3 f g) [0, 1, 2, 3] rfl
  have hKc := hK.sub (tys' := tw_TC xe1 xe2 xe3) [0, 1, 2] rfl
  have hDc := hD.sub (ws' := tw_C xh x1 x2 x3 xe1 xe2 xe3 f g) [0, 1, 2, 3] (by decide) rfl
  have hFc := va_free (wc := tw_C xh x1 x2 x3 xe1 xe2 xe3 f g) hD hS hA [0, 1, 2, 3] rfl
  refine va_calli (va_runV (As := [.int (xs (i + (1 : Int32)).toNatClampNeg), .int (xs (i + (2 : Int32)).toNatClampNeg), .int (xs (i + (3 : Int32)).toNatClampNeg), .int (xs (i + (4 : Int32)).toNatClampNeg)]) (rest := []) ⟨hx, hb, hml, hown, hts⟩ (metX0_combine l dC dI xh x1 x2 x3 xe1 xe2 xe3 _ f g (xs (i + (1 : Int32)).toNatClampNeg) (xs (i + (2 : Int32)).toNatClampNeg) (xs (i + (3 : Int32)).toNatClampNeg) (xs (i + (4 : Int32)).toNatClampNeg)) (cwV 4 hts (lw_V q82 q83 q84 q25 q85) rfl rfl rfl (by decide +kernel) ⟨Nat.le_of_ble_eq_true rfl, Nat.le_of_ble_eq_true rfl⟩) (tw_preSC hKc hPc hDc _) rfl rfl hl.1 rfl (lv_room (Nat.le_of_ble_eq_true rfl)) dL_law_209 ⟨Nat.le_of_ble_eq_true rfl, Nat.le_of_ble_eq_true rfl⟩) hS (fun q _ h => hFc q h) hFc (fun r_1 u_1 t H1 locs ht hvm hr_1 hB hz1 hk1 hS => ?_)
  obtain ⟨hP1, hK1, hD1⟩ := hB
  rw [ht] at hP1
  obtain ⟨hP, hD⟩ := va_join (wr := tw_M mh m1 m2 me1 me2 a d) (w1 := tw_C xh x1 x2 x3 xe1 xe2 xe3 u_1.1 u_1.2) hP hD [0, 1, 2, 3] [4, 5, 6] rfl rfl (by decide) (by decide) hk1 hFc hP1 hD1
  have hP := hP.sub (ws' := tw_W xh x1 x2 x3 xe1 xe2 xe3 mh m1 m2 me1 me2 u_1.1 u_1.2 a d) [3, 4, 5, 6, 0, 1, 2] rfl
  have hD := hD.sub (ws' := tw_W xh x1 x2 x3 xe1 xe2 xe3 mh m1 m2 me1 me2 u_1.1 u_1.2 a d) [3, 4, 5, 6, 0, 1, 2] (by decide) rfl
  generalize H1 = H at hP hS ⊢
  refine lv_aload_n hx hb dL_law_212 rfl (lv_at hl 2 rfl) ?_
  refine lv_aload_n hx hb dL_law_213 rfl (lv_at hl 0 rfl) ?_
  refine lv_iload_n hx hb dL_law_214 rfl (lv_at hl 3 rfl) ?_
  refine lv_iconst (v := 1) hx hb dL_law_215 (by decide) ?_
  refine lv_iadd hx hb dL_law_216 ?_
  refine va_sld hx hb hX hbl hbA hS j1 dL_law_217 ?_
  refine lv_aload_n hx hb dL_law_218 rfl (lv_at hl 0 rfl) ?_
  refine lv_iload_n hx hb dL_law_219 rfl (lv_at hl 3 rfl) ?_
  refine lv_iconst (v := 2) hx hb dL_law_220 (by decide) ?_
  refine lv_iadd hx hb dL_law_221 ?_
  refine va_sld hx hb hX hbl hbA hS j2 dL_law_222 ?_
  refine lv_aload_n hx hb dL_law_223 rfl (lv_at hl 0 rfl) ?_
  refine lv_iload_n hx hb dL_law_224 rfl (lv_at hl 3 rfl) ?_
  refine lv_iconst (v := 3) hx hb dL_law_225 (by decide) ?_
  refine lv_iadd hx hb dL_law_226 ?_
  refine va_sld hx hb hX hbl hbA hS j3 dL_law_227 ?_
  refine lv_aload_n hx hb dL_law_228 rfl (lv_at hl 0 rfl) ?_
  refine lv_iload_n hx hb dL_law_229 rfl (lv_at hl 3 rfl) ?_
  refine lv_iconst (v := 4) hx hb dL_law_230 (by decide) ?_
  refine lv_iadd hx hb dL_law_231 ?_
  refine va_sld hx hb hX hbl hbA hS j4 dL_law_232 ?_
  have hPc := hP.sub (ws' := tw_M mh m1 m2 me1 me2 a d) [4, 5, 6] rfl
  have hKc := hK.sub (tys' := tw_TM me1 me2) [3, 4] rfl
  have hDc := hD.sub (ws' := tw_M mh m1 m2 me1 me2 a d) [4, 5, 6] (by decide) rfl
  have hFc := va_free (wc := tw_M mh m1 m2 me1 me2 a d) hD hS hA [4, 5, 6] rfl
  refine va_calli (va_runV (As := [.int (xs (i + (1 : Int32)).toNatClampNeg), .int (xs (i + (2 : Int32)).toNatClampNeg), .int (xs (i + (3 : Int32)).toNatClampNeg), .int (xs (i + (4 : Int32)).toNatClampNeg)]) (rest := [.int r_1]) ⟨hx, hb, hml, hown, hts⟩ (metX1_combine l dC dI mh m1 m2 me1 me2 _ a d (xs (i + (1 : Int32)).toNatClampNeg) (xs (i + (2 : Int32)).toNatClampNeg) (xs (i + (3 : Int32)).toNatClampNeg) (xs (i + (4 : Int32)).toNatClampNeg)) (cwV 4 hts (lw_V q204 q205 q206 q26 q207) rfl rfl rfl (by decide +kernel) ⟨Nat.le_of_ble_eq_true rfl, Nat.le_of_ble_eq_true rfl⟩) (tw_preSM hKc hPc hDc _) rfl rfl hl.1 rfl (lv_room (Nat.le_of_ble_eq_true rfl)) dL_law_233 ⟨Nat.le_of_ble_eq_true rfl, Nat.le_of_ble_eq_true rfl⟩) hS (fun q _ h => hFc q h) hFc (fun r_2 u_2 t H1 locs ht hvm hr_2 hB hz1 hk1 hS => ?_)
  obtain ⟨hP1, hK1, hD1⟩ := hB
  rw [ht] at hP1
  obtain ⟨hP, hD⟩ := va_join (wr := tw_C xh x1 x2 x3 xe1 xe2 xe3 u_1.1 u_1.2) (w1 := tw_M mh m1 m2 me1 me2 u_2.1 u_2.2) hP hD [4, 5, 6] [0, 1, 2, 3] rfl rfl (by decide) (by decide) hk1 hFc hP1 hD1
  have hP := hP.sub (ws' := tw_W xh x1 x2 x3 xe1 xe2 xe3 mh m1 m2 me1 me2 u_1.1 u_1.2 u_2.1 u_2.2) [0, 1, 2, 3, 4, 5, 6] rfl
  have hD := hD.sub (ws' := tw_W xh x1 x2 x3 xe1 xe2 xe3 mh m1 m2 me1 me2 u_1.1 u_1.2 u_2.1 u_2.2) [0, 1, 2, 3, 4, 5, 6] (by decide) rfl
  generalize H1 = H at hP hS ⊢
  have hans := ta_combine (g := g) (d := d) hR hr_1 hr_2
  refine lv_icmp_eq (tgt := 620) hx hb dL_law_236 (by decide) (fun _ => ?_) (fun c_9 => absurd hans.1 c_9)
  exact kk u_1.1 u_1.2 u_2.1 u_2.2 _ _ ls ⟨hans.2, hP, hD, hS⟩ hl
set_option maxHeartbeats 4000000 in
set_option maxRecDepth 100000 in
/-- case 3: shift -/
theorem law_shift {p : Program} {l : Launch} {e : Env} {s : State} {m : MethodId} {below : List Frame} {meth : Method} {c : Code} {b L : Nat} {xs : Nat → Int32} (C0 : lw_At p s m meth c b L xs) {dC : Nat → ClassId} {dI : Nat → Nat → Nat} {xh x1 x2 x3 : Nat} {xe1 xe2 xe3 : ClassId} {mh m1 m2 : Nat} {me1 me2 : ClassId} (hK : va_K (dC, dI) tw_cl (tw_TW xe1 xe2 xe3 me1 me2) s) (i : Int32) (j1 : vp_in (i + (1 : Int32)) L) (j2 : vp_in (i + (2 : Int32)) L) (j3 : vp_in (i + (3 : Int32)) L) (j4 : vp_in (i + (4 : Int32)) L) (kk : tw_next p l e s m below meth c b dC dI xh x1 x2 x3 xe1 xe2 xe3 mh m1 m2 me1 me2 i) (f : Nat → Int64) (g a d : Nat → Int32) (H : Heap) (locs : List Loc) (ls : Array Slot) (hI : tw_I dC dI xh x1 x2 x3 xe1 xe2 xe3 mh m1 m2 me1 me2 s f g a d H locs) (hl : lv_has ls 4 [(0, .ref b), (1, .ref xh), (2, .ref mh), (3, .int i)]) : W p l e room_1 s m #[Value.ref b] below meth c H locs 7 399 (lw_Z below #[Value.ref b] s) (F0 m 241 ls []) := by
  obtain ⟨hx, hb, hr, hml, hown, hts0, hX, hbl, hlocks, hgv⟩ := C0
  have hts : ∀ w ∈ lw_all, w.before #[Value.ref b] s = true := fun w h => hts0 w (lw_all_tbl h)
  have hA : ∀ q : Nat, s.heap.size ≤ q → (fun q : Nat => s.heap.size ≤ q) q := fun _ h => h
  have hbA : ¬ (fun q : Nat => s.heap.size ≤ q) b := Nat.not_le.mpr hbl
  obtain ⟨hR, hP, hD, hS⟩ := hI
  refine lv_aload_n hx hb dL_law_241 rfl (lv_at hl 1 rfl) ?_
  refine lv_aload_n hx hb dL_law_242 rfl (lv_at hl 0 rfl) ?_
  refine lv_iload_n hx hb dL_law_243 rfl (lv_at hl 3 rfl) ?_
  refine lv_iconst (v := 1) hx hb dL_law_244 (by decide) ?_
  refine lv_iadd hx hb dL_law_245 ?_
  refine va_sld hx hb hX hbl hbA hS j1 dL_law_246 ?_
  refine lv_aload_n hx hb dL_law_247 rfl (lv_at hl 0 rfl) ?_
  refine lv_iload_n hx hb dL_law_248 rfl (lv_at hl 3 rfl) ?_
  refine lv_iconst (v := 2) hx hb dL_law_249 (by decide) ?_
  refine lv_iadd hx hb dL_law_250 ?_
  refine va_sld hx hb hX hbl hbA hS j2 dL_law_251 ?_
  refine lv_aload_n hx hb dL_law_252 rfl (lv_at hl 0 rfl) ?_
  refine lv_iload_n hx hb dL_law_253 rfl (lv_at hl 3 rfl) ?_
  refine lv_iconst (v := 3) hx hb dL_law_254 (by decide) ?_
  refine lv_iadd hx hb dL_law_255 ?_
  refine va_sld hx hb hX hbl hbA hS j3 dL_law_256 ?_
  refine lv_aload_n hx hb dL_law_257 rfl (lv_at hl 0 rfl) ?_
  refine lv_iload_n hx hb dL_law_258 rfl (lv_at hl 3 rfl) ?_
  refine lv_iconst (v := 4) hx hb dL_law_259 (by decide) ?_
  refine lv_iadd hx hb dL_law_260 ?_
  refine va_sld hx hb hX hbl hbA hS j4 dL_law_261 ?_
  have hPc := hP.sub (ws' := tw_C xh x1 x2 x3 xe1 xe2 xe3 f g) [0, 1, 2, 3] rfl
  have hKc := hK.sub (tys' := tw_TC xe1 xe2 xe3) [0, 1, 2] rfl
  have hDc := hD.sub (ws' := tw_C xh x1 x2 x3 xe1 xe2 xe3 f g) [0, 1, 2, 3] (by decide) rfl
  have hFc := va_free (wc := tw_C xh x1 x2 x3 xe1 xe2 xe3 f g) hD hS hA [0, 1, 2, 3] rfl
  refine va_calli (va_runV (As := [.int (xs (i + (1 : Int32)).toNatClampNeg), .int (xs (i + (2 : Int32)).toNatClampNeg), .int (xs (i + (3 : Int32)).toNatClampNeg), .int (xs (i + (4 : Int32)).toNatClampNeg)]) (rest := []) ⟨hx, hb, hml, hown, hts⟩ (metX0_shift l dC dI xh x1 x2 x3 xe1 xe2 xe3 _ f g (xs (i + (1 : Int32)).toNatClampNeg) (xs (i + (2 : Int32)).toNatClampNeg) (xs (i + (3 : Int32)).toNatClampNeg) (xs (i + (4 : Int32)).toNatClampNeg)) (cwV 4 hts (lw_V q87 q88 q89 q25 q90) rfl rfl rfl (by decide +kernel) ⟨Nat.le_of_ble_eq_true rfl, Nat.le_of_ble_eq_true rfl⟩) (tw_preSC hKc hPc hDc _) rfl rfl hl.1 rfl (lv_room (Nat.le_of_ble_eq_true rfl)) dL_law_262 ⟨Nat.le_of_ble_eq_true rfl, Nat.le_of_ble_eq_true rfl⟩) hS (fun q _ h => hFc q h) hFc (fun r_1 u_1 t H1 locs ht hvm hr_1 hB hz1 hk1 hS => ?_)
  obtain ⟨hP1, hK1, hD1⟩ := hB
  rw [ht] at hP1
  obtain ⟨hP, hD⟩ := va_join (wr := tw_M mh m1 m2 me1 me2 a d) (w1 := tw_C xh x1 x2 x3 xe1 xe2 xe3 u_1.1 u_1.2) hP hD [0, 1, 2, 3] [4, 5, 6] rfl rfl (by decide) (by decide) hk1 hFc hP1 hD1
  have hP := hP.sub (ws' := tw_W xh x1 x2 x3 xe1 xe2 xe3 mh m1 m2 me1 me2 u_1.1 u_1.2 a d) [3, 4, 5, 6, 0, 1, 2] rfl
  have hD := hD.sub (ws' := tw_W xh x1 x2 x3 xe1 xe2 xe3 mh m1 m2 me1 me2 u_1.1 u_1.2 a d) [3, 4, 5, 6, 0, 1, 2] (by decide) rfl
  generalize H1 = H at hP hS ⊢
  refine lv_aload_n hx hb dL_law_265 rfl (lv_at hl 2 rfl) ?_
  refine lv_aload_n hx hb dL_law_266 rfl (lv_at hl 0 rfl) ?_
  refine lv_iload_n hx hb dL_law_267 rfl (lv_at hl 3 rfl) ?_
  refine lv_iconst (v := 1) hx hb dL_law_268 (by decide) ?_
  refine lv_iadd hx hb dL_law_269 ?_
  refine va_sld hx hb hX hbl hbA hS j1 dL_law_270 ?_
  refine lv_aload_n hx hb dL_law_271 rfl (lv_at hl 0 rfl) ?_
  refine lv_iload_n hx hb dL_law_272 rfl (lv_at hl 3 rfl) ?_
  refine lv_iconst (v := 2) hx hb dL_law_273 (by decide) ?_
  refine lv_iadd hx hb dL_law_274 ?_
  refine va_sld hx hb hX hbl hbA hS j2 dL_law_275 ?_
  refine lv_aload_n hx hb dL_law_276 rfl (lv_at hl 0 rfl) ?_
  refine lv_iload_n hx hb dL_law_277 rfl (lv_at hl 3 rfl) ?_
  refine lv_iconst (v := 3) hx hb dL_law_278 (by decide) ?_
  refine lv_iadd hx hb dL_law_279 ?_
  refine va_sld hx hb hX hbl hbA hS j3 dL_law_280 ?_
  refine lv_aload_n hx hb dL_law_281 rfl (lv_at hl 0 rfl) ?_
  refine lv_iload_n hx hb dL_law_282 rfl (lv_at hl 3 rfl) ?_
  refine lv_iconst (v := 4) hx hb dL_law_283 (by decide) ?_
  refine lv_iadd hx hb dL_law_284 ?_
  refine va_sld hx hb hX hbl hbA hS j4 dL_law_285 ?_
  have hPc := hP.sub (ws' := tw_M mh m1 m2 me1 me2 a d) [4, 5, 6] rfl
  have hKc := hK.sub (tys' := tw_TM me1 me2) [3, 4] rfl
  have hDc := hD.sub (ws' := tw_M mh m1 m2 me1 me2 a d) [4, 5, 6] (by decide) rfl
  have hFc := va_free (wc := tw_M mh m1 m2 me1 me2 a d) hD hS hA [4, 5, 6] rfl
  refine va_calli (va_runV (As := [.int (xs (i + (1 : Int32)).toNatClampNeg), .int (xs (i + (2 : Int32)).toNatClampNeg), .int (xs (i + (3 : Int32)).toNatClampNeg), .int (xs (i + (4 : Int32)).toNatClampNeg)]) (rest := [.int r_1]) ⟨hx, hb, hml, hown, hts⟩ (metX1_shift l dC dI mh m1 m2 me1 me2 _ a d (xs (i + (1 : Int32)).toNatClampNeg) (xs (i + (2 : Int32)).toNatClampNeg) (xs (i + (3 : Int32)).toNatClampNeg) (xs (i + (4 : Int32)).toNatClampNeg)) (cwV 4 hts (lw_V q212 q213 q214 q26 q215) rfl rfl rfl (by decide +kernel) ⟨Nat.le_of_ble_eq_true rfl, Nat.le_of_ble_eq_true rfl⟩) (tw_preSM hKc hPc hDc _) rfl rfl hl.1 rfl (lv_room (Nat.le_of_ble_eq_true rfl)) dL_law_286 ⟨Nat.le_of_ble_eq_true rfl, Nat.le_of_ble_eq_true rfl⟩) hS (fun q _ h => hFc q h) hFc (fun r_2 u_2 t H1 locs ht hvm hr_2 hB hz1 hk1 hS => ?_)
  obtain ⟨hP1, hK1, hD1⟩ := hB
  rw [ht] at hP1
  obtain ⟨hP, hD⟩ := va_join (wr := tw_C xh x1 x2 x3 xe1 xe2 xe3 u_1.1 u_1.2) (w1 := tw_M mh m1 m2 me1 me2 u_2.1 u_2.2) hP hD [4, 5, 6] [0, 1, 2, 3] rfl rfl (by decide) (by decide) hk1 hFc hP1 hD1
  have hP := hP.sub (ws' := tw_W xh x1 x2 x3 xe1 xe2 xe3 mh m1 m2 me1 me2 u_1.1 u_1.2 u_2.1 u_2.2) [0, 1, 2, 3, 4, 5, 6] rfl
  have hD := hD.sub (ws' := tw_W xh x1 x2 x3 xe1 xe2 xe3 mh m1 m2 me1 me2 u_1.1 u_1.2 u_2.1 u_2.2) [0, 1, 2, 3, 4, 5, 6] (by decide) rfl
  generalize H1 = H at hP hS ⊢
  have hans := ta_shift (g := g) (d := d) hR hr_1 hr_2
  refine lv_icmp_eq (tgt := 620) hx hb dL_law_289 (by decide) (fun _ => ?_) (fun c_9 => absurd hans.1 c_9)
  exact kk u_1.1 u_1.2 u_2.1 u_2.2 _ _ ls ⟨hans.2, hP, hD, hS⟩ hl
set_option maxHeartbeats 4000000 in
set_option maxRecDepth 100000 in
/-- case 4: value -/
theorem law_value {p : Program} {l : Launch} {e : Env} {s : State} {m : MethodId} {below : List Frame} {meth : Method} {c : Code} {b L : Nat} {xs : Nat → Int32} (C0 : lw_At p s m meth c b L xs) {dC : Nat → ClassId} {dI : Nat → Nat → Nat} {xh x1 x2 x3 : Nat} {xe1 xe2 xe3 : ClassId} {mh m1 m2 : Nat} {me1 me2 : ClassId} (hK : va_K (dC, dI) tw_cl (tw_TW xe1 xe2 xe3 me1 me2) s) (i : Int32) (j1 : vp_in (i + (1 : Int32)) L) (j2 : vp_in (i + (2 : Int32)) L) (j3 : vp_in (i + (3 : Int32)) L) (j4 : vp_in (i + (4 : Int32)) L) (kk : tw_next p l e s m below meth c b dC dI xh x1 x2 x3 xe1 xe2 xe3 mh m1 m2 me1 me2 i) (f : Nat → Int64) (g a d : Nat → Int32) (H : Heap) (locs : List Loc) (ls : Array Slot) (hI : tw_I dC dI xh x1 x2 x3 xe1 xe2 xe3 mh m1 m2 me1 me2 s f g a d H locs) (hl : lv_has ls 4 [(0, .ref b), (1, .ref xh), (2, .ref mh), (3, .int i)]) : W p l e room_1 s m #[Value.ref b] below meth c H locs 7 399 (lw_Z below #[Value.ref b] s) (F0 m 294 ls []) := by
  obtain ⟨hx, hb, hr, hml, hown, hts0, hX, hbl, hlocks, hgv⟩ := C0
  have hts : ∀ w ∈ lw_all, w.before #[Value.ref b] s = true := fun w h => hts0 w (lw_all_tbl h)
  have hA : ∀ q : Nat, s.heap.size ≤ q → (fun q : Nat => s.heap.size ≤ q) q := fun _ h => h
  have hbA : ¬ (fun q : Nat => s.heap.size ≤ q) b := Nat.not_le.mpr hbl
  obtain ⟨hR, hP, hD, hS⟩ := hI
  refine lv_aload_n hx hb dL_law_294 rfl (lv_at hl 1 rfl) ?_
  refine lv_aload_n hx hb dL_law_295 rfl (lv_at hl 0 rfl) ?_
  refine lv_iload_n hx hb dL_law_296 rfl (lv_at hl 3 rfl) ?_
  refine lv_iconst (v := 1) hx hb dL_law_297 (by decide) ?_
  refine lv_iadd hx hb dL_law_298 ?_
  refine va_sld hx hb hX hbl hbA hS j1 dL_law_299 ?_
  refine lv_aload_n hx hb dL_law_300 rfl (lv_at hl 0 rfl) ?_
  refine lv_iload_n hx hb dL_law_301 rfl (lv_at hl 3 rfl) ?_
  refine lv_iconst (v := 2) hx hb dL_law_302 (by decide) ?_
  refine lv_iadd hx hb dL_law_303 ?_
  refine va_sld hx hb hX hbl hbA hS j2 dL_law_304 ?_
  have hPc := hP.sub (ws' := tw_C xh x1 x2 x3 xe1 xe2 xe3 f g) [0, 1, 2, 3] rfl
  have hKc := hK.sub (tys' := tw_TC xe1 xe2 xe3) [0, 1, 2] rfl
  refine vp_callSi (W.runV (As := [.int (xs (i + (1 : Int32)).toNatClampNeg), .int (xs (i + (2 : Int32)).toNatClampNeg)]) (rest := []) ⟨hx, hb, hml, hown, hts⟩ (metX0_value l dC dI xh x1 x2 x3 xe1 xe2 xe3 f g (xs (i + (1 : Int32)).toNatClampNeg) (xs (i + (2 : Int32)).toNatClampNeg)) (cwV 2 hts (lw_V q99 q100 q101 q25 q102) rfl rfl rfl (by decide +kernel) ⟨Nat.le_of_ble_eq_true rfl, Nat.le_of_ble_eq_true rfl⟩) (tw_preC hKc hPc _) rfl rfl hl.1 rfl (lv_room (Nat.le_of_ble_eq_true rfl)) dL_law_305 ⟨Nat.le_of_ble_eq_true rfl, Nat.le_of_ble_eq_true rfl⟩) (fun r_1 hr_1 => ?_)
  refine lv_aload_n hx hb dL_law_308 rfl (lv_at hl 2 rfl) ?_
  refine lv_aload_n hx hb dL_law_309 rfl (lv_at hl 0 rfl) ?_
  refine lv_iload_n hx hb dL_law_310 rfl (lv_at hl 3 rfl) ?_
  refine lv_iconst (v := 1) hx hb dL_law_311 (by decide) ?_
  refine lv_iadd hx hb dL_law_312 ?_
  refine va_sld hx hb hX hbl hbA hS j1 dL_law_313 ?_
  refine lv_aload_n hx hb dL_law_314 rfl (lv_at hl 0 rfl) ?_
  refine lv_iload_n hx hb dL_law_315 rfl (lv_at hl 3 rfl) ?_
  refine lv_iconst (v := 2) hx hb dL_law_316 (by decide) ?_
  refine lv_iadd hx hb dL_law_317 ?_
  refine va_sld hx hb hX hbl hbA hS j2 dL_law_318 ?_
  have hPc := hP.sub (ws' := tw_M mh m1 m2 me1 me2 a d) [4, 5, 6] rfl
  have hKc := hK.sub (tys' := tw_TM me1 me2) [3, 4] rfl
  refine vp_callSi (W.runV (As := [.int (xs (i + (1 : Int32)).toNatClampNeg), .int (xs (i + (2 : Int32)).toNatClampNeg)]) (rest := [.int r_1]) ⟨hx, hb, hml, hown, hts⟩ (metX1_value l dC dI mh m1 m2 me1 me2 a d (xs (i + (1 : Int32)).toNatClampNeg) (xs (i + (2 : Int32)).toNatClampNeg)) (cwV 2 hts (lw_V q224 q225 q226 q26 q227) rfl rfl rfl (by decide +kernel) ⟨Nat.le_of_ble_eq_true rfl, Nat.le_of_ble_eq_true rfl⟩) (tw_preM hKc hPc _) rfl rfl hl.1 rfl (lv_room (Nat.le_of_ble_eq_true rfl)) dL_law_319 ⟨Nat.le_of_ble_eq_true rfl, Nat.le_of_ble_eq_true rfl⟩) (fun r_2 hr_2 => ?_)
  have hans := ta_value (g := g) (d := d) hR hr_1 hr_2
  refine lv_icmp_eq (tgt := 620) hx hb dL_law_322 (by decide) (fun _ => ?_) (fun c_9 => absurd hans.1 c_9)
  exact kk f g a d _ _ ls ⟨hans.2, hP, hD, hS⟩ hl
set_option maxHeartbeats 4000000 in
set_option maxRecDepth 100000 in
/-- case 5: ones -/
theorem law_ones {p : Program} {l : Launch} {e : Env} {s : State} {m : MethodId} {below : List Frame} {meth : Method} {c : Code} {b L : Nat} {xs : Nat → Int32} (C0 : lw_At p s m meth c b L xs) {dC : Nat → ClassId} {dI : Nat → Nat → Nat} {xh x1 x2 x3 : Nat} {xe1 xe2 xe3 : ClassId} {mh m1 m2 : Nat} {me1 me2 : ClassId} (hK : va_K (dC, dI) tw_cl (tw_TW xe1 xe2 xe3 me1 me2) s) (i : Int32) (j1 : vp_in (i + (1 : Int32)) L) (j2 : vp_in (i + (2 : Int32)) L) (j3 : vp_in (i + (3 : Int32)) L) (j4 : vp_in (i + (4 : Int32)) L) (kk : tw_next p l e s m below meth c b dC dI xh x1 x2 x3 xe1 xe2 xe3 mh m1 m2 me1 me2 i) (f : Nat → Int64) (g a d : Nat → Int32) (H : Heap) (locs : List Loc) (ls : Array Slot) (hI : tw_I dC dI xh x1 x2 x3 xe1 xe2 xe3 mh m1 m2 me1 me2 s f g a d H locs) (hl : lv_has ls 4 [(0, .ref b), (1, .ref xh), (2, .ref mh), (3, .int i)]) : W p l e room_1 s m #[Value.ref b] below meth c H locs 7 399 (lw_Z below #[Value.ref b] s) (F0 m 327 ls []) := by
  obtain ⟨hx, hb, hr, hml, hown, hts0, hX, hbl, hlocks, hgv⟩ := C0
  have hts : ∀ w ∈ lw_all, w.before #[Value.ref b] s = true := fun w h => hts0 w (lw_all_tbl h)
  have hA : ∀ q : Nat, s.heap.size ≤ q → (fun q : Nat => s.heap.size ≤ q) q := fun _ h => h
  have hbA : ¬ (fun q : Nat => s.heap.size ≤ q) b := Nat.not_le.mpr hbl
  obtain ⟨hR, hP, hD, hS⟩ := hI
  refine lv_aload_n hx hb dL_law_327 rfl (lv_at hl 1 rfl) ?_
  refine lv_aload_n hx hb dL_law_328 rfl (lv_at hl 0 rfl) ?_
  refine lv_iload_n hx hb dL_law_329 rfl (lv_at hl 3 rfl) ?_
  refine lv_iconst (v := 1) hx hb dL_law_330 (by decide) ?_
  refine lv_iadd hx hb dL_law_331 ?_
  refine va_sld hx hb hX hbl hbA hS j1 dL_law_332 ?_
  have hPc := hP.sub (ws' := tw_C xh x1 x2 x3 xe1 xe2 xe3 f g) [0, 1, 2, 3] rfl
  have hKc := hK.sub (tys' := tw_TC xe1 xe2 xe3) [0, 1, 2] rfl
  refine vp_callSi (W.runV (As := [.int (xs (i + (1 : Int32)).toNatClampNeg)]) (rest := []) ⟨hx, hb, hml, hown, hts⟩ (metX0_ones l dC dI xh x1 x2 x3 xe1 xe2 xe3 f g (xs (i + (1 : Int32)).toNatClampNeg)) (cwV 1 hts (lw_V q103 q104 q105 q25 q106) rfl rfl rfl (by decide +kernel) ⟨Nat.le_of_ble_eq_true rfl, Nat.le_of_ble_eq_true rfl⟩) (tw_preC hKc hPc _) rfl rfl hl.1 rfl (lv_room (Nat.le_of_ble_eq_true rfl)) dL_law_333 ⟨Nat.le_of_ble_eq_true rfl, Nat.le_of_ble_eq_true rfl⟩) (fun r_1 hr_1 => ?_)
  refine lv_aload_n hx hb dL_law_336 rfl (lv_at hl 2 rfl) ?_
  refine lv_aload_n hx hb dL_law_337 rfl (lv_at hl 0 rfl) ?_
  refine lv_iload_n hx hb dL_law_338 rfl (lv_at hl 3 rfl) ?_
  refine lv_iconst (v := 1) hx hb dL_law_339 (by decide) ?_
  refine lv_iadd hx hb dL_law_340 ?_
  refine va_sld hx hb hX hbl hbA hS j1 dL_law_341 ?_
  have hPc := hP.sub (ws' := tw_M mh m1 m2 me1 me2 a d) [4, 5, 6] rfl
  have hKc := hK.sub (tys' := tw_TM me1 me2) [3, 4] rfl
  refine vp_callSi (W.runV (As := [.int (xs (i + (1 : Int32)).toNatClampNeg)]) (rest := [.int r_1]) ⟨hx, hb, hml, hown, hts⟩ (metX1_ones l dC dI mh m1 m2 me1 me2 a d (xs (i + (1 : Int32)).toNatClampNeg)) (cwV 1 hts (lw_V q228 q229 q230 q26 q231) rfl rfl rfl (by decide +kernel) ⟨Nat.le_of_ble_eq_true rfl, Nat.le_of_ble_eq_true rfl⟩) (tw_preM hKc hPc _) rfl rfl hl.1 rfl (lv_room (Nat.le_of_ble_eq_true rfl)) dL_law_342 ⟨Nat.le_of_ble_eq_true rfl, Nat.le_of_ble_eq_true rfl⟩) (fun r_2 hr_2 => ?_)
  have hans := ta_ones (g := g) (d := d) hR hr_1 hr_2
  refine lv_icmp_eq (tgt := 620) hx hb dL_law_345 (by decide) (fun _ => ?_) (fun c_9 => absurd hans.1 c_9)
  exact kk f g a d _ _ ls ⟨hans.2, hP, hD, hS⟩ hl
set_option maxHeartbeats 4000000 in
set_option maxRecDepth 100000 in
/-- case 6: form -/
theorem law_form {p : Program} {l : Launch} {e : Env} {s : State} {m : MethodId} {below : List Frame} {meth : Method} {c : Code} {b L : Nat} {xs : Nat → Int32} (C0 : lw_At p s m meth c b L xs) {dC : Nat → ClassId} {dI : Nat → Nat → Nat} {xh x1 x2 x3 : Nat} {xe1 xe2 xe3 : ClassId} {mh m1 m2 : Nat} {me1 me2 : ClassId} (hK : va_K (dC, dI) tw_cl (tw_TW xe1 xe2 xe3 me1 me2) s) (i : Int32) (j1 : vp_in (i + (1 : Int32)) L) (j2 : vp_in (i + (2 : Int32)) L) (j3 : vp_in (i + (3 : Int32)) L) (j4 : vp_in (i + (4 : Int32)) L) (kk : tw_next p l e s m below meth c b dC dI xh x1 x2 x3 xe1 xe2 xe3 mh m1 m2 me1 me2 i) (f : Nat → Int64) (g a d : Nat → Int32) (H : Heap) (locs : List Loc) (ls : Array Slot) (hI : tw_I dC dI xh x1 x2 x3 xe1 xe2 xe3 mh m1 m2 me1 me2 s f g a d H locs) (hl : lv_has ls 4 [(0, .ref b), (1, .ref xh), (2, .ref mh), (3, .int i)]) : W p l e room_1 s m #[Value.ref b] below meth c H locs 7 399 (lw_Z below #[Value.ref b] s) (F0 m 350 ls []) := by
  obtain ⟨hx, hb, hr, hml, hown, hts0, hX, hbl, hlocks, hgv⟩ := C0
  have hts : ∀ w ∈ lw_all, w.before #[Value.ref b] s = true := fun w h => hts0 w (lw_all_tbl h)
  have hA : ∀ q : Nat, s.heap.size ≤ q → (fun q : Nat => s.heap.size ≤ q) q := fun _ h => h
  have hbA : ¬ (fun q : Nat => s.heap.size ≤ q) b := Nat.not_le.mpr hbl
  obtain ⟨hR, hP, hD, hS⟩ := hI
  refine lv_aload_n hx hb dL_law_350 rfl (lv_at hl 1 rfl) ?_
  refine lv_aload_n hx hb dL_law_351 rfl (lv_at hl 0 rfl) ?_
  refine lv_iload_n hx hb dL_law_352 rfl (lv_at hl 3 rfl) ?_
  refine lv_iconst (v := 1) hx hb dL_law_353 (by decide) ?_
  refine lv_iadd hx hb dL_law_354 ?_
  refine va_sld hx hb hX hbl hbA hS j1 dL_law_355 ?_
  refine lv_aload_n hx hb dL_law_356 rfl (lv_at hl 0 rfl) ?_
  refine lv_iload_n hx hb dL_law_357 rfl (lv_at hl 3 rfl) ?_
  refine lv_iconst (v := 2) hx hb dL_law_358 (by decide) ?_
  refine lv_iadd hx hb dL_law_359 ?_
  refine va_sld hx hb hX hbl hbA hS j2 dL_law_360 ?_
  have hPc := hP.sub (ws' := tw_C xh x1 x2 x3 xe1 xe2 xe3 f g) [0, 1, 2, 3] rfl
  have hKc := hK.sub (tys' := tw_TC xe1 xe2 xe3) [0, 1, 2] rfl
  refine vp_callSi (W.runV (As := [.int (xs (i + (1 : Int32)).toNatClampNeg), .int (xs (i + (2 : Int32)).toNatClampNeg)]) (rest := []) ⟨hx, hb, hml, hown, hts⟩ (metX0_form l dC dI xh x1 x2 x3 xe1 xe2 xe3 f g (xs (i + (1 : Int32)).toNatClampNeg) (xs (i + (2 : Int32)).toNatClampNeg)) (cwV 2 hts (lw_V q107 q108 q109 q25 q110) rfl rfl rfl (by decide +kernel) ⟨Nat.le_of_ble_eq_true rfl, Nat.le_of_ble_eq_true rfl⟩) (tw_preC hKc hPc _) rfl rfl hl.1 rfl (lv_room (Nat.le_of_ble_eq_true rfl)) dL_law_361 ⟨Nat.le_of_ble_eq_true rfl, Nat.le_of_ble_eq_true rfl⟩) (fun r_1 hr_1 => ?_)
  refine lv_aload_n hx hb dL_law_364 rfl (lv_at hl 2 rfl) ?_
  refine lv_aload_n hx hb dL_law_365 rfl (lv_at hl 0 rfl) ?_
  refine lv_iload_n hx hb dL_law_366 rfl (lv_at hl 3 rfl) ?_
  refine lv_iconst (v := 1) hx hb dL_law_367 (by decide) ?_
  refine lv_iadd hx hb dL_law_368 ?_
  refine va_sld hx hb hX hbl hbA hS j1 dL_law_369 ?_
  refine lv_aload_n hx hb dL_law_370 rfl (lv_at hl 0 rfl) ?_
  refine lv_iload_n hx hb dL_law_371 rfl (lv_at hl 3 rfl) ?_
  refine lv_iconst (v := 2) hx hb dL_law_372 (by decide) ?_
  refine lv_iadd hx hb dL_law_373 ?_
  refine va_sld hx hb hX hbl hbA hS j2 dL_law_374 ?_
  have hPc := hP.sub (ws' := tw_M mh m1 m2 me1 me2 a d) [4, 5, 6] rfl
  have hKc := hK.sub (tys' := tw_TM me1 me2) [3, 4] rfl
  refine vp_callSi (W.runV (As := [.int (xs (i + (1 : Int32)).toNatClampNeg), .int (xs (i + (2 : Int32)).toNatClampNeg)]) (rest := [.int r_1]) ⟨hx, hb, hml, hown, hts⟩ (metX1_form l dC dI mh m1 m2 me1 me2 a d (xs (i + (1 : Int32)).toNatClampNeg) (xs (i + (2 : Int32)).toNatClampNeg)) (cwV 2 hts (lw_V q232 q233 q234 q26 q235) rfl rfl rfl (by decide +kernel) ⟨Nat.le_of_ble_eq_true rfl, Nat.le_of_ble_eq_true rfl⟩) (tw_preM hKc hPc _) rfl rfl hl.1 rfl (lv_room (Nat.le_of_ble_eq_true rfl)) dL_law_375 ⟨Nat.le_of_ble_eq_true rfl, Nat.le_of_ble_eq_true rfl⟩) (fun r_2 hr_2 => ?_)
  have hans := ta_form (g := g) (d := d) hR hr_1 hr_2
  refine lv_icmp_eq (tgt := 620) hx hb dL_law_378 (by decide) (fun _ => ?_) (fun c_9 => absurd hans.1 c_9)
  exact kk f g a d _ _ ls ⟨hans.2, hP, hD, hS⟩ hl
set_option maxHeartbeats 4000000 in
set_option maxRecDepth 100000 in
/-- case 7: degree -/
theorem law_degree {p : Program} {l : Launch} {e : Env} {s : State} {m : MethodId} {below : List Frame} {meth : Method} {c : Code} {b L : Nat} {xs : Nat → Int32} (C0 : lw_At p s m meth c b L xs) {dC : Nat → ClassId} {dI : Nat → Nat → Nat} {xh x1 x2 x3 : Nat} {xe1 xe2 xe3 : ClassId} {mh m1 m2 : Nat} {me1 me2 : ClassId} (hK : va_K (dC, dI) tw_cl (tw_TW xe1 xe2 xe3 me1 me2) s) (i : Int32) (j1 : vp_in (i + (1 : Int32)) L) (j2 : vp_in (i + (2 : Int32)) L) (j3 : vp_in (i + (3 : Int32)) L) (j4 : vp_in (i + (4 : Int32)) L) (kk : tw_next p l e s m below meth c b dC dI xh x1 x2 x3 xe1 xe2 xe3 mh m1 m2 me1 me2 i) (f : Nat → Int64) (g a d : Nat → Int32) (H : Heap) (locs : List Loc) (ls : Array Slot) (hI : tw_I dC dI xh x1 x2 x3 xe1 xe2 xe3 mh m1 m2 me1 me2 s f g a d H locs) (hl : lv_has ls 4 [(0, .ref b), (1, .ref xh), (2, .ref mh), (3, .int i)]) : W p l e room_1 s m #[Value.ref b] below meth c H locs 7 399 (lw_Z below #[Value.ref b] s) (F0 m 383 ls []) := by
  obtain ⟨hx, hb, hr, hml, hown, hts0, hX, hbl, hlocks, hgv⟩ := C0
  have hts : ∀ w ∈ lw_all, w.before #[Value.ref b] s = true := fun w h => hts0 w (lw_all_tbl h)
  have hA : ∀ q : Nat, s.heap.size ≤ q → (fun q : Nat => s.heap.size ≤ q) q := fun _ h => h
  have hbA : ¬ (fun q : Nat => s.heap.size ≤ q) b := Nat.not_le.mpr hbl
  obtain ⟨hR, hP, hD, hS⟩ := hI
  refine lv_aload_n hx hb dL_law_383 rfl (lv_at hl 1 rfl) ?_
  refine lv_aload_n hx hb dL_law_384 rfl (lv_at hl 0 rfl) ?_
  refine lv_iload_n hx hb dL_law_385 rfl (lv_at hl 3 rfl) ?_
  refine lv_iconst (v := 1) hx hb dL_law_386 (by decide) ?_
  refine lv_iadd hx hb dL_law_387 ?_
  refine va_sld hx hb hX hbl hbA hS j1 dL_law_388 ?_
  have hPc := hP.sub (ws' := tw_C xh x1 x2 x3 xe1 xe2 xe3 f g) [0, 1, 2, 3] rfl
  have hKc := hK.sub (tys' := tw_TC xe1 xe2 xe3) [0, 1, 2] rfl
  refine vp_callSi (W.runV (As := [.int (xs (i + (1 : Int32)).toNatClampNeg)]) (rest := []) ⟨hx, hb, hml, hown, hts⟩ (metX0_degree l dC dI xh x1 x2 x3 xe1 xe2 xe3 f g (xs (i + (1 : Int32)).toNatClampNeg)) (cwV 1 hts (lw_V q111 q112 q113 q25 q114) rfl rfl rfl (by decide +kernel) ⟨Nat.le_of_ble_eq_true rfl, Nat.le_of_ble_eq_true rfl⟩) (tw_preC hKc hPc _) rfl rfl hl.1 rfl (lv_room (Nat.le_of_ble_eq_true rfl)) dL_law_389 ⟨Nat.le_of_ble_eq_true rfl, Nat.le_of_ble_eq_true rfl⟩) (fun r_1 hr_1 => ?_)
  refine lv_aload_n hx hb dL_law_392 rfl (lv_at hl 2 rfl) ?_
  refine lv_aload_n hx hb dL_law_393 rfl (lv_at hl 0 rfl) ?_
  refine lv_iload_n hx hb dL_law_394 rfl (lv_at hl 3 rfl) ?_
  refine lv_iconst (v := 1) hx hb dL_law_395 (by decide) ?_
  refine lv_iadd hx hb dL_law_396 ?_
  refine va_sld hx hb hX hbl hbA hS j1 dL_law_397 ?_
  have hPc := hP.sub (ws' := tw_M mh m1 m2 me1 me2 a d) [4, 5, 6] rfl
  have hKc := hK.sub (tys' := tw_TM me1 me2) [3, 4] rfl
  refine vp_callSi (W.runV (As := [.int (xs (i + (1 : Int32)).toNatClampNeg)]) (rest := [.int r_1]) ⟨hx, hb, hml, hown, hts⟩ (metX1_degree l dC dI mh m1 m2 me1 me2 a d (xs (i + (1 : Int32)).toNatClampNeg)) (cwV 1 hts (lw_V q240 q241 q242 q26 q243) rfl rfl rfl (by decide +kernel) ⟨Nat.le_of_ble_eq_true rfl, Nat.le_of_ble_eq_true rfl⟩) (tw_preM hKc hPc _) rfl rfl hl.1 rfl (lv_room (Nat.le_of_ble_eq_true rfl)) dL_law_398 ⟨Nat.le_of_ble_eq_true rfl, Nat.le_of_ble_eq_true rfl⟩) (fun r_2 hr_2 => ?_)
  have hans := ta_degree (g := g) (d := d) hR hr_1 hr_2
  refine lv_icmp_eq (tgt := 620) hx hb dL_law_401 (by decide) (fun _ => ?_) (fun c_9 => absurd hans.1 c_9)
  exact kk f g a d _ _ ls ⟨hans.2, hP, hD, hS⟩ hl
end
section
/-! the law's cases 8 to 15 -/
set_option maxHeartbeats 4000000 in
set_option maxRecDepth 100000 in
/-- case 8: spectrum -/
theorem law_spectrum {p : Program} {l : Launch} {e : Env} {s : State} {m : MethodId} {below : List Frame} {meth : Method} {c : Code} {b L : Nat} {xs : Nat → Int32} (C0 : lw_At p s m meth c b L xs) {dC : Nat → ClassId} {dI : Nat → Nat → Nat} {xh x1 x2 x3 : Nat} {xe1 xe2 xe3 : ClassId} {mh m1 m2 : Nat} {me1 me2 : ClassId} (hK : va_K (dC, dI) tw_cl (tw_TW xe1 xe2 xe3 me1 me2) s) (i : Int32) (j1 : vp_in (i + (1 : Int32)) L) (j2 : vp_in (i + (2 : Int32)) L) (j3 : vp_in (i + (3 : Int32)) L) (j4 : vp_in (i + (4 : Int32)) L) (kk : tw_next p l e s m below meth c b dC dI xh x1 x2 x3 xe1 xe2 xe3 mh m1 m2 me1 me2 i) (f : Nat → Int64) (g a d : Nat → Int32) (H : Heap) (locs : List Loc) (ls : Array Slot) (hI : tw_I dC dI xh x1 x2 x3 xe1 xe2 xe3 mh m1 m2 me1 me2 s f g a d H locs) (hl : lv_has ls 4 [(0, .ref b), (1, .ref xh), (2, .ref mh), (3, .int i)]) : W p l e room_1 s m #[Value.ref b] below meth c H locs 7 399 (lw_Z below #[Value.ref b] s) (F0 m 406 ls []) := by
  obtain ⟨hx, hb, hr, hml, hown, hts0, hX, hbl, hlocks, hgv⟩ := C0
  have hts : ∀ w ∈ lw_all, w.before #[Value.ref b] s = true := fun w h => hts0 w (lw_all_tbl h)
  have hA : ∀ q : Nat, s.heap.size ≤ q → (fun q : Nat => s.heap.size ≤ q) q := fun _ h => h
  have hbA : ¬ (fun q : Nat => s.heap.size ≤ q) b := Nat.not_le.mpr hbl
  obtain ⟨hR, hP, hD, hS⟩ := hI
  refine lv_aload_n hx hb dL_law_406 rfl (lv_at hl 1 rfl) ?_
  refine lv_aload_n hx hb dL_law_407 rfl (lv_at hl 0 rfl) ?_
  refine lv_iload_n hx hb dL_law_408 rfl (lv_at hl 3 rfl) ?_
  refine lv_iconst (v := 1) hx hb dL_law_409 (by decide) ?_
  refine lv_iadd hx hb dL_law_410 ?_
  refine va_sld hx hb hX hbl hbA hS j1 dL_law_411 ?_
  refine lv_aload_n hx hb dL_law_412 rfl (lv_at hl 0 rfl) ?_
  refine lv_iload_n hx hb dL_law_413 rfl (lv_at hl 3 rfl) ?_
  refine lv_iconst (v := 2) hx hb dL_law_414 (by decide) ?_
  refine lv_iadd hx hb dL_law_415 ?_
  refine va_sld hx hb hX hbl hbA hS j2 dL_law_416 ?_
  have hPc := hP.sub (ws' := tw_C xh x1 x2 x3 xe1 xe2 xe3 f g) [0, 1, 2, 3] rfl
  have hKc := hK.sub (tys' := tw_TC xe1 xe2 xe3) [0, 1, 2] rfl
  have hDc := hD.sub (ws' := tw_C xh x1 x2 x3 xe1 xe2 xe3 f g) [0, 1, 2, 3] (by decide) rfl
  have hFc := va_free (wc := tw_C xh x1 x2 x3 xe1 xe2 xe3 f g) hD hS hA [0, 1, 2, 3] rfl
  refine va_calli (va_runV (As := [.int (xs (i + (1 : Int32)).toNatClampNeg), .int (xs (i + (2 : Int32)).toNatClampNeg)]) (rest := []) ⟨hx, hb, hml, hown, hts⟩ (metX0_spectrum l dC dI xh x1 x2 x3 xe1 xe2 xe3 _ f g (xs (i + (1 : Int32)).toNatClampNeg) (xs (i + (2 : Int32)).toNatClampNeg)) (cwV 2 hts (lw_V q119 q120 q121 q25 q122) rfl rfl rfl (by decide +kernel) ⟨Nat.le_of_ble_eq_true rfl, Nat.le_of_ble_eq_true rfl⟩) (tw_preSC hKc hPc hDc _) rfl rfl hl.1 rfl (lv_room (Nat.le_of_ble_eq_true rfl)) dL_law_417 ⟨Nat.le_of_ble_eq_true rfl, Nat.le_of_ble_eq_true rfl⟩) hS (fun q _ h => hFc q h) hFc (fun r_1 u_1 t H1 locs ht hvm hr_1 hB hz1 hk1 hS => ?_)
  obtain ⟨hP1, hK1, hD1⟩ := hB
  rw [ht] at hP1
  obtain ⟨hP, hD⟩ := va_join (wr := tw_M mh m1 m2 me1 me2 a d) (w1 := tw_C xh x1 x2 x3 xe1 xe2 xe3 u_1.1 u_1.2) hP hD [0, 1, 2, 3] [4, 5, 6] rfl rfl (by decide) (by decide) hk1 hFc hP1 hD1
  have hP := hP.sub (ws' := tw_W xh x1 x2 x3 xe1 xe2 xe3 mh m1 m2 me1 me2 u_1.1 u_1.2 a d) [3, 4, 5, 6, 0, 1, 2] rfl
  have hD := hD.sub (ws' := tw_W xh x1 x2 x3 xe1 xe2 xe3 mh m1 m2 me1 me2 u_1.1 u_1.2 a d) [3, 4, 5, 6, 0, 1, 2] (by decide) rfl
  generalize H1 = H at hP hS ⊢
  refine lv_aload_n hx hb dL_law_420 rfl (lv_at hl 2 rfl) ?_
  refine lv_aload_n hx hb dL_law_421 rfl (lv_at hl 0 rfl) ?_
  refine lv_iload_n hx hb dL_law_422 rfl (lv_at hl 3 rfl) ?_
  refine lv_iconst (v := 1) hx hb dL_law_423 (by decide) ?_
  refine lv_iadd hx hb dL_law_424 ?_
  refine va_sld hx hb hX hbl hbA hS j1 dL_law_425 ?_
  refine lv_aload_n hx hb dL_law_426 rfl (lv_at hl 0 rfl) ?_
  refine lv_iload_n hx hb dL_law_427 rfl (lv_at hl 3 rfl) ?_
  refine lv_iconst (v := 2) hx hb dL_law_428 (by decide) ?_
  refine lv_iadd hx hb dL_law_429 ?_
  refine va_sld hx hb hX hbl hbA hS j2 dL_law_430 ?_
  have hPc := hP.sub (ws' := tw_M mh m1 m2 me1 me2 a d) [4, 5, 6] rfl
  have hKc := hK.sub (tys' := tw_TM me1 me2) [3, 4] rfl
  refine vp_callSi (W.runV (As := [.int (xs (i + (1 : Int32)).toNatClampNeg), .int (xs (i + (2 : Int32)).toNatClampNeg)]) (rest := [.int r_1]) ⟨hx, hb, hml, hown, hts⟩ (metX1_spectrum l dC dI mh m1 m2 me1 me2 a d (xs (i + (1 : Int32)).toNatClampNeg) (xs (i + (2 : Int32)).toNatClampNeg)) (cwV 2 hts (lw_V q244 q245 q246 q26 q247) rfl rfl rfl (by decide +kernel) ⟨Nat.le_of_ble_eq_true rfl, Nat.le_of_ble_eq_true rfl⟩) (tw_preM hKc hPc _) rfl rfl hl.1 rfl (lv_room (Nat.le_of_ble_eq_true rfl)) dL_law_431 ⟨Nat.le_of_ble_eq_true rfl, Nat.le_of_ble_eq_true rfl⟩) (fun r_2 hr_2 => ?_)
  have hans := ta_spectrum (g := g) (d := d) hR hr_1 hr_2
  refine lv_icmp_eq (tgt := 620) hx hb dL_law_434 (by decide) (fun _ => ?_) (fun c_9 => absurd hans.1 c_9)
  exact kk u_1.1 u_1.2 a d _ _ ls ⟨hans.2, hP, hD, hS⟩ hl
set_option maxHeartbeats 4000000 in
set_option maxRecDepth 100000 in
/-- case 9: distance -/
theorem law_distance {p : Program} {l : Launch} {e : Env} {s : State} {m : MethodId} {below : List Frame} {meth : Method} {c : Code} {b L : Nat} {xs : Nat → Int32} (C0 : lw_At p s m meth c b L xs) {dC : Nat → ClassId} {dI : Nat → Nat → Nat} {xh x1 x2 x3 : Nat} {xe1 xe2 xe3 : ClassId} {mh m1 m2 : Nat} {me1 me2 : ClassId} (hK : va_K (dC, dI) tw_cl (tw_TW xe1 xe2 xe3 me1 me2) s) (i : Int32) (j1 : vp_in (i + (1 : Int32)) L) (j2 : vp_in (i + (2 : Int32)) L) (j3 : vp_in (i + (3 : Int32)) L) (j4 : vp_in (i + (4 : Int32)) L) (kk : tw_next p l e s m below meth c b dC dI xh x1 x2 x3 xe1 xe2 xe3 mh m1 m2 me1 me2 i) (f : Nat → Int64) (g a d : Nat → Int32) (H : Heap) (locs : List Loc) (ls : Array Slot) (hI : tw_I dC dI xh x1 x2 x3 xe1 xe2 xe3 mh m1 m2 me1 me2 s f g a d H locs) (hl : lv_has ls 4 [(0, .ref b), (1, .ref xh), (2, .ref mh), (3, .int i)]) : W p l e room_1 s m #[Value.ref b] below meth c H locs 7 399 (lw_Z below #[Value.ref b] s) (F0 m 439 ls []) := by
  obtain ⟨hx, hb, hr, hml, hown, hts0, hX, hbl, hlocks, hgv⟩ := C0
  have hts : ∀ w ∈ lw_all, w.before #[Value.ref b] s = true := fun w h => hts0 w (lw_all_tbl h)
  have hA : ∀ q : Nat, s.heap.size ≤ q → (fun q : Nat => s.heap.size ≤ q) q := fun _ h => h
  have hbA : ¬ (fun q : Nat => s.heap.size ≤ q) b := Nat.not_le.mpr hbl
  obtain ⟨hR, hP, hD, hS⟩ := hI
  refine lv_aload_n hx hb dL_law_439 rfl (lv_at hl 1 rfl) ?_
  refine lv_aload_n hx hb dL_law_440 rfl (lv_at hl 0 rfl) ?_
  refine lv_iload_n hx hb dL_law_441 rfl (lv_at hl 3 rfl) ?_
  refine lv_iconst (v := 1) hx hb dL_law_442 (by decide) ?_
  refine lv_iadd hx hb dL_law_443 ?_
  refine va_sld hx hb hX hbl hbA hS j1 dL_law_444 ?_
  have hPc := hP.sub (ws' := tw_C xh x1 x2 x3 xe1 xe2 xe3 f g) [0, 1, 2, 3] rfl
  have hKc := hK.sub (tys' := tw_TC xe1 xe2 xe3) [0, 1, 2] rfl
  have hDc := hD.sub (ws' := tw_C xh x1 x2 x3 xe1 xe2 xe3 f g) [0, 1, 2, 3] (by decide) rfl
  have hFc := va_free (wc := tw_C xh x1 x2 x3 xe1 xe2 xe3 f g) hD hS hA [0, 1, 2, 3] rfl
  refine va_calli (va_runV (As := [.int (xs (i + (1 : Int32)).toNatClampNeg)]) (rest := []) ⟨hx, hb, hml, hown, hts⟩ (metX0_distance l dC dI xh x1 x2 x3 xe1 xe2 xe3 _ f g (xs (i + (1 : Int32)).toNatClampNeg)) (cwV 1 hts (lw_V q131 q132 q133 q25 q134) rfl rfl rfl (by decide +kernel) ⟨Nat.le_of_ble_eq_true rfl, Nat.le_of_ble_eq_true rfl⟩) (tw_preSC hKc hPc hDc _) rfl rfl hl.1 rfl (lv_room (Nat.le_of_ble_eq_true rfl)) dL_law_445 ⟨Nat.le_of_ble_eq_true rfl, Nat.le_of_ble_eq_true rfl⟩) hS (fun q _ h => hFc q h) hFc (fun r_1 u_1 t H1 locs ht hvm hr_1 hB hz1 hk1 hS => ?_)
  obtain ⟨hP1, hK1, hD1⟩ := hB
  rw [ht] at hP1
  obtain ⟨hP, hD⟩ := va_join (wr := tw_M mh m1 m2 me1 me2 a d) (w1 := tw_C xh x1 x2 x3 xe1 xe2 xe3 u_1.1 u_1.2) hP hD [0, 1, 2, 3] [4, 5, 6] rfl rfl (by decide) (by decide) hk1 hFc hP1 hD1
  have hP := hP.sub (ws' := tw_W xh x1 x2 x3 xe1 xe2 xe3 mh m1 m2 me1 me2 u_1.1 u_1.2 a d) [3, 4, 5, 6, 0, 1, 2] rfl
  have hD := hD.sub (ws' := tw_W xh x1 x2 x3 xe1 xe2 xe3 mh m1 m2 me1 me2 u_1.1 u_1.2 a d) [3, 4, 5, 6, 0, 1, 2] (by decide) rfl
  generalize H1 = H at hP hS ⊢
  refine lv_aload_n hx hb dL_law_448 rfl (lv_at hl 2 rfl) ?_
  refine lv_aload_n hx hb dL_law_449 rfl (lv_at hl 0 rfl) ?_
  refine lv_iload_n hx hb dL_law_450 rfl (lv_at hl 3 rfl) ?_
  refine lv_iconst (v := 1) hx hb dL_law_451 (by decide) ?_
  refine lv_iadd hx hb dL_law_452 ?_
  refine va_sld hx hb hX hbl hbA hS j1 dL_law_453 ?_
  have hPc := hP.sub (ws' := tw_M mh m1 m2 me1 me2 a d) [4, 5, 6] rfl
  have hKc := hK.sub (tys' := tw_TM me1 me2) [3, 4] rfl
  refine vp_callSi (W.runV (As := [.int (xs (i + (1 : Int32)).toNatClampNeg)]) (rest := [.int r_1]) ⟨hx, hb, hml, hown, hts⟩ (metX1_distance l dC dI mh m1 m2 me1 me2 a d (xs (i + (1 : Int32)).toNatClampNeg)) (cwV 1 hts (lw_V q252 q253 q254 q26 q255) rfl rfl rfl (by decide +kernel) ⟨Nat.le_of_ble_eq_true rfl, Nat.le_of_ble_eq_true rfl⟩) (tw_preM hKc hPc _) rfl rfl hl.1 rfl (lv_room (Nat.le_of_ble_eq_true rfl)) dL_law_454 ⟨Nat.le_of_ble_eq_true rfl, Nat.le_of_ble_eq_true rfl⟩) (fun r_2 hr_2 => ?_)
  have hans := ta_distance (g := g) (d := d) hR hr_1 hr_2
  refine lv_icmp_eq (tgt := 620) hx hb dL_law_457 (by decide) (fun _ => ?_) (fun c_9 => absurd hans.1 c_9)
  exact kk u_1.1 u_1.2 a d _ _ ls ⟨hans.2, hP, hD, hS⟩ hl
set_option maxHeartbeats 4000000 in
set_option maxRecDepth 100000 in
/-- case 10: nearest -/
theorem law_nearest {p : Program} {l : Launch} {e : Env} {s : State} {m : MethodId} {below : List Frame} {meth : Method} {c : Code} {b L : Nat} {xs : Nat → Int32} (C0 : lw_At p s m meth c b L xs) {dC : Nat → ClassId} {dI : Nat → Nat → Nat} {xh x1 x2 x3 : Nat} {xe1 xe2 xe3 : ClassId} {mh m1 m2 : Nat} {me1 me2 : ClassId} (hK : va_K (dC, dI) tw_cl (tw_TW xe1 xe2 xe3 me1 me2) s) (i : Int32) (j1 : vp_in (i + (1 : Int32)) L) (j2 : vp_in (i + (2 : Int32)) L) (j3 : vp_in (i + (3 : Int32)) L) (j4 : vp_in (i + (4 : Int32)) L) (kk : tw_next p l e s m below meth c b dC dI xh x1 x2 x3 xe1 xe2 xe3 mh m1 m2 me1 me2 i) (f : Nat → Int64) (g a d : Nat → Int32) (H : Heap) (locs : List Loc) (ls : Array Slot) (hI : tw_I dC dI xh x1 x2 x3 xe1 xe2 xe3 mh m1 m2 me1 me2 s f g a d H locs) (hl : lv_has ls 4 [(0, .ref b), (1, .ref xh), (2, .ref mh), (3, .int i)]) : W p l e room_1 s m #[Value.ref b] below meth c H locs 7 399 (lw_Z below #[Value.ref b] s) (F0 m 462 ls []) := by
  obtain ⟨hx, hb, hr, hml, hown, hts0, hX, hbl, hlocks, hgv⟩ := C0
  have hts : ∀ w ∈ lw_all, w.before #[Value.ref b] s = true := fun w h => hts0 w (lw_all_tbl h)
  have hA : ∀ q : Nat, s.heap.size ≤ q → (fun q : Nat => s.heap.size ≤ q) q := fun _ h => h
  have hbA : ¬ (fun q : Nat => s.heap.size ≤ q) b := Nat.not_le.mpr hbl
  obtain ⟨hR, hP, hD, hS⟩ := hI
  refine lv_aload_n hx hb dL_law_462 rfl (lv_at hl 1 rfl) ?_
  refine lv_aload_n hx hb dL_law_463 rfl (lv_at hl 0 rfl) ?_
  refine lv_iload_n hx hb dL_law_464 rfl (lv_at hl 3 rfl) ?_
  refine lv_iconst (v := 1) hx hb dL_law_465 (by decide) ?_
  refine lv_iadd hx hb dL_law_466 ?_
  refine va_sld hx hb hX hbl hbA hS j1 dL_law_467 ?_
  have hPc := hP.sub (ws' := tw_C xh x1 x2 x3 xe1 xe2 xe3 f g) [0, 1, 2, 3] rfl
  have hKc := hK.sub (tys' := tw_TC xe1 xe2 xe3) [0, 1, 2] rfl
  have hDc := hD.sub (ws' := tw_C xh x1 x2 x3 xe1 xe2 xe3 f g) [0, 1, 2, 3] (by decide) rfl
  have hFc := va_free (wc := tw_C xh x1 x2 x3 xe1 xe2 xe3 f g) hD hS hA [0, 1, 2, 3] rfl
  refine va_calli (va_runV (As := [.int (xs (i + (1 : Int32)).toNatClampNeg)]) (rest := []) ⟨hx, hb, hml, hown, hts⟩ (metX0_nearest l dC dI xh x1 x2 x3 xe1 xe2 xe3 _ f g (xs (i + (1 : Int32)).toNatClampNeg)) (cwV 1 hts (lw_V q143 q144 q145 q25 q146) rfl rfl rfl (by decide +kernel) ⟨Nat.le_of_ble_eq_true rfl, Nat.le_of_ble_eq_true rfl⟩) (tw_preSC hKc hPc hDc _) rfl rfl hl.1 rfl (lv_room (Nat.le_of_ble_eq_true rfl)) dL_law_468 ⟨Nat.le_of_ble_eq_true rfl, Nat.le_of_ble_eq_true rfl⟩) hS (fun q _ h => hFc q h) hFc (fun r_1 u_1 t H1 locs ht hvm hr_1 hB hz1 hk1 hS => ?_)
  obtain ⟨hP1, hK1, hD1⟩ := hB
  rw [ht] at hP1
  obtain ⟨hP, hD⟩ := va_join (wr := tw_M mh m1 m2 me1 me2 a d) (w1 := tw_C xh x1 x2 x3 xe1 xe2 xe3 u_1.1 u_1.2) hP hD [0, 1, 2, 3] [4, 5, 6] rfl rfl (by decide) (by decide) hk1 hFc hP1 hD1
  have hP := hP.sub (ws' := tw_W xh x1 x2 x3 xe1 xe2 xe3 mh m1 m2 me1 me2 u_1.1 u_1.2 a d) [3, 4, 5, 6, 0, 1, 2] rfl
  have hD := hD.sub (ws' := tw_W xh x1 x2 x3 xe1 xe2 xe3 mh m1 m2 me1 me2 u_1.1 u_1.2 a d) [3, 4, 5, 6, 0, 1, 2] (by decide) rfl
  generalize H1 = H at hP hS ⊢
  refine lv_aload_n hx hb dL_law_471 rfl (lv_at hl 2 rfl) ?_
  refine lv_aload_n hx hb dL_law_472 rfl (lv_at hl 0 rfl) ?_
  refine lv_iload_n hx hb dL_law_473 rfl (lv_at hl 3 rfl) ?_
  refine lv_iconst (v := 1) hx hb dL_law_474 (by decide) ?_
  refine lv_iadd hx hb dL_law_475 ?_
  refine va_sld hx hb hX hbl hbA hS j1 dL_law_476 ?_
  have hPc := hP.sub (ws' := tw_M mh m1 m2 me1 me2 a d) [4, 5, 6] rfl
  have hKc := hK.sub (tys' := tw_TM me1 me2) [3, 4] rfl
  refine vp_callSi (W.runV (As := [.int (xs (i + (1 : Int32)).toNatClampNeg)]) (rest := [.int r_1]) ⟨hx, hb, hml, hown, hts⟩ (metX1_nearest l dC dI mh m1 m2 me1 me2 a d (xs (i + (1 : Int32)).toNatClampNeg)) (cwV 1 hts (lw_V q260 q261 q262 q26 q263) rfl rfl rfl (by decide +kernel) ⟨Nat.le_of_ble_eq_true rfl, Nat.le_of_ble_eq_true rfl⟩) (tw_preM hKc hPc _) rfl rfl hl.1 rfl (lv_room (Nat.le_of_ble_eq_true rfl)) dL_law_477 ⟨Nat.le_of_ble_eq_true rfl, Nat.le_of_ble_eq_true rfl⟩) (fun r_2 hr_2 => ?_)
  have hans := ta_nearest (g := g) (d := d) hR hr_1 hr_2
  refine lv_icmp_eq (tgt := 620) hx hb dL_law_480 (by decide) (fun _ => ?_) (fun c_9 => absurd hans.1 c_9)
  exact kk u_1.1 u_1.2 a d _ _ ls ⟨hans.2, hP, hD, hS⟩ hl
set_option maxHeartbeats 4000000 in
set_option maxRecDepth 100000 in
/-- case 11: immunity -/
theorem law_immunity {p : Program} {l : Launch} {e : Env} {s : State} {m : MethodId} {below : List Frame} {meth : Method} {c : Code} {b L : Nat} {xs : Nat → Int32} (C0 : lw_At p s m meth c b L xs) {dC : Nat → ClassId} {dI : Nat → Nat → Nat} {xh x1 x2 x3 : Nat} {xe1 xe2 xe3 : ClassId} {mh m1 m2 : Nat} {me1 me2 : ClassId} (hK : va_K (dC, dI) tw_cl (tw_TW xe1 xe2 xe3 me1 me2) s) (i : Int32) (j1 : vp_in (i + (1 : Int32)) L) (j2 : vp_in (i + (2 : Int32)) L) (j3 : vp_in (i + (3 : Int32)) L) (j4 : vp_in (i + (4 : Int32)) L) (kk : tw_next p l e s m below meth c b dC dI xh x1 x2 x3 xe1 xe2 xe3 mh m1 m2 me1 me2 i) (f : Nat → Int64) (g a d : Nat → Int32) (H : Heap) (locs : List Loc) (ls : Array Slot) (hI : tw_I dC dI xh x1 x2 x3 xe1 xe2 xe3 mh m1 m2 me1 me2 s f g a d H locs) (hl : lv_has ls 4 [(0, .ref b), (1, .ref xh), (2, .ref mh), (3, .int i)]) : W p l e room_1 s m #[Value.ref b] below meth c H locs 7 399 (lw_Z below #[Value.ref b] s) (F0 m 485 ls []) := by
  obtain ⟨hx, hb, hr, hml, hown, hts0, hX, hbl, hlocks, hgv⟩ := C0
  have hts : ∀ w ∈ lw_all, w.before #[Value.ref b] s = true := fun w h => hts0 w (lw_all_tbl h)
  have hA : ∀ q : Nat, s.heap.size ≤ q → (fun q : Nat => s.heap.size ≤ q) q := fun _ h => h
  have hbA : ¬ (fun q : Nat => s.heap.size ≤ q) b := Nat.not_le.mpr hbl
  obtain ⟨hR, hP, hD, hS⟩ := hI
  refine lv_aload_n hx hb dL_law_485 rfl (lv_at hl 1 rfl) ?_
  refine lv_aload_n hx hb dL_law_486 rfl (lv_at hl 0 rfl) ?_
  refine lv_iload_n hx hb dL_law_487 rfl (lv_at hl 3 rfl) ?_
  refine lv_iconst (v := 1) hx hb dL_law_488 (by decide) ?_
  refine lv_iadd hx hb dL_law_489 ?_
  refine va_sld hx hb hX hbl hbA hS j1 dL_law_490 ?_
  have hPc := hP.sub (ws' := tw_C xh x1 x2 x3 xe1 xe2 xe3 f g) [0, 1, 2, 3] rfl
  have hKc := hK.sub (tys' := tw_TC xe1 xe2 xe3) [0, 1, 2] rfl
  have hDc := hD.sub (ws' := tw_C xh x1 x2 x3 xe1 xe2 xe3 f g) [0, 1, 2, 3] (by decide) rfl
  have hFc := va_free (wc := tw_C xh x1 x2 x3 xe1 xe2 xe3 f g) hD hS hA [0, 1, 2, 3] rfl
  refine va_calli (va_runV (As := [.int (xs (i + (1 : Int32)).toNatClampNeg)]) (rest := []) ⟨hx, hb, hml, hown, hts⟩ (metX0_immunity l dC dI xh x1 x2 x3 xe1 xe2 xe3 _ f g (xs (i + (1 : Int32)).toNatClampNeg)) (cwV 1 hts (lw_V q147 q148 q149 q25 q150) rfl rfl rfl (by decide +kernel) ⟨Nat.le_of_ble_eq_true rfl, Nat.le_of_ble_eq_true rfl⟩) (tw_preSC hKc hPc hDc _) rfl rfl hl.1 rfl (lv_room (Nat.le_of_ble_eq_true rfl)) dL_law_491 ⟨Nat.le_of_ble_eq_true rfl, Nat.le_of_ble_eq_true rfl⟩) hS (fun q _ h => hFc q h) hFc (fun r_1 u_1 t H1 locs ht hvm hr_1 hB hz1 hk1 hS => ?_)
  obtain ⟨hP1, hK1, hD1⟩ := hB
  rw [ht] at hP1
  obtain ⟨hP, hD⟩ := va_join (wr := tw_M mh m1 m2 me1 me2 a d) (w1 := tw_C xh x1 x2 x3 xe1 xe2 xe3 u_1.1 u_1.2) hP hD [0, 1, 2, 3] [4, 5, 6] rfl rfl (by decide) (by decide) hk1 hFc hP1 hD1
  have hP := hP.sub (ws' := tw_W xh x1 x2 x3 xe1 xe2 xe3 mh m1 m2 me1 me2 u_1.1 u_1.2 a d) [3, 4, 5, 6, 0, 1, 2] rfl
  have hD := hD.sub (ws' := tw_W xh x1 x2 x3 xe1 xe2 xe3 mh m1 m2 me1 me2 u_1.1 u_1.2 a d) [3, 4, 5, 6, 0, 1, 2] (by decide) rfl
  generalize H1 = H at hP hS ⊢
  refine lv_aload_n hx hb dL_law_494 rfl (lv_at hl 2 rfl) ?_
  refine lv_aload_n hx hb dL_law_495 rfl (lv_at hl 0 rfl) ?_
  refine lv_iload_n hx hb dL_law_496 rfl (lv_at hl 3 rfl) ?_
  refine lv_iconst (v := 1) hx hb dL_law_497 (by decide) ?_
  refine lv_iadd hx hb dL_law_498 ?_
  refine va_sld hx hb hX hbl hbA hS j1 dL_law_499 ?_
  have hPc := hP.sub (ws' := tw_M mh m1 m2 me1 me2 a d) [4, 5, 6] rfl
  have hKc := hK.sub (tys' := tw_TM me1 me2) [3, 4] rfl
  refine vp_callSi (W.runV (As := [.int (xs (i + (1 : Int32)).toNatClampNeg)]) (rest := [.int r_1]) ⟨hx, hb, hml, hown, hts⟩ (metX1_immunity l dC dI mh m1 m2 me1 me2 a d (xs (i + (1 : Int32)).toNatClampNeg)) (cwV 1 hts (lw_V q264 q265 q266 q26 q267) rfl rfl rfl (by decide +kernel) ⟨Nat.le_of_ble_eq_true rfl, Nat.le_of_ble_eq_true rfl⟩) (tw_preM hKc hPc _) rfl rfl hl.1 rfl (lv_room (Nat.le_of_ble_eq_true rfl)) dL_law_500 ⟨Nat.le_of_ble_eq_true rfl, Nat.le_of_ble_eq_true rfl⟩) (fun r_2 hr_2 => ?_)
  have hans := ta_immunity (g := g) (d := d) hR hr_1 hr_2
  refine lv_icmp_eq (tgt := 620) hx hb dL_law_503 (by decide) (fun _ => ?_) (fun c_9 => absurd hans.1 c_9)
  exact kk u_1.1 u_1.2 a d _ _ ls ⟨hans.2, hP, hD, hS⟩ hl
set_option maxHeartbeats 4000000 in
set_option maxRecDepth 100000 in
/-- case 12: autocorrelation -/
theorem law_autocorrelation {p : Program} {l : Launch} {e : Env} {s : State} {m : MethodId} {below : List Frame} {meth : Method} {c : Code} {b L : Nat} {xs : Nat → Int32} (C0 : lw_At p s m meth c b L xs) {dC : Nat → ClassId} {dI : Nat → Nat → Nat} {xh x1 x2 x3 : Nat} {xe1 xe2 xe3 : ClassId} {mh m1 m2 : Nat} {me1 me2 : ClassId} (hK : va_K (dC, dI) tw_cl (tw_TW xe1 xe2 xe3 me1 me2) s) (i : Int32) (j1 : vp_in (i + (1 : Int32)) L) (j2 : vp_in (i + (2 : Int32)) L) (j3 : vp_in (i + (3 : Int32)) L) (j4 : vp_in (i + (4 : Int32)) L) (kk : tw_next p l e s m below meth c b dC dI xh x1 x2 x3 xe1 xe2 xe3 mh m1 m2 me1 me2 i) (f : Nat → Int64) (g a d : Nat → Int32) (H : Heap) (locs : List Loc) (ls : Array Slot) (hI : tw_I dC dI xh x1 x2 x3 xe1 xe2 xe3 mh m1 m2 me1 me2 s f g a d H locs) (hl : lv_has ls 4 [(0, .ref b), (1, .ref xh), (2, .ref mh), (3, .int i)]) : W p l e room_1 s m #[Value.ref b] below meth c H locs 7 399 (lw_Z below #[Value.ref b] s) (F0 m 508 ls []) := by
  obtain ⟨hx, hb, hr, hml, hown, hts0, hX, hbl, hlocks, hgv⟩ := C0
  have hts : ∀ w ∈ lw_all, w.before #[Value.ref b] s = true := fun w h => hts0 w (lw_all_tbl h)
  have hA : ∀ q : Nat, s.heap.size ≤ q → (fun q : Nat => s.heap.size ≤ q) q := fun _ h => h
  have hbA : ¬ (fun q : Nat => s.heap.size ≤ q) b := Nat.not_le.mpr hbl
  obtain ⟨hR, hP, hD, hS⟩ := hI
  refine lv_aload_n hx hb dL_law_508 rfl (lv_at hl 1 rfl) ?_
  refine lv_aload_n hx hb dL_law_509 rfl (lv_at hl 0 rfl) ?_
  refine lv_iload_n hx hb dL_law_510 rfl (lv_at hl 3 rfl) ?_
  refine lv_iconst (v := 1) hx hb dL_law_511 (by decide) ?_
  refine lv_iadd hx hb dL_law_512 ?_
  refine va_sld hx hb hX hbl hbA hS j1 dL_law_513 ?_
  refine lv_aload_n hx hb dL_law_514 rfl (lv_at hl 0 rfl) ?_
  refine lv_iload_n hx hb dL_law_515 rfl (lv_at hl 3 rfl) ?_
  refine lv_iconst (v := 2) hx hb dL_law_516 (by decide) ?_
  refine lv_iadd hx hb dL_law_517 ?_
  refine va_sld hx hb hX hbl hbA hS j2 dL_law_518 ?_
  have hPc := hP.sub (ws' := tw_C xh x1 x2 x3 xe1 xe2 xe3 f g) [0, 1, 2, 3] rfl
  have hKc := hK.sub (tys' := tw_TC xe1 xe2 xe3) [0, 1, 2] rfl
  have hDc := hD.sub (ws' := tw_C xh x1 x2 x3 xe1 xe2 xe3 f g) [0, 1, 2, 3] (by decide) rfl
  have hFc := va_free (wc := tw_C xh x1 x2 x3 xe1 xe2 xe3 f g) hD hS hA [0, 1, 2, 3] rfl
  refine va_calli (va_runV (As := [.int (xs (i + (1 : Int32)).toNatClampNeg), .int (xs (i + (2 : Int32)).toNatClampNeg)]) (rest := []) ⟨hx, hb, hml, hown, hts⟩ (metX0_autocorrelation l dC dI xh x1 x2 x3 xe1 xe2 xe3 _ f g (xs (i + (1 : Int32)).toNatClampNeg) (xs (i + (2 : Int32)).toNatClampNeg)) (cwV 2 hts (lw_V q151 q152 q153 q25 q154) rfl rfl rfl (by decide +kernel) ⟨Nat.le_of_ble_eq_true rfl, Nat.le_of_ble_eq_true rfl⟩) (tw_preSC hKc hPc hDc _) rfl rfl hl.1 rfl (lv_room (Nat.le_of_ble_eq_true rfl)) dL_law_519 ⟨Nat.le_of_ble_eq_true rfl, Nat.le_of_ble_eq_true rfl⟩) hS (fun q _ h => hFc q h) hFc (fun r_1 u_1 t H1 locs ht hvm hr_1 hB hz1 hk1 hS => ?_)
  obtain ⟨hP1, hK1, hD1⟩ := hB
  rw [ht] at hP1
  obtain ⟨hP, hD⟩ := va_join (wr := tw_M mh m1 m2 me1 me2 a d) (w1 := tw_C xh x1 x2 x3 xe1 xe2 xe3 u_1.1 u_1.2) hP hD [0, 1, 2, 3] [4, 5, 6] rfl rfl (by decide) (by decide) hk1 hFc hP1 hD1
  have hP := hP.sub (ws' := tw_W xh x1 x2 x3 xe1 xe2 xe3 mh m1 m2 me1 me2 u_1.1 u_1.2 a d) [3, 4, 5, 6, 0, 1, 2] rfl
  have hD := hD.sub (ws' := tw_W xh x1 x2 x3 xe1 xe2 xe3 mh m1 m2 me1 me2 u_1.1 u_1.2 a d) [3, 4, 5, 6, 0, 1, 2] (by decide) rfl
  generalize H1 = H at hP hS ⊢
  refine lv_aload_n hx hb dL_law_522 rfl (lv_at hl 2 rfl) ?_
  refine lv_aload_n hx hb dL_law_523 rfl (lv_at hl 0 rfl) ?_
  refine lv_iload_n hx hb dL_law_524 rfl (lv_at hl 3 rfl) ?_
  refine lv_iconst (v := 1) hx hb dL_law_525 (by decide) ?_
  refine lv_iadd hx hb dL_law_526 ?_
  refine va_sld hx hb hX hbl hbA hS j1 dL_law_527 ?_
  refine lv_aload_n hx hb dL_law_528 rfl (lv_at hl 0 rfl) ?_
  refine lv_iload_n hx hb dL_law_529 rfl (lv_at hl 3 rfl) ?_
  refine lv_iconst (v := 2) hx hb dL_law_530 (by decide) ?_
  refine lv_iadd hx hb dL_law_531 ?_
  refine va_sld hx hb hX hbl hbA hS j2 dL_law_532 ?_
  have hPc := hP.sub (ws' := tw_M mh m1 m2 me1 me2 a d) [4, 5, 6] rfl
  have hKc := hK.sub (tys' := tw_TM me1 me2) [3, 4] rfl
  refine vp_callSi (W.runV (As := [.int (xs (i + (1 : Int32)).toNatClampNeg), .int (xs (i + (2 : Int32)).toNatClampNeg)]) (rest := [.int r_1]) ⟨hx, hb, hml, hown, hts⟩ (metX1_autocorrelation l dC dI mh m1 m2 me1 me2 a d (xs (i + (1 : Int32)).toNatClampNeg) (xs (i + (2 : Int32)).toNatClampNeg)) (cwV 2 hts (lw_V q268 q269 q270 q26 q271) rfl rfl rfl (by decide +kernel) ⟨Nat.le_of_ble_eq_true rfl, Nat.le_of_ble_eq_true rfl⟩) (tw_preM hKc hPc _) rfl rfl hl.1 rfl (lv_room (Nat.le_of_ble_eq_true rfl)) dL_law_533 ⟨Nat.le_of_ble_eq_true rfl, Nat.le_of_ble_eq_true rfl⟩) (fun r_2 hr_2 => ?_)
  have hans := ta_autocorrelation (g := g) (d := d) hR hr_1 hr_2
  refine lv_icmp_eq (tgt := 620) hx hb dL_law_536 (by decide) (fun _ => ?_) (fun c_9 => absurd hans.1 c_9)
  exact kk u_1.1 u_1.2 a d _ _ ls ⟨hans.2, hP, hD, hS⟩ hl
set_option maxHeartbeats 4000000 in
set_option maxRecDepth 100000 in
/-- case 13: variables -/
theorem law_variables {p : Program} {l : Launch} {e : Env} {s : State} {m : MethodId} {below : List Frame} {meth : Method} {c : Code} {b L : Nat} {xs : Nat → Int32} (C0 : lw_At p s m meth c b L xs) {dC : Nat → ClassId} {dI : Nat → Nat → Nat} {xh x1 x2 x3 : Nat} {xe1 xe2 xe3 : ClassId} {mh m1 m2 : Nat} {me1 me2 : ClassId} (hK : va_K (dC, dI) tw_cl (tw_TW xe1 xe2 xe3 me1 me2) s) (i : Int32) (j1 : vp_in (i + (1 : Int32)) L) (j2 : vp_in (i + (2 : Int32)) L) (j3 : vp_in (i + (3 : Int32)) L) (j4 : vp_in (i + (4 : Int32)) L) (kk : tw_next p l e s m below meth c b dC dI xh x1 x2 x3 xe1 xe2 xe3 mh m1 m2 me1 me2 i) (f : Nat → Int64) (g a d : Nat → Int32) (H : Heap) (locs : List Loc) (ls : Array Slot) (hI : tw_I dC dI xh x1 x2 x3 xe1 xe2 xe3 mh m1 m2 me1 me2 s f g a d H locs) (hl : lv_has ls 4 [(0, .ref b), (1, .ref xh), (2, .ref mh), (3, .int i)]) : W p l e room_1 s m #[Value.ref b] below meth c H locs 7 399 (lw_Z below #[Value.ref b] s) (F0 m 541 ls []) := by
  obtain ⟨hx, hb, hr, hml, hown, hts0, hX, hbl, hlocks, hgv⟩ := C0
  have hts : ∀ w ∈ lw_all, w.before #[Value.ref b] s = true := fun w h => hts0 w (lw_all_tbl h)
  have hA : ∀ q : Nat, s.heap.size ≤ q → (fun q : Nat => s.heap.size ≤ q) q := fun _ h => h
  have hbA : ¬ (fun q : Nat => s.heap.size ≤ q) b := Nat.not_le.mpr hbl
  obtain ⟨hR, hP, hD, hS⟩ := hI
  refine lv_aload_n hx hb dL_law_541 rfl (lv_at hl 1 rfl) ?_
  refine lv_aload_n hx hb dL_law_542 rfl (lv_at hl 0 rfl) ?_
  refine lv_iload_n hx hb dL_law_543 rfl (lv_at hl 3 rfl) ?_
  refine lv_iconst (v := 1) hx hb dL_law_544 (by decide) ?_
  refine lv_iadd hx hb dL_law_545 ?_
  refine va_sld hx hb hX hbl hbA hS j1 dL_law_546 ?_
  have hPc := hP.sub (ws' := tw_C xh x1 x2 x3 xe1 xe2 xe3 f g) [0, 1, 2, 3] rfl
  have hKc := hK.sub (tys' := tw_TC xe1 xe2 xe3) [0, 1, 2] rfl
  refine vp_callSi (W.runV (As := [.int (xs (i + (1 : Int32)).toNatClampNeg)]) (rest := []) ⟨hx, hb, hml, hown, hts⟩ (metX0_variables l dC dI xh x1 x2 x3 xe1 xe2 xe3 f g (xs (i + (1 : Int32)).toNatClampNeg)) (cwV 1 hts (lw_V q159 q160 q161 q25 q162) rfl rfl rfl (by decide +kernel) ⟨Nat.le_of_ble_eq_true rfl, Nat.le_of_ble_eq_true rfl⟩) (tw_preC hKc hPc _) rfl rfl hl.1 rfl (lv_room (Nat.le_of_ble_eq_true rfl)) dL_law_547 ⟨Nat.le_of_ble_eq_true rfl, Nat.le_of_ble_eq_true rfl⟩) (fun r_1 hr_1 => ?_)
  refine lv_aload_n hx hb dL_law_550 rfl (lv_at hl 2 rfl) ?_
  refine lv_aload_n hx hb dL_law_551 rfl (lv_at hl 0 rfl) ?_
  refine lv_iload_n hx hb dL_law_552 rfl (lv_at hl 3 rfl) ?_
  refine lv_iconst (v := 1) hx hb dL_law_553 (by decide) ?_
  refine lv_iadd hx hb dL_law_554 ?_
  refine va_sld hx hb hX hbl hbA hS j1 dL_law_555 ?_
  have hPc := hP.sub (ws' := tw_M mh m1 m2 me1 me2 a d) [4, 5, 6] rfl
  have hKc := hK.sub (tys' := tw_TM me1 me2) [3, 4] rfl
  refine vp_callSi (W.runV (As := [.int (xs (i + (1 : Int32)).toNatClampNeg)]) (rest := [.int r_1]) ⟨hx, hb, hml, hown, hts⟩ (metX1_variables l dC dI mh m1 m2 me1 me2 a d (xs (i + (1 : Int32)).toNatClampNeg)) (cwV 1 hts (lw_V q276 q277 q278 q26 q279) rfl rfl rfl (by decide +kernel) ⟨Nat.le_of_ble_eq_true rfl, Nat.le_of_ble_eq_true rfl⟩) (tw_preM hKc hPc _) rfl rfl hl.1 rfl (lv_room (Nat.le_of_ble_eq_true rfl)) dL_law_556 ⟨Nat.le_of_ble_eq_true rfl, Nat.le_of_ble_eq_true rfl⟩) (fun r_2 hr_2 => ?_)
  have hans := ta_variables (g := g) (d := d) hR hr_1 hr_2
  refine lv_icmp_eq (tgt := 620) hx hb dL_law_559 (by decide) (fun _ => ?_) (fun c_9 => absurd hans.1 c_9)
  exact kk f g a d _ _ ls ⟨hans.2, hP, hD, hS⟩ hl
set_option maxHeartbeats 4000000 in
set_option maxRecDepth 100000 in
/-- case 14: structures -/
theorem law_structures {p : Program} {l : Launch} {e : Env} {s : State} {m : MethodId} {below : List Frame} {meth : Method} {c : Code} {b L : Nat} {xs : Nat → Int32} (C0 : lw_At p s m meth c b L xs) {dC : Nat → ClassId} {dI : Nat → Nat → Nat} {xh x1 x2 x3 : Nat} {xe1 xe2 xe3 : ClassId} {mh m1 m2 : Nat} {me1 me2 : ClassId} (hK : va_K (dC, dI) tw_cl (tw_TW xe1 xe2 xe3 me1 me2) s) (i : Int32) (j1 : vp_in (i + (1 : Int32)) L) (j2 : vp_in (i + (2 : Int32)) L) (j3 : vp_in (i + (3 : Int32)) L) (j4 : vp_in (i + (4 : Int32)) L) (kk : tw_next p l e s m below meth c b dC dI xh x1 x2 x3 xe1 xe2 xe3 mh m1 m2 me1 me2 i) (f : Nat → Int64) (g a d : Nat → Int32) (H : Heap) (locs : List Loc) (ls : Array Slot) (hI : tw_I dC dI xh x1 x2 x3 xe1 xe2 xe3 mh m1 m2 me1 me2 s f g a d H locs) (hl : lv_has ls 4 [(0, .ref b), (1, .ref xh), (2, .ref mh), (3, .int i)]) : W p l e room_1 s m #[Value.ref b] below meth c H locs 7 399 (lw_Z below #[Value.ref b] s) (F0 m 564 ls []) := by
  obtain ⟨hx, hb, hr, hml, hown, hts0, hX, hbl, hlocks, hgv⟩ := C0
  have hts : ∀ w ∈ lw_all, w.before #[Value.ref b] s = true := fun w h => hts0 w (lw_all_tbl h)
  have hA : ∀ q : Nat, s.heap.size ≤ q → (fun q : Nat => s.heap.size ≤ q) q := fun _ h => h
  have hbA : ¬ (fun q : Nat => s.heap.size ≤ q) b := Nat.not_le.mpr hbl
  obtain ⟨hR, hP, hD, hS⟩ := hI
  refine lv_aload_n hx hb dL_law_564 rfl (lv_at hl 1 rfl) ?_
  refine lv_aload_n hx hb dL_law_565 rfl (lv_at hl 0 rfl) ?_
  refine lv_iload_n hx hb dL_law_566 rfl (lv_at hl 3 rfl) ?_
  refine lv_iconst (v := 1) hx hb dL_law_567 (by decide) ?_
  refine lv_iadd hx hb dL_law_568 ?_
  refine va_sld hx hb hX hbl hbA hS j1 dL_law_569 ?_
  have hPc := hP.sub (ws' := tw_C xh x1 x2 x3 xe1 xe2 xe3 f g) [0, 1, 2, 3] rfl
  have hKc := hK.sub (tys' := tw_TC xe1 xe2 xe3) [0, 1, 2] rfl
  have hDc := hD.sub (ws' := tw_C xh x1 x2 x3 xe1 xe2 xe3 f g) [0, 1, 2, 3] (by decide) rfl
  have hFc := va_free (wc := tw_C xh x1 x2 x3 xe1 xe2 xe3 f g) hD hS hA [0, 1, 2, 3] rfl
  refine va_calli (va_runV (As := [.int (xs (i + (1 : Int32)).toNatClampNeg)]) (rest := []) ⟨hx, hb, hml, hown, hts⟩ (metX0_structures l dC dI xh x1 x2 x3 xe1 xe2 xe3 _ f g (xs (i + (1 : Int32)).toNatClampNeg)) (cwV 1 hts (lw_V q163 q164 q165 q25 q166) rfl rfl rfl (by decide +kernel) ⟨Nat.le_of_ble_eq_true rfl, Nat.le_of_ble_eq_true rfl⟩) (tw_preSC hKc hPc hDc _) rfl rfl hl.1 rfl (lv_room (Nat.le_of_ble_eq_true rfl)) dL_law_570 ⟨Nat.le_of_ble_eq_true rfl, Nat.le_of_ble_eq_true rfl⟩) hS (fun q _ h => hFc q h) hFc (fun r_1 u_1 t H1 locs ht hvm hr_1 hB hz1 hk1 hS => ?_)
  obtain ⟨hP1, hK1, hD1⟩ := hB
  rw [ht] at hP1
  obtain ⟨hP, hD⟩ := va_join (wr := tw_M mh m1 m2 me1 me2 a d) (w1 := tw_C xh x1 x2 x3 xe1 xe2 xe3 u_1.1 u_1.2) hP hD [0, 1, 2, 3] [4, 5, 6] rfl rfl (by decide) (by decide) hk1 hFc hP1 hD1
  have hP := hP.sub (ws' := tw_W xh x1 x2 x3 xe1 xe2 xe3 mh m1 m2 me1 me2 u_1.1 u_1.2 a d) [3, 4, 5, 6, 0, 1, 2] rfl
  have hD := hD.sub (ws' := tw_W xh x1 x2 x3 xe1 xe2 xe3 mh m1 m2 me1 me2 u_1.1 u_1.2 a d) [3, 4, 5, 6, 0, 1, 2] (by decide) rfl
  generalize H1 = H at hP hS ⊢
  refine lv_aload_n hx hb dL_law_573 rfl (lv_at hl 2 rfl) ?_
  refine lv_aload_n hx hb dL_law_574 rfl (lv_at hl 0 rfl) ?_
  refine lv_iload_n hx hb dL_law_575 rfl (lv_at hl 3 rfl) ?_
  refine lv_iconst (v := 1) hx hb dL_law_576 (by decide) ?_
  refine lv_iadd hx hb dL_law_577 ?_
  refine va_sld hx hb hX hbl hbA hS j1 dL_law_578 ?_
  have hPc := hP.sub (ws' := tw_M mh m1 m2 me1 me2 a d) [4, 5, 6] rfl
  have hKc := hK.sub (tys' := tw_TM me1 me2) [3, 4] rfl
  refine vp_callSi (W.runV (As := [.int (xs (i + (1 : Int32)).toNatClampNeg)]) (rest := [.int r_1]) ⟨hx, hb, hml, hown, hts⟩ (metX1_structures l dC dI mh m1 m2 me1 me2 a d (xs (i + (1 : Int32)).toNatClampNeg)) (cwV 1 hts (lw_V q280 q281 q282 q26 q283) rfl rfl rfl (by decide +kernel) ⟨Nat.le_of_ble_eq_true rfl, Nat.le_of_ble_eq_true rfl⟩) (tw_preM hKc hPc _) rfl rfl hl.1 rfl (lv_room (Nat.le_of_ble_eq_true rfl)) dL_law_579 ⟨Nat.le_of_ble_eq_true rfl, Nat.le_of_ble_eq_true rfl⟩) (fun r_2 hr_2 => ?_)
  have hans := ta_structures (g := g) (d := d) hR hr_1 hr_2
  refine lv_icmp_eq (tgt := 620) hx hb dL_law_582 (by decide) (fun _ => ?_) (fun c_9 => absurd hans.1 c_9)
  exact kk u_1.1 u_1.2 a d _ _ ls ⟨hans.2, hP, hD, hS⟩ hl
set_option maxHeartbeats 4000000 in
set_option maxRecDepth 100000 in
/-- case 15: shifted -/
theorem law_shifted {p : Program} {l : Launch} {e : Env} {s : State} {m : MethodId} {below : List Frame} {meth : Method} {c : Code} {b L : Nat} {xs : Nat → Int32} (C0 : lw_At p s m meth c b L xs) {dC : Nat → ClassId} {dI : Nat → Nat → Nat} {xh x1 x2 x3 : Nat} {xe1 xe2 xe3 : ClassId} {mh m1 m2 : Nat} {me1 me2 : ClassId} (hK : va_K (dC, dI) tw_cl (tw_TW xe1 xe2 xe3 me1 me2) s) (i : Int32) (j1 : vp_in (i + (1 : Int32)) L) (j2 : vp_in (i + (2 : Int32)) L) (j3 : vp_in (i + (3 : Int32)) L) (j4 : vp_in (i + (4 : Int32)) L) (kk : tw_next p l e s m below meth c b dC dI xh x1 x2 x3 xe1 xe2 xe3 mh m1 m2 me1 me2 i) (f : Nat → Int64) (g a d : Nat → Int32) (H : Heap) (locs : List Loc) (ls : Array Slot) (hI : tw_I dC dI xh x1 x2 x3 xe1 xe2 xe3 mh m1 m2 me1 me2 s f g a d H locs) (hl : lv_has ls 4 [(0, .ref b), (1, .ref xh), (2, .ref mh), (3, .int i)]) : W p l e room_1 s m #[Value.ref b] below meth c H locs 7 399 (lw_Z below #[Value.ref b] s) (F0 m 587 ls []) := by
  obtain ⟨hx, hb, hr, hml, hown, hts0, hX, hbl, hlocks, hgv⟩ := C0
  have hts : ∀ w ∈ lw_all, w.before #[Value.ref b] s = true := fun w h => hts0 w (lw_all_tbl h)
  have hA : ∀ q : Nat, s.heap.size ≤ q → (fun q : Nat => s.heap.size ≤ q) q := fun _ h => h
  have hbA : ¬ (fun q : Nat => s.heap.size ≤ q) b := Nat.not_le.mpr hbl
  obtain ⟨hR, hP, hD, hS⟩ := hI
  refine lv_aload_n hx hb dL_law_587 rfl (lv_at hl 1 rfl) ?_
  refine lv_aload_n hx hb dL_law_588 rfl (lv_at hl 0 rfl) ?_
  refine lv_iload_n hx hb dL_law_589 rfl (lv_at hl 3 rfl) ?_
  refine lv_iconst (v := 1) hx hb dL_law_590 (by decide) ?_
  refine lv_iadd hx hb dL_law_591 ?_
  refine va_sld hx hb hX hbl hbA hS j1 dL_law_592 ?_
  refine lv_aload_n hx hb dL_law_593 rfl (lv_at hl 0 rfl) ?_
  refine lv_iload_n hx hb dL_law_594 rfl (lv_at hl 3 rfl) ?_
  refine lv_iconst (v := 2) hx hb dL_law_595 (by decide) ?_
  refine lv_iadd hx hb dL_law_596 ?_
  refine va_sld hx hb hX hbl hbA hS j2 dL_law_597 ?_
  have hPc := hP.sub (ws' := tw_C xh x1 x2 x3 xe1 xe2 xe3 f g) [0, 1, 2, 3] rfl
  have hKc := hK.sub (tys' := tw_TC xe1 xe2 xe3) [0, 1, 2] rfl
  refine vp_callSi (W.runV (As := [.int (xs (i + (1 : Int32)).toNatClampNeg), .int (xs (i + (2 : Int32)).toNatClampNeg)]) (rest := []) ⟨hx, hb, hml, hown, hts⟩ (metX0_shifted l dC dI xh x1 x2 x3 xe1 xe2 xe3 f g (xs (i + (1 : Int32)).toNatClampNeg) (xs (i + (2 : Int32)).toNatClampNeg)) (cwV 2 hts (lw_V q167 q168 q169 q25 q170) rfl rfl rfl (by decide +kernel) ⟨Nat.le_of_ble_eq_true rfl, Nat.le_of_ble_eq_true rfl⟩) (tw_preC hKc hPc _) rfl rfl hl.1 rfl (lv_room (Nat.le_of_ble_eq_true rfl)) dL_law_598 ⟨Nat.le_of_ble_eq_true rfl, Nat.le_of_ble_eq_true rfl⟩) (fun r_1 hr_1 => ?_)
  refine lv_aload_n hx hb dL_law_601 rfl (lv_at hl 2 rfl) ?_
  refine lv_aload_n hx hb dL_law_602 rfl (lv_at hl 0 rfl) ?_
  refine lv_iload_n hx hb dL_law_603 rfl (lv_at hl 3 rfl) ?_
  refine lv_iconst (v := 1) hx hb dL_law_604 (by decide) ?_
  refine lv_iadd hx hb dL_law_605 ?_
  refine va_sld hx hb hX hbl hbA hS j1 dL_law_606 ?_
  refine lv_aload_n hx hb dL_law_607 rfl (lv_at hl 0 rfl) ?_
  refine lv_iload_n hx hb dL_law_608 rfl (lv_at hl 3 rfl) ?_
  refine lv_iconst (v := 2) hx hb dL_law_609 (by decide) ?_
  refine lv_iadd hx hb dL_law_610 ?_
  refine va_sld hx hb hX hbl hbA hS j2 dL_law_611 ?_
  have hPc := hP.sub (ws' := tw_M mh m1 m2 me1 me2 a d) [4, 5, 6] rfl
  have hKc := hK.sub (tys' := tw_TM me1 me2) [3, 4] rfl
  refine vp_callSi (W.runV (As := [.int (xs (i + (1 : Int32)).toNatClampNeg), .int (xs (i + (2 : Int32)).toNatClampNeg)]) (rest := [.int r_1]) ⟨hx, hb, hml, hown, hts⟩ (metX1_shifted l dC dI mh m1 m2 me1 me2 a d (xs (i + (1 : Int32)).toNatClampNeg) (xs (i + (2 : Int32)).toNatClampNeg)) (cwV 2 hts (lw_V q284 q285 q286 q26 q287) rfl rfl rfl (by decide +kernel) ⟨Nat.le_of_ble_eq_true rfl, Nat.le_of_ble_eq_true rfl⟩) (tw_preM hKc hPc _) rfl rfl hl.1 rfl (lv_room (Nat.le_of_ble_eq_true rfl)) dL_law_612 ⟨Nat.le_of_ble_eq_true rfl, Nat.le_of_ble_eq_true rfl⟩) (fun r_2 hr_2 => ?_)
  have hans := ta_shifted (g := g) (d := d) hR hr_1 hr_2
  refine lv_icmp_eq (tgt := 620) hx hb dL_law_615 (by decide) (fun _ => ?_) (fun c_9 => absurd hans.1 c_9)
  exact kk f g a d _ _ ls ⟨hans.2, hP, hD, hS⟩ hl
end
section
/-! the law's loop and its start -/
set_option maxRecDepth 100000
theorem tw_gt {L k : Nat} (hL : L ≤ 320) (hk : 5 * k ≤ L) (c : ¬ (Int32.ofNat L - (5 : Int32)) < nI (5 * k)) : 5 * k + 5 ≤ L := by
  rcases Nat.lt_or_ge L (5 * k + 5) with h | h
  · refine absurd ?_ c
    show (nI L - nI 5) < nI (5 * k)
    rw [Int32.lt_iff_toInt_lt, pk_sub_toInt (by omega) (by omega), nI_toInt (by omega)]
    omega
  · exact h
theorem tw_R0 : tl_R (fun _ => 0) (fun _ => 0) := by
  intro t _ x _
  show (0 : Int32) = tl_b (tl_bit 0 x)
  rw [tl_0]
  rfl
theorem tw_rd {L k j : Nat} (hL : L ≤ 320) (hk : 5 * k + 5 ≤ L) (hj : j < 5) : vp_in (nI (5 * k) + nI j) L := by
  rw [nI_add]
  exact vp_in_nI (by omega) (by omega)
set_option maxHeartbeats 4000000 in
/-- the law's loop: k calls of five ints are read -/
theorem law_loop {p : Program} {l : Launch} {e : Env} {s : State} {m : MethodId} {below : List Frame} {meth : Method} {c : Code} {b L : Nat} {xs : Nat → Int32} (hL : L ≤ 320) (C0 : lw_At p s m meth c b L xs) {dC : Nat → ClassId} {dI : Nat → Nat → Nat} {xh x1 x2 x3 : Nat} {xe1 xe2 xe3 : ClassId} {mh m1 m2 : Nat} {me1 me2 : ClassId} (hK : va_K (dC, dI) tw_cl (tw_TW xe1 xe2 xe3 me1 me2) s) :
    ∀ (n k : Nat), 5 * k ≤ L → L < 5 * (k + n) → ∀ (f : Nat → Int64) (g a d : Nat → Int32) (H : Heap) (locs : List Loc) (ls : Array Slot), tw_I dC dI xh x1 x2 x3 xe1 xe2 xe3 mh m1 m2 me1 me2 s f g a d H locs → lv_has ls 4 [(0, .ref b), (1, .ref xh), (2, .ref mh), (3, .int (nI (5 * k)))] → W p l e room_1 s m #[Value.ref b] below meth c H locs 7 399 (lw_Z below #[Value.ref b] s) (F0 m 18 ls []) := by
  obtain ⟨hx, hb, hr, hml, hown, hts, hX, hbl, hlocks, hgv⟩ := id C0
  have hbA : ¬ (fun q : Nat => s.heap.size ≤ q) b := Nat.not_le.mpr hbl
  intro n
  induction n with
  | zero =>
    intro k h1 h2
    exact absurd h2 (by omega)
  | succ n ih =>
    intro k hk hn f g a d H locs ls hI hl
    have hS := hI.2.2.2
    refine lv_iload_n hx hb dL_law_18 rfl (lv_at hl 3 rfl) ?_
    refine lv_aload_n hx hb dL_law_19 rfl (lv_at hl 0 rfl) ?_
    refine va_slen hx hb hX hbl hbA hS dL_law_20 ?_
    refine lv_iconst (v := 5) hx hb dL_law_21 (by decide) ?_
    refine lv_isub hx hb dL_law_22 ?_
    refine lv_icmp_gt (tgt := 626) hx hb dL_law_23 (by decide) (fun c_1 => ?_) (fun c_1 => ?_)
    · refine lv_iconst (v := 1) hx hb dL_law_626 (by decide) ?_
      refine va_forget (fun q hq => hS.2.2 q hq) ?_
      refine W.widen (k := 600000) (n := 7290000) (by decide) (by decide) ?_
      exact lw_ret hx hb hr hlocks dL_law_627
    · have h5 := tw_gt hL hk c_1
      have j0 : vp_in (nI (5 * k)) L := vp_in_nI (by omega) (by omega)
      have j1 : vp_in (nI (5 * k) + (1 : Int32)) L := tw_rd hL h5 (j := 1) (by decide)
      have j2 : vp_in (nI (5 * k) + (2 : Int32)) L := tw_rd hL h5 (j := 2) (by decide)
      have j3 : vp_in (nI (5 * k) + (3 : Int32)) L := tw_rd hL h5 (j := 3) (by decide)
      have j4 : vp_in (nI (5 * k) + (4 : Int32)) L := tw_rd hL h5 (j := 4) (by decide)
      have kk : tw_next p l e s m below meth c b dC dI xh x1 x2 x3 xe1 xe2 xe3 mh m1 m2 me1 me2 (nI (5 * k)) := by
        intro f g a d H locs ls hI hl
        refine lv_iinc (v := nI (5 * (k + 1))) (lv' := [(3, .int (nI (5 * (k + 1)))), (0, .ref b), (1, .ref xh), (2, .ref mh)]) hx hb dL_law_620 hl (k := 3) rfl (show nI (5 * k) + nI 5 = nI (5 * (k + 1)) by rw [nI_add]; rfl) (by decide) rfl (fun ls hl => ?_)
        refine lv_goto (tgt := 18) hx hb dL_law_623 (by decide) ?_
        exact ih (k + 1) (by omega) (by omega) f g a d H locs ls hI (lv_sub hl [1, 2, 3, 0] rfl)
      refine lv_aload_n hx hb dL_law_26 rfl (lv_at hl 0 rfl) ?_
      refine lv_iload_n hx hb dL_law_27 rfl (lv_at hl 3 rfl) ?_
      refine va_sld hx hb hX hbl hbA hS j0 dL_law_28 ?_
      refine lv_bipush (v := 15) hx hb dL_law_29 (by decide) ?_
      refine lv_iand hx hb dL_law_31 ?_
      refine lv_topi (fun y ey => ?_)
      obtain ⟨j, hj, ej⟩ := pk_andE (xs (nI (5 * k)).toNatClampNeg) (m := 15) 4 (by decide)
      rw [ej] at ey
      rw [ey]
      rcases (show j = 0 ∨ j = 1 ∨ j = 2 ∨ j = 3 ∨ j = 4 ∨ j = 5 ∨ j = 6 ∨ j = 7 ∨ j = 8 ∨ j = 9 ∨ j = 10 ∨ j = 11 ∨ j = 12 ∨ j = 13 ∨ j = 14 ∨ j = 15 by omega) with rfl | rfl | rfl | rfl | rfl | rfl | rfl | rfl | rfl | rfl | rfl | rfl | rfl | rfl | rfl | rfl
      · refine lv_tableIn (off := 80) (tgt := 112) hx hb dL_law_32 (by decide) (by decide) (by decide +kernel) (by decide) ?_
        exact law_put C0 hK (nI (5 * k)) j1 j2 j3 j4 kk f g a d H locs ls hI hl
      · refine lv_tableIn (off := 123) (tgt := 155) hx hb dL_law_32 (by decide) (by decide) (by decide +kernel) (by decide) ?_
        exact law_turnForm C0 hK (nI (5 * k)) j1 j2 j3 j4 kk f g a d H locs ls hI hl
      · refine lv_tableIn (off := 156) (tgt := 188) hx hb dL_law_32 (by decide) (by decide) (by decide +kernel) (by decide) ?_
        exact law_combine C0 hK (nI (5 * k)) j1 j2 j3 j4 kk f g a d H locs ls hI hl
      · refine lv_tableIn (off := 209) (tgt := 241) hx hb dL_law_32 (by decide) (by decide) (by decide +kernel) (by decide) ?_
        exact law_shift C0 hK (nI (5 * k)) j1 j2 j3 j4 kk f g a d H locs ls hI hl
      · refine lv_tableIn (off := 262) (tgt := 294) hx hb dL_law_32 (by decide) (by decide) (by decide +kernel) (by decide) ?_
        exact law_value C0 hK (nI (5 * k)) j1 j2 j3 j4 kk f g a d H locs ls hI hl
      · refine lv_tableIn (off := 295) (tgt := 327) hx hb dL_law_32 (by decide) (by decide) (by decide +kernel) (by decide) ?_
        exact law_ones C0 hK (nI (5 * k)) j1 j2 j3 j4 kk f g a d H locs ls hI hl
      · refine lv_tableIn (off := 318) (tgt := 350) hx hb dL_law_32 (by decide) (by decide) (by decide +kernel) (by decide) ?_
        exact law_form C0 hK (nI (5 * k)) j1 j2 j3 j4 kk f g a d H locs ls hI hl
      · refine lv_tableIn (off := 351) (tgt := 383) hx hb dL_law_32 (by decide) (by decide) (by decide +kernel) (by decide) ?_
        exact law_degree C0 hK (nI (5 * k)) j1 j2 j3 j4 kk f g a d H locs ls hI hl
      · refine lv_tableIn (off := 374) (tgt := 406) hx hb dL_law_32 (by decide) (by decide) (by decide +kernel) (by decide) ?_
        exact law_spectrum C0 hK (nI (5 * k)) j1 j2 j3 j4 kk f g a d H locs ls hI hl
      · refine lv_tableIn (off := 407) (tgt := 439) hx hb dL_law_32 (by decide) (by decide) (by decide +kernel) (by decide) ?_
        exact law_distance C0 hK (nI (5 * k)) j1 j2 j3 j4 kk f g a d H locs ls hI hl
      · refine lv_tableIn (off := 430) (tgt := 462) hx hb dL_law_32 (by decide) (by decide) (by decide +kernel) (by decide) ?_
        exact law_nearest C0 hK (nI (5 * k)) j1 j2 j3 j4 kk f g a d H locs ls hI hl
      · refine lv_tableIn (off := 453) (tgt := 485) hx hb dL_law_32 (by decide) (by decide) (by decide +kernel) (by decide) ?_
        exact law_immunity C0 hK (nI (5 * k)) j1 j2 j3 j4 kk f g a d H locs ls hI hl
      · refine lv_tableIn (off := 476) (tgt := 508) hx hb dL_law_32 (by decide) (by decide) (by decide +kernel) (by decide) ?_
        exact law_autocorrelation C0 hK (nI (5 * k)) j1 j2 j3 j4 kk f g a d H locs ls hI hl
      · refine lv_tableIn (off := 509) (tgt := 541) hx hb dL_law_32 (by decide) (by decide) (by decide +kernel) (by decide) ?_
        exact law_variables C0 hK (nI (5 * k)) j1 j2 j3 j4 kk f g a d H locs ls hI hl
      · refine lv_tableIn (off := 532) (tgt := 564) hx hb dL_law_32 (by decide) (by decide) (by decide +kernel) (by decide) ?_
        exact law_structures C0 hK (nI (5 * k)) j1 j2 j3 j4 kk f g a d H locs ls hI hl
      · refine lv_tableIn (off := 555) (tgt := 587) hx hb dL_law_32 (by decide) (by decide) (by decide +kernel) (by decide) ?_
        exact law_shifted C0 hK (nI (5 * k)) j1 j2 j3 j4 kk f g a d H locs ls hI hl
set_option maxHeartbeats 4000000 in
/-- from the entry, for every script of at most 320 ints, the law comes to its end with true -/
theorem whole_start {p : Program} {e : Env} {s : State} {m : MethodId} {below : List Frame} {meth : Method} {c : Code} (l : Launch) {b L : Nat} {xs : Nat → Int32} (hL : L ≤ 320) (C0 : lw_At p s m meth c b L xs) : W p l e room_1 s m #[Value.ref b] below meth c s.heap [] 0 0 (lw_Z below #[Value.ref b] s) (entryFrame m ([Value.ref b] : List Value).toArray 4) := by
  obtain ⟨hx, hb, hr, hml, hown, hts0, hX, hbl, hlocks, hgv⟩ := id C0
  have hts : ∀ w ∈ lw_all, w.before #[Value.ref b] s = true := fun w h => hts0 w (lw_all_tbl h)
  have hA : ∀ q : Nat, s.heap.size ≤ q → (fun q : Nat => s.heap.size ≤ q) q := fun _ h => h
  obtain ⟨c0, iS0, hKn0⟩ := u_known (C := RX0) (T := TX0) (N := 3) (n := 3) hts in_X0 (hts _ q28)
  obtain ⟨c1, iS1, hKn1⟩ := u_known (C := RX1) (T := TX1) (N := 2) (n := 2) hts in_X1 (hts _ q172)
  obtain ⟨dC, dI, hKc⟩ : ∃ (dC : Nat → ClassId) (dI : Nat → Nat → Nat), ∀ (k : Nat) (q : vw_C), tw_cl[k]? = some q → u_Kn s q.1 q.2.1 q.2.2 (dC k) (dI k) := by
    refine ⟨fun k => if k = 0 then c0 else c1, fun k => if k = 0 then iS0 else iS1, ?_⟩
    intro k q hq
    match k, hq with
    | 0, hq => cases hq; exact hKn0
    | 1, hq => cases hq; exact hKn1
    | k + 2, hq => simp [tw_cl] at hq
  have hS : va_S (fun q : Nat => s.heap.size ≤ q) s.heap s.heap [] := va_S.rf
  have hK : va_K (dC, dI) tw_cl [] s := ⟨hKc, fun k q h => by simp at h⟩
  have hP : va_P (dC, dI) tw_cl [] s.heap := fun k q h => by simp at h
  have hD : va_D (fun q : Nat => s.heap.size ≤ q) [] := ⟨fun i j p q h => by simp at h, fun k q h => by simp at h⟩
  have hl := lv_entry ([.ref b]) (n := 4) (Nat.le_of_ble_eq_true rfl)
  rw [lg_entry_eq]
  generalize (lg_sl ([.ref b]) ++ List.replicate (4 - (lg_sl ([.ref b])).length) Slot.unset).toArray = ls at hl ⊢
  have hl : lv_has ls 4 [(0, .ref b)] := hl
  refine va_new (ci := 0) (fs := [.null, .null, .null]) (C := RX0) (T := TX0) (N := 3) hx hb hts in_X0 tyX0 tyX0_ok hown (hts _ q27) (hts _ q28) (hts _ q25) hK hP hD hS hA rfl (fun j hj => by rcases (show j = 0 ∨ j = 1 ∨ j = 2 by omega) with rfl | rfl | rfl <;> rfl) (Nat.le_of_ble_eq_true rfl) (Nat.le_of_ble_eq_true rfl) dL_law_0 (fun xh H hP hD hS => ?_)
  have hP : va_P (dC, dI) tw_cl [(xh, .inr (0, [.null, .null, .null]))] H := hP
  have hD : va_D (fun q : Nat => s.heap.size ≤ q) [(xh, .inr (0, [.null, .null, .null]))] := hD
  refine lv_dup hx hb dL_law_3 rfl ?_
  have hPc := hP.sub (ws' := [(xh, .inr (0, [.null, .null, .null]))]) [0] rfl
  have hDc := hD.sub (ws' := [(xh, .inr (0, [.null, .null, .null]))]) [0] (by decide) rfl
  have hKc := hK.sub (tys' := []) [] rfl
  have hFc := va_free (wc := [(xh, .inr (0, [.null, .null, .null]))]) hD hS hA [0] rfl
  refine va_callv (va_runI (As := []) (rest := [.ref xh]) ⟨hx, hb, hml, hown, hts⟩ (metX0_init l dC dI xh H.size) (cwI 0 hts (lw_meth q31) rfl rfl rfl (hts _ q25) (hts _ q29) (hts _ q30) rfl (by decide +kernel) ⟨Nat.le_of_ble_eq_true rfl, Nat.le_of_ble_eq_true rfl⟩) ⟨fun a U g mk q => by obtain ⟨q0, q1, qP, qK, qD⟩ := q; exact ⟨q0, q1, qP, va_K.moved (u := U) (U := U.calling g mk a) (Vm.Alike.refl U.vm) qK, qD⟩, fun U hU hW => ⟨rfl, by rw [hU], by rw [hU]; exact hPc, va_K.moved hW.alike hKc, hDc.weaken (fun _ _ _ _ => trivial)⟩⟩ rfl rfl hl.1 rfl (lv_room (Nat.le_of_ble_eq_true rfl)) dL_law_4 ⟨Nat.le_of_ble_eq_true rfl, Nat.le_of_ble_eq_true rfl⟩) hS (fun q _ h => hFc q h) hFc (fun u t H1 locs ht hvm hw1 hB hz1 hk1 hS => ?_)
  obtain ⟨x1, x2, x3, xe1, xe2, xe3, hP1, hK1, hD1⟩ := hB
  rw [ht] at hP1
  have hK1 := va_K.moved hvm.symm hK1
  obtain ⟨hP, hD⟩ := va_join (wr := []) (w1 := tw_C xh x1 x2 x3 xe1 xe2 xe3 (fun _ => 0) (fun _ => 0)) hP hD [0] [] rfl rfl (by decide) (by decide) hk1 hFc hP1 hD1
  have hK := hK.app hK1
  generalize H1 = H at hP hS ⊢
  have hP : va_P (dC, dI) tw_cl (tw_C xh x1 x2 x3 xe1 xe2 xe3 (fun _ => 0) (fun _ => 0)) H := hP
  have hD : va_D (fun q : Nat => s.heap.size ≤ q) (tw_C xh x1 x2 x3 xe1 xe2 xe3 (fun _ => 0) (fun _ => 0)) := hD
  have hK : va_K (dC, dI) tw_cl (tw_TC xe1 xe2 xe3) s := hK
  refine W.widen (k := 4) (n := 77) (by decide) (by decide) ?_
  refine lv_astore_n (lv' := [(1, .ref xh), (0, .ref b)]) hx hb dL_law_7 rfl hl (by decide) rfl (fun ls hl => ?_)
  refine va_new (ci := 1) (fs := [.null, .null]) (C := RX1) (T := TX1) (N := 2) hx hb hts in_X1 tyX1 tyX1_ok hown (hts _ q171) (hts _ q172) (hts _ q26) hK hP hD hS hA rfl (fun j hj => by rcases (show j = 0 ∨ j = 1 by omega) with rfl | rfl <;> rfl) (Nat.le_of_ble_eq_true rfl) (Nat.le_of_ble_eq_true rfl) dL_law_8 (fun mh H hP hD hS => ?_)
  have hP : va_P (dC, dI) tw_cl [(xh, .inr (0, [.ref x1, .ref x2, .ref x3])), (x1, .inl (xe1, 4, .inr (.inl (fun _ => 0)))), (x2, .inl (xe2, 6, .inr (.inl tc_low))), (x3, .inl (xe3, 64, .inl (fun _ => 0))), (mh, .inr (1, [.null, .null]))] H := hP
  have hD : va_D (fun q : Nat => s.heap.size ≤ q) [(xh, .inr (0, [.ref x1, .ref x2, .ref x3])), (x1, .inl (xe1, 4, .inr (.inl (fun _ => 0)))), (x2, .inl (xe2, 6, .inr (.inl tc_low))), (x3, .inl (xe3, 64, .inl (fun _ => 0))), (mh, .inr (1, [.null, .null]))] := hD
  refine lv_dup hx hb dL_law_11 rfl ?_
  have hPc := hP.sub (ws' := [(mh, .inr (1, [.null, .null]))]) [4] rfl
  have hDc := hD.sub (ws' := [(mh, .inr (1, [.null, .null]))]) [4] (by decide) rfl
  have hKc := hK.sub (tys' := []) [] rfl
  have hFc := va_free (wc := [(mh, .inr (1, [.null, .null]))]) hD hS hA [4] rfl
  refine va_callv (va_runI (As := []) (rest := [.ref mh]) ⟨hx, hb, hml, hown, hts⟩ (metX1_init l dC dI mh H.size) (cwI 0 hts (lw_meth q175) rfl rfl rfl (hts _ q26) (hts _ q173) (hts _ q174) rfl (by decide +kernel) ⟨Nat.le_of_ble_eq_true rfl, Nat.le_of_ble_eq_true rfl⟩) ⟨fun a U g mk q => by obtain ⟨q0, q1, qP, qK, qD⟩ := q; exact ⟨q0, q1, qP, va_K.moved (u := U) (U := U.calling g mk a) (Vm.Alike.refl U.vm) qK, qD⟩, fun U hU hW => ⟨rfl, by rw [hU], by rw [hU]; exact hPc, va_K.moved hW.alike hKc, hDc.weaken (fun _ _ _ _ => trivial)⟩⟩ rfl rfl hl.1 rfl (lv_room (Nat.le_of_ble_eq_true rfl)) dL_law_12 ⟨Nat.le_of_ble_eq_true rfl, Nat.le_of_ble_eq_true rfl⟩) hS (fun q _ h => hFc q h) hFc (fun u t H1 locs ht hvm hw1 hB hz1 hk1 hS => ?_)
  obtain ⟨m1, m2, me1, me2, hP1, hK1, hD1⟩ := hB
  rw [ht] at hP1
  have hK1 := va_K.moved hvm.symm hK1
  obtain ⟨hP, hD⟩ := va_join (wr := tw_C xh x1 x2 x3 xe1 xe2 xe3 (fun _ => 0) (fun _ => 0)) (w1 := tw_M mh m1 m2 me1 me2 (fun _ => 0) (fun _ => 0)) hP hD [4] [0, 1, 2, 3] rfl rfl (by decide) (by decide) hk1 hFc hP1 hD1
  have hK := hK.app hK1
  generalize H1 = H at hP hS ⊢
  have hP : va_P (dC, dI) tw_cl (tw_W xh x1 x2 x3 xe1 xe2 xe3 mh m1 m2 me1 me2 (fun _ => 0) (fun _ => 0) (fun _ => 0) (fun _ => 0)) H := hP
  have hD : va_D (fun q : Nat => s.heap.size ≤ q) (tw_W xh x1 x2 x3 xe1 xe2 xe3 mh m1 m2 me1 me2 (fun _ => 0) (fun _ => 0) (fun _ => 0) (fun _ => 0)) := hD
  have hK : va_K (dC, dI) tw_cl (tw_TW xe1 xe2 xe3 me1 me2) s := hK
  refine W.widen (k := 7) (n := 399) (by decide) (by decide) ?_
  refine lv_astore_n (lv' := [(2, .ref mh), (1, .ref xh), (0, .ref b)]) hx hb dL_law_15 rfl hl (by decide) rfl (fun ls hl => ?_)
  refine lv_iconst (v := 0) hx hb dL_law_16 (by decide) ?_
  refine lv_istore_n (lv' := [(3, .int 0), (2, .ref mh), (1, .ref xh), (0, .ref b)]) hx hb dL_law_17 rfl hl (by decide) rfl (fun ls hl => ?_)
  exact law_loop hL C0 hK (L + 1) 0 (by omega) (by omega) _ _ _ _ _ _ ls ⟨tw_R0, hP, hD, hS⟩ (lv_sub hl [3, 2, 1, 0] rfl)
set_option maxHeartbeats 4000000 in
theorem lw_walk (l : Launch) (b : Addr) (xs : List Int32) : MetFree l x (headSpec (Jvm.Cond.code x code maxLocals ret :: tables_1) room_1) (lw_P b xs) (fun _ _ _ _ _ => True) lw_Q := by
  refine MetFree.of_bodyS (code := code) (maxLocals := maxLocals) (ret := ret) (by decide) ?_ ?_
  · intro args s m h hn
    obtain ⟨meth, c, h1, h2, h3, h4, h5, h6, -, -⟩ := Cond.code_spec hn (atoms_spec (ws := Jvm.Cond.code x code maxLocals ret :: tables_1) h _ List.mem_cons_self)
    exact ⟨meth, c, h1, h2, h3, h4, h5, h6⟩
  · intro p e s m args below meth c s₁ B hml0 hP _
    obtain ⟨rfl, hx, hbd, hgv⟩ := hP
    obtain ⟨scr, harrAt, hlist, hof, hsmall⟩ := hx
    obtain ⟨hcb, hkn, -, -⟩ := State.arrayAt?_spec harrAt
    have hown : s.vm.findClass R_law = some m.cls := findClass_of_methodNamed B.named
    have hts0 : ∀ c ∈ (Jvm.Cond.code x code maxLocals ret :: tables_1), c.before #[Value.ref b] s = true := atoms_spec (ws := Jvm.Cond.code x code maxLocals ret :: tables_1) B.pre
    have hts : ∀ w ∈ lw_tbl, w.before #[Value.ref b] s = true := k2_hts_sels lw_privs (fun w hw => hts0 w (List.mem_cons_of_mem _ hw)) lw_privs_ok
    have hml : c.maxLocals = 4 := B.maxLocals_eq (hts0 _ List.mem_cons_self)
    have X₀ : Stand p l e room_1 s m #[Value.ref b] below meth c s₁ [] 0 0 := Stand.of_body B
    have hh0 : s₁.heap = s.heap := by rw [B.state]; rfl
    have hsz : scr.slots.size = xs.length := by rw [← Array.length_toList, hlist, List.length_map]
    have hval : ∀ j : Nat, j < xs.length → scr.slots[j]? = some (.int (xs.getD j 0)) := fun j hj => by
      rw [← Array.getElem?_toList, hlist]
      simp [hj]
    have hbl : b < s.heap.size := (Array.getElem?_eq_some_iff.mp hcb).1
    have hX : va_X b xs.length (fun j => xs.getD j 0) s s.heap := ⟨scr, hcb, hof, hkn, hsz, hval⟩
    have K : W p l e room_1 s m #[Value.ref b] below meth c s₁.heap [] 0 0 (lw_Z below #[Value.ref b] s) (entryFrame m ([Value.ref b] : List Value).toArray 4) := by
      rw [hh0]
      exact whole_start l hbd ⟨B.exec, B.bytes, B.returns, hml, hown, hts, hX, hbl, B.notSynchronized, hgv⟩
    obtain ⟨t, a1, o, b1, b2, b3⟩ := K s₁ rfl X₀
    exact ⟨t, o, a1, b1, b2, b3⟩
theorem lw_pre_spec {args : Array Value} {s : State} (h : (Jvm.Cond.and given_1 narrow_1).before args s = true) (hr : rest_1_c.before args s = true) : ∃ (b : Addr) (xs : List Int32), lw_P b xs args s := by
  have hs := flat_of_before _ h
  have hq := flat_of_before _ hr
  have hc : (Cond.count 1).before args s = true := hs _ (by decide +kernel)
  have harr : (Cond.arrayOf (.arg 0) .int).before args s = true := hs _ (by decide +kernel)
  have hle : (Cond.le (.length (.arg 0)) (.int 320)).before args s = true := hs _ (by decide +kernel)
  have hlen : (Cond.isInt (.length (.arg 0))).before args s = true := hq _ (by decide +kernel)
  have hall : (Cond.all (.arg 0) (.isInt (.elem (.arg 0) (.index 0)))).before args s = true := hq _ (by decide +kernel)
  obtain ⟨b, xs, hb, hx⟩ := State.ints_of_pre rfl harr hlen hall
  have hsm : xs.length < 2 ^ 31 := hx.choose_spec.2.2.2
  have hev : (Term.length (.arg 0)).eval args s none [] s = some (.int xs.length.toInt32) := hx.length_eval hb
  have hv := Cond.le_ints hev (show (Term.int 320).eval args s none [] s = some (.int 320) from rfl)
  have hd : xs.length.toInt32 ≤ 320 := by
    simpa [Cond.before, Cond.holds, hv] using hle
  have hN : xs.length ≤ 320 := (Int32.ofNat_le_ofNat hsm (by decide)).mp (show Int32.ofNat xs.length ≤ Int32.ofNat 320 from hd)
  exact ⟨b, xs, Cond.one_arg hc (show args[0]? = some (.ref b) from hb), hx, hN, h⟩
theorem lw_comes (l : Launch) : Comes l x (Jvm.Cond.code x code maxLocals ret :: tables_1) room_1 (fun tb e args s => Calls_1 tb e args s ∧ rest_1 tb e args s ∧ Pre_1 tb e args s)
    (fun _ _ args s o t => lw_Q args s o t) := by
  intro p e ha hc hk s m args below hf hfit hheap happ hpre
  obtain ⟨b, xs, hP⟩ := lw_pre_spec hpre.2.2 hpre.2.1
  obtain ⟨k, o, h1, h2, h3, hQ⟩ := lw_walk l b xs p e ha hc hk s m args below hf ((Spec.applies_iff_loose hf).mp happ).1 hP trivial
  exact ⟨k, o, h1, h2, h3, hQ⟩
theorem lw_frame {s t : State} {o : Outcome} {args : Array Value} (h : Framed s o t [] 600000 7290000) :
    Framed s o t (fieldLocs frame_1_writes args s ++ arrayLocs frame_1_arrays args s ++ staticLocs frame_1_statics s) 600000 7290000 := h
theorem lw_limb (L : Cond) (hL : ∀ (args : Array Value) (s t : State), L.after args s (.returned (some (.int 1))) t = true) :
    ArmFor flags0 classFile x code maxLocals ret World_1 tables_1 room_1 Calls_1 rest_1 Pre_1
      (fun tb e a s o t => postC L tb e a s o t ∧ Framed s o t (fieldLocs frame_1_writes a s ++ arrayLocs frame_1_arrays a s ++ staticLocs frame_1_statics s) 600000 7290000) := by
  intro l _ _ _ p e ha hc hk s m args below hf hfit hheap happ hpre
  obtain ⟨k, o, h1, h2, h3, rfl, hF⟩ := lw_comes l p e ha hc hk s m args below hf hfit hheap happ hpre
  exact ⟨k, _, h1, h2, h3, hL args s _, lw_frame hF⟩
theorem i_vc : Claimed_1_1 ∧ Claimed_1_2 := ⟨lw_limb limb_1_1 (fun args s t => by simp [limb_1_1, Cond.after, Cond.holds, Cond.value]), lw_limb limb_1_2 (fun args s t => Cond.after_iff.mpr (by
  first | (rw [show limb_1_2 = Cond.eq .result (.int 1) from rfl, Cond.eq_ints (x := 1) (y := 1) rfl rfl]; simp; done) | (simp [limb_1_2, Cond.value, Term.eval]; done)))⟩
end
