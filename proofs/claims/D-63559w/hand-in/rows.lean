section
-- ===== PART A: goes FIRST, ahead of the names: the tables' words, and 'selects' of the private methods out of them =====
/-- a private method of a class that the tables say can be made, by its rows of tables_1 -/
def lw_okq (q : MethodName × Nat) : Prop := (q.1.cls ≠ "java/lang/invoke/MethodHandle" ∧ q.1.cls ≠ "java/lang/invoke/VarHandle") ∧ Cond.instantiable q.1.cls q.2 ∈ tables_1 ∧ Cond.privateMethod q.1 ∈ tables_1 ∧ Cond.instanceMethod q.1 ∈ tables_1
set_option maxRecDepth 100000
theorem lw_t1 {w : Cond} (h : w ∈ tables_1_1) : w ∈ tables_1 := List.mem_append_left _ h
theorem lw_t2 {w : Cond} (h : w ∈ tables_1_2) : w ∈ tables_1 := List.mem_append_right _ h
theorem lw_p0 : lw_okq (⟨"PersistentBars", "hasSides", "(I)Z"⟩, 7) := ⟨⟨by decide +kernel, by decide +kernel⟩, lw_t1 (List.mem_of_getElem? (i := 4) rfl), lw_t1 (List.mem_of_getElem? (i := 45) rfl), lw_t1 (List.mem_of_getElem? (i := 46) rfl)⟩
theorem lw_p1 : lw_okq (⟨"PersistentBars", "enter", "(I)V"⟩, 7) := ⟨⟨by decide +kernel, by decide +kernel⟩, lw_t1 (List.mem_of_getElem? (i := 4) rfl), lw_t1 (List.mem_of_getElem? (i := 49) rfl), lw_t1 (List.mem_of_getElem? (i := 50) rfl)⟩
theorem lw_p2 : lw_okq (⟨"PersistentBars", "isGood", "(I)Z"⟩, 7) := ⟨⟨by decide +kernel, by decide +kernel⟩, lw_t1 (List.mem_of_getElem? (i := 4) rfl), lw_t1 (List.mem_of_getElem? (i := 69) rfl), lw_t1 (List.mem_of_getElem? (i := 70) rfl)⟩
theorem lw_p3 : lw_okq (⟨"PersistentBars", "dimension", "(I)I"⟩, 7) := ⟨⟨by decide +kernel, by decide +kernel⟩, lw_t1 (List.mem_of_getElem? (i := 4) rfl), lw_t1 (List.mem_of_getElem? (i := 77) rfl), lw_t1 (List.mem_of_getElem? (i := 78) rfl)⟩
theorem lw_p4 : lw_okq (⟨"PersistentBars", "living", "(III)I"⟩, 7) := ⟨⟨by decide +kernel, by decide +kernel⟩, lw_t1 (List.mem_of_getElem? (i := 4) rfl), lw_t1 (List.mem_of_getElem? (i := 85) rfl), lw_t1 (List.mem_of_getElem? (i := 86) rfl)⟩
theorem lw_p5 : lw_okq (⟨"PersistentBars", "solve", "()V"⟩, 7) := ⟨⟨by decide +kernel, by decide +kernel⟩, lw_t1 (List.mem_of_getElem? (i := 4) rfl), lw_t1 (List.mem_of_getElem? (i := 89) rfl), lw_t1 (List.mem_of_getElem? (i := 90) rfl)⟩
theorem lw_p6 : lw_okq (⟨"PersistentBars", "sidesOf", "(I)I"⟩, 7) := ⟨⟨by decide +kernel, by decide +kernel⟩, lw_t1 (List.mem_of_getElem? (i := 4) rfl), lw_t1 (List.mem_of_getElem? (i := 93) rfl), lw_t1 (List.mem_of_getElem? (i := 94) rfl)⟩
theorem lw_p7 : lw_okq (⟨"PersistentBars", "isChain", "(I)Z"⟩, 7) := ⟨⟨by decide +kernel, by decide +kernel⟩, lw_t1 (List.mem_of_getElem? (i := 4) rfl), lw_t1 (List.mem_of_getElem? (i := 128) rfl), lw_t1 (List.mem_of_getElem? (i := 129) rfl)⟩
theorem lw_p8 : lw_okq (⟨"PersistentBars", "isEven", "(I)Z"⟩, 7) := ⟨⟨by decide +kernel, by decide +kernel⟩, lw_t1 (List.mem_of_getElem? (i := 4) rfl), lw_t1 (List.mem_of_getElem? (i := 132) rfl), lw_t1 (List.mem_of_getElem? (i := 133) rfl)⟩
theorem lw_p9 : lw_okq (⟨"PersistentBars", "borderOf", "(I)I"⟩, 7) := ⟨⟨by decide +kernel, by decide +kernel⟩, lw_t1 (List.mem_of_getElem? (i := 4) rfl), lw_t1 (List.mem_of_getElem? (i := 136) rfl), lw_t1 (List.mem_of_getElem? (i := 137) rfl)⟩
theorem lw_p10 : lw_okq (⟨"PersistentBarsModel", "badPiece", "(I)Z"⟩, 3) := ⟨⟨by decide +kernel, by decide +kernel⟩, lw_t1 (List.mem_of_getElem? (i := 144) rfl), lw_t1 (List.mem_of_getElem? (i := 164) rfl), lw_t1 (List.mem_of_getElem? (i := 165) rfl)⟩
theorem lw_p11 : lw_okq (⟨"PersistentBarsModel", "points", "(I)I"⟩, 3) := ⟨⟨by decide +kernel, by decide +kernel⟩, lw_t1 (List.mem_of_getElem? (i := 144) rfl), lw_t1 (List.mem_of_getElem? (i := 168) rfl), lw_t1 (List.mem_of_getElem? (i := 169) rfl)⟩
theorem lw_p12 : lw_okq (⟨"PersistentBarsModel", "find", "(I)I"⟩, 3) := ⟨⟨by decide +kernel, by decide +kernel⟩, lw_t1 (List.mem_of_getElem? (i := 144) rfl), lw_t1 (List.mem_of_getElem? (i := 172) rfl), lw_t1 (List.mem_of_getElem? (i := 173) rfl)⟩
theorem lw_p13 : lw_okq (⟨"PersistentBarsModel", "sidesThere", "(I)Z"⟩, 3) := ⟨⟨by decide +kernel, by decide +kernel⟩, lw_t1 (List.mem_of_getElem? (i := 144) rfl), lw_t1 (List.mem_of_getElem? (i := 176) rfl), lw_t1 (List.mem_of_getElem? (i := 177) rfl)⟩
theorem lw_p14 : lw_okq (⟨"PersistentBarsModel", "put", "(I)I"⟩, 3) := ⟨⟨by decide +kernel, by decide +kernel⟩, lw_t1 (List.mem_of_getElem? (i := 144) rfl), lw_t1 (List.mem_of_getElem? (i := 180) rfl), lw_t1 (List.mem_of_getElem? (i := 181) rfl)⟩
theorem lw_p15 : lw_okq (⟨"PersistentBarsModel", "bad", "(I)Z"⟩, 3) := ⟨⟨by decide +kernel, by decide +kernel⟩, lw_t1 (List.mem_of_getElem? (i := 144) rfl), lw_t1 (List.mem_of_getElem? (i := 200) rfl), lw_t1 (List.mem_of_getElem? (i := 201) rfl)⟩
def lw_privs_1 : List (MethodName × Nat) := [(⟨"PersistentBars", "hasSides", "(I)Z"⟩, 7), (⟨"PersistentBars", "enter", "(I)V"⟩, 7), (⟨"PersistentBars", "isGood", "(I)Z"⟩, 7), (⟨"PersistentBars", "dimension", "(I)I"⟩, 7), (⟨"PersistentBars", "living", "(III)I"⟩, 7), (⟨"PersistentBars", "solve", "()V"⟩, 7), (⟨"PersistentBars", "sidesOf", "(I)I"⟩, 7), (⟨"PersistentBars", "isChain", "(I)Z"⟩, 7), (⟨"PersistentBars", "isEven", "(I)Z"⟩, 7), (⟨"PersistentBars", "borderOf", "(I)I"⟩, 7), (⟨"PersistentBarsModel", "badPiece", "(I)Z"⟩, 3), (⟨"PersistentBarsModel", "points", "(I)I"⟩, 3), (⟨"PersistentBarsModel", "find", "(I)I"⟩, 3), (⟨"PersistentBarsModel", "sidesThere", "(I)Z"⟩, 3), (⟨"PersistentBarsModel", "put", "(I)I"⟩, 3), (⟨"PersistentBarsModel", "bad", "(I)Z"⟩, 3)]
theorem lw_r1 : ∀ q ∈ lw_privs_1, lw_okq q := List.forall_mem_cons.mpr ⟨lw_p0, List.forall_mem_cons.mpr ⟨lw_p1, List.forall_mem_cons.mpr ⟨lw_p2, List.forall_mem_cons.mpr ⟨lw_p3, List.forall_mem_cons.mpr ⟨lw_p4, List.forall_mem_cons.mpr ⟨lw_p5, List.forall_mem_cons.mpr ⟨lw_p6, List.forall_mem_cons.mpr ⟨lw_p7, List.forall_mem_cons.mpr ⟨lw_p8, List.forall_mem_cons.mpr ⟨lw_p9, List.forall_mem_cons.mpr ⟨lw_p10, List.forall_mem_cons.mpr ⟨lw_p11, List.forall_mem_cons.mpr ⟨lw_p12, List.forall_mem_cons.mpr ⟨lw_p13, List.forall_mem_cons.mpr ⟨lw_p14, List.forall_mem_cons.mpr ⟨lw_p15, fun _ h => absurd h List.not_mem_nil⟩⟩⟩⟩⟩⟩⟩⟩⟩⟩⟩⟩⟩⟩⟩⟩
theorem lw_p16 : lw_okq (⟨"PersistentBarsModel", "badTime", "(I)Z"⟩, 3) := ⟨⟨by decide +kernel, by decide +kernel⟩, lw_t1 (List.mem_of_getElem? (i := 144) rfl), lw_t1 (List.mem_of_getElem? (i := 208) rfl), lw_t1 (List.mem_of_getElem? (i := 209) rfl)⟩
theorem lw_p17 : lw_okq (⟨"PersistentBarsModel", "badDimension", "(I)Z"⟩, 3) := ⟨⟨by decide +kernel, by decide +kernel⟩, lw_t1 (List.mem_of_getElem? (i := 144) rfl), lw_t1 (List.mem_of_getElem? (i := 212) rfl), lw_t1 (List.mem_of_getElem? (i := 213) rfl)⟩
theorem lw_p18 : lw_okq (⟨"PersistentBarsModel", "tally", "(II)I"⟩, 3) := ⟨⟨by decide +kernel, by decide +kernel⟩, lw_t1 (List.mem_of_getElem? (i := 144) rfl), lw_t1 (List.mem_of_getElem? (i := 216) rfl), lw_t1 (List.mem_of_getElem? (i := 217) rfl)⟩
theorem lw_p19 : lw_okq (⟨"PersistentBarsModel", "dimension", "(I)I"⟩, 3) := ⟨⟨by decide +kernel, by decide +kernel⟩, lw_t1 (List.mem_of_getElem? (i := 144) rfl), lw_t1 (List.mem_of_getElem? (i := 220) rfl), lw_t1 (List.mem_of_getElem? (i := 221) rfl)⟩
theorem lw_p20 : lw_okq (⟨"PersistentBarsModel", "last", "(III)I"⟩, 3) := ⟨⟨by decide +kernel, by decide +kernel⟩, lw_t1 (List.mem_of_getElem? (i := 144) rfl), lw_t1 (List.mem_of_getElem? (i := 228) rfl), lw_t1 (List.mem_of_getElem? (i := 229) rfl)⟩
theorem lw_p21 : lw_okq (⟨"PersistentBarsModel", "rank", "(III)I"⟩, 3) := ⟨⟨by decide +kernel, by decide +kernel⟩, lw_t1 (List.mem_of_getElem? (i := 144) rfl), lw_t1 (List.mem_of_getElem? (i := 232) rfl), lw_t1 (List.mem_of_getElem? (i := 233) rfl)⟩
theorem lw_p22 : lw_okq (⟨"PersistentBarsModel", "sides", "(I)I"⟩, 3) := ⟨⟨by decide +kernel, by decide +kernel⟩, lw_t1 (List.mem_of_getElem? (i := 144) rfl), lw_t1 (List.mem_of_getElem? (i := 236) rfl), lw_t1 (List.mem_of_getElem? (i := 237) rfl)⟩
theorem lw_p23 : lw_okq (⟨"PersistentBarsModel", "opening", "(I)Z"⟩, 3) := ⟨⟨by decide +kernel, by decide +kernel⟩, lw_t1 (List.mem_of_getElem? (i := 144) rfl), lw_t2 (List.mem_of_getElem? (i := 8) rfl), lw_t2 (List.mem_of_getElem? (i := 9) rfl)⟩
theorem lw_p24 : lw_okq (⟨"PersistentBarsModel", "mate", "(I)I"⟩, 3) := ⟨⟨by decide +kernel, by decide +kernel⟩, lw_t1 (List.mem_of_getElem? (i := 144) rfl), lw_t2 (List.mem_of_getElem? (i := 16) rfl), lw_t2 (List.mem_of_getElem? (i := 17) rfl)⟩
theorem lw_p25 : lw_okq (⟨"PersistentBarsModel", "partners", "(II)Z"⟩, 3) := ⟨⟨by decide +kernel, by decide +kernel⟩, lw_t1 (List.mem_of_getElem? (i := 144) rfl), lw_t2 (List.mem_of_getElem? (i := 20) rfl), lw_t2 (List.mem_of_getElem? (i := 21) rfl)⟩
theorem lw_p26 : lw_okq (⟨"PersistentBarsModel", "chainDimension", "(I)I"⟩, 3) := ⟨⟨by decide +kernel, by decide +kernel⟩, lw_t1 (List.mem_of_getElem? (i := 144) rfl), lw_t2 (List.mem_of_getElem? (i := 40) rfl), lw_t2 (List.mem_of_getElem? (i := 41) rfl)⟩
theorem lw_p27 : lw_okq (⟨"PersistentBarsModel", "edge", "(I)I"⟩, 3) := ⟨⟨by decide +kernel, by decide +kernel⟩, lw_t1 (List.mem_of_getElem? (i := 144) rfl), lw_t2 (List.mem_of_getElem? (i := 44) rfl), lw_t2 (List.mem_of_getElem? (i := 45) rfl)⟩
def lw_privs_2 : List (MethodName × Nat) := [(⟨"PersistentBarsModel", "badTime", "(I)Z"⟩, 3), (⟨"PersistentBarsModel", "badDimension", "(I)Z"⟩, 3), (⟨"PersistentBarsModel", "tally", "(II)I"⟩, 3), (⟨"PersistentBarsModel", "dimension", "(I)I"⟩, 3), (⟨"PersistentBarsModel", "last", "(III)I"⟩, 3), (⟨"PersistentBarsModel", "rank", "(III)I"⟩, 3), (⟨"PersistentBarsModel", "sides", "(I)I"⟩, 3), (⟨"PersistentBarsModel", "opening", "(I)Z"⟩, 3), (⟨"PersistentBarsModel", "mate", "(I)I"⟩, 3), (⟨"PersistentBarsModel", "partners", "(II)Z"⟩, 3), (⟨"PersistentBarsModel", "chainDimension", "(I)I"⟩, 3), (⟨"PersistentBarsModel", "edge", "(I)I"⟩, 3)]
theorem lw_r2 : ∀ q ∈ lw_privs_2, lw_okq q := List.forall_mem_cons.mpr ⟨lw_p16, List.forall_mem_cons.mpr ⟨lw_p17, List.forall_mem_cons.mpr ⟨lw_p18, List.forall_mem_cons.mpr ⟨lw_p19, List.forall_mem_cons.mpr ⟨lw_p20, List.forall_mem_cons.mpr ⟨lw_p21, List.forall_mem_cons.mpr ⟨lw_p22, List.forall_mem_cons.mpr ⟨lw_p23, List.forall_mem_cons.mpr ⟨lw_p24, List.forall_mem_cons.mpr ⟨lw_p25, List.forall_mem_cons.mpr ⟨lw_p26, List.forall_mem_cons.mpr ⟨lw_p27, fun _ h => absurd h List.not_mem_nil⟩⟩⟩⟩⟩⟩⟩⟩⟩⟩⟩⟩
def lw_privs : List (MethodName × Nat) := lw_privs_1 ++ (lw_privs_2)
def lw_tbl : List Cond := k2_sels lw_privs ++ tables_1
theorem lw_privs_ok : ∀ q ∈ lw_privs, lw_okq q := by
  show ∀ q ∈ lw_privs_1 ++ (lw_privs_2), lw_okq q
  exact List.forall_mem_append.mpr ⟨lw_r1, lw_r2⟩
-- ===== ONE list of words for every method: the tables' words that hold all through a run =====
def lw_all : List Cond := lw_tbl.filter goodWord
/-- a word of the tables by its place: claim/WORDS.tsv -/
theorem lw_w {w : Cond} (i : Nat) (h : lw_tbl[i]? = some w) (g : goodWord w = true) : w ∈ lw_all := List.mem_filter.mpr ⟨List.mem_of_getElem? h, g⟩
theorem lw_all_tbl {w : Cond} (h : w ∈ lw_all) : w ∈ lw_tbl := (List.mem_filter.mp h).1
theorem lw_self : GoodIn lw_all lw_all := fun w h => ⟨h, good_of_word (List.mem_filter.mp h).2⟩
/-- a class's field words, by their places -/
theorem lw_in (ws : List Cond) (ps : List Nat) (hp : ws = ps.filterMap (fun i => lw_tbl[i]?)) (hg : ws.all goodWord = true) : ∀ w ∈ ws, w ∈ lw_all := by
  intro w h
  have h1 := List.all_eq_true.mp hg w h
  rw [hp] at h
  obtain ⟨i, -, hi⟩ := List.mem_filterMap.mp h
  exact lw_w i hi h1
/-- the words of a contract for the method y with code b, L locals, answer r -/
abbrev ws_ (y : MethodName) (b : ByteArray) (L : Nat) (r : Option FieldType) : List Cond := Cond.code y b L r :: lw_all
theorem lw_meth {y : MethodName} {b : ByteArray} {L : Nat} {r : Option FieldType} (h : Cond.code y b L r ∈ lw_all) : GoodIn lw_all (ws_ y b L r) := by
  intro w hw
  rcases List.mem_cons.mp hw with e | e
  · rw [e]
    exact lw_self _ h
  · exact lw_self _ e
theorem lw_app {a c : List Cond} (ha : ∀ w ∈ a, w ∈ lw_all) (hc : GoodIn lw_all c) : GoodIn lw_all (a ++ c) := by
  intro w hw
  rcases List.mem_append.mp hw with e | e
  · exact lw_self w (ha w e)
  · exact hc w e
/-- what a call through an object asks: cwV n hts (lw_V ..) -/
theorem lw_V {own : String} {idx : Nat} {C : String} {y : MethodName} {b : ByteArray} {L : Nat} {r : Option FieldType} (h1 : Cond.methodLink own idx y ∈ lw_all) (h2 : Cond.instanceMethod y ∈ lw_all) (h3 : Cond.selects C y y ∈ lw_all) (h4 : Cond.initialized C ∈ lw_all) (h5 : Cond.code y b L r ∈ lw_all) : GoodIn lw_all (wsV own idx C y (ws_ y b L r)) := by
  refine lw_app ?_ (lw_meth h5)
  intro w hw
  simp only [List.mem_cons, List.not_mem_nil, or_false] at hw
  rcases hw with e | e | e | e
  · rw [e]; exact h1
  · rw [e]; exact h2
  · rw [e]; exact h3
  · rw [e]; exact h4
/-- what a static call asks: va_cwS n hts (lw_S ..) -/
theorem lw_S {own : String} {idx : Nat} {y : MethodName} {b : ByteArray} {L : Nat} {r : Option FieldType} (h1 : Cond.methodLink own idx y ∈ lw_all) (h2 : Cond.static y ∈ lw_all) (h3 : Cond.initialized y.cls ∈ lw_all) (h4 : Cond.code y b L r ∈ lw_all) : GoodIn lw_all (va_wsS own idx y (ws_ y b L r)) := by
  refine lw_app ?_ (lw_meth h4)
  intro w hw
  simp only [List.mem_cons, List.not_mem_nil, or_false] at hw
  rcases hw with e | e | e
  · rw [e]; exact h1
  · rw [e]; exact h2
  · rw [e]; exact h3
/-- the words of a contract for a method WITH HANDLERS (hh: its table) -/
abbrev wsW_ (y : MethodName) (b : ByteArray) (L : Nat) (r : Option FieldType) (hh : List (Nat × Nat × Nat × Nat)) : List Cond := Cond.codeWith y b L r hh :: lw_all
theorem lw_methW {y : MethodName} {b : ByteArray} {L : Nat} {r : Option FieldType} {hh : List (Nat × Nat × Nat × Nat)} (h : Cond.codeWith y b L r hh ∈ lw_all) : GoodIn lw_all (wsW_ y b L r hh) := by
  intro w hw
  rcases List.mem_cons.mp hw with e | e
  · rw [e]
    exact lw_self _ h
  · exact lw_self _ e
/-- any list of words by their places (lw_in), good -/
theorem lw_good {ws : List Cond} (h : ∀ w ∈ ws, w ∈ lw_all) : GoodIn lw_all ws := fun w hw => lw_self w (h w hw)
/-- what a call of a method with handlers asks: vx_cwVW n hts (lw_VW ..), vx_cwSW n hts (lw_SW ..) -/
theorem lw_VW {own : String} {idx : Nat} {C : String} {y : MethodName} {b : ByteArray} {L : Nat} {r : Option FieldType} {hh : List (Nat × Nat × Nat × Nat)} (h1 : Cond.methodLink own idx y ∈ lw_all) (h2 : Cond.instanceMethod y ∈ lw_all) (h3 : Cond.selects C y y ∈ lw_all) (h4 : Cond.initialized C ∈ lw_all) (h5 : Cond.codeWith y b L r hh ∈ lw_all) : GoodIn lw_all (wsV own idx C y (wsW_ y b L r hh)) := by
  refine lw_app ?_ (lw_methW h5)
  intro w hw
  simp only [List.mem_cons, List.not_mem_nil, or_false] at hw
  rcases hw with e | e | e | e
  · rw [e]; exact h1
  · rw [e]; exact h2
  · rw [e]; exact h3
  · rw [e]; exact h4
theorem lw_SW {own : String} {idx : Nat} {y : MethodName} {b : ByteArray} {L : Nat} {r : Option FieldType} {hh : List (Nat × Nat × Nat × Nat)} (h1 : Cond.methodLink own idx y ∈ lw_all) (h2 : Cond.static y ∈ lw_all) (h3 : Cond.initialized y.cls ∈ lw_all) (h4 : Cond.codeWith y b L r hh ∈ lw_all) : GoodIn lw_all (va_wsS own idx y (wsW_ y b L r hh)) := by
  refine lw_app ?_ (lw_methW h4)
  intro w hw
  simp only [List.mem_cons, List.not_mem_nil, or_false] at hw
  rcases hw with e | e | e
  · rw [e]; exact h1
  · rw [e]; exact h2
  · rw [e]; exact h3
/-- a word by its place in its run of the tables -/
theorem lw_at {r : List Cond} (hr : ∀ w ∈ r, w ∈ lw_tbl) {w : Cond} (i : Nat) (h : r[i]? = some w) : w ∈ lw_tbl := hr w (List.mem_of_getElem? h)
theorem lw_g {w : Cond} (h : w ∈ lw_tbl) (g : goodWord w = true) : w ∈ lw_all := List.mem_filter.mpr ⟨h, g⟩
theorem lw_ms : ∀ w ∈ k2_sels lw_privs, w ∈ lw_tbl := fun w h => show w ∈ k2_sels lw_privs ++ tables_1 from List.mem_append_left _ h
theorem lw_m1 : ∀ w ∈ tables_1_1, w ∈ lw_tbl := fun w h => show w ∈ k2_sels lw_privs ++ tables_1 from List.mem_append_right (k2_sels lw_privs) (show w ∈ tables_1 from List.mem_append_left _ h)
theorem lw_m2 : ∀ w ∈ tables_1_2, w ∈ lw_tbl := fun w h => show w ∈ k2_sels lw_privs ++ tables_1 from List.mem_append_right (k2_sels lw_privs) (show w ∈ tables_1 from List.mem_append_right _ h)
theorem qs0 : (Cond.selects "PersistentBars" ⟨"PersistentBars", "hasSides", "(I)Z"⟩ ⟨"PersistentBars", "hasSides", "(I)Z"⟩) ∈ lw_all := lw_g (lw_at lw_ms 0 rfl) rfl
theorem qs1 : (Cond.selects "PersistentBars" ⟨"PersistentBars", "enter", "(I)V"⟩ ⟨"PersistentBars", "enter", "(I)V"⟩) ∈ lw_all := lw_g (lw_at lw_ms 1 rfl) rfl
theorem qs2 : (Cond.selects "PersistentBars" ⟨"PersistentBars", "isGood", "(I)Z"⟩ ⟨"PersistentBars", "isGood", "(I)Z"⟩) ∈ lw_all := lw_g (lw_at lw_ms 2 rfl) rfl
theorem qs3 : (Cond.selects "PersistentBars" ⟨"PersistentBars", "dimension", "(I)I"⟩ ⟨"PersistentBars", "dimension", "(I)I"⟩) ∈ lw_all := lw_g (lw_at lw_ms 3 rfl) rfl
theorem qs4 : (Cond.selects "PersistentBars" ⟨"PersistentBars", "living", "(III)I"⟩ ⟨"PersistentBars", "living", "(III)I"⟩) ∈ lw_all := lw_g (lw_at lw_ms 4 rfl) rfl
theorem qs5 : (Cond.selects "PersistentBars" ⟨"PersistentBars", "solve", "()V"⟩ ⟨"PersistentBars", "solve", "()V"⟩) ∈ lw_all := lw_g (lw_at lw_ms 5 rfl) rfl
theorem qs6 : (Cond.selects "PersistentBars" ⟨"PersistentBars", "sidesOf", "(I)I"⟩ ⟨"PersistentBars", "sidesOf", "(I)I"⟩) ∈ lw_all := lw_g (lw_at lw_ms 6 rfl) rfl
theorem qs7 : (Cond.selects "PersistentBars" ⟨"PersistentBars", "isChain", "(I)Z"⟩ ⟨"PersistentBars", "isChain", "(I)Z"⟩) ∈ lw_all := lw_g (lw_at lw_ms 7 rfl) rfl
theorem qs8 : (Cond.selects "PersistentBars" ⟨"PersistentBars", "isEven", "(I)Z"⟩ ⟨"PersistentBars", "isEven", "(I)Z"⟩) ∈ lw_all := lw_g (lw_at lw_ms 8 rfl) rfl
theorem qs9 : (Cond.selects "PersistentBars" ⟨"PersistentBars", "borderOf", "(I)I"⟩ ⟨"PersistentBars", "borderOf", "(I)I"⟩) ∈ lw_all := lw_g (lw_at lw_ms 9 rfl) rfl
theorem qs10 : (Cond.selects "PersistentBarsModel" ⟨"PersistentBarsModel", "badPiece", "(I)Z"⟩ ⟨"PersistentBarsModel", "badPiece", "(I)Z"⟩) ∈ lw_all := lw_g (lw_at lw_ms 10 rfl) rfl
theorem qs11 : (Cond.selects "PersistentBarsModel" ⟨"PersistentBarsModel", "points", "(I)I"⟩ ⟨"PersistentBarsModel", "points", "(I)I"⟩) ∈ lw_all := lw_g (lw_at lw_ms 11 rfl) rfl
theorem qs12 : (Cond.selects "PersistentBarsModel" ⟨"PersistentBarsModel", "find", "(I)I"⟩ ⟨"PersistentBarsModel", "find", "(I)I"⟩) ∈ lw_all := lw_g (lw_at lw_ms 12 rfl) rfl
theorem qs13 : (Cond.selects "PersistentBarsModel" ⟨"PersistentBarsModel", "sidesThere", "(I)Z"⟩ ⟨"PersistentBarsModel", "sidesThere", "(I)Z"⟩) ∈ lw_all := lw_g (lw_at lw_ms 13 rfl) rfl
theorem qs14 : (Cond.selects "PersistentBarsModel" ⟨"PersistentBarsModel", "put", "(I)I"⟩ ⟨"PersistentBarsModel", "put", "(I)I"⟩) ∈ lw_all := lw_g (lw_at lw_ms 14 rfl) rfl
theorem qs15 : (Cond.selects "PersistentBarsModel" ⟨"PersistentBarsModel", "bad", "(I)Z"⟩ ⟨"PersistentBarsModel", "bad", "(I)Z"⟩) ∈ lw_all := lw_g (lw_at lw_ms 15 rfl) rfl
theorem qs16 : (Cond.selects "PersistentBarsModel" ⟨"PersistentBarsModel", "badTime", "(I)Z"⟩ ⟨"PersistentBarsModel", "badTime", "(I)Z"⟩) ∈ lw_all := lw_g (lw_at lw_ms 16 rfl) rfl
theorem qs17 : (Cond.selects "PersistentBarsModel" ⟨"PersistentBarsModel", "badDimension", "(I)Z"⟩ ⟨"PersistentBarsModel", "badDimension", "(I)Z"⟩) ∈ lw_all := lw_g (lw_at lw_ms 17 rfl) rfl
theorem qs18 : (Cond.selects "PersistentBarsModel" ⟨"PersistentBarsModel", "tally", "(II)I"⟩ ⟨"PersistentBarsModel", "tally", "(II)I"⟩) ∈ lw_all := lw_g (lw_at lw_ms 18 rfl) rfl
theorem qs19 : (Cond.selects "PersistentBarsModel" ⟨"PersistentBarsModel", "dimension", "(I)I"⟩ ⟨"PersistentBarsModel", "dimension", "(I)I"⟩) ∈ lw_all := lw_g (lw_at lw_ms 19 rfl) rfl
theorem qs20 : (Cond.selects "PersistentBarsModel" ⟨"PersistentBarsModel", "last", "(III)I"⟩ ⟨"PersistentBarsModel", "last", "(III)I"⟩) ∈ lw_all := lw_g (lw_at lw_ms 20 rfl) rfl
theorem qs21 : (Cond.selects "PersistentBarsModel" ⟨"PersistentBarsModel", "rank", "(III)I"⟩ ⟨"PersistentBarsModel", "rank", "(III)I"⟩) ∈ lw_all := lw_g (lw_at lw_ms 21 rfl) rfl
theorem qs22 : (Cond.selects "PersistentBarsModel" ⟨"PersistentBarsModel", "sides", "(I)I"⟩ ⟨"PersistentBarsModel", "sides", "(I)I"⟩) ∈ lw_all := lw_g (lw_at lw_ms 22 rfl) rfl
theorem qs23 : (Cond.selects "PersistentBarsModel" ⟨"PersistentBarsModel", "opening", "(I)Z"⟩ ⟨"PersistentBarsModel", "opening", "(I)Z"⟩) ∈ lw_all := lw_g (lw_at lw_ms 23 rfl) rfl
theorem qs24 : (Cond.selects "PersistentBarsModel" ⟨"PersistentBarsModel", "mate", "(I)I"⟩ ⟨"PersistentBarsModel", "mate", "(I)I"⟩) ∈ lw_all := lw_g (lw_at lw_ms 24 rfl) rfl
theorem qs25 : (Cond.selects "PersistentBarsModel" ⟨"PersistentBarsModel", "partners", "(II)Z"⟩ ⟨"PersistentBarsModel", "partners", "(II)Z"⟩) ∈ lw_all := lw_g (lw_at lw_ms 25 rfl) rfl
theorem qs26 : (Cond.selects "PersistentBarsModel" ⟨"PersistentBarsModel", "chainDimension", "(I)I"⟩ ⟨"PersistentBarsModel", "chainDimension", "(I)I"⟩) ∈ lw_all := lw_g (lw_at lw_ms 26 rfl) rfl
theorem qs27 : (Cond.selects "PersistentBarsModel" ⟨"PersistentBarsModel", "edge", "(I)I"⟩ ⟨"PersistentBarsModel", "edge", "(I)I"⟩) ∈ lw_all := lw_g (lw_at lw_ms 27 rfl) rfl
end
section
/-! PersistentBars -/
set_option maxRecDepth 100000
def RX0 : String := "PersistentBars"
def TX0 : u_T := fun k => match k with
  | 0 => ("PersistentBars", "list", "[I", true)
  | 1 => ("PersistentBars", "place", "[I", true)
  | 2 => ("PersistentBars", "columns", "[I", true)
  | 3 => ("PersistentBars", "partners", "[I", true)
  | 4 => ("PersistentBars", "closer", "[I", true)
  | 5 => ("PersistentBars", "count", "I", false)
  | _ => ("PersistentBars", "solved", "I", false)
def tyX0 : Nat → FieldType := fun k => match k with
  | 0 => .array .int
  | 1 => .array .int
  | 2 => .array .int
  | 3 => .array .int
  | 4 => .array .int
  | 5 => .int
  | _ => .int
abbrev wsX00 : List Cond := u_ws RX0 TX0 7
theorem nmX0 : ∀ a, a < 7 → ∀ b, b < 7 → a ≠ b → (TX0 a).2.1 ≠ (TX0 b).2.1 := by decide +kernel
theorem tyX0_ok : ∀ k, k < 7 → parseFieldDescriptor (TX0 k).2.2.1 = some (tyX0 k) := by decide +kernel
abbrev cX0_init : ByteArray := prog_1_method_1_code
def yX0_init : MethodName := ⟨RX0, "<init>", "()V"⟩
theorem dX0_init_0 : decode cX0_init 0 = .ok (.aload_n 0, 1) := by decide +kernel
theorem dX0_init_1 : decode cX0_init 1 = .ok (.invokespecial 1, 3) := by decide +kernel
theorem dX0_init_4 : decode cX0_init 4 = .ok (.aload_n 0, 1) := by decide +kernel
theorem dX0_init_5 : decode cX0_init 5 = .ok (.bipush 26, 2) := by decide +kernel
theorem dX0_init_7 : decode cX0_init 7 = .ok (.newarray .int, 2) := by decide +kernel
theorem dX0_init_9 : decode cX0_init 9 = .ok (.putfield 7, 3) := by decide +kernel
theorem dX0_init_12 : decode cX0_init 12 = .ok (.aload_n 0, 1) := by decide +kernel
theorem dX0_init_13 : decode cX0_init 13 = .ok (.bipush 64, 2) := by decide +kernel
theorem dX0_init_15 : decode cX0_init 15 = .ok (.newarray .int, 2) := by decide +kernel
theorem dX0_init_17 : decode cX0_init 17 = .ok (.putfield 13, 3) := by decide +kernel
theorem dX0_init_20 : decode cX0_init 20 = .ok (.aload_n 0, 1) := by decide +kernel
theorem dX0_init_21 : decode cX0_init 21 = .ok (.bipush 26, 2) := by decide +kernel
theorem dX0_init_23 : decode cX0_init 23 = .ok (.newarray .int, 2) := by decide +kernel
theorem dX0_init_25 : decode cX0_init 25 = .ok (.putfield 16, 3) := by decide +kernel
theorem dX0_init_28 : decode cX0_init 28 = .ok (.aload_n 0, 1) := by decide +kernel
theorem dX0_init_29 : decode cX0_init 29 = .ok (.bipush 26, 2) := by decide +kernel
theorem dX0_init_31 : decode cX0_init 31 = .ok (.newarray .int, 2) := by decide +kernel
theorem dX0_init_33 : decode cX0_init 33 = .ok (.putfield 19, 3) := by decide +kernel
theorem dX0_init_36 : decode cX0_init 36 = .ok (.aload_n 0, 1) := by decide +kernel
theorem dX0_init_37 : decode cX0_init 37 = .ok (.bipush 26, 2) := by decide +kernel
theorem dX0_init_39 : decode cX0_init 39 = .ok (.newarray .int, 2) := by decide +kernel
theorem dX0_init_41 : decode cX0_init 41 = .ok (.putfield 22, 3) := by decide +kernel
theorem dX0_init_44 : decode cX0_init 44 = .ok (.iconst 0, 1) := by decide +kernel
theorem dX0_init_45 : decode cX0_init 45 = .ok (.istore_n 1, 1) := by decide +kernel
theorem dX0_init_46 : decode cX0_init 46 = .ok (.iload_n 1, 1) := by decide +kernel
theorem dX0_init_47 : decode cX0_init 47 = .ok (.bipush 64, 2) := by decide +kernel
theorem dX0_init_49 : decode cX0_init 49 = .ok (.if_icmp .ge 17, 3) := by decide +kernel
theorem dX0_init_52 : decode cX0_init 52 = .ok (.aload_n 0, 1) := by decide +kernel
theorem dX0_init_53 : decode cX0_init 53 = .ok (.getfield 13, 3) := by decide +kernel
theorem dX0_init_56 : decode cX0_init 56 = .ok (.iload_n 1, 1) := by decide +kernel
theorem dX0_init_57 : decode cX0_init 57 = .ok (.bipush (-2), 2) := by decide +kernel
theorem dX0_init_59 : decode cX0_init 59 = .ok (.iastore, 1) := by decide +kernel
theorem dX0_init_60 : decode cX0_init 60 = .ok (.iinc 1 1, 3) := by decide +kernel
theorem dX0_init_63 : decode cX0_init 63 = .ok (.goto (-17), 3) := by decide +kernel
theorem dX0_init_66 : decode cX0_init 66 = .ok (.return_, 1) := by decide +kernel
abbrev cX0_add : ByteArray := prog_1_method_2_code
def yX0_add : MethodName := ⟨RX0, "add", "(I)I"⟩
theorem dX0_add_0 : decode cX0_add 0 = .ok (.iload_n 1, 1) := by decide +kernel
theorem dX0_add_1 : decode cX0_add 1 = .ok (.invokestatic 25, 3) := by decide +kernel
theorem dX0_add_4 : decode cX0_add 4 = .ok (.ifCond .ne 5, 3) := by decide +kernel
theorem dX0_add_7 : decode cX0_add 7 = .ok (.iconst (-1), 1) := by decide +kernel
theorem dX0_add_8 : decode cX0_add 8 = .ok (.ireturn, 1) := by decide +kernel
theorem dX0_add_9 : decode cX0_add 9 = .ok (.aload_n 0, 1) := by decide +kernel
theorem dX0_add_10 : decode cX0_add 10 = .ok (.getfield 13, 3) := by decide +kernel
theorem dX0_add_13 : decode cX0_add 13 = .ok (.iload_n 1, 1) := by decide +kernel
theorem dX0_add_14 : decode cX0_add 14 = .ok (.iaload, 1) := by decide +kernel
theorem dX0_add_15 : decode cX0_add 15 = .ok (.ifCond .lt 6, 3) := by decide +kernel
theorem dX0_add_18 : decode cX0_add 18 = .ok (.bipush (-2), 2) := by decide +kernel
theorem dX0_add_20 : decode cX0_add 20 = .ok (.ireturn, 1) := by decide +kernel
theorem dX0_add_21 : decode cX0_add 21 = .ok (.aload_n 0, 1) := by decide +kernel
theorem dX0_add_22 : decode cX0_add 22 = .ok (.iload_n 1, 1) := by decide +kernel
theorem dX0_add_23 : decode cX0_add 23 = .ok (.invokevirtual 29, 3) := by decide +kernel
theorem dX0_add_26 : decode cX0_add 26 = .ok (.ifCond .ne 6, 3) := by decide +kernel
theorem dX0_add_29 : decode cX0_add 29 = .ok (.bipush (-3), 2) := by decide +kernel
theorem dX0_add_31 : decode cX0_add 31 = .ok (.ireturn, 1) := by decide +kernel
theorem dX0_add_32 : decode cX0_add 32 = .ok (.aload_n 0, 1) := by decide +kernel
theorem dX0_add_33 : decode cX0_add 33 = .ok (.getfield 32, 3) := by decide +kernel
theorem dX0_add_36 : decode cX0_add 36 = .ok (.bipush 26, 2) := by decide +kernel
theorem dX0_add_38 : decode cX0_add 38 = .ok (.if_icmp .ne 6, 3) := by decide +kernel
theorem dX0_add_41 : decode cX0_add 41 = .ok (.bipush (-4), 2) := by decide +kernel
theorem dX0_add_43 : decode cX0_add 43 = .ok (.ireturn, 1) := by decide +kernel
theorem dX0_add_44 : decode cX0_add 44 = .ok (.aload_n 0, 1) := by decide +kernel
theorem dX0_add_45 : decode cX0_add 45 = .ok (.iload_n 1, 1) := by decide +kernel
theorem dX0_add_46 : decode cX0_add 46 = .ok (.invokevirtual 36, 3) := by decide +kernel
theorem dX0_add_49 : decode cX0_add 49 = .ok (.aload_n 0, 1) := by decide +kernel
theorem dX0_add_50 : decode cX0_add 50 = .ok (.getfield 32, 3) := by decide +kernel
theorem dX0_add_53 : decode cX0_add 53 = .ok (.iconst 1, 1) := by decide +kernel
theorem dX0_add_54 : decode cX0_add 54 = .ok (.isub, 1) := by decide +kernel
theorem dX0_add_55 : decode cX0_add 55 = .ok (.ireturn, 1) := by decide +kernel
abbrev cX0_isPiece : ByteArray := prog_1_method_18_code
def yX0_isPiece : MethodName := ⟨RX0, "isPiece", "(I)Z"⟩
theorem dX0_isPiece_0 : decode cX0_isPiece 0 = .ok (.iload_n 0, 1) := by decide +kernel
theorem dX0_isPiece_1 : decode cX0_isPiece 1 = .ok (.iconst 1, 1) := by decide +kernel
theorem dX0_isPiece_2 : decode cX0_isPiece 2 = .ok (.if_icmp .lt 21, 3) := by decide +kernel
theorem dX0_isPiece_5 : decode cX0_isPiece 5 = .ok (.iload_n 0, 1) := by decide +kernel
theorem dX0_isPiece_6 : decode cX0_isPiece 6 = .ok (.bipush 63, 2) := by decide +kernel
theorem dX0_isPiece_8 : decode cX0_isPiece 8 = .ok (.if_icmp .gt 15, 3) := by decide +kernel
theorem dX0_isPiece_11 : decode cX0_isPiece 11 = .ok (.iload_n 0, 1) := by decide +kernel
theorem dX0_isPiece_12 : decode cX0_isPiece 12 = .ok (.invokestatic 66, 3) := by decide +kernel
theorem dX0_isPiece_15 : decode cX0_isPiece 15 = .ok (.iconst 4, 1) := by decide +kernel
theorem dX0_isPiece_16 : decode cX0_isPiece 16 = .ok (.if_icmp .gt 7, 3) := by decide +kernel
theorem dX0_isPiece_19 : decode cX0_isPiece 19 = .ok (.iconst 1, 1) := by decide +kernel
theorem dX0_isPiece_20 : decode cX0_isPiece 20 = .ok (.goto 4, 3) := by decide +kernel
theorem dX0_isPiece_23 : decode cX0_isPiece 23 = .ok (.iconst 0, 1) := by decide +kernel
theorem dX0_isPiece_24 : decode cX0_isPiece 24 = .ok (.ireturn, 1) := by decide +kernel
abbrev cX0_points : ByteArray := prog_1_method_17_code
def yX0_points : MethodName := ⟨RX0, "points", "(I)I"⟩
theorem dX0_points_0 : decode cX0_points 0 = .ok (.iconst 0, 1) := by decide +kernel
theorem dX0_points_1 : decode cX0_points 1 = .ok (.istore_n 1, 1) := by decide +kernel
theorem dX0_points_2 : decode cX0_points 2 = .ok (.iconst 0, 1) := by decide +kernel
theorem dX0_points_3 : decode cX0_points 3 = .ok (.istore_n 2, 1) := by decide +kernel
theorem dX0_points_4 : decode cX0_points 4 = .ok (.iload_n 2, 1) := by decide +kernel
theorem dX0_points_5 : decode cX0_points 5 = .ok (.bipush 6, 2) := by decide +kernel
theorem dX0_points_7 : decode cX0_points 7 = .ok (.if_icmp .ge 17, 3) := by decide +kernel
theorem dX0_points_10 : decode cX0_points 10 = .ok (.iload_n 1, 1) := by decide +kernel
theorem dX0_points_11 : decode cX0_points 11 = .ok (.iload_n 0, 1) := by decide +kernel
theorem dX0_points_12 : decode cX0_points 12 = .ok (.iload_n 2, 1) := by decide +kernel
theorem dX0_points_13 : decode cX0_points 13 = .ok (.ishr, 1) := by decide +kernel
theorem dX0_points_14 : decode cX0_points 14 = .ok (.iconst 1, 1) := by decide +kernel
theorem dX0_points_15 : decode cX0_points 15 = .ok (.iand, 1) := by decide +kernel
theorem dX0_points_16 : decode cX0_points 16 = .ok (.iadd, 1) := by decide +kernel
theorem dX0_points_17 : decode cX0_points 17 = .ok (.istore_n 1, 1) := by decide +kernel
theorem dX0_points_18 : decode cX0_points 18 = .ok (.iinc 2 1, 3) := by decide +kernel
theorem dX0_points_21 : decode cX0_points 21 = .ok (.goto (-17), 3) := by decide +kernel
theorem dX0_points_24 : decode cX0_points 24 = .ok (.iload_n 1, 1) := by decide +kernel
theorem dX0_points_25 : decode cX0_points 25 = .ok (.ireturn, 1) := by decide +kernel
abbrev cX0_hasSides : ByteArray := prog_1_method_22_code
def yX0_hasSides : MethodName := ⟨RX0, "hasSides", "(I)Z"⟩
theorem dX0_hasSides_0 : decode cX0_hasSides 0 = .ok (.iconst 0, 1) := by decide +kernel
theorem dX0_hasSides_1 : decode cX0_hasSides 1 = .ok (.istore_n 2, 1) := by decide +kernel
theorem dX0_hasSides_2 : decode cX0_hasSides 2 = .ok (.iload_n 2, 1) := by decide +kernel
theorem dX0_hasSides_3 : decode cX0_hasSides 3 = .ok (.bipush 6, 2) := by decide +kernel
theorem dX0_hasSides_5 : decode cX0_hasSides 5 = .ok (.if_icmp .ge 37, 3) := by decide +kernel
theorem dX0_hasSides_8 : decode cX0_hasSides 8 = .ok (.iload_n 1, 1) := by decide +kernel
theorem dX0_hasSides_9 : decode cX0_hasSides 9 = .ok (.iconst 1, 1) := by decide +kernel
theorem dX0_hasSides_10 : decode cX0_hasSides 10 = .ok (.iload_n 2, 1) := by decide +kernel
theorem dX0_hasSides_11 : decode cX0_hasSides 11 = .ok (.ishl, 1) := by decide +kernel
theorem dX0_hasSides_12 : decode cX0_hasSides 12 = .ok (.iconst (-1), 1) := by decide +kernel
theorem dX0_hasSides_13 : decode cX0_hasSides 13 = .ok (.ixor, 1) := by decide +kernel
theorem dX0_hasSides_14 : decode cX0_hasSides 14 = .ok (.iand, 1) := by decide +kernel
theorem dX0_hasSides_15 : decode cX0_hasSides 15 = .ok (.istore_n 3, 1) := by decide +kernel
theorem dX0_hasSides_16 : decode cX0_hasSides 16 = .ok (.iload_n 3, 1) := by decide +kernel
theorem dX0_hasSides_17 : decode cX0_hasSides 17 = .ok (.iload_n 1, 1) := by decide +kernel
theorem dX0_hasSides_18 : decode cX0_hasSides 18 = .ok (.if_icmp .eq 18, 3) := by decide +kernel
theorem dX0_hasSides_21 : decode cX0_hasSides 21 = .ok (.iload_n 3, 1) := by decide +kernel
theorem dX0_hasSides_22 : decode cX0_hasSides 22 = .ok (.ifCond .eq 14, 3) := by decide +kernel
theorem dX0_hasSides_25 : decode cX0_hasSides 25 = .ok (.aload_n 0, 1) := by decide +kernel
theorem dX0_hasSides_26 : decode cX0_hasSides 26 = .ok (.getfield 13, 3) := by decide +kernel
theorem dX0_hasSides_29 : decode cX0_hasSides 29 = .ok (.iload_n 3, 1) := by decide +kernel
theorem dX0_hasSides_30 : decode cX0_hasSides 30 = .ok (.iaload, 1) := by decide +kernel
theorem dX0_hasSides_31 : decode cX0_hasSides 31 = .ok (.ifCond .ge 5, 3) := by decide +kernel
theorem dX0_hasSides_34 : decode cX0_hasSides 34 = .ok (.iconst 0, 1) := by decide +kernel
theorem dX0_hasSides_35 : decode cX0_hasSides 35 = .ok (.ireturn, 1) := by decide +kernel
theorem dX0_hasSides_36 : decode cX0_hasSides 36 = .ok (.iinc 2 1, 3) := by decide +kernel
theorem dX0_hasSides_39 : decode cX0_hasSides 39 = .ok (.goto (-37), 3) := by decide +kernel
theorem dX0_hasSides_42 : decode cX0_hasSides 42 = .ok (.iconst 1, 1) := by decide +kernel
theorem dX0_hasSides_43 : decode cX0_hasSides 43 = .ok (.ireturn, 1) := by decide +kernel
abbrev cX0_enter : ByteArray := prog_1_method_23_code
def yX0_enter : MethodName := ⟨RX0, "enter", "(I)V"⟩
theorem dX0_enter_0 : decode cX0_enter 0 = .ok (.aload_n 0, 1) := by decide +kernel
theorem dX0_enter_1 : decode cX0_enter 1 = .ok (.getfield 7, 3) := by decide +kernel
theorem dX0_enter_4 : decode cX0_enter 4 = .ok (.aload_n 0, 1) := by decide +kernel
theorem dX0_enter_5 : decode cX0_enter 5 = .ok (.getfield 32, 3) := by decide +kernel
theorem dX0_enter_8 : decode cX0_enter 8 = .ok (.iload_n 1, 1) := by decide +kernel
theorem dX0_enter_9 : decode cX0_enter 9 = .ok (.iastore, 1) := by decide +kernel
theorem dX0_enter_10 : decode cX0_enter 10 = .ok (.aload_n 0, 1) := by decide +kernel
theorem dX0_enter_11 : decode cX0_enter 11 = .ok (.getfield 13, 3) := by decide +kernel
theorem dX0_enter_14 : decode cX0_enter 14 = .ok (.iload_n 1, 1) := by decide +kernel
theorem dX0_enter_15 : decode cX0_enter 15 = .ok (.aload_n 0, 1) := by decide +kernel
theorem dX0_enter_16 : decode cX0_enter 16 = .ok (.getfield 32, 3) := by decide +kernel
theorem dX0_enter_19 : decode cX0_enter 19 = .ok (.iastore, 1) := by decide +kernel
theorem dX0_enter_20 : decode cX0_enter 20 = .ok (.aload_n 0, 1) := by decide +kernel
theorem dX0_enter_21 : decode cX0_enter 21 = .ok (.dup, 1) := by decide +kernel
theorem dX0_enter_22 : decode cX0_enter 22 = .ok (.getfield 32, 3) := by decide +kernel
theorem dX0_enter_25 : decode cX0_enter 25 = .ok (.iconst 1, 1) := by decide +kernel
theorem dX0_enter_26 : decode cX0_enter 26 = .ok (.iadd, 1) := by decide +kernel
theorem dX0_enter_27 : decode cX0_enter 27 = .ok (.putfield 32, 3) := by decide +kernel
theorem dX0_enter_30 : decode cX0_enter 30 = .ok (.return_, 1) := by decide +kernel
abbrev cX0_fill : ByteArray := prog_1_method_3_code
def yX0_fill : MethodName := ⟨RX0, "fill", "(I)I"⟩
theorem dX0_fill_0 : decode cX0_fill 0 = .ok (.iload_n 1, 1) := by decide +kernel
theorem dX0_fill_1 : decode cX0_fill 1 = .ok (.invokestatic 25, 3) := by decide +kernel
theorem dX0_fill_4 : decode cX0_fill 4 = .ok (.ifCond .ne 5, 3) := by decide +kernel
theorem dX0_fill_7 : decode cX0_fill 7 = .ok (.iconst (-1), 1) := by decide +kernel
theorem dX0_fill_8 : decode cX0_fill 8 = .ok (.ireturn, 1) := by decide +kernel
theorem dX0_fill_9 : decode cX0_fill 9 = .ok (.iconst 0, 1) := by decide +kernel
theorem dX0_fill_10 : decode cX0_fill 10 = .ok (.istore_n 2, 1) := by decide +kernel
theorem dX0_fill_11 : decode cX0_fill 11 = .ok (.iconst 1, 1) := by decide +kernel
theorem dX0_fill_12 : decode cX0_fill 12 = .ok (.istore_n 3, 1) := by decide +kernel
theorem dX0_fill_13 : decode cX0_fill 13 = .ok (.iload_n 3, 1) := by decide +kernel
theorem dX0_fill_14 : decode cX0_fill 14 = .ok (.iload_n 1, 1) := by decide +kernel
theorem dX0_fill_15 : decode cX0_fill 15 = .ok (.if_icmp .gt 34, 3) := by decide +kernel
theorem dX0_fill_18 : decode cX0_fill 18 = .ok (.iload_n 2, 1) := by decide +kernel
theorem dX0_fill_19 : decode cX0_fill 19 = .ok (.iload_n 3, 1) := by decide +kernel
theorem dX0_fill_20 : decode cX0_fill 20 = .ok (.iload_n 1, 1) := by decide +kernel
theorem dX0_fill_21 : decode cX0_fill 21 = .ok (.iconst (-1), 1) := by decide +kernel
theorem dX0_fill_22 : decode cX0_fill 22 = .ok (.ixor, 1) := by decide +kernel
theorem dX0_fill_23 : decode cX0_fill 23 = .ok (.iand, 1) := by decide +kernel
theorem dX0_fill_24 : decode cX0_fill 24 = .ok (.ifCond .ne 16, 3) := by decide +kernel
theorem dX0_fill_27 : decode cX0_fill 27 = .ok (.aload_n 0, 1) := by decide +kernel
theorem dX0_fill_28 : decode cX0_fill 28 = .ok (.getfield 13, 3) := by decide +kernel
theorem dX0_fill_31 : decode cX0_fill 31 = .ok (.iload_n 3, 1) := by decide +kernel
theorem dX0_fill_32 : decode cX0_fill 32 = .ok (.iaload, 1) := by decide +kernel
theorem dX0_fill_33 : decode cX0_fill 33 = .ok (.ifCond .ge 7, 3) := by decide +kernel
theorem dX0_fill_36 : decode cX0_fill 36 = .ok (.iconst 1, 1) := by decide +kernel
theorem dX0_fill_37 : decode cX0_fill 37 = .ok (.goto 4, 3) := by decide +kernel
theorem dX0_fill_40 : decode cX0_fill 40 = .ok (.iconst 0, 1) := by decide +kernel
theorem dX0_fill_41 : decode cX0_fill 41 = .ok (.iadd, 1) := by decide +kernel
theorem dX0_fill_42 : decode cX0_fill 42 = .ok (.istore_n 2, 1) := by decide +kernel
theorem dX0_fill_43 : decode cX0_fill 43 = .ok (.iinc 3 1, 3) := by decide +kernel
theorem dX0_fill_46 : decode cX0_fill 46 = .ok (.goto (-33), 3) := by decide +kernel
theorem dX0_fill_49 : decode cX0_fill 49 = .ok (.aload_n 0, 1) := by decide +kernel
theorem dX0_fill_50 : decode cX0_fill 50 = .ok (.getfield 32, 3) := by decide +kernel
theorem dX0_fill_53 : decode cX0_fill 53 = .ok (.iload_n 2, 1) := by decide +kernel
theorem dX0_fill_54 : decode cX0_fill 54 = .ok (.iadd, 1) := by decide +kernel
theorem dX0_fill_55 : decode cX0_fill 55 = .ok (.bipush 26, 2) := by decide +kernel
theorem dX0_fill_57 : decode cX0_fill 57 = .ok (.if_icmp .le 6, 3) := by decide +kernel
theorem dX0_fill_60 : decode cX0_fill 60 = .ok (.bipush (-2), 2) := by decide +kernel
theorem dX0_fill_62 : decode cX0_fill 62 = .ok (.ireturn, 1) := by decide +kernel
theorem dX0_fill_63 : decode cX0_fill 63 = .ok (.iconst 1, 1) := by decide +kernel
theorem dX0_fill_64 : decode cX0_fill 64 = .ok (.istore_n 3, 1) := by decide +kernel
theorem dX0_fill_65 : decode cX0_fill 65 = .ok (.iload_n 3, 1) := by decide +kernel
theorem dX0_fill_66 : decode cX0_fill 66 = .ok (.iload_n 1, 1) := by decide +kernel
theorem dX0_fill_67 : decode cX0_fill 67 = .ok (.if_icmp .gt 31, 3) := by decide +kernel
theorem dX0_fill_70 : decode cX0_fill 70 = .ok (.iload_n 3, 1) := by decide +kernel
theorem dX0_fill_71 : decode cX0_fill 71 = .ok (.iload_n 1, 1) := by decide +kernel
theorem dX0_fill_72 : decode cX0_fill 72 = .ok (.iconst (-1), 1) := by decide +kernel
theorem dX0_fill_73 : decode cX0_fill 73 = .ok (.ixor, 1) := by decide +kernel
theorem dX0_fill_74 : decode cX0_fill 74 = .ok (.iand, 1) := by decide +kernel
theorem dX0_fill_75 : decode cX0_fill 75 = .ok (.ifCond .ne 17, 3) := by decide +kernel
theorem dX0_fill_78 : decode cX0_fill 78 = .ok (.aload_n 0, 1) := by decide +kernel
theorem dX0_fill_79 : decode cX0_fill 79 = .ok (.getfield 13, 3) := by decide +kernel
theorem dX0_fill_82 : decode cX0_fill 82 = .ok (.iload_n 3, 1) := by decide +kernel
theorem dX0_fill_83 : decode cX0_fill 83 = .ok (.iaload, 1) := by decide +kernel
theorem dX0_fill_84 : decode cX0_fill 84 = .ok (.ifCond .ge 8, 3) := by decide +kernel
theorem dX0_fill_87 : decode cX0_fill 87 = .ok (.aload_n 0, 1) := by decide +kernel
theorem dX0_fill_88 : decode cX0_fill 88 = .ok (.iload_n 3, 1) := by decide +kernel
theorem dX0_fill_89 : decode cX0_fill 89 = .ok (.invokevirtual 36, 3) := by decide +kernel
theorem dX0_fill_92 : decode cX0_fill 92 = .ok (.iinc 3 1, 3) := by decide +kernel
theorem dX0_fill_95 : decode cX0_fill 95 = .ok (.goto (-30), 3) := by decide +kernel
theorem dX0_fill_98 : decode cX0_fill 98 = .ok (.aload_n 0, 1) := by decide +kernel
theorem dX0_fill_99 : decode cX0_fill 99 = .ok (.getfield 32, 3) := by decide +kernel
theorem dX0_fill_102 : decode cX0_fill 102 = .ok (.ireturn, 1) := by decide +kernel
abbrev cX0_undo : ByteArray := prog_1_method_4_code
def yX0_undo : MethodName := ⟨RX0, "undo", "()I"⟩
theorem dX0_undo_0 : decode cX0_undo 0 = .ok (.aload_n 0, 1) := by decide +kernel
theorem dX0_undo_1 : decode cX0_undo 1 = .ok (.getfield 32, 3) := by decide +kernel
theorem dX0_undo_4 : decode cX0_undo 4 = .ok (.ifCond .ne 5, 3) := by decide +kernel
theorem dX0_undo_7 : decode cX0_undo 7 = .ok (.iconst (-1), 1) := by decide +kernel
theorem dX0_undo_8 : decode cX0_undo 8 = .ok (.ireturn, 1) := by decide +kernel
theorem dX0_undo_9 : decode cX0_undo 9 = .ok (.aload_n 0, 1) := by decide +kernel
theorem dX0_undo_10 : decode cX0_undo 10 = .ok (.dup, 1) := by decide +kernel
theorem dX0_undo_11 : decode cX0_undo 11 = .ok (.getfield 32, 3) := by decide +kernel
theorem dX0_undo_14 : decode cX0_undo 14 = .ok (.iconst 1, 1) := by decide +kernel
theorem dX0_undo_15 : decode cX0_undo 15 = .ok (.isub, 1) := by decide +kernel
theorem dX0_undo_16 : decode cX0_undo 16 = .ok (.putfield 32, 3) := by decide +kernel
theorem dX0_undo_19 : decode cX0_undo 19 = .ok (.aload_n 0, 1) := by decide +kernel
theorem dX0_undo_20 : decode cX0_undo 20 = .ok (.getfield 13, 3) := by decide +kernel
theorem dX0_undo_23 : decode cX0_undo 23 = .ok (.aload_n 0, 1) := by decide +kernel
theorem dX0_undo_24 : decode cX0_undo 24 = .ok (.getfield 7, 3) := by decide +kernel
theorem dX0_undo_27 : decode cX0_undo 27 = .ok (.aload_n 0, 1) := by decide +kernel
theorem dX0_undo_28 : decode cX0_undo 28 = .ok (.getfield 32, 3) := by decide +kernel
theorem dX0_undo_31 : decode cX0_undo 31 = .ok (.iaload, 1) := by decide +kernel
theorem dX0_undo_32 : decode cX0_undo 32 = .ok (.bipush (-2), 2) := by decide +kernel
theorem dX0_undo_34 : decode cX0_undo 34 = .ok (.iastore, 1) := by decide +kernel
theorem dX0_undo_35 : decode cX0_undo 35 = .ok (.aload_n 0, 1) := by decide +kernel
theorem dX0_undo_36 : decode cX0_undo 36 = .ok (.aload_n 0, 1) := by decide +kernel
theorem dX0_undo_37 : decode cX0_undo 37 = .ok (.getfield 40, 3) := by decide +kernel
theorem dX0_undo_40 : decode cX0_undo 40 = .ok (.aload_n 0, 1) := by decide +kernel
theorem dX0_undo_41 : decode cX0_undo 41 = .ok (.getfield 32, 3) := by decide +kernel
theorem dX0_undo_44 : decode cX0_undo 44 = .ok (.if_icmp .le 7, 3) := by decide +kernel
theorem dX0_undo_47 : decode cX0_undo 47 = .ok (.iconst 0, 1) := by decide +kernel
theorem dX0_undo_48 : decode cX0_undo 48 = .ok (.goto 7, 3) := by decide +kernel
theorem dX0_undo_51 : decode cX0_undo 51 = .ok (.aload_n 0, 1) := by decide +kernel
theorem dX0_undo_52 : decode cX0_undo 52 = .ok (.getfield 40, 3) := by decide +kernel
theorem dX0_undo_55 : decode cX0_undo 55 = .ok (.putfield 40, 3) := by decide +kernel
theorem dX0_undo_58 : decode cX0_undo 58 = .ok (.aload_n 0, 1) := by decide +kernel
theorem dX0_undo_59 : decode cX0_undo 59 = .ok (.getfield 7, 3) := by decide +kernel
theorem dX0_undo_62 : decode cX0_undo 62 = .ok (.aload_n 0, 1) := by decide +kernel
theorem dX0_undo_63 : decode cX0_undo 63 = .ok (.getfield 32, 3) := by decide +kernel
theorem dX0_undo_66 : decode cX0_undo 66 = .ok (.iaload, 1) := by decide +kernel
theorem dX0_undo_67 : decode cX0_undo 67 = .ok (.ireturn, 1) := by decide +kernel
abbrev cX0_size : ByteArray := prog_1_method_5_code
def yX0_size : MethodName := ⟨RX0, "size", "()I"⟩
theorem dX0_size_0 : decode cX0_size 0 = .ok (.aload_n 0, 1) := by decide +kernel
theorem dX0_size_1 : decode cX0_size 1 = .ok (.getfield 32, 3) := by decide +kernel
theorem dX0_size_4 : decode cX0_size 4 = .ok (.ireturn, 1) := by decide +kernel
abbrev cX0_piece : ByteArray := prog_1_method_6_code
def yX0_piece : MethodName := ⟨RX0, "piece", "(I)I"⟩
theorem dX0_piece_0 : decode cX0_piece 0 = .ok (.aload_n 0, 1) := by decide +kernel
theorem dX0_piece_1 : decode cX0_piece 1 = .ok (.iload_n 1, 1) := by decide +kernel
theorem dX0_piece_2 : decode cX0_piece 2 = .ok (.invokevirtual 43, 3) := by decide +kernel
theorem dX0_piece_5 : decode cX0_piece 5 = .ok (.ifCond .eq 12, 3) := by decide +kernel
theorem dX0_piece_8 : decode cX0_piece 8 = .ok (.aload_n 0, 1) := by decide +kernel
theorem dX0_piece_9 : decode cX0_piece 9 = .ok (.getfield 7, 3) := by decide +kernel
theorem dX0_piece_12 : decode cX0_piece 12 = .ok (.iload_n 1, 1) := by decide +kernel
theorem dX0_piece_13 : decode cX0_piece 13 = .ok (.iaload, 1) := by decide +kernel
theorem dX0_piece_14 : decode cX0_piece 14 = .ok (.goto 4, 3) := by decide +kernel
theorem dX0_piece_17 : decode cX0_piece 17 = .ok (.iconst (-1), 1) := by decide +kernel
theorem dX0_piece_18 : decode cX0_piece 18 = .ok (.ireturn, 1) := by decide +kernel
abbrev cX0_isGood : ByteArray := prog_1_method_19_code
def yX0_isGood : MethodName := ⟨RX0, "isGood", "(I)Z"⟩
theorem dX0_isGood_0 : decode cX0_isGood 0 = .ok (.iload_n 1, 1) := by decide +kernel
theorem dX0_isGood_1 : decode cX0_isGood 1 = .ok (.ifCond .lt 15, 3) := by decide +kernel
theorem dX0_isGood_4 : decode cX0_isGood 4 = .ok (.iload_n 1, 1) := by decide +kernel
theorem dX0_isGood_5 : decode cX0_isGood 5 = .ok (.aload_n 0, 1) := by decide +kernel
theorem dX0_isGood_6 : decode cX0_isGood 6 = .ok (.getfield 32, 3) := by decide +kernel
theorem dX0_isGood_9 : decode cX0_isGood 9 = .ok (.if_icmp .ge 7, 3) := by decide +kernel
theorem dX0_isGood_12 : decode cX0_isGood 12 = .ok (.iconst 1, 1) := by decide +kernel
theorem dX0_isGood_13 : decode cX0_isGood 13 = .ok (.goto 4, 3) := by decide +kernel
theorem dX0_isGood_16 : decode cX0_isGood 16 = .ok (.iconst 0, 1) := by decide +kernel
theorem dX0_isGood_17 : decode cX0_isGood 17 = .ok (.ireturn, 1) := by decide +kernel
abbrev cX0_pieces : ByteArray := prog_1_method_7_code
def yX0_pieces : MethodName := ⟨RX0, "pieces", "(II)I"⟩
theorem dX0_pieces_0 : decode cX0_pieces 0 = .ok (.iload_n 1, 1) := by decide +kernel
theorem dX0_pieces_1 : decode cX0_pieces 1 = .ok (.ifCond .lt 11, 3) := by decide +kernel
theorem dX0_pieces_4 : decode cX0_pieces 4 = .ok (.iload_n 1, 1) := by decide +kernel
theorem dX0_pieces_5 : decode cX0_pieces 5 = .ok (.aload_n 0, 1) := by decide +kernel
theorem dX0_pieces_6 : decode cX0_pieces 6 = .ok (.getfield 32, 3) := by decide +kernel
theorem dX0_pieces_9 : decode cX0_pieces 9 = .ok (.if_icmp .le 5, 3) := by decide +kernel
theorem dX0_pieces_12 : decode cX0_pieces 12 = .ok (.iconst (-1), 1) := by decide +kernel
theorem dX0_pieces_13 : decode cX0_pieces 13 = .ok (.ireturn, 1) := by decide +kernel
theorem dX0_pieces_14 : decode cX0_pieces 14 = .ok (.iload_n 2, 1) := by decide +kernel
theorem dX0_pieces_15 : decode cX0_pieces 15 = .ok (.ifCond .lt 8, 3) := by decide +kernel
theorem dX0_pieces_18 : decode cX0_pieces 18 = .ok (.iload_n 2, 1) := by decide +kernel
theorem dX0_pieces_19 : decode cX0_pieces 19 = .ok (.iconst 3, 1) := by decide +kernel
theorem dX0_pieces_20 : decode cX0_pieces 20 = .ok (.if_icmp .le 6, 3) := by decide +kernel
theorem dX0_pieces_23 : decode cX0_pieces 23 = .ok (.bipush (-2), 2) := by decide +kernel
theorem dX0_pieces_25 : decode cX0_pieces 25 = .ok (.ireturn, 1) := by decide +kernel
theorem dX0_pieces_26 : decode cX0_pieces 26 = .ok (.iconst 0, 1) := by decide +kernel
theorem dX0_pieces_27 : decode cX0_pieces 27 = .ok (.istore_n 3, 1) := by decide +kernel
theorem dX0_pieces_28 : decode cX0_pieces 28 = .ok (.iconst 0, 1) := by decide +kernel
theorem dX0_pieces_29 : decode cX0_pieces 29 = .ok (.istore 4, 2) := by decide +kernel
theorem dX0_pieces_31 : decode cX0_pieces 31 = .ok (.iload 4, 2) := by decide +kernel
theorem dX0_pieces_33 : decode cX0_pieces 33 = .ok (.iload_n 1, 1) := by decide +kernel
theorem dX0_pieces_34 : decode cX0_pieces 34 = .ok (.if_icmp .ge 27, 3) := by decide +kernel
theorem dX0_pieces_37 : decode cX0_pieces 37 = .ok (.iload_n 3, 1) := by decide +kernel
theorem dX0_pieces_38 : decode cX0_pieces 38 = .ok (.aload_n 0, 1) := by decide +kernel
theorem dX0_pieces_39 : decode cX0_pieces 39 = .ok (.iload 4, 2) := by decide +kernel
theorem dX0_pieces_41 : decode cX0_pieces 41 = .ok (.invokevirtual 46, 3) := by decide +kernel
theorem dX0_pieces_44 : decode cX0_pieces 44 = .ok (.iload_n 2, 1) := by decide +kernel
theorem dX0_pieces_45 : decode cX0_pieces 45 = .ok (.if_icmp .ne 7, 3) := by decide +kernel
theorem dX0_pieces_48 : decode cX0_pieces 48 = .ok (.iconst 1, 1) := by decide +kernel
theorem dX0_pieces_49 : decode cX0_pieces 49 = .ok (.goto 4, 3) := by decide +kernel
theorem dX0_pieces_52 : decode cX0_pieces 52 = .ok (.iconst 0, 1) := by decide +kernel
theorem dX0_pieces_53 : decode cX0_pieces 53 = .ok (.iadd, 1) := by decide +kernel
theorem dX0_pieces_54 : decode cX0_pieces 54 = .ok (.istore_n 3, 1) := by decide +kernel
theorem dX0_pieces_55 : decode cX0_pieces 55 = .ok (.iinc 4 1, 3) := by decide +kernel
theorem dX0_pieces_58 : decode cX0_pieces 58 = .ok (.goto (-27), 3) := by decide +kernel
theorem dX0_pieces_61 : decode cX0_pieces 61 = .ok (.iload_n 3, 1) := by decide +kernel
theorem dX0_pieces_62 : decode cX0_pieces 62 = .ok (.ireturn, 1) := by decide +kernel
abbrev cX0_dimension : ByteArray := prog_1_method_21_code
def yX0_dimension : MethodName := ⟨RX0, "dimension", "(I)I"⟩
theorem dX0_dimension_0 : decode cX0_dimension 0 = .ok (.aload_n 0, 1) := by decide +kernel
theorem dX0_dimension_1 : decode cX0_dimension 1 = .ok (.getfield 7, 3) := by decide +kernel
theorem dX0_dimension_4 : decode cX0_dimension 4 = .ok (.iload_n 1, 1) := by decide +kernel
theorem dX0_dimension_5 : decode cX0_dimension 5 = .ok (.iaload, 1) := by decide +kernel
theorem dX0_dimension_6 : decode cX0_dimension 6 = .ok (.invokestatic 66, 3) := by decide +kernel
theorem dX0_dimension_9 : decode cX0_dimension 9 = .ok (.iconst 1, 1) := by decide +kernel
theorem dX0_dimension_10 : decode cX0_dimension 10 = .ok (.isub, 1) := by decide +kernel
theorem dX0_dimension_11 : decode cX0_dimension 11 = .ok (.ireturn, 1) := by decide +kernel
abbrev cX0_holes : ByteArray := prog_1_method_8_code
def yX0_holes : MethodName := ⟨RX0, "holes", "(II)I"⟩
theorem dX0_holes_0 : decode cX0_holes 0 = .ok (.iload_n 1, 1) := by decide +kernel
theorem dX0_holes_1 : decode cX0_holes 1 = .ok (.ifCond .lt 11, 3) := by decide +kernel
theorem dX0_holes_4 : decode cX0_holes 4 = .ok (.iload_n 1, 1) := by decide +kernel
theorem dX0_holes_5 : decode cX0_holes 5 = .ok (.aload_n 0, 1) := by decide +kernel
theorem dX0_holes_6 : decode cX0_holes 6 = .ok (.getfield 32, 3) := by decide +kernel
theorem dX0_holes_9 : decode cX0_holes 9 = .ok (.if_icmp .le 5, 3) := by decide +kernel
theorem dX0_holes_12 : decode cX0_holes 12 = .ok (.iconst (-1), 1) := by decide +kernel
theorem dX0_holes_13 : decode cX0_holes 13 = .ok (.ireturn, 1) := by decide +kernel
theorem dX0_holes_14 : decode cX0_holes 14 = .ok (.iload_n 2, 1) := by decide +kernel
theorem dX0_holes_15 : decode cX0_holes 15 = .ok (.ifCond .lt 8, 3) := by decide +kernel
theorem dX0_holes_18 : decode cX0_holes 18 = .ok (.iload_n 2, 1) := by decide +kernel
theorem dX0_holes_19 : decode cX0_holes 19 = .ok (.iconst 3, 1) := by decide +kernel
theorem dX0_holes_20 : decode cX0_holes 20 = .ok (.if_icmp .le 6, 3) := by decide +kernel
theorem dX0_holes_23 : decode cX0_holes 23 = .ok (.bipush (-2), 2) := by decide +kernel
theorem dX0_holes_25 : decode cX0_holes 25 = .ok (.ireturn, 1) := by decide +kernel
theorem dX0_holes_26 : decode cX0_holes 26 = .ok (.aload_n 0, 1) := by decide +kernel
theorem dX0_holes_27 : decode cX0_holes 27 = .ok (.iload_n 1, 1) := by decide +kernel
theorem dX0_holes_28 : decode cX0_holes 28 = .ok (.iload_n 1, 1) := by decide +kernel
theorem dX0_holes_29 : decode cX0_holes 29 = .ok (.iload_n 2, 1) := by decide +kernel
theorem dX0_holes_30 : decode cX0_holes 30 = .ok (.invokevirtual 50, 3) := by decide +kernel
theorem dX0_holes_33 : decode cX0_holes 33 = .ok (.ireturn, 1) := by decide +kernel
abbrev cX0_living : ByteArray := prog_1_method_29_code
def yX0_living : MethodName := ⟨RX0, "living", "(III)I"⟩
theorem dX0_living_0 : decode cX0_living 0 = .ok (.aload_n 0, 1) := by decide +kernel
theorem dX0_living_1 : decode cX0_living 1 = .ok (.invokevirtual 54, 3) := by decide +kernel
theorem dX0_living_4 : decode cX0_living 4 = .ok (.iconst 0, 1) := by decide +kernel
theorem dX0_living_5 : decode cX0_living 5 = .ok (.istore 4, 2) := by decide +kernel
theorem dX0_living_7 : decode cX0_living 7 = .ok (.iconst 0, 1) := by decide +kernel
theorem dX0_living_8 : decode cX0_living 8 = .ok (.istore 5, 2) := by decide +kernel
theorem dX0_living_10 : decode cX0_living 10 = .ok (.iload 5, 2) := by decide +kernel
theorem dX0_living_12 : decode cX0_living 12 = .ok (.iload_n 1, 1) := by decide +kernel
theorem dX0_living_13 : decode cX0_living 13 = .ok (.if_icmp .ge 72, 3) := by decide +kernel
theorem dX0_living_16 : decode cX0_living 16 = .ok (.aload_n 0, 1) := by decide +kernel
theorem dX0_living_17 : decode cX0_living 17 = .ok (.getfield 19, 3) := by decide +kernel
theorem dX0_living_20 : decode cX0_living 20 = .ok (.iload 5, 2) := by decide +kernel
theorem dX0_living_22 : decode cX0_living 22 = .ok (.iaload, 1) := by decide +kernel
theorem dX0_living_23 : decode cX0_living 23 = .ok (.ifCond .lt 18, 3) := by decide +kernel
theorem dX0_living_26 : decode cX0_living 26 = .ok (.aload_n 0, 1) := by decide +kernel
theorem dX0_living_27 : decode cX0_living 27 = .ok (.getfield 19, 3) := by decide +kernel
theorem dX0_living_30 : decode cX0_living 30 = .ok (.iload 5, 2) := by decide +kernel
theorem dX0_living_32 : decode cX0_living 32 = .ok (.iaload, 1) := by decide +kernel
theorem dX0_living_33 : decode cX0_living 33 = .ok (.iload_n 2, 1) := by decide +kernel
theorem dX0_living_34 : decode cX0_living 34 = .ok (.if_icmp .ge 7, 3) := by decide +kernel
theorem dX0_living_37 : decode cX0_living 37 = .ok (.iconst 1, 1) := by decide +kernel
theorem dX0_living_38 : decode cX0_living 38 = .ok (.goto 4, 3) := by decide +kernel
theorem dX0_living_41 : decode cX0_living 41 = .ok (.iconst 0, 1) := by decide +kernel
theorem dX0_living_42 : decode cX0_living 42 = .ok (.istore 6, 2) := by decide +kernel
theorem dX0_living_44 : decode cX0_living 44 = .ok (.iload 4, 2) := by decide +kernel
theorem dX0_living_46 : decode cX0_living 46 = .ok (.aload_n 0, 1) := by decide +kernel
theorem dX0_living_47 : decode cX0_living 47 = .ok (.iload 5, 2) := by decide +kernel
theorem dX0_living_49 : decode cX0_living 49 = .ok (.invokevirtual 46, 3) := by decide +kernel
theorem dX0_living_52 : decode cX0_living 52 = .ok (.iload_n 3, 1) := by decide +kernel
theorem dX0_living_53 : decode cX0_living 53 = .ok (.if_icmp .ne 22, 3) := by decide +kernel
theorem dX0_living_56 : decode cX0_living 56 = .ok (.aload_n 0, 1) := by decide +kernel
theorem dX0_living_57 : decode cX0_living 57 = .ok (.getfield 16, 3) := by decide +kernel
theorem dX0_living_60 : decode cX0_living 60 = .ok (.iload 5, 2) := by decide +kernel
theorem dX0_living_62 : decode cX0_living 62 = .ok (.iaload, 1) := by decide +kernel
theorem dX0_living_63 : decode cX0_living 63 = .ok (.ifCond .ne 12, 3) := by decide +kernel
theorem dX0_living_66 : decode cX0_living 66 = .ok (.iload 6, 2) := by decide +kernel
theorem dX0_living_68 : decode cX0_living 68 = .ok (.ifCond .ne 7, 3) := by decide +kernel
theorem dX0_living_71 : decode cX0_living 71 = .ok (.iconst 1, 1) := by decide +kernel
theorem dX0_living_72 : decode cX0_living 72 = .ok (.goto 4, 3) := by decide +kernel
theorem dX0_living_75 : decode cX0_living 75 = .ok (.iconst 0, 1) := by decide +kernel
theorem dX0_living_76 : decode cX0_living 76 = .ok (.iadd, 1) := by decide +kernel
theorem dX0_living_77 : decode cX0_living 77 = .ok (.istore 4, 2) := by decide +kernel
theorem dX0_living_79 : decode cX0_living 79 = .ok (.iinc 5 1, 3) := by decide +kernel
theorem dX0_living_82 : decode cX0_living 82 = .ok (.goto (-72), 3) := by decide +kernel
theorem dX0_living_85 : decode cX0_living 85 = .ok (.iload 4, 2) := by decide +kernel
theorem dX0_living_87 : decode cX0_living 87 = .ok (.ireturn, 1) := by decide +kernel
abbrev cX0_solve : ByteArray := prog_1_method_28_code
def yX0_solve : MethodName := ⟨RX0, "solve", "()V"⟩
theorem dX0_solve_0 : decode cX0_solve 0 = .ok (.aload_n 0, 1) := by decide +kernel
theorem dX0_solve_1 : decode cX0_solve 1 = .ok (.getfield 40, 3) := by decide +kernel
theorem dX0_solve_4 : decode cX0_solve 4 = .ok (.istore_n 1, 1) := by decide +kernel
theorem dX0_solve_5 : decode cX0_solve 5 = .ok (.iload_n 1, 1) := by decide +kernel
theorem dX0_solve_6 : decode cX0_solve 6 = .ok (.aload_n 0, 1) := by decide +kernel
theorem dX0_solve_7 : decode cX0_solve 7 = .ok (.getfield 32, 3) := by decide +kernel
theorem dX0_solve_10 : decode cX0_solve 10 = .ok (.if_icmp .ge 120, 3) := by decide +kernel
theorem dX0_solve_13 : decode cX0_solve 13 = .ok (.aload_n 0, 1) := by decide +kernel
theorem dX0_solve_14 : decode cX0_solve 14 = .ok (.getfield 19, 3) := by decide +kernel
theorem dX0_solve_17 : decode cX0_solve 17 = .ok (.iload_n 1, 1) := by decide +kernel
theorem dX0_solve_18 : decode cX0_solve 18 = .ok (.bipush (-2), 2) := by decide +kernel
theorem dX0_solve_20 : decode cX0_solve 20 = .ok (.iastore, 1) := by decide +kernel
theorem dX0_solve_21 : decode cX0_solve 21 = .ok (.aload_n 0, 1) := by decide +kernel
theorem dX0_solve_22 : decode cX0_solve 22 = .ok (.getfield 22, 3) := by decide +kernel
theorem dX0_solve_25 : decode cX0_solve 25 = .ok (.iload_n 1, 1) := by decide +kernel
theorem dX0_solve_26 : decode cX0_solve 26 = .ok (.bipush (-2), 2) := by decide +kernel
theorem dX0_solve_28 : decode cX0_solve 28 = .ok (.iastore, 1) := by decide +kernel
theorem dX0_solve_29 : decode cX0_solve 29 = .ok (.aload_n 0, 1) := by decide +kernel
theorem dX0_solve_30 : decode cX0_solve 30 = .ok (.iload_n 1, 1) := by decide +kernel
theorem dX0_solve_31 : decode cX0_solve 31 = .ok (.invokevirtual 69, 3) := by decide +kernel
theorem dX0_solve_34 : decode cX0_solve 34 = .ok (.istore_n 2, 1) := by decide +kernel
theorem dX0_solve_35 : decode cX0_solve 35 = .ok (.iconst 0, 1) := by decide +kernel
theorem dX0_solve_36 : decode cX0_solve 36 = .ok (.istore_n 3, 1) := by decide +kernel
theorem dX0_solve_37 : decode cX0_solve 37 = .ok (.iload_n 3, 1) := by decide +kernel
theorem dX0_solve_38 : decode cX0_solve 38 = .ok (.bipush 26, 2) := by decide +kernel
theorem dX0_solve_40 : decode cX0_solve 40 = .ok (.if_icmp .ge 47, 3) := by decide +kernel
theorem dX0_solve_43 : decode cX0_solve 43 = .ok (.iload_n 2, 1) := by decide +kernel
theorem dX0_solve_44 : decode cX0_solve 44 = .ok (.ifCond .eq 43, 3) := by decide +kernel
theorem dX0_solve_47 : decode cX0_solve 47 = .ok (.iload_n 2, 1) := by decide +kernel
theorem dX0_solve_48 : decode cX0_solve 48 = .ok (.invokestatic 72, 3) := by decide +kernel
theorem dX0_solve_51 : decode cX0_solve 51 = .ok (.istore 4, 2) := by decide +kernel
theorem dX0_solve_53 : decode cX0_solve 53 = .ok (.aload_n 0, 1) := by decide +kernel
theorem dX0_solve_54 : decode cX0_solve 54 = .ok (.getfield 22, 3) := by decide +kernel
theorem dX0_solve_57 : decode cX0_solve 57 = .ok (.iload 4, 2) := by decide +kernel
theorem dX0_solve_59 : decode cX0_solve 59 = .ok (.iaload, 1) := by decide +kernel
theorem dX0_solve_60 : decode cX0_solve 60 = .ok (.ifCond .ge 6, 3) := by decide +kernel
theorem dX0_solve_63 : decode cX0_solve 63 = .ok (.goto 24, 3) := by decide +kernel
theorem dX0_solve_66 : decode cX0_solve 66 = .ok (.iload_n 2, 1) := by decide +kernel
theorem dX0_solve_67 : decode cX0_solve 67 = .ok (.aload_n 0, 1) := by decide +kernel
theorem dX0_solve_68 : decode cX0_solve 68 = .ok (.getfield 16, 3) := by decide +kernel
theorem dX0_solve_71 : decode cX0_solve 71 = .ok (.aload_n 0, 1) := by decide +kernel
theorem dX0_solve_72 : decode cX0_solve 72 = .ok (.getfield 22, 3) := by decide +kernel
theorem dX0_solve_75 : decode cX0_solve 75 = .ok (.iload 4, 2) := by decide +kernel
theorem dX0_solve_77 : decode cX0_solve 77 = .ok (.iaload, 1) := by decide +kernel
theorem dX0_solve_78 : decode cX0_solve 78 = .ok (.iaload, 1) := by decide +kernel
theorem dX0_solve_79 : decode cX0_solve 79 = .ok (.ixor, 1) := by decide +kernel
theorem dX0_solve_80 : decode cX0_solve 80 = .ok (.istore_n 2, 1) := by decide +kernel
theorem dX0_solve_81 : decode cX0_solve 81 = .ok (.iinc 3 1, 3) := by decide +kernel
theorem dX0_solve_84 : decode cX0_solve 84 = .ok (.goto (-47), 3) := by decide +kernel
theorem dX0_solve_87 : decode cX0_solve 87 = .ok (.aload_n 0, 1) := by decide +kernel
theorem dX0_solve_88 : decode cX0_solve 88 = .ok (.getfield 16, 3) := by decide +kernel
theorem dX0_solve_91 : decode cX0_solve 91 = .ok (.iload_n 1, 1) := by decide +kernel
theorem dX0_solve_92 : decode cX0_solve 92 = .ok (.iload_n 2, 1) := by decide +kernel
theorem dX0_solve_93 : decode cX0_solve 93 = .ok (.iastore, 1) := by decide +kernel
theorem dX0_solve_94 : decode cX0_solve 94 = .ok (.iload_n 2, 1) := by decide +kernel
theorem dX0_solve_95 : decode cX0_solve 95 = .ok (.ifCond .eq 29, 3) := by decide +kernel
theorem dX0_solve_98 : decode cX0_solve 98 = .ok (.iload_n 2, 1) := by decide +kernel
theorem dX0_solve_99 : decode cX0_solve 99 = .ok (.invokestatic 72, 3) := by decide +kernel
theorem dX0_solve_102 : decode cX0_solve 102 = .ok (.istore_n 3, 1) := by decide +kernel
theorem dX0_solve_103 : decode cX0_solve 103 = .ok (.aload_n 0, 1) := by decide +kernel
theorem dX0_solve_104 : decode cX0_solve 104 = .ok (.getfield 22, 3) := by decide +kernel
theorem dX0_solve_107 : decode cX0_solve 107 = .ok (.iload_n 3, 1) := by decide +kernel
theorem dX0_solve_108 : decode cX0_solve 108 = .ok (.iload_n 1, 1) := by decide +kernel
theorem dX0_solve_109 : decode cX0_solve 109 = .ok (.iastore, 1) := by decide +kernel
theorem dX0_solve_110 : decode cX0_solve 110 = .ok (.aload_n 0, 1) := by decide +kernel
theorem dX0_solve_111 : decode cX0_solve 111 = .ok (.getfield 19, 3) := by decide +kernel
theorem dX0_solve_114 : decode cX0_solve 114 = .ok (.iload_n 3, 1) := by decide +kernel
theorem dX0_solve_115 : decode cX0_solve 115 = .ok (.iload_n 1, 1) := by decide +kernel
theorem dX0_solve_116 : decode cX0_solve 116 = .ok (.iastore, 1) := by decide +kernel
theorem dX0_solve_117 : decode cX0_solve 117 = .ok (.aload_n 0, 1) := by decide +kernel
theorem dX0_solve_118 : decode cX0_solve 118 = .ok (.getfield 19, 3) := by decide +kernel
theorem dX0_solve_121 : decode cX0_solve 121 = .ok (.iload_n 1, 1) := by decide +kernel
theorem dX0_solve_122 : decode cX0_solve 122 = .ok (.iload_n 3, 1) := by decide +kernel
theorem dX0_solve_123 : decode cX0_solve 123 = .ok (.iastore, 1) := by decide +kernel
theorem dX0_solve_124 : decode cX0_solve 124 = .ok (.iinc 1 1, 3) := by decide +kernel
theorem dX0_solve_127 : decode cX0_solve 127 = .ok (.goto (-122), 3) := by decide +kernel
theorem dX0_solve_130 : decode cX0_solve 130 = .ok (.aload_n 0, 1) := by decide +kernel
theorem dX0_solve_131 : decode cX0_solve 131 = .ok (.aload_n 0, 1) := by decide +kernel
theorem dX0_solve_132 : decode cX0_solve 132 = .ok (.getfield 32, 3) := by decide +kernel
theorem dX0_solve_135 : decode cX0_solve 135 = .ok (.putfield 40, 3) := by decide +kernel
theorem dX0_solve_138 : decode cX0_solve 138 = .ok (.return_, 1) := by decide +kernel
abbrev cX0_sidesOf : ByteArray := prog_1_method_24_code
def yX0_sidesOf : MethodName := ⟨RX0, "sidesOf", "(I)I"⟩
theorem dX0_sidesOf_0 : decode cX0_sidesOf 0 = .ok (.iconst 0, 1) := by decide +kernel
theorem dX0_sidesOf_1 : decode cX0_sidesOf 1 = .ok (.istore_n 2, 1) := by decide +kernel
theorem dX0_sidesOf_2 : decode cX0_sidesOf 2 = .ok (.iconst 0, 1) := by decide +kernel
theorem dX0_sidesOf_3 : decode cX0_sidesOf 3 = .ok (.istore_n 3, 1) := by decide +kernel
theorem dX0_sidesOf_4 : decode cX0_sidesOf 4 = .ok (.iload_n 3, 1) := by decide +kernel
theorem dX0_sidesOf_5 : decode cX0_sidesOf 5 = .ok (.bipush 6, 2) := by decide +kernel
theorem dX0_sidesOf_7 : decode cX0_sidesOf 7 = .ok (.if_icmp .ge 51, 3) := by decide +kernel
theorem dX0_sidesOf_10 : decode cX0_sidesOf 10 = .ok (.aload_n 0, 1) := by decide +kernel
theorem dX0_sidesOf_11 : decode cX0_sidesOf 11 = .ok (.getfield 7, 3) := by decide +kernel
theorem dX0_sidesOf_14 : decode cX0_sidesOf 14 = .ok (.iload_n 1, 1) := by decide +kernel
theorem dX0_sidesOf_15 : decode cX0_sidesOf 15 = .ok (.iaload, 1) := by decide +kernel
theorem dX0_sidesOf_16 : decode cX0_sidesOf 16 = .ok (.iconst 1, 1) := by decide +kernel
theorem dX0_sidesOf_17 : decode cX0_sidesOf 17 = .ok (.iload_n 3, 1) := by decide +kernel
theorem dX0_sidesOf_18 : decode cX0_sidesOf 18 = .ok (.ishl, 1) := by decide +kernel
theorem dX0_sidesOf_19 : decode cX0_sidesOf 19 = .ok (.iconst (-1), 1) := by decide +kernel
theorem dX0_sidesOf_20 : decode cX0_sidesOf 20 = .ok (.ixor, 1) := by decide +kernel
theorem dX0_sidesOf_21 : decode cX0_sidesOf 21 = .ok (.iand, 1) := by decide +kernel
theorem dX0_sidesOf_22 : decode cX0_sidesOf 22 = .ok (.istore 4, 2) := by decide +kernel
theorem dX0_sidesOf_24 : decode cX0_sidesOf 24 = .ok (.iload 4, 2) := by decide +kernel
theorem dX0_sidesOf_26 : decode cX0_sidesOf 26 = .ok (.aload_n 0, 1) := by decide +kernel
theorem dX0_sidesOf_27 : decode cX0_sidesOf 27 = .ok (.getfield 7, 3) := by decide +kernel
theorem dX0_sidesOf_30 : decode cX0_sidesOf 30 = .ok (.iload_n 1, 1) := by decide +kernel
theorem dX0_sidesOf_31 : decode cX0_sidesOf 31 = .ok (.iaload, 1) := by decide +kernel
theorem dX0_sidesOf_32 : decode cX0_sidesOf 32 = .ok (.if_icmp .eq 20, 3) := by decide +kernel
theorem dX0_sidesOf_35 : decode cX0_sidesOf 35 = .ok (.iload 4, 2) := by decide +kernel
theorem dX0_sidesOf_37 : decode cX0_sidesOf 37 = .ok (.ifCond .eq 15, 3) := by decide +kernel
theorem dX0_sidesOf_40 : decode cX0_sidesOf 40 = .ok (.iload_n 2, 1) := by decide +kernel
theorem dX0_sidesOf_41 : decode cX0_sidesOf 41 = .ok (.iconst 1, 1) := by decide +kernel
theorem dX0_sidesOf_42 : decode cX0_sidesOf 42 = .ok (.aload_n 0, 1) := by decide +kernel
theorem dX0_sidesOf_43 : decode cX0_sidesOf 43 = .ok (.getfield 13, 3) := by decide +kernel
theorem dX0_sidesOf_46 : decode cX0_sidesOf 46 = .ok (.iload 4, 2) := by decide +kernel
theorem dX0_sidesOf_48 : decode cX0_sidesOf 48 = .ok (.iaload, 1) := by decide +kernel
theorem dX0_sidesOf_49 : decode cX0_sidesOf 49 = .ok (.ishl, 1) := by decide +kernel
theorem dX0_sidesOf_50 : decode cX0_sidesOf 50 = .ok (.ior, 1) := by decide +kernel
theorem dX0_sidesOf_51 : decode cX0_sidesOf 51 = .ok (.istore_n 2, 1) := by decide +kernel
theorem dX0_sidesOf_52 : decode cX0_sidesOf 52 = .ok (.iinc 3 1, 3) := by decide +kernel
theorem dX0_sidesOf_55 : decode cX0_sidesOf 55 = .ok (.goto (-51), 3) := by decide +kernel
theorem dX0_sidesOf_58 : decode cX0_sidesOf 58 = .ok (.iload_n 2, 1) := by decide +kernel
theorem dX0_sidesOf_59 : decode cX0_sidesOf 59 = .ok (.ireturn, 1) := by decide +kernel
abbrev cX0_lowest : ByteArray := prog_1_method_27_code
def yX0_lowest : MethodName := ⟨RX0, "lowest", "(I)I"⟩
theorem dX0_lowest_0 : decode cX0_lowest 0 = .ok (.bipush 25, 2) := by decide +kernel
theorem dX0_lowest_2 : decode cX0_lowest 2 = .ok (.istore_n 1, 1) := by decide +kernel
theorem dX0_lowest_3 : decode cX0_lowest 3 = .ok (.iload_n 1, 1) := by decide +kernel
theorem dX0_lowest_4 : decode cX0_lowest 4 = .ok (.ifCond .le 17, 3) := by decide +kernel
theorem dX0_lowest_7 : decode cX0_lowest 7 = .ok (.iload_n 0, 1) := by decide +kernel
theorem dX0_lowest_8 : decode cX0_lowest 8 = .ok (.iload_n 1, 1) := by decide +kernel
theorem dX0_lowest_9 : decode cX0_lowest 9 = .ok (.ishr, 1) := by decide +kernel
theorem dX0_lowest_10 : decode cX0_lowest 10 = .ok (.iconst 1, 1) := by decide +kernel
theorem dX0_lowest_11 : decode cX0_lowest 11 = .ok (.iand, 1) := by decide +kernel
theorem dX0_lowest_12 : decode cX0_lowest 12 = .ok (.ifCond .ne 9, 3) := by decide +kernel
theorem dX0_lowest_15 : decode cX0_lowest 15 = .ok (.iinc 1 (-1), 3) := by decide +kernel
theorem dX0_lowest_18 : decode cX0_lowest 18 = .ok (.goto (-15), 3) := by decide +kernel
theorem dX0_lowest_21 : decode cX0_lowest 21 = .ok (.iload_n 1, 1) := by decide +kernel
theorem dX0_lowest_22 : decode cX0_lowest 22 = .ok (.ireturn, 1) := by decide +kernel
abbrev cX0_lasting : ByteArray := prog_1_method_9_code
def yX0_lasting : MethodName := ⟨RX0, "lasting", "(III)I"⟩
theorem dX0_lasting_0 : decode cX0_lasting 0 = .ok (.iload_n 1, 1) := by decide +kernel
theorem dX0_lasting_1 : decode cX0_lasting 1 = .ok (.ifCond .lt 16, 3) := by decide +kernel
theorem dX0_lasting_4 : decode cX0_lasting 4 = .ok (.iload_n 1, 1) := by decide +kernel
theorem dX0_lasting_5 : decode cX0_lasting 5 = .ok (.iload_n 2, 1) := by decide +kernel
theorem dX0_lasting_6 : decode cX0_lasting 6 = .ok (.if_icmp .gt 11, 3) := by decide +kernel
theorem dX0_lasting_9 : decode cX0_lasting 9 = .ok (.iload_n 2, 1) := by decide +kernel
theorem dX0_lasting_10 : decode cX0_lasting 10 = .ok (.aload_n 0, 1) := by decide +kernel
theorem dX0_lasting_11 : decode cX0_lasting 11 = .ok (.getfield 32, 3) := by decide +kernel
theorem dX0_lasting_14 : decode cX0_lasting 14 = .ok (.if_icmp .le 5, 3) := by decide +kernel
theorem dX0_lasting_17 : decode cX0_lasting 17 = .ok (.iconst (-1), 1) := by decide +kernel
theorem dX0_lasting_18 : decode cX0_lasting 18 = .ok (.ireturn, 1) := by decide +kernel
theorem dX0_lasting_19 : decode cX0_lasting 19 = .ok (.iload_n 3, 1) := by decide +kernel
theorem dX0_lasting_20 : decode cX0_lasting 20 = .ok (.ifCond .lt 8, 3) := by decide +kernel
theorem dX0_lasting_23 : decode cX0_lasting 23 = .ok (.iload_n 3, 1) := by decide +kernel
theorem dX0_lasting_24 : decode cX0_lasting 24 = .ok (.iconst 3, 1) := by decide +kernel
theorem dX0_lasting_25 : decode cX0_lasting 25 = .ok (.if_icmp .le 6, 3) := by decide +kernel
theorem dX0_lasting_28 : decode cX0_lasting 28 = .ok (.bipush (-2), 2) := by decide +kernel
theorem dX0_lasting_30 : decode cX0_lasting 30 = .ok (.ireturn, 1) := by decide +kernel
theorem dX0_lasting_31 : decode cX0_lasting 31 = .ok (.aload_n 0, 1) := by decide +kernel
theorem dX0_lasting_32 : decode cX0_lasting 32 = .ok (.iload_n 1, 1) := by decide +kernel
theorem dX0_lasting_33 : decode cX0_lasting 33 = .ok (.iload_n 2, 1) := by decide +kernel
theorem dX0_lasting_34 : decode cX0_lasting 34 = .ok (.iload_n 3, 1) := by decide +kernel
theorem dX0_lasting_35 : decode cX0_lasting 35 = .ok (.invokevirtual 50, 3) := by decide +kernel
theorem dX0_lasting_38 : decode cX0_lasting 38 = .ok (.ireturn, 1) := by decide +kernel
abbrev cX0_opens : ByteArray := prog_1_method_10_code
def yX0_opens : MethodName := ⟨RX0, "opens", "(I)I"⟩
theorem dX0_opens_0 : decode cX0_opens 0 = .ok (.aload_n 0, 1) := by decide +kernel
theorem dX0_opens_1 : decode cX0_opens 1 = .ok (.iload_n 1, 1) := by decide +kernel
theorem dX0_opens_2 : decode cX0_opens 2 = .ok (.invokevirtual 43, 3) := by decide +kernel
theorem dX0_opens_5 : decode cX0_opens 5 = .ok (.ifCond .ne 5, 3) := by decide +kernel
theorem dX0_opens_8 : decode cX0_opens 8 = .ok (.iconst (-1), 1) := by decide +kernel
theorem dX0_opens_9 : decode cX0_opens 9 = .ok (.ireturn, 1) := by decide +kernel
theorem dX0_opens_10 : decode cX0_opens 10 = .ok (.aload_n 0, 1) := by decide +kernel
theorem dX0_opens_11 : decode cX0_opens 11 = .ok (.invokevirtual 54, 3) := by decide +kernel
theorem dX0_opens_14 : decode cX0_opens 14 = .ok (.aload_n 0, 1) := by decide +kernel
theorem dX0_opens_15 : decode cX0_opens 15 = .ok (.getfield 16, 3) := by decide +kernel
theorem dX0_opens_18 : decode cX0_opens 18 = .ok (.iload_n 1, 1) := by decide +kernel
theorem dX0_opens_19 : decode cX0_opens 19 = .ok (.iaload, 1) := by decide +kernel
theorem dX0_opens_20 : decode cX0_opens 20 = .ok (.ifCond .ne 7, 3) := by decide +kernel
theorem dX0_opens_23 : decode cX0_opens 23 = .ok (.iconst 1, 1) := by decide +kernel
theorem dX0_opens_24 : decode cX0_opens 24 = .ok (.goto 4, 3) := by decide +kernel
theorem dX0_opens_27 : decode cX0_opens 27 = .ok (.iconst 0, 1) := by decide +kernel
theorem dX0_opens_28 : decode cX0_opens 28 = .ok (.ireturn, 1) := by decide +kernel
abbrev cX0_partner : ByteArray := prog_1_method_11_code
def yX0_partner : MethodName := ⟨RX0, "partner", "(I)I"⟩
theorem dX0_partner_0 : decode cX0_partner 0 = .ok (.aload_n 0, 1) := by decide +kernel
theorem dX0_partner_1 : decode cX0_partner 1 = .ok (.iload_n 1, 1) := by decide +kernel
theorem dX0_partner_2 : decode cX0_partner 2 = .ok (.invokevirtual 43, 3) := by decide +kernel
theorem dX0_partner_5 : decode cX0_partner 5 = .ok (.ifCond .ne 5, 3) := by decide +kernel
theorem dX0_partner_8 : decode cX0_partner 8 = .ok (.iconst (-1), 1) := by decide +kernel
theorem dX0_partner_9 : decode cX0_partner 9 = .ok (.ireturn, 1) := by decide +kernel
theorem dX0_partner_10 : decode cX0_partner 10 = .ok (.aload_n 0, 1) := by decide +kernel
theorem dX0_partner_11 : decode cX0_partner 11 = .ok (.invokevirtual 54, 3) := by decide +kernel
theorem dX0_partner_14 : decode cX0_partner 14 = .ok (.aload_n 0, 1) := by decide +kernel
theorem dX0_partner_15 : decode cX0_partner 15 = .ok (.getfield 19, 3) := by decide +kernel
theorem dX0_partner_18 : decode cX0_partner 18 = .ok (.iload_n 1, 1) := by decide +kernel
theorem dX0_partner_19 : decode cX0_partner 19 = .ok (.iaload, 1) := by decide +kernel
theorem dX0_partner_20 : decode cX0_partner 20 = .ok (.ireturn, 1) := by decide +kernel
abbrev cX0_forever : ByteArray := prog_1_method_12_code
def yX0_forever : MethodName := ⟨RX0, "forever", "(I)I"⟩
theorem dX0_forever_0 : decode cX0_forever 0 = .ok (.iload_n 1, 1) := by decide +kernel
theorem dX0_forever_1 : decode cX0_forever 1 = .ok (.ifCond .lt 8, 3) := by decide +kernel
theorem dX0_forever_4 : decode cX0_forever 4 = .ok (.iload_n 1, 1) := by decide +kernel
theorem dX0_forever_5 : decode cX0_forever 5 = .ok (.iconst 3, 1) := by decide +kernel
theorem dX0_forever_6 : decode cX0_forever 6 = .ok (.if_icmp .le 5, 3) := by decide +kernel
theorem dX0_forever_9 : decode cX0_forever 9 = .ok (.iconst (-1), 1) := by decide +kernel
theorem dX0_forever_10 : decode cX0_forever 10 = .ok (.ireturn, 1) := by decide +kernel
theorem dX0_forever_11 : decode cX0_forever 11 = .ok (.aload_n 0, 1) := by decide +kernel
theorem dX0_forever_12 : decode cX0_forever 12 = .ok (.aload_n 0, 1) := by decide +kernel
theorem dX0_forever_13 : decode cX0_forever 13 = .ok (.getfield 32, 3) := by decide +kernel
theorem dX0_forever_16 : decode cX0_forever 16 = .ok (.aload_n 0, 1) := by decide +kernel
theorem dX0_forever_17 : decode cX0_forever 17 = .ok (.getfield 32, 3) := by decide +kernel
theorem dX0_forever_20 : decode cX0_forever 20 = .ok (.iload_n 1, 1) := by decide +kernel
theorem dX0_forever_21 : decode cX0_forever 21 = .ok (.invokevirtual 50, 3) := by decide +kernel
theorem dX0_forever_24 : decode cX0_forever 24 = .ok (.ireturn, 1) := by decide +kernel
abbrev cX0_longest : ByteArray := prog_1_method_13_code
def yX0_longest : MethodName := ⟨RX0, "longest", "(I)I"⟩
theorem dX0_longest_0 : decode cX0_longest 0 = .ok (.iload_n 1, 1) := by decide +kernel
theorem dX0_longest_1 : decode cX0_longest 1 = .ok (.ifCond .lt 8, 3) := by decide +kernel
theorem dX0_longest_4 : decode cX0_longest 4 = .ok (.iload_n 1, 1) := by decide +kernel
theorem dX0_longest_5 : decode cX0_longest 5 = .ok (.iconst 3, 1) := by decide +kernel
theorem dX0_longest_6 : decode cX0_longest 6 = .ok (.if_icmp .le 5, 3) := by decide +kernel
theorem dX0_longest_9 : decode cX0_longest 9 = .ok (.iconst (-1), 1) := by decide +kernel
theorem dX0_longest_10 : decode cX0_longest 10 = .ok (.ireturn, 1) := by decide +kernel
theorem dX0_longest_11 : decode cX0_longest 11 = .ok (.aload_n 0, 1) := by decide +kernel
theorem dX0_longest_12 : decode cX0_longest 12 = .ok (.invokevirtual 54, 3) := by decide +kernel
theorem dX0_longest_15 : decode cX0_longest 15 = .ok (.iconst 0, 1) := by decide +kernel
theorem dX0_longest_16 : decode cX0_longest 16 = .ok (.istore_n 2, 1) := by decide +kernel
theorem dX0_longest_17 : decode cX0_longest 17 = .ok (.iconst 0, 1) := by decide +kernel
theorem dX0_longest_18 : decode cX0_longest 18 = .ok (.istore_n 3, 1) := by decide +kernel
theorem dX0_longest_19 : decode cX0_longest 19 = .ok (.iload_n 3, 1) := by decide +kernel
theorem dX0_longest_20 : decode cX0_longest 20 = .ok (.aload_n 0, 1) := by decide +kernel
theorem dX0_longest_21 : decode cX0_longest 21 = .ok (.getfield 32, 3) := by decide +kernel
theorem dX0_longest_24 : decode cX0_longest 24 = .ok (.if_icmp .ge 49, 3) := by decide +kernel
theorem dX0_longest_27 : decode cX0_longest 27 = .ok (.aload_n 0, 1) := by decide +kernel
theorem dX0_longest_28 : decode cX0_longest 28 = .ok (.iload_n 3, 1) := by decide +kernel
theorem dX0_longest_29 : decode cX0_longest 29 = .ok (.invokevirtual 46, 3) := by decide +kernel
theorem dX0_longest_32 : decode cX0_longest 32 = .ok (.iload_n 1, 1) := by decide +kernel
theorem dX0_longest_33 : decode cX0_longest 33 = .ok (.if_icmp .ne 34, 3) := by decide +kernel
theorem dX0_longest_36 : decode cX0_longest 36 = .ok (.aload_n 0, 1) := by decide +kernel
theorem dX0_longest_37 : decode cX0_longest 37 = .ok (.getfield 19, 3) := by decide +kernel
theorem dX0_longest_40 : decode cX0_longest 40 = .ok (.iload_n 3, 1) := by decide +kernel
theorem dX0_longest_41 : decode cX0_longest 41 = .ok (.iaload, 1) := by decide +kernel
theorem dX0_longest_42 : decode cX0_longest 42 = .ok (.iload_n 3, 1) := by decide +kernel
theorem dX0_longest_43 : decode cX0_longest 43 = .ok (.if_icmp .le 24, 3) := by decide +kernel
theorem dX0_longest_46 : decode cX0_longest 46 = .ok (.aload_n 0, 1) := by decide +kernel
theorem dX0_longest_47 : decode cX0_longest 47 = .ok (.getfield 19, 3) := by decide +kernel
theorem dX0_longest_50 : decode cX0_longest 50 = .ok (.iload_n 3, 1) := by decide +kernel
theorem dX0_longest_51 : decode cX0_longest 51 = .ok (.iaload, 1) := by decide +kernel
theorem dX0_longest_52 : decode cX0_longest 52 = .ok (.iload_n 3, 1) := by decide +kernel
theorem dX0_longest_53 : decode cX0_longest 53 = .ok (.isub, 1) := by decide +kernel
theorem dX0_longest_54 : decode cX0_longest 54 = .ok (.iload_n 2, 1) := by decide +kernel
theorem dX0_longest_55 : decode cX0_longest 55 = .ok (.if_icmp .le 12, 3) := by decide +kernel
theorem dX0_longest_58 : decode cX0_longest 58 = .ok (.aload_n 0, 1) := by decide +kernel
theorem dX0_longest_59 : decode cX0_longest 59 = .ok (.getfield 19, 3) := by decide +kernel
theorem dX0_longest_62 : decode cX0_longest 62 = .ok (.iload_n 3, 1) := by decide +kernel
theorem dX0_longest_63 : decode cX0_longest 63 = .ok (.iaload, 1) := by decide +kernel
theorem dX0_longest_64 : decode cX0_longest 64 = .ok (.iload_n 3, 1) := by decide +kernel
theorem dX0_longest_65 : decode cX0_longest 65 = .ok (.isub, 1) := by decide +kernel
theorem dX0_longest_66 : decode cX0_longest 66 = .ok (.istore_n 2, 1) := by decide +kernel
theorem dX0_longest_67 : decode cX0_longest 67 = .ok (.iinc 3 1, 3) := by decide +kernel
theorem dX0_longest_70 : decode cX0_longest 70 = .ok (.goto (-51), 3) := by decide +kernel
theorem dX0_longest_73 : decode cX0_longest 73 = .ok (.iload_n 2, 1) := by decide +kernel
theorem dX0_longest_74 : decode cX0_longest 74 = .ok (.ireturn, 1) := by decide +kernel
abbrev cX0_euler : ByteArray := prog_1_method_14_code
def yX0_euler : MethodName := ⟨RX0, "euler", "(I)I"⟩
theorem dX0_euler_0 : decode cX0_euler 0 = .ok (.iload_n 1, 1) := by decide +kernel
theorem dX0_euler_1 : decode cX0_euler 1 = .ok (.ifCond .lt 11, 3) := by decide +kernel
theorem dX0_euler_4 : decode cX0_euler 4 = .ok (.iload_n 1, 1) := by decide +kernel
theorem dX0_euler_5 : decode cX0_euler 5 = .ok (.aload_n 0, 1) := by decide +kernel
theorem dX0_euler_6 : decode cX0_euler 6 = .ok (.getfield 32, 3) := by decide +kernel
theorem dX0_euler_9 : decode cX0_euler 9 = .ok (.if_icmp .le 7, 3) := by decide +kernel
theorem dX0_euler_12 : decode cX0_euler 12 = .ok (.sipush (-1000), 3) := by decide +kernel
theorem dX0_euler_15 : decode cX0_euler 15 = .ok (.ireturn, 1) := by decide +kernel
theorem dX0_euler_16 : decode cX0_euler 16 = .ok (.iconst 0, 1) := by decide +kernel
theorem dX0_euler_17 : decode cX0_euler 17 = .ok (.istore_n 2, 1) := by decide +kernel
theorem dX0_euler_18 : decode cX0_euler 18 = .ok (.iconst 0, 1) := by decide +kernel
theorem dX0_euler_19 : decode cX0_euler 19 = .ok (.istore_n 3, 1) := by decide +kernel
theorem dX0_euler_20 : decode cX0_euler 20 = .ok (.iload_n 3, 1) := by decide +kernel
theorem dX0_euler_21 : decode cX0_euler 21 = .ok (.iload_n 1, 1) := by decide +kernel
theorem dX0_euler_22 : decode cX0_euler 22 = .ok (.if_icmp .ge 27, 3) := by decide +kernel
theorem dX0_euler_25 : decode cX0_euler 25 = .ok (.iload_n 2, 1) := by decide +kernel
theorem dX0_euler_26 : decode cX0_euler 26 = .ok (.aload_n 0, 1) := by decide +kernel
theorem dX0_euler_27 : decode cX0_euler 27 = .ok (.iload_n 3, 1) := by decide +kernel
theorem dX0_euler_28 : decode cX0_euler 28 = .ok (.invokevirtual 46, 3) := by decide +kernel
theorem dX0_euler_31 : decode cX0_euler 31 = .ok (.iconst 1, 1) := by decide +kernel
theorem dX0_euler_32 : decode cX0_euler 32 = .ok (.iand, 1) := by decide +kernel
theorem dX0_euler_33 : decode cX0_euler 33 = .ok (.ifCond .ne 7, 3) := by decide +kernel
theorem dX0_euler_36 : decode cX0_euler 36 = .ok (.iconst 1, 1) := by decide +kernel
theorem dX0_euler_37 : decode cX0_euler 37 = .ok (.goto 4, 3) := by decide +kernel
theorem dX0_euler_40 : decode cX0_euler 40 = .ok (.iconst (-1), 1) := by decide +kernel
theorem dX0_euler_41 : decode cX0_euler 41 = .ok (.iadd, 1) := by decide +kernel
theorem dX0_euler_42 : decode cX0_euler 42 = .ok (.istore_n 2, 1) := by decide +kernel
theorem dX0_euler_43 : decode cX0_euler 43 = .ok (.iinc 3 1, 3) := by decide +kernel
theorem dX0_euler_46 : decode cX0_euler 46 = .ok (.goto (-26), 3) := by decide +kernel
theorem dX0_euler_49 : decode cX0_euler 49 = .ok (.iload_n 2, 1) := by decide +kernel
theorem dX0_euler_50 : decode cX0_euler 50 = .ok (.ireturn, 1) := by decide +kernel
abbrev cX0_border : ByteArray := prog_1_method_15_code
def yX0_border : MethodName := ⟨RX0, "border", "(I)I"⟩
theorem dX0_border_0 : decode cX0_border 0 = .ok (.aload_n 0, 1) := by decide +kernel
theorem dX0_border_1 : decode cX0_border 1 = .ok (.iload_n 1, 1) := by decide +kernel
theorem dX0_border_2 : decode cX0_border 2 = .ok (.invokevirtual 57, 3) := by decide +kernel
theorem dX0_border_5 : decode cX0_border 5 = .ok (.ifCond .ne 5, 3) := by decide +kernel
theorem dX0_border_8 : decode cX0_border 8 = .ok (.iconst (-1), 1) := by decide +kernel
theorem dX0_border_9 : decode cX0_border 9 = .ok (.ireturn, 1) := by decide +kernel
theorem dX0_border_10 : decode cX0_border 10 = .ok (.aload_n 0, 1) := by decide +kernel
theorem dX0_border_11 : decode cX0_border 11 = .ok (.iload_n 1, 1) := by decide +kernel
theorem dX0_border_12 : decode cX0_border 12 = .ok (.invokevirtual 60, 3) := by decide +kernel
theorem dX0_border_15 : decode cX0_border 15 = .ok (.ifCond .eq 11, 3) := by decide +kernel
theorem dX0_border_18 : decode cX0_border 18 = .ok (.aload_n 0, 1) := by decide +kernel
theorem dX0_border_19 : decode cX0_border 19 = .ok (.iload_n 1, 1) := by decide +kernel
theorem dX0_border_20 : decode cX0_border 20 = .ok (.invokevirtual 63, 3) := by decide +kernel
theorem dX0_border_23 : decode cX0_border 23 = .ok (.goto 5, 3) := by decide +kernel
theorem dX0_border_26 : decode cX0_border 26 = .ok (.bipush (-2), 2) := by decide +kernel
theorem dX0_border_28 : decode cX0_border 28 = .ok (.ireturn, 1) := by decide +kernel
abbrev cX0_isChain : ByteArray := prog_1_method_20_code
def yX0_isChain : MethodName := ⟨RX0, "isChain", "(I)Z"⟩
theorem dX0_isChain_0 : decode cX0_isChain 0 = .ok (.iload_n 1, 1) := by decide +kernel
theorem dX0_isChain_1 : decode cX0_isChain 1 = .ok (.ifCond .lt 17, 3) := by decide +kernel
theorem dX0_isChain_4 : decode cX0_isChain 4 = .ok (.iload_n 1, 1) := by decide +kernel
theorem dX0_isChain_5 : decode cX0_isChain 5 = .ok (.iconst 1, 1) := by decide +kernel
theorem dX0_isChain_6 : decode cX0_isChain 6 = .ok (.aload_n 0, 1) := by decide +kernel
theorem dX0_isChain_7 : decode cX0_isChain 7 = .ok (.getfield 32, 3) := by decide +kernel
theorem dX0_isChain_10 : decode cX0_isChain 10 = .ok (.ishl, 1) := by decide +kernel
theorem dX0_isChain_11 : decode cX0_isChain 11 = .ok (.if_icmp .ge 7, 3) := by decide +kernel
theorem dX0_isChain_14 : decode cX0_isChain 14 = .ok (.iconst 1, 1) := by decide +kernel
theorem dX0_isChain_15 : decode cX0_isChain 15 = .ok (.goto 4, 3) := by decide +kernel
theorem dX0_isChain_18 : decode cX0_isChain 18 = .ok (.iconst 0, 1) := by decide +kernel
theorem dX0_isChain_19 : decode cX0_isChain 19 = .ok (.ireturn, 1) := by decide +kernel
abbrev cX0_isEven : ByteArray := prog_1_method_25_code
def yX0_isEven : MethodName := ⟨RX0, "isEven", "(I)Z"⟩
theorem dX0_isEven_0 : decode cX0_isEven 0 = .ok (.bipush (-2), 2) := by decide +kernel
theorem dX0_isEven_2 : decode cX0_isEven 2 = .ok (.istore_n 2, 1) := by decide +kernel
theorem dX0_isEven_3 : decode cX0_isEven 3 = .ok (.iconst 0, 1) := by decide +kernel
theorem dX0_isEven_4 : decode cX0_isEven 4 = .ok (.istore_n 3, 1) := by decide +kernel
theorem dX0_isEven_5 : decode cX0_isEven 5 = .ok (.iload_n 3, 1) := by decide +kernel
theorem dX0_isEven_6 : decode cX0_isEven 6 = .ok (.aload_n 0, 1) := by decide +kernel
theorem dX0_isEven_7 : decode cX0_isEven 7 = .ok (.getfield 32, 3) := by decide +kernel
theorem dX0_isEven_10 : decode cX0_isEven 10 = .ok (.if_icmp .ge 42, 3) := by decide +kernel
theorem dX0_isEven_13 : decode cX0_isEven 13 = .ok (.iload_n 1, 1) := by decide +kernel
theorem dX0_isEven_14 : decode cX0_isEven 14 = .ok (.iload_n 3, 1) := by decide +kernel
theorem dX0_isEven_15 : decode cX0_isEven 15 = .ok (.ishr, 1) := by decide +kernel
theorem dX0_isEven_16 : decode cX0_isEven 16 = .ok (.iconst 1, 1) := by decide +kernel
theorem dX0_isEven_17 : decode cX0_isEven 17 = .ok (.iand, 1) := by decide +kernel
theorem dX0_isEven_18 : decode cX0_isEven 18 = .ok (.iconst 1, 1) := by decide +kernel
theorem dX0_isEven_19 : decode cX0_isEven 19 = .ok (.if_icmp .ne 27, 3) := by decide +kernel
theorem dX0_isEven_22 : decode cX0_isEven 22 = .ok (.aload_n 0, 1) := by decide +kernel
theorem dX0_isEven_23 : decode cX0_isEven 23 = .ok (.iload_n 3, 1) := by decide +kernel
theorem dX0_isEven_24 : decode cX0_isEven 24 = .ok (.invokevirtual 46, 3) := by decide +kernel
theorem dX0_isEven_27 : decode cX0_isEven 27 = .ok (.istore 4, 2) := by decide +kernel
theorem dX0_isEven_29 : decode cX0_isEven 29 = .ok (.iload_n 2, 1) := by decide +kernel
theorem dX0_isEven_30 : decode cX0_isEven 30 = .ok (.bipush (-2), 2) := by decide +kernel
theorem dX0_isEven_32 : decode cX0_isEven 32 = .ok (.if_icmp .eq 11, 3) := by decide +kernel
theorem dX0_isEven_35 : decode cX0_isEven 35 = .ok (.iload_n 2, 1) := by decide +kernel
theorem dX0_isEven_36 : decode cX0_isEven 36 = .ok (.iload 4, 2) := by decide +kernel
theorem dX0_isEven_38 : decode cX0_isEven 38 = .ok (.if_icmp .eq 5, 3) := by decide +kernel
theorem dX0_isEven_41 : decode cX0_isEven 41 = .ok (.iconst 0, 1) := by decide +kernel
theorem dX0_isEven_42 : decode cX0_isEven 42 = .ok (.ireturn, 1) := by decide +kernel
theorem dX0_isEven_43 : decode cX0_isEven 43 = .ok (.iload 4, 2) := by decide +kernel
theorem dX0_isEven_45 : decode cX0_isEven 45 = .ok (.istore_n 2, 1) := by decide +kernel
theorem dX0_isEven_46 : decode cX0_isEven 46 = .ok (.iinc 3 1, 3) := by decide +kernel
theorem dX0_isEven_49 : decode cX0_isEven 49 = .ok (.goto (-44), 3) := by decide +kernel
theorem dX0_isEven_52 : decode cX0_isEven 52 = .ok (.iconst 1, 1) := by decide +kernel
theorem dX0_isEven_53 : decode cX0_isEven 53 = .ok (.ireturn, 1) := by decide +kernel
abbrev cX0_borderOf : ByteArray := prog_1_method_26_code
def yX0_borderOf : MethodName := ⟨RX0, "borderOf", "(I)I"⟩
theorem dX0_borderOf_0 : decode cX0_borderOf 0 = .ok (.iconst 0, 1) := by decide +kernel
theorem dX0_borderOf_1 : decode cX0_borderOf 1 = .ok (.istore_n 2, 1) := by decide +kernel
theorem dX0_borderOf_2 : decode cX0_borderOf 2 = .ok (.iconst 0, 1) := by decide +kernel
theorem dX0_borderOf_3 : decode cX0_borderOf 3 = .ok (.istore_n 3, 1) := by decide +kernel
theorem dX0_borderOf_4 : decode cX0_borderOf 4 = .ok (.iload_n 3, 1) := by decide +kernel
theorem dX0_borderOf_5 : decode cX0_borderOf 5 = .ok (.aload_n 0, 1) := by decide +kernel
theorem dX0_borderOf_6 : decode cX0_borderOf 6 = .ok (.getfield 32, 3) := by decide +kernel
theorem dX0_borderOf_9 : decode cX0_borderOf 9 = .ok (.if_icmp .ge 26, 3) := by decide +kernel
theorem dX0_borderOf_12 : decode cX0_borderOf 12 = .ok (.iload_n 1, 1) := by decide +kernel
theorem dX0_borderOf_13 : decode cX0_borderOf 13 = .ok (.iload_n 3, 1) := by decide +kernel
theorem dX0_borderOf_14 : decode cX0_borderOf 14 = .ok (.ishr, 1) := by decide +kernel
theorem dX0_borderOf_15 : decode cX0_borderOf 15 = .ok (.iconst 1, 1) := by decide +kernel
theorem dX0_borderOf_16 : decode cX0_borderOf 16 = .ok (.iand, 1) := by decide +kernel
theorem dX0_borderOf_17 : decode cX0_borderOf 17 = .ok (.iconst 1, 1) := by decide +kernel
theorem dX0_borderOf_18 : decode cX0_borderOf 18 = .ok (.if_icmp .ne 11, 3) := by decide +kernel
theorem dX0_borderOf_21 : decode cX0_borderOf 21 = .ok (.iload_n 2, 1) := by decide +kernel
theorem dX0_borderOf_22 : decode cX0_borderOf 22 = .ok (.aload_n 0, 1) := by decide +kernel
theorem dX0_borderOf_23 : decode cX0_borderOf 23 = .ok (.iload_n 3, 1) := by decide +kernel
theorem dX0_borderOf_24 : decode cX0_borderOf 24 = .ok (.invokevirtual 69, 3) := by decide +kernel
theorem dX0_borderOf_27 : decode cX0_borderOf 27 = .ok (.ixor, 1) := by decide +kernel
theorem dX0_borderOf_28 : decode cX0_borderOf 28 = .ok (.istore_n 2, 1) := by decide +kernel
theorem dX0_borderOf_29 : decode cX0_borderOf 29 = .ok (.iinc 3 1, 3) := by decide +kernel
theorem dX0_borderOf_32 : decode cX0_borderOf 32 = .ok (.goto (-28), 3) := by decide +kernel
theorem dX0_borderOf_35 : decode cX0_borderOf 35 = .ok (.iload_n 2, 1) := by decide +kernel
theorem dX0_borderOf_36 : decode cX0_borderOf 36 = .ok (.ireturn, 1) := by decide +kernel
abbrev cX0_bounds : ByteArray := prog_1_method_16_code
def yX0_bounds : MethodName := ⟨RX0, "bounds", "(I)I"⟩
theorem dX0_bounds_0 : decode cX0_bounds 0 = .ok (.aload_n 0, 1) := by decide +kernel
theorem dX0_bounds_1 : decode cX0_bounds 1 = .ok (.iload_n 1, 1) := by decide +kernel
theorem dX0_bounds_2 : decode cX0_bounds 2 = .ok (.invokevirtual 57, 3) := by decide +kernel
theorem dX0_bounds_5 : decode cX0_bounds 5 = .ok (.ifCond .ne 5, 3) := by decide +kernel
theorem dX0_bounds_8 : decode cX0_bounds 8 = .ok (.iconst (-1), 1) := by decide +kernel
theorem dX0_bounds_9 : decode cX0_bounds 9 = .ok (.ireturn, 1) := by decide +kernel
theorem dX0_bounds_10 : decode cX0_bounds 10 = .ok (.aload_n 0, 1) := by decide +kernel
theorem dX0_bounds_11 : decode cX0_bounds 11 = .ok (.iload_n 1, 1) := by decide +kernel
theorem dX0_bounds_12 : decode cX0_bounds 12 = .ok (.invokevirtual 60, 3) := by decide +kernel
theorem dX0_bounds_15 : decode cX0_bounds 15 = .ok (.ifCond .ne 6, 3) := by decide +kernel
theorem dX0_bounds_18 : decode cX0_bounds 18 = .ok (.bipush (-2), 2) := by decide +kernel
theorem dX0_bounds_20 : decode cX0_bounds 20 = .ok (.ireturn, 1) := by decide +kernel
theorem dX0_bounds_21 : decode cX0_bounds 21 = .ok (.aload_n 0, 1) := by decide +kernel
theorem dX0_bounds_22 : decode cX0_bounds 22 = .ok (.iload_n 1, 1) := by decide +kernel
theorem dX0_bounds_23 : decode cX0_bounds 23 = .ok (.invokevirtual 63, 3) := by decide +kernel
theorem dX0_bounds_26 : decode cX0_bounds 26 = .ok (.ifCond .eq 5, 3) := by decide +kernel
theorem dX0_bounds_29 : decode cX0_bounds 29 = .ok (.iconst 2, 1) := by decide +kernel
theorem dX0_bounds_30 : decode cX0_bounds 30 = .ok (.ireturn, 1) := by decide +kernel
theorem dX0_bounds_31 : decode cX0_bounds 31 = .ok (.aload_n 0, 1) := by decide +kernel
theorem dX0_bounds_32 : decode cX0_bounds 32 = .ok (.invokevirtual 54, 3) := by decide +kernel
theorem dX0_bounds_35 : decode cX0_bounds 35 = .ok (.iload_n 1, 1) := by decide +kernel
theorem dX0_bounds_36 : decode cX0_bounds 36 = .ok (.istore_n 2, 1) := by decide +kernel
theorem dX0_bounds_37 : decode cX0_bounds 37 = .ok (.aload_n 0, 1) := by decide +kernel
theorem dX0_bounds_38 : decode cX0_bounds 38 = .ok (.getfield 32, 3) := by decide +kernel
theorem dX0_bounds_41 : decode cX0_bounds 41 = .ok (.iconst 1, 1) := by decide +kernel
theorem dX0_bounds_42 : decode cX0_bounds 42 = .ok (.isub, 1) := by decide +kernel
theorem dX0_bounds_43 : decode cX0_bounds 43 = .ok (.istore_n 3, 1) := by decide +kernel
theorem dX0_bounds_44 : decode cX0_bounds 44 = .ok (.iload_n 3, 1) := by decide +kernel
theorem dX0_bounds_45 : decode cX0_bounds 45 = .ok (.ifCond .lt 43, 3) := by decide +kernel
theorem dX0_bounds_48 : decode cX0_bounds 48 = .ok (.iload_n 2, 1) := by decide +kernel
theorem dX0_bounds_49 : decode cX0_bounds 49 = .ok (.iload_n 3, 1) := by decide +kernel
theorem dX0_bounds_50 : decode cX0_bounds 50 = .ok (.ishr, 1) := by decide +kernel
theorem dX0_bounds_51 : decode cX0_bounds 51 = .ok (.iconst 1, 1) := by decide +kernel
theorem dX0_bounds_52 : decode cX0_bounds 52 = .ok (.iand, 1) := by decide +kernel
theorem dX0_bounds_53 : decode cX0_bounds 53 = .ok (.iconst 1, 1) := by decide +kernel
theorem dX0_bounds_54 : decode cX0_bounds 54 = .ok (.if_icmp .ne 28, 3) := by decide +kernel
theorem dX0_bounds_57 : decode cX0_bounds 57 = .ok (.aload_n 0, 1) := by decide +kernel
theorem dX0_bounds_58 : decode cX0_bounds 58 = .ok (.getfield 22, 3) := by decide +kernel
theorem dX0_bounds_61 : decode cX0_bounds 61 = .ok (.iload_n 3, 1) := by decide +kernel
theorem dX0_bounds_62 : decode cX0_bounds 62 = .ok (.iaload, 1) := by decide +kernel
theorem dX0_bounds_63 : decode cX0_bounds 63 = .ok (.ifCond .ge 5, 3) := by decide +kernel
theorem dX0_bounds_66 : decode cX0_bounds 66 = .ok (.iconst 0, 1) := by decide +kernel
theorem dX0_bounds_67 : decode cX0_bounds 67 = .ok (.ireturn, 1) := by decide +kernel
theorem dX0_bounds_68 : decode cX0_bounds 68 = .ok (.iload_n 2, 1) := by decide +kernel
theorem dX0_bounds_69 : decode cX0_bounds 69 = .ok (.aload_n 0, 1) := by decide +kernel
theorem dX0_bounds_70 : decode cX0_bounds 70 = .ok (.getfield 16, 3) := by decide +kernel
theorem dX0_bounds_73 : decode cX0_bounds 73 = .ok (.aload_n 0, 1) := by decide +kernel
theorem dX0_bounds_74 : decode cX0_bounds 74 = .ok (.getfield 22, 3) := by decide +kernel
theorem dX0_bounds_77 : decode cX0_bounds 77 = .ok (.iload_n 3, 1) := by decide +kernel
theorem dX0_bounds_78 : decode cX0_bounds 78 = .ok (.iaload, 1) := by decide +kernel
theorem dX0_bounds_79 : decode cX0_bounds 79 = .ok (.iaload, 1) := by decide +kernel
theorem dX0_bounds_80 : decode cX0_bounds 80 = .ok (.ixor, 1) := by decide +kernel
theorem dX0_bounds_81 : decode cX0_bounds 81 = .ok (.istore_n 2, 1) := by decide +kernel
theorem dX0_bounds_82 : decode cX0_bounds 82 = .ok (.iinc 3 (-1), 3) := by decide +kernel
theorem dX0_bounds_85 : decode cX0_bounds 85 = .ok (.goto (-41), 3) := by decide +kernel
theorem dX0_bounds_88 : decode cX0_bounds 88 = .ok (.iconst 1, 1) := by decide +kernel
theorem dX0_bounds_89 : decode cX0_bounds 89 = .ok (.ireturn, 1) := by decide +kernel
theorem q29 : (Jvm.Cond.initialized "PersistentBars") ∈ lw_all := lw_g (lw_at lw_m1 1 rfl) rfl
theorem q32 : (Jvm.Cond.instantiable "PersistentBars" (7 : Nat)) ∈ lw_all := lw_g (lw_at lw_m1 4 rfl) rfl
theorem q34 : (Jvm.Cond.instanceMethod ({ cls := "PersistentBars", name := "<init>", desc := "()V" } : Jvm.MethodName)) ∈ lw_all := lw_g (lw_at lw_m1 6 rfl) rfl
theorem q35 : (Jvm.Cond.code ({ cls := "PersistentBars", name := "<init>", desc := "()V" } : Jvm.MethodName) prog_1_method_1_code (2 : Nat) (Option.none : Option Jvm.ClassFile.FieldType)) ∈ lw_all := lw_g (lw_at lw_m1 7 rfl) rfl
theorem q36 : (Jvm.Cond.methodLink "PersistentBars" (1 : Nat) ({ cls := "java/lang/Object", name := "<init>", desc := "()V" } : Jvm.MethodName)) ∈ lw_all := lw_g (lw_at lw_m1 8 rfl) rfl
theorem q39 : (Jvm.Cond.fieldLink "PersistentBars" (7 : Nat) "PersistentBars" "list" "[I") ∈ lw_all := lw_g (lw_at lw_m1 11 rfl) rfl
theorem q40 : (Jvm.Cond.fieldLink "PersistentBars" (13 : Nat) "PersistentBars" "place" "[I") ∈ lw_all := lw_g (lw_at lw_m1 12 rfl) rfl
theorem q41 : (Jvm.Cond.fieldLink "PersistentBars" (16 : Nat) "PersistentBars" "columns" "[I") ∈ lw_all := lw_g (lw_at lw_m1 13 rfl) rfl
theorem q42 : (Jvm.Cond.fieldLink "PersistentBars" (19 : Nat) "PersistentBars" "partners" "[I") ∈ lw_all := lw_g (lw_at lw_m1 14 rfl) rfl
theorem q43 : (Jvm.Cond.fieldLink "PersistentBars" (22 : Nat) "PersistentBars" "closer" "[I") ∈ lw_all := lw_g (lw_at lw_m1 15 rfl) rfl
theorem q44 : (Jvm.Cond.fieldLink "PersistentBars" (32 : Nat) "PersistentBars" "count" "I") ∈ lw_all := lw_g (lw_at lw_m1 16 rfl) rfl
theorem q45 : (Jvm.Cond.fieldLink "PersistentBars" (40 : Nat) "PersistentBars" "solved" "I") ∈ lw_all := lw_g (lw_at lw_m1 17 rfl) rfl
theorem q46 : (Jvm.Cond.laysFinal "PersistentBars" "PersistentBars" "list" "[I") ∈ lw_all := lw_g (lw_at lw_m1 18 rfl) rfl
theorem q47 : (Jvm.Cond.soleField "PersistentBars" "list") ∈ lw_all := lw_g (lw_at lw_m1 19 rfl) rfl
theorem q48 : (Jvm.Cond.laysFinal "PersistentBars" "PersistentBars" "place" "[I") ∈ lw_all := lw_g (lw_at lw_m1 20 rfl) rfl
theorem q49 : (Jvm.Cond.soleField "PersistentBars" "place") ∈ lw_all := lw_g (lw_at lw_m1 21 rfl) rfl
theorem q50 : (Jvm.Cond.laysFinal "PersistentBars" "PersistentBars" "columns" "[I") ∈ lw_all := lw_g (lw_at lw_m1 22 rfl) rfl
theorem q51 : (Jvm.Cond.soleField "PersistentBars" "columns") ∈ lw_all := lw_g (lw_at lw_m1 23 rfl) rfl
theorem q52 : (Jvm.Cond.laysFinal "PersistentBars" "PersistentBars" "partners" "[I") ∈ lw_all := lw_g (lw_at lw_m1 24 rfl) rfl
theorem q53 : (Jvm.Cond.soleField "PersistentBars" "partners") ∈ lw_all := lw_g (lw_at lw_m1 25 rfl) rfl
theorem q54 : (Jvm.Cond.laysFinal "PersistentBars" "PersistentBars" "closer" "[I") ∈ lw_all := lw_g (lw_at lw_m1 26 rfl) rfl
theorem q55 : (Jvm.Cond.soleField "PersistentBars" "closer") ∈ lw_all := lw_g (lw_at lw_m1 27 rfl) rfl
theorem q56 : (Jvm.Cond.lays "PersistentBars" "PersistentBars" "count" "I") ∈ lw_all := lw_g (lw_at lw_m1 28 rfl) rfl
theorem q57 : (Jvm.Cond.soleField "PersistentBars" "count") ∈ lw_all := lw_g (lw_at lw_m1 29 rfl) rfl
theorem q58 : (Jvm.Cond.lays "PersistentBars" "PersistentBars" "solved" "I") ∈ lw_all := lw_g (lw_at lw_m1 30 rfl) rfl
theorem q59 : (Jvm.Cond.soleField "PersistentBars" "solved") ∈ lw_all := lw_g (lw_at lw_m1 31 rfl) rfl
theorem q60 : (Jvm.Cond.superclass "PersistentBars" "java/lang/Object") ∈ lw_all := lw_g (lw_at lw_m1 32 rfl) rfl
theorem q63 : (Jvm.Cond.instanceMethod ({ cls := "PersistentBars", name := "add", desc := "(I)I" } : Jvm.MethodName)) ∈ lw_all := lw_g (lw_at lw_m1 35 rfl) rfl
theorem q64 : (Jvm.Cond.selects "PersistentBars" ({ cls := "PersistentBars", name := "add", desc := "(I)I" } : Jvm.MethodName) ({ cls := "PersistentBars", name := "add", desc := "(I)I" } : Jvm.MethodName)) ∈ lw_all := lw_g (lw_at lw_m1 36 rfl) rfl
theorem q65 : (Jvm.Cond.code ({ cls := "PersistentBars", name := "add", desc := "(I)I" } : Jvm.MethodName) prog_1_method_2_code (2 : Nat) (Option.some Jvm.ClassFile.FieldType.int)) ∈ lw_all := lw_g (lw_at lw_m1 37 rfl) rfl
theorem q66 : (Jvm.Cond.methodLink "PersistentBars" (25 : Nat) ({ cls := "PersistentBars", name := "isPiece", desc := "(I)Z" } : Jvm.MethodName)) ∈ lw_all := lw_g (lw_at lw_m1 38 rfl) rfl
theorem q67 : (Jvm.Cond.static ({ cls := "PersistentBars", name := "isPiece", desc := "(I)Z" } : Jvm.MethodName)) ∈ lw_all := lw_g (lw_at lw_m1 39 rfl) rfl
theorem q68 : (Jvm.Cond.code ({ cls := "PersistentBars", name := "isPiece", desc := "(I)Z" } : Jvm.MethodName) prog_1_method_18_code (1 : Nat) (Option.some Jvm.ClassFile.FieldType.boolean)) ∈ lw_all := lw_g (lw_at lw_m1 40 rfl) rfl
theorem q69 : (Jvm.Cond.methodLink "PersistentBars" (66 : Nat) ({ cls := "PersistentBars", name := "points", desc := "(I)I" } : Jvm.MethodName)) ∈ lw_all := lw_g (lw_at lw_m1 41 rfl) rfl
theorem q70 : (Jvm.Cond.static ({ cls := "PersistentBars", name := "points", desc := "(I)I" } : Jvm.MethodName)) ∈ lw_all := lw_g (lw_at lw_m1 42 rfl) rfl
theorem q71 : (Jvm.Cond.code ({ cls := "PersistentBars", name := "points", desc := "(I)I" } : Jvm.MethodName) prog_1_method_17_code (3 : Nat) (Option.some Jvm.ClassFile.FieldType.int)) ∈ lw_all := lw_g (lw_at lw_m1 43 rfl) rfl
theorem q72 : (Jvm.Cond.methodLink "PersistentBars" (29 : Nat) ({ cls := "PersistentBars", name := "hasSides", desc := "(I)Z" } : Jvm.MethodName)) ∈ lw_all := lw_g (lw_at lw_m1 44 rfl) rfl
theorem q73 : (Jvm.Cond.privateMethod ({ cls := "PersistentBars", name := "hasSides", desc := "(I)Z" } : Jvm.MethodName)) ∈ lw_tbl := lw_at lw_m1 45 rfl
theorem q74 : (Jvm.Cond.instanceMethod ({ cls := "PersistentBars", name := "hasSides", desc := "(I)Z" } : Jvm.MethodName)) ∈ lw_all := lw_g (lw_at lw_m1 46 rfl) rfl
theorem q75 : (Jvm.Cond.code ({ cls := "PersistentBars", name := "hasSides", desc := "(I)Z" } : Jvm.MethodName) prog_1_method_22_code (4 : Nat) (Option.some Jvm.ClassFile.FieldType.boolean)) ∈ lw_all := lw_g (lw_at lw_m1 47 rfl) rfl
theorem q76 : (Jvm.Cond.methodLink "PersistentBars" (36 : Nat) ({ cls := "PersistentBars", name := "enter", desc := "(I)V" } : Jvm.MethodName)) ∈ lw_all := lw_g (lw_at lw_m1 48 rfl) rfl
theorem q77 : (Jvm.Cond.privateMethod ({ cls := "PersistentBars", name := "enter", desc := "(I)V" } : Jvm.MethodName)) ∈ lw_tbl := lw_at lw_m1 49 rfl
theorem q78 : (Jvm.Cond.instanceMethod ({ cls := "PersistentBars", name := "enter", desc := "(I)V" } : Jvm.MethodName)) ∈ lw_all := lw_g (lw_at lw_m1 50 rfl) rfl
theorem q79 : (Jvm.Cond.code ({ cls := "PersistentBars", name := "enter", desc := "(I)V" } : Jvm.MethodName) prog_1_method_23_code (2 : Nat) (Option.none : Option Jvm.ClassFile.FieldType)) ∈ lw_all := lw_g (lw_at lw_m1 51 rfl) rfl
theorem q81 : (Jvm.Cond.instanceMethod ({ cls := "PersistentBars", name := "fill", desc := "(I)I" } : Jvm.MethodName)) ∈ lw_all := lw_g (lw_at lw_m1 53 rfl) rfl
theorem q82 : (Jvm.Cond.selects "PersistentBars" ({ cls := "PersistentBars", name := "fill", desc := "(I)I" } : Jvm.MethodName) ({ cls := "PersistentBars", name := "fill", desc := "(I)I" } : Jvm.MethodName)) ∈ lw_all := lw_g (lw_at lw_m1 54 rfl) rfl
theorem q83 : (Jvm.Cond.code ({ cls := "PersistentBars", name := "fill", desc := "(I)I" } : Jvm.MethodName) prog_1_method_3_code (4 : Nat) (Option.some Jvm.ClassFile.FieldType.int)) ∈ lw_all := lw_g (lw_at lw_m1 55 rfl) rfl
theorem q85 : (Jvm.Cond.instanceMethod ({ cls := "PersistentBars", name := "undo", desc := "()I" } : Jvm.MethodName)) ∈ lw_all := lw_g (lw_at lw_m1 57 rfl) rfl
theorem q86 : (Jvm.Cond.selects "PersistentBars" ({ cls := "PersistentBars", name := "undo", desc := "()I" } : Jvm.MethodName) ({ cls := "PersistentBars", name := "undo", desc := "()I" } : Jvm.MethodName)) ∈ lw_all := lw_g (lw_at lw_m1 58 rfl) rfl
theorem q87 : (Jvm.Cond.code ({ cls := "PersistentBars", name := "undo", desc := "()I" } : Jvm.MethodName) prog_1_method_4_code (1 : Nat) (Option.some Jvm.ClassFile.FieldType.int)) ∈ lw_all := lw_g (lw_at lw_m1 59 rfl) rfl
theorem q89 : (Jvm.Cond.instanceMethod ({ cls := "PersistentBars", name := "size", desc := "()I" } : Jvm.MethodName)) ∈ lw_all := lw_g (lw_at lw_m1 61 rfl) rfl
theorem q90 : (Jvm.Cond.selects "PersistentBars" ({ cls := "PersistentBars", name := "size", desc := "()I" } : Jvm.MethodName) ({ cls := "PersistentBars", name := "size", desc := "()I" } : Jvm.MethodName)) ∈ lw_all := lw_g (lw_at lw_m1 62 rfl) rfl
theorem q91 : (Jvm.Cond.code ({ cls := "PersistentBars", name := "size", desc := "()I" } : Jvm.MethodName) prog_1_method_5_code (1 : Nat) (Option.some Jvm.ClassFile.FieldType.int)) ∈ lw_all := lw_g (lw_at lw_m1 63 rfl) rfl
theorem q93 : (Jvm.Cond.instanceMethod ({ cls := "PersistentBars", name := "piece", desc := "(I)I" } : Jvm.MethodName)) ∈ lw_all := lw_g (lw_at lw_m1 65 rfl) rfl
theorem q94 : (Jvm.Cond.selects "PersistentBars" ({ cls := "PersistentBars", name := "piece", desc := "(I)I" } : Jvm.MethodName) ({ cls := "PersistentBars", name := "piece", desc := "(I)I" } : Jvm.MethodName)) ∈ lw_all := lw_g (lw_at lw_m1 66 rfl) rfl
theorem q95 : (Jvm.Cond.code ({ cls := "PersistentBars", name := "piece", desc := "(I)I" } : Jvm.MethodName) prog_1_method_6_code (2 : Nat) (Option.some Jvm.ClassFile.FieldType.int)) ∈ lw_all := lw_g (lw_at lw_m1 67 rfl) rfl
theorem q96 : (Jvm.Cond.methodLink "PersistentBars" (43 : Nat) ({ cls := "PersistentBars", name := "isGood", desc := "(I)Z" } : Jvm.MethodName)) ∈ lw_all := lw_g (lw_at lw_m1 68 rfl) rfl
theorem q97 : (Jvm.Cond.privateMethod ({ cls := "PersistentBars", name := "isGood", desc := "(I)Z" } : Jvm.MethodName)) ∈ lw_tbl := lw_at lw_m1 69 rfl
theorem q98 : (Jvm.Cond.instanceMethod ({ cls := "PersistentBars", name := "isGood", desc := "(I)Z" } : Jvm.MethodName)) ∈ lw_all := lw_g (lw_at lw_m1 70 rfl) rfl
theorem q99 : (Jvm.Cond.code ({ cls := "PersistentBars", name := "isGood", desc := "(I)Z" } : Jvm.MethodName) prog_1_method_19_code (2 : Nat) (Option.some Jvm.ClassFile.FieldType.boolean)) ∈ lw_all := lw_g (lw_at lw_m1 71 rfl) rfl
theorem q101 : (Jvm.Cond.instanceMethod ({ cls := "PersistentBars", name := "pieces", desc := "(II)I" } : Jvm.MethodName)) ∈ lw_all := lw_g (lw_at lw_m1 73 rfl) rfl
theorem q102 : (Jvm.Cond.selects "PersistentBars" ({ cls := "PersistentBars", name := "pieces", desc := "(II)I" } : Jvm.MethodName) ({ cls := "PersistentBars", name := "pieces", desc := "(II)I" } : Jvm.MethodName)) ∈ lw_all := lw_g (lw_at lw_m1 74 rfl) rfl
theorem q103 : (Jvm.Cond.code ({ cls := "PersistentBars", name := "pieces", desc := "(II)I" } : Jvm.MethodName) prog_1_method_7_code (5 : Nat) (Option.some Jvm.ClassFile.FieldType.int)) ∈ lw_all := lw_g (lw_at lw_m1 75 rfl) rfl
theorem q104 : (Jvm.Cond.methodLink "PersistentBars" (46 : Nat) ({ cls := "PersistentBars", name := "dimension", desc := "(I)I" } : Jvm.MethodName)) ∈ lw_all := lw_g (lw_at lw_m1 76 rfl) rfl
theorem q105 : (Jvm.Cond.privateMethod ({ cls := "PersistentBars", name := "dimension", desc := "(I)I" } : Jvm.MethodName)) ∈ lw_tbl := lw_at lw_m1 77 rfl
theorem q106 : (Jvm.Cond.instanceMethod ({ cls := "PersistentBars", name := "dimension", desc := "(I)I" } : Jvm.MethodName)) ∈ lw_all := lw_g (lw_at lw_m1 78 rfl) rfl
theorem q107 : (Jvm.Cond.code ({ cls := "PersistentBars", name := "dimension", desc := "(I)I" } : Jvm.MethodName) prog_1_method_21_code (2 : Nat) (Option.some Jvm.ClassFile.FieldType.int)) ∈ lw_all := lw_g (lw_at lw_m1 79 rfl) rfl
theorem q109 : (Jvm.Cond.instanceMethod ({ cls := "PersistentBars", name := "holes", desc := "(II)I" } : Jvm.MethodName)) ∈ lw_all := lw_g (lw_at lw_m1 81 rfl) rfl
theorem q110 : (Jvm.Cond.selects "PersistentBars" ({ cls := "PersistentBars", name := "holes", desc := "(II)I" } : Jvm.MethodName) ({ cls := "PersistentBars", name := "holes", desc := "(II)I" } : Jvm.MethodName)) ∈ lw_all := lw_g (lw_at lw_m1 82 rfl) rfl
theorem q111 : (Jvm.Cond.code ({ cls := "PersistentBars", name := "holes", desc := "(II)I" } : Jvm.MethodName) prog_1_method_8_code (3 : Nat) (Option.some Jvm.ClassFile.FieldType.int)) ∈ lw_all := lw_g (lw_at lw_m1 83 rfl) rfl
theorem q112 : (Jvm.Cond.methodLink "PersistentBars" (50 : Nat) ({ cls := "PersistentBars", name := "living", desc := "(III)I" } : Jvm.MethodName)) ∈ lw_all := lw_g (lw_at lw_m1 84 rfl) rfl
theorem q113 : (Jvm.Cond.privateMethod ({ cls := "PersistentBars", name := "living", desc := "(III)I" } : Jvm.MethodName)) ∈ lw_tbl := lw_at lw_m1 85 rfl
theorem q114 : (Jvm.Cond.instanceMethod ({ cls := "PersistentBars", name := "living", desc := "(III)I" } : Jvm.MethodName)) ∈ lw_all := lw_g (lw_at lw_m1 86 rfl) rfl
theorem q115 : (Jvm.Cond.code ({ cls := "PersistentBars", name := "living", desc := "(III)I" } : Jvm.MethodName) prog_1_method_29_code (7 : Nat) (Option.some Jvm.ClassFile.FieldType.int)) ∈ lw_all := lw_g (lw_at lw_m1 87 rfl) rfl
theorem q116 : (Jvm.Cond.methodLink "PersistentBars" (54 : Nat) ({ cls := "PersistentBars", name := "solve", desc := "()V" } : Jvm.MethodName)) ∈ lw_all := lw_g (lw_at lw_m1 88 rfl) rfl
theorem q117 : (Jvm.Cond.privateMethod ({ cls := "PersistentBars", name := "solve", desc := "()V" } : Jvm.MethodName)) ∈ lw_tbl := lw_at lw_m1 89 rfl
theorem q118 : (Jvm.Cond.instanceMethod ({ cls := "PersistentBars", name := "solve", desc := "()V" } : Jvm.MethodName)) ∈ lw_all := lw_g (lw_at lw_m1 90 rfl) rfl
theorem q119 : (Jvm.Cond.code ({ cls := "PersistentBars", name := "solve", desc := "()V" } : Jvm.MethodName) prog_1_method_28_code (5 : Nat) (Option.none : Option Jvm.ClassFile.FieldType)) ∈ lw_all := lw_g (lw_at lw_m1 91 rfl) rfl
theorem q120 : (Jvm.Cond.methodLink "PersistentBars" (69 : Nat) ({ cls := "PersistentBars", name := "sidesOf", desc := "(I)I" } : Jvm.MethodName)) ∈ lw_all := lw_g (lw_at lw_m1 92 rfl) rfl
theorem q121 : (Jvm.Cond.privateMethod ({ cls := "PersistentBars", name := "sidesOf", desc := "(I)I" } : Jvm.MethodName)) ∈ lw_tbl := lw_at lw_m1 93 rfl
theorem q122 : (Jvm.Cond.instanceMethod ({ cls := "PersistentBars", name := "sidesOf", desc := "(I)I" } : Jvm.MethodName)) ∈ lw_all := lw_g (lw_at lw_m1 94 rfl) rfl
theorem q123 : (Jvm.Cond.code ({ cls := "PersistentBars", name := "sidesOf", desc := "(I)I" } : Jvm.MethodName) prog_1_method_24_code (5 : Nat) (Option.some Jvm.ClassFile.FieldType.int)) ∈ lw_all := lw_g (lw_at lw_m1 95 rfl) rfl
theorem q124 : (Jvm.Cond.methodLink "PersistentBars" (72 : Nat) ({ cls := "PersistentBars", name := "lowest", desc := "(I)I" } : Jvm.MethodName)) ∈ lw_all := lw_g (lw_at lw_m1 96 rfl) rfl
theorem q125 : (Jvm.Cond.static ({ cls := "PersistentBars", name := "lowest", desc := "(I)I" } : Jvm.MethodName)) ∈ lw_all := lw_g (lw_at lw_m1 97 rfl) rfl
theorem q126 : (Jvm.Cond.code ({ cls := "PersistentBars", name := "lowest", desc := "(I)I" } : Jvm.MethodName) prog_1_method_27_code (2 : Nat) (Option.some Jvm.ClassFile.FieldType.int)) ∈ lw_all := lw_g (lw_at lw_m1 98 rfl) rfl
theorem q128 : (Jvm.Cond.instanceMethod ({ cls := "PersistentBars", name := "lasting", desc := "(III)I" } : Jvm.MethodName)) ∈ lw_all := lw_g (lw_at lw_m1 100 rfl) rfl
theorem q129 : (Jvm.Cond.selects "PersistentBars" ({ cls := "PersistentBars", name := "lasting", desc := "(III)I" } : Jvm.MethodName) ({ cls := "PersistentBars", name := "lasting", desc := "(III)I" } : Jvm.MethodName)) ∈ lw_all := lw_g (lw_at lw_m1 101 rfl) rfl
theorem q130 : (Jvm.Cond.code ({ cls := "PersistentBars", name := "lasting", desc := "(III)I" } : Jvm.MethodName) prog_1_method_9_code (4 : Nat) (Option.some Jvm.ClassFile.FieldType.int)) ∈ lw_all := lw_g (lw_at lw_m1 102 rfl) rfl
theorem q132 : (Jvm.Cond.instanceMethod ({ cls := "PersistentBars", name := "opens", desc := "(I)I" } : Jvm.MethodName)) ∈ lw_all := lw_g (lw_at lw_m1 104 rfl) rfl
theorem q133 : (Jvm.Cond.selects "PersistentBars" ({ cls := "PersistentBars", name := "opens", desc := "(I)I" } : Jvm.MethodName) ({ cls := "PersistentBars", name := "opens", desc := "(I)I" } : Jvm.MethodName)) ∈ lw_all := lw_g (lw_at lw_m1 105 rfl) rfl
theorem q134 : (Jvm.Cond.code ({ cls := "PersistentBars", name := "opens", desc := "(I)I" } : Jvm.MethodName) prog_1_method_10_code (2 : Nat) (Option.some Jvm.ClassFile.FieldType.int)) ∈ lw_all := lw_g (lw_at lw_m1 106 rfl) rfl
theorem q136 : (Jvm.Cond.instanceMethod ({ cls := "PersistentBars", name := "partner", desc := "(I)I" } : Jvm.MethodName)) ∈ lw_all := lw_g (lw_at lw_m1 108 rfl) rfl
theorem q137 : (Jvm.Cond.selects "PersistentBars" ({ cls := "PersistentBars", name := "partner", desc := "(I)I" } : Jvm.MethodName) ({ cls := "PersistentBars", name := "partner", desc := "(I)I" } : Jvm.MethodName)) ∈ lw_all := lw_g (lw_at lw_m1 109 rfl) rfl
theorem q138 : (Jvm.Cond.code ({ cls := "PersistentBars", name := "partner", desc := "(I)I" } : Jvm.MethodName) prog_1_method_11_code (2 : Nat) (Option.some Jvm.ClassFile.FieldType.int)) ∈ lw_all := lw_g (lw_at lw_m1 110 rfl) rfl
theorem q140 : (Jvm.Cond.instanceMethod ({ cls := "PersistentBars", name := "forever", desc := "(I)I" } : Jvm.MethodName)) ∈ lw_all := lw_g (lw_at lw_m1 112 rfl) rfl
theorem q141 : (Jvm.Cond.selects "PersistentBars" ({ cls := "PersistentBars", name := "forever", desc := "(I)I" } : Jvm.MethodName) ({ cls := "PersistentBars", name := "forever", desc := "(I)I" } : Jvm.MethodName)) ∈ lw_all := lw_g (lw_at lw_m1 113 rfl) rfl
theorem q142 : (Jvm.Cond.code ({ cls := "PersistentBars", name := "forever", desc := "(I)I" } : Jvm.MethodName) prog_1_method_12_code (2 : Nat) (Option.some Jvm.ClassFile.FieldType.int)) ∈ lw_all := lw_g (lw_at lw_m1 114 rfl) rfl
theorem q144 : (Jvm.Cond.instanceMethod ({ cls := "PersistentBars", name := "longest", desc := "(I)I" } : Jvm.MethodName)) ∈ lw_all := lw_g (lw_at lw_m1 116 rfl) rfl
theorem q145 : (Jvm.Cond.selects "PersistentBars" ({ cls := "PersistentBars", name := "longest", desc := "(I)I" } : Jvm.MethodName) ({ cls := "PersistentBars", name := "longest", desc := "(I)I" } : Jvm.MethodName)) ∈ lw_all := lw_g (lw_at lw_m1 117 rfl) rfl
theorem q146 : (Jvm.Cond.code ({ cls := "PersistentBars", name := "longest", desc := "(I)I" } : Jvm.MethodName) prog_1_method_13_code (4 : Nat) (Option.some Jvm.ClassFile.FieldType.int)) ∈ lw_all := lw_g (lw_at lw_m1 118 rfl) rfl
theorem q148 : (Jvm.Cond.instanceMethod ({ cls := "PersistentBars", name := "euler", desc := "(I)I" } : Jvm.MethodName)) ∈ lw_all := lw_g (lw_at lw_m1 120 rfl) rfl
theorem q149 : (Jvm.Cond.selects "PersistentBars" ({ cls := "PersistentBars", name := "euler", desc := "(I)I" } : Jvm.MethodName) ({ cls := "PersistentBars", name := "euler", desc := "(I)I" } : Jvm.MethodName)) ∈ lw_all := lw_g (lw_at lw_m1 121 rfl) rfl
theorem q150 : (Jvm.Cond.code ({ cls := "PersistentBars", name := "euler", desc := "(I)I" } : Jvm.MethodName) prog_1_method_14_code (4 : Nat) (Option.some Jvm.ClassFile.FieldType.int)) ∈ lw_all := lw_g (lw_at lw_m1 122 rfl) rfl
theorem q152 : (Jvm.Cond.instanceMethod ({ cls := "PersistentBars", name := "border", desc := "(I)I" } : Jvm.MethodName)) ∈ lw_all := lw_g (lw_at lw_m1 124 rfl) rfl
theorem q153 : (Jvm.Cond.selects "PersistentBars" ({ cls := "PersistentBars", name := "border", desc := "(I)I" } : Jvm.MethodName) ({ cls := "PersistentBars", name := "border", desc := "(I)I" } : Jvm.MethodName)) ∈ lw_all := lw_g (lw_at lw_m1 125 rfl) rfl
theorem q154 : (Jvm.Cond.code ({ cls := "PersistentBars", name := "border", desc := "(I)I" } : Jvm.MethodName) prog_1_method_15_code (2 : Nat) (Option.some Jvm.ClassFile.FieldType.int)) ∈ lw_all := lw_g (lw_at lw_m1 126 rfl) rfl
theorem q155 : (Jvm.Cond.methodLink "PersistentBars" (57 : Nat) ({ cls := "PersistentBars", name := "isChain", desc := "(I)Z" } : Jvm.MethodName)) ∈ lw_all := lw_g (lw_at lw_m1 127 rfl) rfl
theorem q156 : (Jvm.Cond.privateMethod ({ cls := "PersistentBars", name := "isChain", desc := "(I)Z" } : Jvm.MethodName)) ∈ lw_tbl := lw_at lw_m1 128 rfl
theorem q157 : (Jvm.Cond.instanceMethod ({ cls := "PersistentBars", name := "isChain", desc := "(I)Z" } : Jvm.MethodName)) ∈ lw_all := lw_g (lw_at lw_m1 129 rfl) rfl
theorem q158 : (Jvm.Cond.code ({ cls := "PersistentBars", name := "isChain", desc := "(I)Z" } : Jvm.MethodName) prog_1_method_20_code (2 : Nat) (Option.some Jvm.ClassFile.FieldType.boolean)) ∈ lw_all := lw_g (lw_at lw_m1 130 rfl) rfl
theorem q159 : (Jvm.Cond.methodLink "PersistentBars" (60 : Nat) ({ cls := "PersistentBars", name := "isEven", desc := "(I)Z" } : Jvm.MethodName)) ∈ lw_all := lw_g (lw_at lw_m1 131 rfl) rfl
theorem q160 : (Jvm.Cond.privateMethod ({ cls := "PersistentBars", name := "isEven", desc := "(I)Z" } : Jvm.MethodName)) ∈ lw_tbl := lw_at lw_m1 132 rfl
theorem q161 : (Jvm.Cond.instanceMethod ({ cls := "PersistentBars", name := "isEven", desc := "(I)Z" } : Jvm.MethodName)) ∈ lw_all := lw_g (lw_at lw_m1 133 rfl) rfl
theorem q162 : (Jvm.Cond.code ({ cls := "PersistentBars", name := "isEven", desc := "(I)Z" } : Jvm.MethodName) prog_1_method_25_code (5 : Nat) (Option.some Jvm.ClassFile.FieldType.boolean)) ∈ lw_all := lw_g (lw_at lw_m1 134 rfl) rfl
theorem q163 : (Jvm.Cond.methodLink "PersistentBars" (63 : Nat) ({ cls := "PersistentBars", name := "borderOf", desc := "(I)I" } : Jvm.MethodName)) ∈ lw_all := lw_g (lw_at lw_m1 135 rfl) rfl
theorem q164 : (Jvm.Cond.privateMethod ({ cls := "PersistentBars", name := "borderOf", desc := "(I)I" } : Jvm.MethodName)) ∈ lw_tbl := lw_at lw_m1 136 rfl
theorem q165 : (Jvm.Cond.instanceMethod ({ cls := "PersistentBars", name := "borderOf", desc := "(I)I" } : Jvm.MethodName)) ∈ lw_all := lw_g (lw_at lw_m1 137 rfl) rfl
theorem q166 : (Jvm.Cond.code ({ cls := "PersistentBars", name := "borderOf", desc := "(I)I" } : Jvm.MethodName) prog_1_method_26_code (4 : Nat) (Option.some Jvm.ClassFile.FieldType.int)) ∈ lw_all := lw_g (lw_at lw_m1 138 rfl) rfl
theorem q168 : (Jvm.Cond.instanceMethod ({ cls := "PersistentBars", name := "bounds", desc := "(I)I" } : Jvm.MethodName)) ∈ lw_all := lw_g (lw_at lw_m1 140 rfl) rfl
theorem q169 : (Jvm.Cond.selects "PersistentBars" ({ cls := "PersistentBars", name := "bounds", desc := "(I)I" } : Jvm.MethodName) ({ cls := "PersistentBars", name := "bounds", desc := "(I)I" } : Jvm.MethodName)) ∈ lw_all := lw_g (lw_at lw_m1 141 rfl) rfl
theorem q170 : (Jvm.Cond.code ({ cls := "PersistentBars", name := "bounds", desc := "(I)I" } : Jvm.MethodName) prog_1_method_16_code (4 : Nat) (Option.some Jvm.ClassFile.FieldType.int)) ∈ lw_all := lw_g (lw_at lw_m1 142 rfl) rfl
theorem in_X0 : ∀ w ∈ wsX00, w ∈ lw_all := lw_in wsX00 [46, 48, 50, 52, 54, 56, 58] (by decide +kernel) (by decide +kernel)
end
section
/-! PersistentBarsModel -/
set_option maxRecDepth 100000
def RX1 : String := "PersistentBarsModel"
def TX1 : u_T := fun k => match k with
  | 0 => ("PersistentBarsModel", "count", "I", false)
  | 1 => ("PersistentBarsModel", "pieces", "[I", false)
  | _ => ("PersistentBarsModel", "column", "[I", false)
def tyX1 : Nat → FieldType := fun k => match k with
  | 0 => .int
  | 1 => .array .int
  | _ => .array .int
abbrev wsX10 : List Cond := u_ws RX1 TX1 3
theorem nmX1 : ∀ a, a < 3 → ∀ b, b < 3 → a ≠ b → (TX1 a).2.1 ≠ (TX1 b).2.1 := by decide +kernel
theorem tyX1_ok : ∀ k, k < 3 → parseFieldDescriptor (TX1 k).2.2.1 = some (tyX1 k) := by decide +kernel
abbrev cX1_init : ByteArray := prog_3_method_1_code
def yX1_init : MethodName := ⟨RX1, "<init>", "()V"⟩
theorem dX1_init_0 : decode cX1_init 0 = .ok (.aload_n 0, 1) := by decide +kernel
theorem dX1_init_1 : decode cX1_init 1 = .ok (.invokespecial 1, 3) := by decide +kernel
theorem dX1_init_4 : decode cX1_init 4 = .ok (.aload_n 0, 1) := by decide +kernel
theorem dX1_init_5 : decode cX1_init 5 = .ok (.bipush 26, 2) := by decide +kernel
theorem dX1_init_7 : decode cX1_init 7 = .ok (.newarray .int, 2) := by decide +kernel
theorem dX1_init_9 : decode cX1_init 9 = .ok (.putfield 7, 3) := by decide +kernel
theorem dX1_init_12 : decode cX1_init 12 = .ok (.aload_n 0, 1) := by decide +kernel
theorem dX1_init_13 : decode cX1_init 13 = .ok (.bipush 26, 2) := by decide +kernel
theorem dX1_init_15 : decode cX1_init 15 = .ok (.newarray .int, 2) := by decide +kernel
theorem dX1_init_17 : decode cX1_init 17 = .ok (.putfield 13, 3) := by decide +kernel
theorem dX1_init_20 : decode cX1_init 20 = .ok (.return_, 1) := by decide +kernel
abbrev cX1_add : ByteArray := prog_3_method_7_code
def yX1_add : MethodName := ⟨RX1, "add", "(I)I"⟩
theorem dX1_add_0 : decode cX1_add 0 = .ok (.aload_n 0, 1) := by decide +kernel
theorem dX1_add_1 : decode cX1_add 1 = .ok (.iload_n 1, 1) := by decide +kernel
theorem dX1_add_2 : decode cX1_add 2 = .ok (.invokevirtual 27, 3) := by decide +kernel
theorem dX1_add_5 : decode cX1_add 5 = .ok (.ifCond .eq 5, 3) := by decide +kernel
theorem dX1_add_8 : decode cX1_add 8 = .ok (.iconst (-1), 1) := by decide +kernel
theorem dX1_add_9 : decode cX1_add 9 = .ok (.ireturn, 1) := by decide +kernel
theorem dX1_add_10 : decode cX1_add 10 = .ok (.aload_n 0, 1) := by decide +kernel
theorem dX1_add_11 : decode cX1_add 11 = .ok (.iload_n 1, 1) := by decide +kernel
theorem dX1_add_12 : decode cX1_add 12 = .ok (.invokevirtual 24, 3) := by decide +kernel
theorem dX1_add_15 : decode cX1_add 15 = .ok (.ifCond .lt 6, 3) := by decide +kernel
theorem dX1_add_18 : decode cX1_add 18 = .ok (.bipush (-2), 2) := by decide +kernel
theorem dX1_add_20 : decode cX1_add 20 = .ok (.ireturn, 1) := by decide +kernel
theorem dX1_add_21 : decode cX1_add 21 = .ok (.aload_n 0, 1) := by decide +kernel
theorem dX1_add_22 : decode cX1_add 22 = .ok (.iload_n 1, 1) := by decide +kernel
theorem dX1_add_23 : decode cX1_add 23 = .ok (.invokevirtual 31, 3) := by decide +kernel
theorem dX1_add_26 : decode cX1_add 26 = .ok (.ifCond .ne 6, 3) := by decide +kernel
theorem dX1_add_29 : decode cX1_add 29 = .ok (.bipush (-3), 2) := by decide +kernel
theorem dX1_add_31 : decode cX1_add 31 = .ok (.ireturn, 1) := by decide +kernel
theorem dX1_add_32 : decode cX1_add 32 = .ok (.aload_n 0, 1) := by decide +kernel
theorem dX1_add_33 : decode cX1_add 33 = .ok (.iload_n 1, 1) := by decide +kernel
theorem dX1_add_34 : decode cX1_add 34 = .ok (.invokevirtual 34, 3) := by decide +kernel
theorem dX1_add_37 : decode cX1_add 37 = .ok (.ireturn, 1) := by decide +kernel
abbrev cX1_badPiece : ByteArray := prog_3_method_3_code
def yX1_badPiece : MethodName := ⟨RX1, "badPiece", "(I)Z"⟩
theorem dX1_badPiece_0 : decode cX1_badPiece 0 = .ok (.iload_n 1, 1) := by decide +kernel
theorem dX1_badPiece_1 : decode cX1_badPiece 1 = .ok (.iconst 1, 1) := by decide +kernel
theorem dX1_badPiece_2 : decode cX1_badPiece 2 = .ok (.if_icmp .lt 18, 3) := by decide +kernel
theorem dX1_badPiece_5 : decode cX1_badPiece 5 = .ok (.iload_n 1, 1) := by decide +kernel
theorem dX1_badPiece_6 : decode cX1_badPiece 6 = .ok (.bipush 63, 2) := by decide +kernel
theorem dX1_badPiece_8 : decode cX1_badPiece 8 = .ok (.if_icmp .gt 12, 3) := by decide +kernel
theorem dX1_badPiece_11 : decode cX1_badPiece 11 = .ok (.aload_n 0, 1) := by decide +kernel
theorem dX1_badPiece_12 : decode cX1_badPiece 12 = .ok (.iload_n 1, 1) := by decide +kernel
theorem dX1_badPiece_13 : decode cX1_badPiece 13 = .ok (.invokevirtual 16, 3) := by decide +kernel
theorem dX1_badPiece_16 : decode cX1_badPiece 16 = .ok (.iconst 4, 1) := by decide +kernel
theorem dX1_badPiece_17 : decode cX1_badPiece 17 = .ok (.if_icmp .le 7, 3) := by decide +kernel
theorem dX1_badPiece_20 : decode cX1_badPiece 20 = .ok (.iconst 1, 1) := by decide +kernel
theorem dX1_badPiece_21 : decode cX1_badPiece 21 = .ok (.goto 4, 3) := by decide +kernel
theorem dX1_badPiece_24 : decode cX1_badPiece 24 = .ok (.iconst 0, 1) := by decide +kernel
theorem dX1_badPiece_25 : decode cX1_badPiece 25 = .ok (.ireturn, 1) := by decide +kernel
abbrev cX1_points : ByteArray := prog_3_method_2_code
def yX1_points : MethodName := ⟨RX1, "points", "(I)I"⟩
theorem dX1_points_0 : decode cX1_points 0 = .ok (.iconst 0, 1) := by decide +kernel
theorem dX1_points_1 : decode cX1_points 1 = .ok (.istore_n 2, 1) := by decide +kernel
theorem dX1_points_2 : decode cX1_points 2 = .ok (.iconst 0, 1) := by decide +kernel
theorem dX1_points_3 : decode cX1_points 3 = .ok (.istore_n 3, 1) := by decide +kernel
theorem dX1_points_4 : decode cX1_points 4 = .ok (.iload_n 3, 1) := by decide +kernel
theorem dX1_points_5 : decode cX1_points 5 = .ok (.bipush 6, 2) := by decide +kernel
theorem dX1_points_7 : decode cX1_points 7 = .ok (.if_icmp .ge 17, 3) := by decide +kernel
theorem dX1_points_10 : decode cX1_points 10 = .ok (.iload_n 2, 1) := by decide +kernel
theorem dX1_points_11 : decode cX1_points 11 = .ok (.iload_n 1, 1) := by decide +kernel
theorem dX1_points_12 : decode cX1_points 12 = .ok (.iload_n 3, 1) := by decide +kernel
theorem dX1_points_13 : decode cX1_points 13 = .ok (.ishr, 1) := by decide +kernel
theorem dX1_points_14 : decode cX1_points 14 = .ok (.iconst 1, 1) := by decide +kernel
theorem dX1_points_15 : decode cX1_points 15 = .ok (.iand, 1) := by decide +kernel
theorem dX1_points_16 : decode cX1_points 16 = .ok (.iadd, 1) := by decide +kernel
theorem dX1_points_17 : decode cX1_points 17 = .ok (.istore_n 2, 1) := by decide +kernel
theorem dX1_points_18 : decode cX1_points 18 = .ok (.iinc 3 1, 3) := by decide +kernel
theorem dX1_points_21 : decode cX1_points 21 = .ok (.goto (-17), 3) := by decide +kernel
theorem dX1_points_24 : decode cX1_points 24 = .ok (.iload_n 2, 1) := by decide +kernel
theorem dX1_points_25 : decode cX1_points 25 = .ok (.ireturn, 1) := by decide +kernel
abbrev cX1_find : ByteArray := prog_3_method_4_code
def yX1_find : MethodName := ⟨RX1, "find", "(I)I"⟩
theorem dX1_find_0 : decode cX1_find 0 = .ok (.iconst 0, 1) := by decide +kernel
theorem dX1_find_1 : decode cX1_find 1 = .ok (.istore_n 2, 1) := by decide +kernel
theorem dX1_find_2 : decode cX1_find 2 = .ok (.iload_n 2, 1) := by decide +kernel
theorem dX1_find_3 : decode cX1_find 3 = .ok (.aload_n 0, 1) := by decide +kernel
theorem dX1_find_4 : decode cX1_find 4 = .ok (.getfield 20, 3) := by decide +kernel
theorem dX1_find_7 : decode cX1_find 7 = .ok (.if_icmp .ge 27, 3) := by decide +kernel
theorem dX1_find_10 : decode cX1_find 10 = .ok (.iload_n 2, 1) := by decide +kernel
theorem dX1_find_11 : decode cX1_find 11 = .ok (.bipush 26, 2) := by decide +kernel
theorem dX1_find_13 : decode cX1_find 13 = .ok (.if_icmp .ge 21, 3) := by decide +kernel
theorem dX1_find_16 : decode cX1_find 16 = .ok (.aload_n 0, 1) := by decide +kernel
theorem dX1_find_17 : decode cX1_find 17 = .ok (.getfield 7, 3) := by decide +kernel
theorem dX1_find_20 : decode cX1_find 20 = .ok (.iload_n 2, 1) := by decide +kernel
theorem dX1_find_21 : decode cX1_find 21 = .ok (.iaload, 1) := by decide +kernel
theorem dX1_find_22 : decode cX1_find 22 = .ok (.iload_n 1, 1) := by decide +kernel
theorem dX1_find_23 : decode cX1_find 23 = .ok (.if_icmp .ne 5, 3) := by decide +kernel
theorem dX1_find_26 : decode cX1_find 26 = .ok (.iload_n 2, 1) := by decide +kernel
theorem dX1_find_27 : decode cX1_find 27 = .ok (.ireturn, 1) := by decide +kernel
theorem dX1_find_28 : decode cX1_find 28 = .ok (.iinc 2 1, 3) := by decide +kernel
theorem dX1_find_31 : decode cX1_find 31 = .ok (.goto (-29), 3) := by decide +kernel
theorem dX1_find_34 : decode cX1_find 34 = .ok (.iconst (-1), 1) := by decide +kernel
theorem dX1_find_35 : decode cX1_find 35 = .ok (.ireturn, 1) := by decide +kernel
abbrev cX1_sidesThere : ByteArray := prog_3_method_5_code
def yX1_sidesThere : MethodName := ⟨RX1, "sidesThere", "(I)Z"⟩
theorem dX1_sidesThere_0 : decode cX1_sidesThere 0 = .ok (.aload_n 0, 1) := by decide +kernel
theorem dX1_sidesThere_1 : decode cX1_sidesThere 1 = .ok (.iload_n 1, 1) := by decide +kernel
theorem dX1_sidesThere_2 : decode cX1_sidesThere 2 = .ok (.invokevirtual 16, 3) := by decide +kernel
theorem dX1_sidesThere_5 : decode cX1_sidesThere 5 = .ok (.iconst 1, 1) := by decide +kernel
theorem dX1_sidesThere_6 : decode cX1_sidesThere 6 = .ok (.if_icmp .ne 5, 3) := by decide +kernel
theorem dX1_sidesThere_9 : decode cX1_sidesThere 9 = .ok (.iconst 1, 1) := by decide +kernel
theorem dX1_sidesThere_10 : decode cX1_sidesThere 10 = .ok (.ireturn, 1) := by decide +kernel
theorem dX1_sidesThere_11 : decode cX1_sidesThere 11 = .ok (.iconst 0, 1) := by decide +kernel
theorem dX1_sidesThere_12 : decode cX1_sidesThere 12 = .ok (.istore_n 2, 1) := by decide +kernel
theorem dX1_sidesThere_13 : decode cX1_sidesThere 13 = .ok (.iload_n 2, 1) := by decide +kernel
theorem dX1_sidesThere_14 : decode cX1_sidesThere 14 = .ok (.bipush 6, 2) := by decide +kernel
theorem dX1_sidesThere_16 : decode cX1_sidesThere 16 = .ok (.if_icmp .ge 34, 3) := by decide +kernel
theorem dX1_sidesThere_19 : decode cX1_sidesThere 19 = .ok (.iload_n 1, 1) := by decide +kernel
theorem dX1_sidesThere_20 : decode cX1_sidesThere 20 = .ok (.iload_n 2, 1) := by decide +kernel
theorem dX1_sidesThere_21 : decode cX1_sidesThere 21 = .ok (.ishr, 1) := by decide +kernel
theorem dX1_sidesThere_22 : decode cX1_sidesThere 22 = .ok (.iconst 1, 1) := by decide +kernel
theorem dX1_sidesThere_23 : decode cX1_sidesThere 23 = .ok (.iand, 1) := by decide +kernel
theorem dX1_sidesThere_24 : decode cX1_sidesThere 24 = .ok (.iconst 1, 1) := by decide +kernel
theorem dX1_sidesThere_25 : decode cX1_sidesThere 25 = .ok (.if_icmp .ne 19, 3) := by decide +kernel
theorem dX1_sidesThere_28 : decode cX1_sidesThere 28 = .ok (.aload_n 0, 1) := by decide +kernel
theorem dX1_sidesThere_29 : decode cX1_sidesThere 29 = .ok (.iload_n 1, 1) := by decide +kernel
theorem dX1_sidesThere_30 : decode cX1_sidesThere 30 = .ok (.iconst 1, 1) := by decide +kernel
theorem dX1_sidesThere_31 : decode cX1_sidesThere 31 = .ok (.iload_n 2, 1) := by decide +kernel
theorem dX1_sidesThere_32 : decode cX1_sidesThere 32 = .ok (.ishl, 1) := by decide +kernel
theorem dX1_sidesThere_33 : decode cX1_sidesThere 33 = .ok (.iconst (-1), 1) := by decide +kernel
theorem dX1_sidesThere_34 : decode cX1_sidesThere 34 = .ok (.ixor, 1) := by decide +kernel
theorem dX1_sidesThere_35 : decode cX1_sidesThere 35 = .ok (.iand, 1) := by decide +kernel
theorem dX1_sidesThere_36 : decode cX1_sidesThere 36 = .ok (.invokevirtual 24, 3) := by decide +kernel
theorem dX1_sidesThere_39 : decode cX1_sidesThere 39 = .ok (.ifCond .ge 5, 3) := by decide +kernel
theorem dX1_sidesThere_42 : decode cX1_sidesThere 42 = .ok (.iconst 0, 1) := by decide +kernel
theorem dX1_sidesThere_43 : decode cX1_sidesThere 43 = .ok (.ireturn, 1) := by decide +kernel
theorem dX1_sidesThere_44 : decode cX1_sidesThere 44 = .ok (.iinc 2 1, 3) := by decide +kernel
theorem dX1_sidesThere_47 : decode cX1_sidesThere 47 = .ok (.goto (-34), 3) := by decide +kernel
theorem dX1_sidesThere_50 : decode cX1_sidesThere 50 = .ok (.iconst 1, 1) := by decide +kernel
theorem dX1_sidesThere_51 : decode cX1_sidesThere 51 = .ok (.ireturn, 1) := by decide +kernel
abbrev cX1_put : ByteArray := prog_3_method_6_code
def yX1_put : MethodName := ⟨RX1, "put", "(I)I"⟩
theorem dX1_put_0 : decode cX1_put 0 = .ok (.aload_n 0, 1) := by decide +kernel
theorem dX1_put_1 : decode cX1_put 1 = .ok (.getfield 20, 3) := by decide +kernel
theorem dX1_put_4 : decode cX1_put 4 = .ok (.istore_n 2, 1) := by decide +kernel
theorem dX1_put_5 : decode cX1_put 5 = .ok (.iload_n 2, 1) := by decide +kernel
theorem dX1_put_6 : decode cX1_put 6 = .ok (.bipush 25, 2) := by decide +kernel
theorem dX1_put_8 : decode cX1_put 8 = .ok (.if_icmp .le 6, 3) := by decide +kernel
theorem dX1_put_11 : decode cX1_put 11 = .ok (.bipush (-4), 2) := by decide +kernel
theorem dX1_put_13 : decode cX1_put 13 = .ok (.ireturn, 1) := by decide +kernel
theorem dX1_put_14 : decode cX1_put 14 = .ok (.aload_n 0, 1) := by decide +kernel
theorem dX1_put_15 : decode cX1_put 15 = .ok (.getfield 7, 3) := by decide +kernel
theorem dX1_put_18 : decode cX1_put 18 = .ok (.iload_n 2, 1) := by decide +kernel
theorem dX1_put_19 : decode cX1_put 19 = .ok (.iload_n 1, 1) := by decide +kernel
theorem dX1_put_20 : decode cX1_put 20 = .ok (.iastore, 1) := by decide +kernel
theorem dX1_put_21 : decode cX1_put 21 = .ok (.aload_n 0, 1) := by decide +kernel
theorem dX1_put_22 : decode cX1_put 22 = .ok (.iload_n 2, 1) := by decide +kernel
theorem dX1_put_23 : decode cX1_put 23 = .ok (.iconst 1, 1) := by decide +kernel
theorem dX1_put_24 : decode cX1_put 24 = .ok (.iadd, 1) := by decide +kernel
theorem dX1_put_25 : decode cX1_put 25 = .ok (.putfield 20, 3) := by decide +kernel
theorem dX1_put_28 : decode cX1_put 28 = .ok (.iload_n 2, 1) := by decide +kernel
theorem dX1_put_29 : decode cX1_put 29 = .ok (.ireturn, 1) := by decide +kernel
abbrev cX1_fill : ByteArray := prog_3_method_8_code
def yX1_fill : MethodName := ⟨RX1, "fill", "(I)I"⟩
theorem dX1_fill_0 : decode cX1_fill 0 = .ok (.aload_n 0, 1) := by decide +kernel
theorem dX1_fill_1 : decode cX1_fill 1 = .ok (.iload_n 1, 1) := by decide +kernel
theorem dX1_fill_2 : decode cX1_fill 2 = .ok (.invokevirtual 27, 3) := by decide +kernel
theorem dX1_fill_5 : decode cX1_fill 5 = .ok (.ifCond .eq 5, 3) := by decide +kernel
theorem dX1_fill_8 : decode cX1_fill 8 = .ok (.iconst (-1), 1) := by decide +kernel
theorem dX1_fill_9 : decode cX1_fill 9 = .ok (.ireturn, 1) := by decide +kernel
theorem dX1_fill_10 : decode cX1_fill 10 = .ok (.iconst 0, 1) := by decide +kernel
theorem dX1_fill_11 : decode cX1_fill 11 = .ok (.istore_n 2, 1) := by decide +kernel
theorem dX1_fill_12 : decode cX1_fill 12 = .ok (.iconst 1, 1) := by decide +kernel
theorem dX1_fill_13 : decode cX1_fill 13 = .ok (.istore_n 3, 1) := by decide +kernel
theorem dX1_fill_14 : decode cX1_fill 14 = .ok (.iload_n 3, 1) := by decide +kernel
theorem dX1_fill_15 : decode cX1_fill 15 = .ok (.bipush 64, 2) := by decide +kernel
theorem dX1_fill_17 : decode cX1_fill 17 = .ok (.if_icmp .ge 27, 3) := by decide +kernel
theorem dX1_fill_20 : decode cX1_fill 20 = .ok (.iload_n 3, 1) := by decide +kernel
theorem dX1_fill_21 : decode cX1_fill 21 = .ok (.iload_n 1, 1) := by decide +kernel
theorem dX1_fill_22 : decode cX1_fill 22 = .ok (.iand, 1) := by decide +kernel
theorem dX1_fill_23 : decode cX1_fill 23 = .ok (.iload_n 3, 1) := by decide +kernel
theorem dX1_fill_24 : decode cX1_fill 24 = .ok (.if_icmp .ne 14, 3) := by decide +kernel
theorem dX1_fill_27 : decode cX1_fill 27 = .ok (.aload_n 0, 1) := by decide +kernel
theorem dX1_fill_28 : decode cX1_fill 28 = .ok (.iload_n 3, 1) := by decide +kernel
theorem dX1_fill_29 : decode cX1_fill 29 = .ok (.invokevirtual 24, 3) := by decide +kernel
theorem dX1_fill_32 : decode cX1_fill 32 = .ok (.ifCond .ge 6, 3) := by decide +kernel
theorem dX1_fill_35 : decode cX1_fill 35 = .ok (.iinc 2 1, 3) := by decide +kernel
theorem dX1_fill_38 : decode cX1_fill 38 = .ok (.iinc 3 1, 3) := by decide +kernel
theorem dX1_fill_41 : decode cX1_fill 41 = .ok (.goto (-27), 3) := by decide +kernel
theorem dX1_fill_44 : decode cX1_fill 44 = .ok (.aload_n 0, 1) := by decide +kernel
theorem dX1_fill_45 : decode cX1_fill 45 = .ok (.getfield 20, 3) := by decide +kernel
theorem dX1_fill_48 : decode cX1_fill 48 = .ok (.iload_n 2, 1) := by decide +kernel
theorem dX1_fill_49 : decode cX1_fill 49 = .ok (.iadd, 1) := by decide +kernel
theorem dX1_fill_50 : decode cX1_fill 50 = .ok (.bipush 26, 2) := by decide +kernel
theorem dX1_fill_52 : decode cX1_fill 52 = .ok (.if_icmp .le 6, 3) := by decide +kernel
theorem dX1_fill_55 : decode cX1_fill 55 = .ok (.bipush (-2), 2) := by decide +kernel
theorem dX1_fill_57 : decode cX1_fill 57 = .ok (.ireturn, 1) := by decide +kernel
theorem dX1_fill_58 : decode cX1_fill 58 = .ok (.iconst 1, 1) := by decide +kernel
theorem dX1_fill_59 : decode cX1_fill 59 = .ok (.istore_n 3, 1) := by decide +kernel
theorem dX1_fill_60 : decode cX1_fill 60 = .ok (.iload_n 3, 1) := by decide +kernel
theorem dX1_fill_61 : decode cX1_fill 61 = .ok (.bipush 64, 2) := by decide +kernel
theorem dX1_fill_63 : decode cX1_fill 63 = .ok (.if_icmp .ge 30, 3) := by decide +kernel
theorem dX1_fill_66 : decode cX1_fill 66 = .ok (.iload_n 3, 1) := by decide +kernel
theorem dX1_fill_67 : decode cX1_fill 67 = .ok (.iload_n 1, 1) := by decide +kernel
theorem dX1_fill_68 : decode cX1_fill 68 = .ok (.iand, 1) := by decide +kernel
theorem dX1_fill_69 : decode cX1_fill 69 = .ok (.iload_n 3, 1) := by decide +kernel
theorem dX1_fill_70 : decode cX1_fill 70 = .ok (.if_icmp .ne 17, 3) := by decide +kernel
theorem dX1_fill_73 : decode cX1_fill 73 = .ok (.aload_n 0, 1) := by decide +kernel
theorem dX1_fill_74 : decode cX1_fill 74 = .ok (.iload_n 3, 1) := by decide +kernel
theorem dX1_fill_75 : decode cX1_fill 75 = .ok (.invokevirtual 24, 3) := by decide +kernel
theorem dX1_fill_78 : decode cX1_fill 78 = .ok (.ifCond .ge 9, 3) := by decide +kernel
theorem dX1_fill_81 : decode cX1_fill 81 = .ok (.aload_n 0, 1) := by decide +kernel
theorem dX1_fill_82 : decode cX1_fill 82 = .ok (.iload_n 3, 1) := by decide +kernel
theorem dX1_fill_83 : decode cX1_fill 83 = .ok (.invokevirtual 34, 3) := by decide +kernel
theorem dX1_fill_86 : decode cX1_fill 86 = .ok (.pop, 1) := by decide +kernel
theorem dX1_fill_87 : decode cX1_fill 87 = .ok (.iinc 3 1, 3) := by decide +kernel
theorem dX1_fill_90 : decode cX1_fill 90 = .ok (.goto (-30), 3) := by decide +kernel
theorem dX1_fill_93 : decode cX1_fill 93 = .ok (.aload_n 0, 1) := by decide +kernel
theorem dX1_fill_94 : decode cX1_fill 94 = .ok (.getfield 20, 3) := by decide +kernel
theorem dX1_fill_97 : decode cX1_fill 97 = .ok (.ireturn, 1) := by decide +kernel
abbrev cX1_undo : ByteArray := prog_3_method_9_code
def yX1_undo : MethodName := ⟨RX1, "undo", "()I"⟩
theorem dX1_undo_0 : decode cX1_undo 0 = .ok (.aload_n 0, 1) := by decide +kernel
theorem dX1_undo_1 : decode cX1_undo 1 = .ok (.getfield 20, 3) := by decide +kernel
theorem dX1_undo_4 : decode cX1_undo 4 = .ok (.ifCond .ne 5, 3) := by decide +kernel
theorem dX1_undo_7 : decode cX1_undo 7 = .ok (.iconst (-1), 1) := by decide +kernel
theorem dX1_undo_8 : decode cX1_undo 8 = .ok (.ireturn, 1) := by decide +kernel
theorem dX1_undo_9 : decode cX1_undo 9 = .ok (.aload_n 0, 1) := by decide +kernel
theorem dX1_undo_10 : decode cX1_undo 10 = .ok (.dup, 1) := by decide +kernel
theorem dX1_undo_11 : decode cX1_undo 11 = .ok (.getfield 20, 3) := by decide +kernel
theorem dX1_undo_14 : decode cX1_undo 14 = .ok (.iconst 1, 1) := by decide +kernel
theorem dX1_undo_15 : decode cX1_undo 15 = .ok (.isub, 1) := by decide +kernel
theorem dX1_undo_16 : decode cX1_undo 16 = .ok (.putfield 20, 3) := by decide +kernel
theorem dX1_undo_19 : decode cX1_undo 19 = .ok (.aload_n 0, 1) := by decide +kernel
theorem dX1_undo_20 : decode cX1_undo 20 = .ok (.getfield 7, 3) := by decide +kernel
theorem dX1_undo_23 : decode cX1_undo 23 = .ok (.aload_n 0, 1) := by decide +kernel
theorem dX1_undo_24 : decode cX1_undo 24 = .ok (.getfield 20, 3) := by decide +kernel
theorem dX1_undo_27 : decode cX1_undo 27 = .ok (.iaload, 1) := by decide +kernel
theorem dX1_undo_28 : decode cX1_undo 28 = .ok (.ireturn, 1) := by decide +kernel
abbrev cX1_size : ByteArray := prog_3_method_10_code
def yX1_size : MethodName := ⟨RX1, "size", "()I"⟩
theorem dX1_size_0 : decode cX1_size 0 = .ok (.aload_n 0, 1) := by decide +kernel
theorem dX1_size_1 : decode cX1_size 1 = .ok (.getfield 20, 3) := by decide +kernel
theorem dX1_size_4 : decode cX1_size 4 = .ok (.ireturn, 1) := by decide +kernel
abbrev cX1_piece : ByteArray := prog_3_method_12_code
def yX1_piece : MethodName := ⟨RX1, "piece", "(I)I"⟩
theorem dX1_piece_0 : decode cX1_piece 0 = .ok (.aload_n 0, 1) := by decide +kernel
theorem dX1_piece_1 : decode cX1_piece 1 = .ok (.iload_n 1, 1) := by decide +kernel
theorem dX1_piece_2 : decode cX1_piece 2 = .ok (.invokevirtual 37, 3) := by decide +kernel
theorem dX1_piece_5 : decode cX1_piece 5 = .ok (.ifCond .eq 7, 3) := by decide +kernel
theorem dX1_piece_8 : decode cX1_piece 8 = .ok (.iconst (-1), 1) := by decide +kernel
theorem dX1_piece_9 : decode cX1_piece 9 = .ok (.goto 9, 3) := by decide +kernel
theorem dX1_piece_12 : decode cX1_piece 12 = .ok (.aload_n 0, 1) := by decide +kernel
theorem dX1_piece_13 : decode cX1_piece 13 = .ok (.getfield 7, 3) := by decide +kernel
theorem dX1_piece_16 : decode cX1_piece 16 = .ok (.iload_n 1, 1) := by decide +kernel
theorem dX1_piece_17 : decode cX1_piece 17 = .ok (.iaload, 1) := by decide +kernel
theorem dX1_piece_18 : decode cX1_piece 18 = .ok (.ireturn, 1) := by decide +kernel
abbrev cX1_bad : ByteArray := prog_3_method_11_code
def yX1_bad : MethodName := ⟨RX1, "bad", "(I)Z"⟩
theorem dX1_bad_0 : decode cX1_bad 0 = .ok (.iload_n 1, 1) := by decide +kernel
theorem dX1_bad_1 : decode cX1_bad 1 = .ok (.ifCond .lt 17, 3) := by decide +kernel
theorem dX1_bad_4 : decode cX1_bad 4 = .ok (.iload_n 1, 1) := by decide +kernel
theorem dX1_bad_5 : decode cX1_bad 5 = .ok (.aload_n 0, 1) := by decide +kernel
theorem dX1_bad_6 : decode cX1_bad 6 = .ok (.getfield 20, 3) := by decide +kernel
theorem dX1_bad_9 : decode cX1_bad 9 = .ok (.if_icmp .ge 9, 3) := by decide +kernel
theorem dX1_bad_12 : decode cX1_bad 12 = .ok (.iload_n 1, 1) := by decide +kernel
theorem dX1_bad_13 : decode cX1_bad 13 = .ok (.bipush 25, 2) := by decide +kernel
theorem dX1_bad_15 : decode cX1_bad 15 = .ok (.if_icmp .le 7, 3) := by decide +kernel
theorem dX1_bad_18 : decode cX1_bad 18 = .ok (.iconst 1, 1) := by decide +kernel
theorem dX1_bad_19 : decode cX1_bad 19 = .ok (.goto 4, 3) := by decide +kernel
theorem dX1_bad_22 : decode cX1_bad 22 = .ok (.iconst 0, 1) := by decide +kernel
theorem dX1_bad_23 : decode cX1_bad 23 = .ok (.ireturn, 1) := by decide +kernel
abbrev cX1_pieces : ByteArray := prog_3_method_17_code
def yX1_pieces : MethodName := ⟨RX1, "pieces", "(II)I"⟩
theorem dX1_pieces_0 : decode cX1_pieces 0 = .ok (.aload_n 0, 1) := by decide +kernel
theorem dX1_pieces_1 : decode cX1_pieces 1 = .ok (.iload_n 1, 1) := by decide +kernel
theorem dX1_pieces_2 : decode cX1_pieces 2 = .ok (.invokevirtual 43, 3) := by decide +kernel
theorem dX1_pieces_5 : decode cX1_pieces 5 = .ok (.ifCond .eq 5, 3) := by decide +kernel
theorem dX1_pieces_8 : decode cX1_pieces 8 = .ok (.iconst (-1), 1) := by decide +kernel
theorem dX1_pieces_9 : decode cX1_pieces 9 = .ok (.ireturn, 1) := by decide +kernel
theorem dX1_pieces_10 : decode cX1_pieces 10 = .ok (.aload_n 0, 1) := by decide +kernel
theorem dX1_pieces_11 : decode cX1_pieces 11 = .ok (.iload_n 2, 1) := by decide +kernel
theorem dX1_pieces_12 : decode cX1_pieces 12 = .ok (.invokevirtual 46, 3) := by decide +kernel
theorem dX1_pieces_15 : decode cX1_pieces 15 = .ok (.ifCond .eq 8, 3) := by decide +kernel
theorem dX1_pieces_18 : decode cX1_pieces 18 = .ok (.bipush (-2), 2) := by decide +kernel
theorem dX1_pieces_20 : decode cX1_pieces 20 = .ok (.goto 9, 3) := by decide +kernel
theorem dX1_pieces_23 : decode cX1_pieces 23 = .ok (.aload_n 0, 1) := by decide +kernel
theorem dX1_pieces_24 : decode cX1_pieces 24 = .ok (.iload_n 1, 1) := by decide +kernel
theorem dX1_pieces_25 : decode cX1_pieces 25 = .ok (.iload_n 2, 1) := by decide +kernel
theorem dX1_pieces_26 : decode cX1_pieces 26 = .ok (.invokevirtual 49, 3) := by decide +kernel
theorem dX1_pieces_29 : decode cX1_pieces 29 = .ok (.ireturn, 1) := by decide +kernel
abbrev cX1_badTime : ByteArray := prog_3_method_14_code
def yX1_badTime : MethodName := ⟨RX1, "badTime", "(I)Z"⟩
theorem dX1_badTime_0 : decode cX1_badTime 0 = .ok (.iload_n 1, 1) := by decide +kernel
theorem dX1_badTime_1 : decode cX1_badTime 1 = .ok (.ifCond .lt 11, 3) := by decide +kernel
theorem dX1_badTime_4 : decode cX1_badTime 4 = .ok (.iload_n 1, 1) := by decide +kernel
theorem dX1_badTime_5 : decode cX1_badTime 5 = .ok (.aload_n 0, 1) := by decide +kernel
theorem dX1_badTime_6 : decode cX1_badTime 6 = .ok (.getfield 20, 3) := by decide +kernel
theorem dX1_badTime_9 : decode cX1_badTime 9 = .ok (.if_icmp .le 7, 3) := by decide +kernel
theorem dX1_badTime_12 : decode cX1_badTime 12 = .ok (.iconst 1, 1) := by decide +kernel
theorem dX1_badTime_13 : decode cX1_badTime 13 = .ok (.goto 4, 3) := by decide +kernel
theorem dX1_badTime_16 : decode cX1_badTime 16 = .ok (.iconst 0, 1) := by decide +kernel
theorem dX1_badTime_17 : decode cX1_badTime 17 = .ok (.ireturn, 1) := by decide +kernel
abbrev cX1_badDimension : ByteArray := prog_3_method_15_code
def yX1_badDimension : MethodName := ⟨RX1, "badDimension", "(I)Z"⟩
theorem dX1_badDimension_0 : decode cX1_badDimension 0 = .ok (.iload_n 1, 1) := by decide +kernel
theorem dX1_badDimension_1 : decode cX1_badDimension 1 = .ok (.ifCond .lt 8, 3) := by decide +kernel
theorem dX1_badDimension_4 : decode cX1_badDimension 4 = .ok (.iload_n 1, 1) := by decide +kernel
theorem dX1_badDimension_5 : decode cX1_badDimension 5 = .ok (.iconst 3, 1) := by decide +kernel
theorem dX1_badDimension_6 : decode cX1_badDimension 6 = .ok (.if_icmp .le 7, 3) := by decide +kernel
theorem dX1_badDimension_9 : decode cX1_badDimension 9 = .ok (.iconst 1, 1) := by decide +kernel
theorem dX1_badDimension_10 : decode cX1_badDimension 10 = .ok (.goto 4, 3) := by decide +kernel
theorem dX1_badDimension_13 : decode cX1_badDimension 13 = .ok (.iconst 0, 1) := by decide +kernel
theorem dX1_badDimension_14 : decode cX1_badDimension 14 = .ok (.ireturn, 1) := by decide +kernel
abbrev cX1_tally : ByteArray := prog_3_method_16_code
def yX1_tally : MethodName := ⟨RX1, "tally", "(II)I"⟩
theorem dX1_tally_0 : decode cX1_tally 0 = .ok (.iconst 0, 1) := by decide +kernel
theorem dX1_tally_1 : decode cX1_tally 1 = .ok (.istore_n 3, 1) := by decide +kernel
theorem dX1_tally_2 : decode cX1_tally 2 = .ok (.iconst 0, 1) := by decide +kernel
theorem dX1_tally_3 : decode cX1_tally 3 = .ok (.istore 4, 2) := by decide +kernel
theorem dX1_tally_5 : decode cX1_tally 5 = .ok (.iload 4, 2) := by decide +kernel
theorem dX1_tally_7 : decode cX1_tally 7 = .ok (.iload_n 1, 1) := by decide +kernel
theorem dX1_tally_8 : decode cX1_tally 8 = .ok (.if_icmp .ge 29, 3) := by decide +kernel
theorem dX1_tally_11 : decode cX1_tally 11 = .ok (.iload 4, 2) := by decide +kernel
theorem dX1_tally_13 : decode cX1_tally 13 = .ok (.bipush 26, 2) := by decide +kernel
theorem dX1_tally_15 : decode cX1_tally 15 = .ok (.if_icmp .ge 22, 3) := by decide +kernel
theorem dX1_tally_18 : decode cX1_tally 18 = .ok (.aload_n 0, 1) := by decide +kernel
theorem dX1_tally_19 : decode cX1_tally 19 = .ok (.iload 4, 2) := by decide +kernel
theorem dX1_tally_21 : decode cX1_tally 21 = .ok (.invokevirtual 40, 3) := by decide +kernel
theorem dX1_tally_24 : decode cX1_tally 24 = .ok (.iload_n 2, 1) := by decide +kernel
theorem dX1_tally_25 : decode cX1_tally 25 = .ok (.if_icmp .ne 6, 3) := by decide +kernel
theorem dX1_tally_28 : decode cX1_tally 28 = .ok (.iinc 3 1, 3) := by decide +kernel
theorem dX1_tally_31 : decode cX1_tally 31 = .ok (.iinc 4 1, 3) := by decide +kernel
theorem dX1_tally_34 : decode cX1_tally 34 = .ok (.goto (-29), 3) := by decide +kernel
theorem dX1_tally_37 : decode cX1_tally 37 = .ok (.iload_n 3, 1) := by decide +kernel
theorem dX1_tally_38 : decode cX1_tally 38 = .ok (.ireturn, 1) := by decide +kernel
abbrev cX1_dimension : ByteArray := prog_3_method_13_code
def yX1_dimension : MethodName := ⟨RX1, "dimension", "(I)I"⟩
theorem dX1_dimension_0 : decode cX1_dimension 0 = .ok (.aload_n 0, 1) := by decide +kernel
theorem dX1_dimension_1 : decode cX1_dimension 1 = .ok (.aload_n 0, 1) := by decide +kernel
theorem dX1_dimension_2 : decode cX1_dimension 2 = .ok (.getfield 7, 3) := by decide +kernel
theorem dX1_dimension_5 : decode cX1_dimension 5 = .ok (.iload_n 1, 1) := by decide +kernel
theorem dX1_dimension_6 : decode cX1_dimension 6 = .ok (.iaload, 1) := by decide +kernel
theorem dX1_dimension_7 : decode cX1_dimension 7 = .ok (.invokevirtual 16, 3) := by decide +kernel
theorem dX1_dimension_10 : decode cX1_dimension 10 = .ok (.iconst 1, 1) := by decide +kernel
theorem dX1_dimension_11 : decode cX1_dimension 11 = .ok (.isub, 1) := by decide +kernel
theorem dX1_dimension_12 : decode cX1_dimension 12 = .ok (.ireturn, 1) := by decide +kernel
abbrev cX1_holes : ByteArray := prog_3_method_21_code
def yX1_holes : MethodName := ⟨RX1, "holes", "(II)I"⟩
theorem dX1_holes_0 : decode cX1_holes 0 = .ok (.aload_n 0, 1) := by decide +kernel
theorem dX1_holes_1 : decode cX1_holes 1 = .ok (.iload_n 1, 1) := by decide +kernel
theorem dX1_holes_2 : decode cX1_holes 2 = .ok (.invokevirtual 43, 3) := by decide +kernel
theorem dX1_holes_5 : decode cX1_holes 5 = .ok (.ifCond .eq 5, 3) := by decide +kernel
theorem dX1_holes_8 : decode cX1_holes 8 = .ok (.iconst (-1), 1) := by decide +kernel
theorem dX1_holes_9 : decode cX1_holes 9 = .ok (.ireturn, 1) := by decide +kernel
theorem dX1_holes_10 : decode cX1_holes 10 = .ok (.aload_n 0, 1) := by decide +kernel
theorem dX1_holes_11 : decode cX1_holes 11 = .ok (.iload_n 2, 1) := by decide +kernel
theorem dX1_holes_12 : decode cX1_holes 12 = .ok (.invokevirtual 46, 3) := by decide +kernel
theorem dX1_holes_15 : decode cX1_holes 15 = .ok (.ifCond .eq 8, 3) := by decide +kernel
theorem dX1_holes_18 : decode cX1_holes 18 = .ok (.bipush (-2), 2) := by decide +kernel
theorem dX1_holes_20 : decode cX1_holes 20 = .ok (.goto 10, 3) := by decide +kernel
theorem dX1_holes_23 : decode cX1_holes 23 = .ok (.aload_n 0, 1) := by decide +kernel
theorem dX1_holes_24 : decode cX1_holes 24 = .ok (.iload_n 1, 1) := by decide +kernel
theorem dX1_holes_25 : decode cX1_holes 25 = .ok (.iload_n 1, 1) := by decide +kernel
theorem dX1_holes_26 : decode cX1_holes 26 = .ok (.iload_n 2, 1) := by decide +kernel
theorem dX1_holes_27 : decode cX1_holes 27 = .ok (.invokevirtual 60, 3) := by decide +kernel
theorem dX1_holes_30 : decode cX1_holes 30 = .ok (.ireturn, 1) := by decide +kernel
abbrev cX1_last : ByteArray := prog_3_method_20_code
def yX1_last : MethodName := ⟨RX1, "last", "(III)I"⟩
theorem dX1_last_0 : decode cX1_last 0 = .ok (.aload_n 0, 1) := by decide +kernel
theorem dX1_last_1 : decode cX1_last 1 = .ok (.iload_n 1, 1) := by decide +kernel
theorem dX1_last_2 : decode cX1_last 2 = .ok (.iload_n 3, 1) := by decide +kernel
theorem dX1_last_3 : decode cX1_last 3 = .ok (.invokevirtual 49, 3) := by decide +kernel
theorem dX1_last_6 : decode cX1_last 6 = .ok (.aload_n 0, 1) := by decide +kernel
theorem dX1_last_7 : decode cX1_last 7 = .ok (.iload_n 1, 1) := by decide +kernel
theorem dX1_last_8 : decode cX1_last 8 = .ok (.iload_n 3, 1) := by decide +kernel
theorem dX1_last_9 : decode cX1_last 9 = .ok (.iconst 0, 1) := by decide +kernel
theorem dX1_last_10 : decode cX1_last 10 = .ok (.invokevirtual 56, 3) := by decide +kernel
theorem dX1_last_13 : decode cX1_last 13 = .ok (.isub, 1) := by decide +kernel
theorem dX1_last_14 : decode cX1_last 14 = .ok (.istore 4, 2) := by decide +kernel
theorem dX1_last_16 : decode cX1_last 16 = .ok (.aload_n 0, 1) := by decide +kernel
theorem dX1_last_17 : decode cX1_last 17 = .ok (.iload_n 2, 1) := by decide +kernel
theorem dX1_last_18 : decode cX1_last 18 = .ok (.iload_n 3, 1) := by decide +kernel
theorem dX1_last_19 : decode cX1_last 19 = .ok (.iconst 1, 1) := by decide +kernel
theorem dX1_last_20 : decode cX1_last 20 = .ok (.iadd, 1) := by decide +kernel
theorem dX1_last_21 : decode cX1_last 21 = .ok (.iconst 0, 1) := by decide +kernel
theorem dX1_last_22 : decode cX1_last 22 = .ok (.invokevirtual 56, 3) := by decide +kernel
theorem dX1_last_25 : decode cX1_last 25 = .ok (.aload_n 0, 1) := by decide +kernel
theorem dX1_last_26 : decode cX1_last 26 = .ok (.iload_n 2, 1) := by decide +kernel
theorem dX1_last_27 : decode cX1_last 27 = .ok (.iload_n 3, 1) := by decide +kernel
theorem dX1_last_28 : decode cX1_last 28 = .ok (.iconst 1, 1) := by decide +kernel
theorem dX1_last_29 : decode cX1_last 29 = .ok (.iadd, 1) := by decide +kernel
theorem dX1_last_30 : decode cX1_last 30 = .ok (.iload_n 1, 1) := by decide +kernel
theorem dX1_last_31 : decode cX1_last 31 = .ok (.invokevirtual 56, 3) := by decide +kernel
theorem dX1_last_34 : decode cX1_last 34 = .ok (.isub, 1) := by decide +kernel
theorem dX1_last_35 : decode cX1_last 35 = .ok (.istore 5, 2) := by decide +kernel
theorem dX1_last_37 : decode cX1_last 37 = .ok (.iload 4, 2) := by decide +kernel
theorem dX1_last_39 : decode cX1_last 39 = .ok (.iload 5, 2) := by decide +kernel
theorem dX1_last_41 : decode cX1_last 41 = .ok (.isub, 1) := by decide +kernel
theorem dX1_last_42 : decode cX1_last 42 = .ok (.ireturn, 1) := by decide +kernel
abbrev cX1_rank : ByteArray := prog_3_method_19_code
def yX1_rank : MethodName := ⟨RX1, "rank", "(III)I"⟩
theorem dX1_rank_0 : decode cX1_rank 0 = .ok (.iconst 0, 1) := by decide +kernel
theorem dX1_rank_1 : decode cX1_rank 1 = .ok (.istore 4, 2) := by decide +kernel
theorem dX1_rank_3 : decode cX1_rank 3 = .ok (.iconst 0, 1) := by decide +kernel
theorem dX1_rank_4 : decode cX1_rank 4 = .ok (.istore 5, 2) := by decide +kernel
theorem dX1_rank_6 : decode cX1_rank 6 = .ok (.iload 5, 2) := by decide +kernel
theorem dX1_rank_8 : decode cX1_rank 8 = .ok (.iload_n 1, 1) := by decide +kernel
theorem dX1_rank_9 : decode cX1_rank 9 = .ok (.if_icmp .ge 109, 3) := by decide +kernel
theorem dX1_rank_12 : decode cX1_rank 12 = .ok (.iload 5, 2) := by decide +kernel
theorem dX1_rank_14 : decode cX1_rank 14 = .ok (.bipush 26, 2) := by decide +kernel
theorem dX1_rank_16 : decode cX1_rank 16 = .ok (.if_icmp .ge 102, 3) := by decide +kernel
theorem dX1_rank_19 : decode cX1_rank 19 = .ok (.aload_n 0, 1) := by decide +kernel
theorem dX1_rank_20 : decode cX1_rank 20 = .ok (.iload 5, 2) := by decide +kernel
theorem dX1_rank_22 : decode cX1_rank 22 = .ok (.invokevirtual 40, 3) := by decide +kernel
theorem dX1_rank_25 : decode cX1_rank 25 = .ok (.iload_n 2, 1) := by decide +kernel
theorem dX1_rank_26 : decode cX1_rank 26 = .ok (.if_icmp .ne 86, 3) := by decide +kernel
theorem dX1_rank_29 : decode cX1_rank 29 = .ok (.aload_n 0, 1) := by decide +kernel
theorem dX1_rank_30 : decode cX1_rank 30 = .ok (.iload 5, 2) := by decide +kernel
theorem dX1_rank_32 : decode cX1_rank 32 = .ok (.invokevirtual 53, 3) := by decide +kernel
theorem dX1_rank_35 : decode cX1_rank 35 = .ok (.iload_n 3, 1) := by decide +kernel
theorem dX1_rank_36 : decode cX1_rank 36 = .ok (.ishr, 1) := by decide +kernel
theorem dX1_rank_37 : decode cX1_rank 37 = .ok (.iload_n 3, 1) := by decide +kernel
theorem dX1_rank_38 : decode cX1_rank 38 = .ok (.ishl, 1) := by decide +kernel
theorem dX1_rank_39 : decode cX1_rank 39 = .ok (.istore 6, 2) := by decide +kernel
theorem dX1_rank_41 : decode cX1_rank 41 = .ok (.iconst 0, 1) := by decide +kernel
theorem dX1_rank_42 : decode cX1_rank 42 = .ok (.istore 7, 2) := by decide +kernel
theorem dX1_rank_44 : decode cX1_rank 44 = .ok (.iload 7, 2) := by decide +kernel
theorem dX1_rank_46 : decode cX1_rank 46 = .ok (.iload 4, 2) := by decide +kernel
theorem dX1_rank_48 : decode cX1_rank 48 = .ok (.if_icmp .ge 47, 3) := by decide +kernel
theorem dX1_rank_51 : decode cX1_rank 51 = .ok (.aload_n 0, 1) := by decide +kernel
theorem dX1_rank_52 : decode cX1_rank 52 = .ok (.getfield 13, 3) := by decide +kernel
theorem dX1_rank_55 : decode cX1_rank 55 = .ok (.iload 7, 2) := by decide +kernel
theorem dX1_rank_57 : decode cX1_rank 57 = .ok (.iaload, 1) := by decide +kernel
theorem dX1_rank_58 : decode cX1_rank 58 = .ok (.aload_n 0, 1) := by decide +kernel
theorem dX1_rank_59 : decode cX1_rank 59 = .ok (.getfield 13, 3) := by decide +kernel
theorem dX1_rank_62 : decode cX1_rank 62 = .ok (.iload 7, 2) := by decide +kernel
theorem dX1_rank_64 : decode cX1_rank 64 = .ok (.iaload, 1) := by decide +kernel
theorem dX1_rank_65 : decode cX1_rank 65 = .ok (.ineg, 1) := by decide +kernel
theorem dX1_rank_66 : decode cX1_rank 66 = .ok (.iand, 1) := by decide +kernel
theorem dX1_rank_67 : decode cX1_rank 67 = .ok (.istore 8, 2) := by decide +kernel
theorem dX1_rank_69 : decode cX1_rank 69 = .ok (.iload 6, 2) := by decide +kernel
theorem dX1_rank_71 : decode cX1_rank 71 = .ok (.iload 8, 2) := by decide +kernel
theorem dX1_rank_73 : decode cX1_rank 73 = .ok (.iand, 1) := by decide +kernel
theorem dX1_rank_74 : decode cX1_rank 74 = .ok (.ifCond .eq 15, 3) := by decide +kernel
theorem dX1_rank_77 : decode cX1_rank 77 = .ok (.iload 6, 2) := by decide +kernel
theorem dX1_rank_79 : decode cX1_rank 79 = .ok (.aload_n 0, 1) := by decide +kernel
theorem dX1_rank_80 : decode cX1_rank 80 = .ok (.getfield 13, 3) := by decide +kernel
theorem dX1_rank_83 : decode cX1_rank 83 = .ok (.iload 7, 2) := by decide +kernel
theorem dX1_rank_85 : decode cX1_rank 85 = .ok (.iaload, 1) := by decide +kernel
theorem dX1_rank_86 : decode cX1_rank 86 = .ok (.ixor, 1) := by decide +kernel
theorem dX1_rank_87 : decode cX1_rank 87 = .ok (.istore 6, 2) := by decide +kernel
theorem dX1_rank_89 : decode cX1_rank 89 = .ok (.iinc 7 1, 3) := by decide +kernel
theorem dX1_rank_92 : decode cX1_rank 92 = .ok (.goto (-48), 3) := by decide +kernel
theorem dX1_rank_95 : decode cX1_rank 95 = .ok (.iload 6, 2) := by decide +kernel
theorem dX1_rank_97 : decode cX1_rank 97 = .ok (.ifCond .eq 15, 3) := by decide +kernel
theorem dX1_rank_100 : decode cX1_rank 100 = .ok (.aload_n 0, 1) := by decide +kernel
theorem dX1_rank_101 : decode cX1_rank 101 = .ok (.getfield 13, 3) := by decide +kernel
theorem dX1_rank_104 : decode cX1_rank 104 = .ok (.iload 4, 2) := by decide +kernel
theorem dX1_rank_106 : decode cX1_rank 106 = .ok (.iload 6, 2) := by decide +kernel
theorem dX1_rank_108 : decode cX1_rank 108 = .ok (.iastore, 1) := by decide +kernel
theorem dX1_rank_109 : decode cX1_rank 109 = .ok (.iinc 4 1, 3) := by decide +kernel
theorem dX1_rank_112 : decode cX1_rank 112 = .ok (.iinc 5 1, 3) := by decide +kernel
theorem dX1_rank_115 : decode cX1_rank 115 = .ok (.goto (-109), 3) := by decide +kernel
theorem dX1_rank_118 : decode cX1_rank 118 = .ok (.iload 4, 2) := by decide +kernel
theorem dX1_rank_120 : decode cX1_rank 120 = .ok (.ireturn, 1) := by decide +kernel
abbrev cX1_sides : ByteArray := prog_3_method_18_code
def yX1_sides : MethodName := ⟨RX1, "sides", "(I)I"⟩
theorem dX1_sides_0 : decode cX1_sides 0 = .ok (.aload_n 0, 1) := by decide +kernel
theorem dX1_sides_1 : decode cX1_sides 1 = .ok (.iload_n 1, 1) := by decide +kernel
theorem dX1_sides_2 : decode cX1_sides 2 = .ok (.invokevirtual 40, 3) := by decide +kernel
theorem dX1_sides_5 : decode cX1_sides 5 = .ok (.ifCond .ne 5, 3) := by decide +kernel
theorem dX1_sides_8 : decode cX1_sides 8 = .ok (.iconst 0, 1) := by decide +kernel
theorem dX1_sides_9 : decode cX1_sides 9 = .ok (.ireturn, 1) := by decide +kernel
theorem dX1_sides_10 : decode cX1_sides 10 = .ok (.iconst 0, 1) := by decide +kernel
theorem dX1_sides_11 : decode cX1_sides 11 = .ok (.istore_n 2, 1) := by decide +kernel
theorem dX1_sides_12 : decode cX1_sides 12 = .ok (.iconst 0, 1) := by decide +kernel
theorem dX1_sides_13 : decode cX1_sides 13 = .ok (.istore_n 3, 1) := by decide +kernel
theorem dX1_sides_14 : decode cX1_sides 14 = .ok (.iload_n 3, 1) := by decide +kernel
theorem dX1_sides_15 : decode cX1_sides 15 = .ok (.aload_n 0, 1) := by decide +kernel
theorem dX1_sides_16 : decode cX1_sides 16 = .ok (.getfield 20, 3) := by decide +kernel
theorem dX1_sides_19 : decode cX1_sides 19 = .ok (.if_icmp .ge 58, 3) := by decide +kernel
theorem dX1_sides_22 : decode cX1_sides 22 = .ok (.iload_n 3, 1) := by decide +kernel
theorem dX1_sides_23 : decode cX1_sides 23 = .ok (.bipush 26, 2) := by decide +kernel
theorem dX1_sides_25 : decode cX1_sides 25 = .ok (.if_icmp .ge 52, 3) := by decide +kernel
theorem dX1_sides_28 : decode cX1_sides 28 = .ok (.aload_n 0, 1) := by decide +kernel
theorem dX1_sides_29 : decode cX1_sides 29 = .ok (.iload_n 3, 1) := by decide +kernel
theorem dX1_sides_30 : decode cX1_sides 30 = .ok (.invokevirtual 40, 3) := by decide +kernel
theorem dX1_sides_33 : decode cX1_sides 33 = .ok (.aload_n 0, 1) := by decide +kernel
theorem dX1_sides_34 : decode cX1_sides 34 = .ok (.iload_n 1, 1) := by decide +kernel
theorem dX1_sides_35 : decode cX1_sides 35 = .ok (.invokevirtual 40, 3) := by decide +kernel
theorem dX1_sides_38 : decode cX1_sides 38 = .ok (.iconst 1, 1) := by decide +kernel
theorem dX1_sides_39 : decode cX1_sides 39 = .ok (.isub, 1) := by decide +kernel
theorem dX1_sides_40 : decode cX1_sides 40 = .ok (.if_icmp .ne 31, 3) := by decide +kernel
theorem dX1_sides_43 : decode cX1_sides 43 = .ok (.aload_n 0, 1) := by decide +kernel
theorem dX1_sides_44 : decode cX1_sides 44 = .ok (.getfield 7, 3) := by decide +kernel
theorem dX1_sides_47 : decode cX1_sides 47 = .ok (.iload_n 3, 1) := by decide +kernel
theorem dX1_sides_48 : decode cX1_sides 48 = .ok (.iaload, 1) := by decide +kernel
theorem dX1_sides_49 : decode cX1_sides 49 = .ok (.aload_n 0, 1) := by decide +kernel
theorem dX1_sides_50 : decode cX1_sides 50 = .ok (.getfield 7, 3) := by decide +kernel
theorem dX1_sides_53 : decode cX1_sides 53 = .ok (.iload_n 1, 1) := by decide +kernel
theorem dX1_sides_54 : decode cX1_sides 54 = .ok (.iaload, 1) := by decide +kernel
theorem dX1_sides_55 : decode cX1_sides 55 = .ok (.iand, 1) := by decide +kernel
theorem dX1_sides_56 : decode cX1_sides 56 = .ok (.aload_n 0, 1) := by decide +kernel
theorem dX1_sides_57 : decode cX1_sides 57 = .ok (.getfield 7, 3) := by decide +kernel
theorem dX1_sides_60 : decode cX1_sides 60 = .ok (.iload_n 3, 1) := by decide +kernel
theorem dX1_sides_61 : decode cX1_sides 61 = .ok (.iaload, 1) := by decide +kernel
theorem dX1_sides_62 : decode cX1_sides 62 = .ok (.if_icmp .ne 9, 3) := by decide +kernel
theorem dX1_sides_65 : decode cX1_sides 65 = .ok (.iload_n 2, 1) := by decide +kernel
theorem dX1_sides_66 : decode cX1_sides 66 = .ok (.iconst 1, 1) := by decide +kernel
theorem dX1_sides_67 : decode cX1_sides 67 = .ok (.iload_n 3, 1) := by decide +kernel
theorem dX1_sides_68 : decode cX1_sides 68 = .ok (.ishl, 1) := by decide +kernel
theorem dX1_sides_69 : decode cX1_sides 69 = .ok (.ior, 1) := by decide +kernel
theorem dX1_sides_70 : decode cX1_sides 70 = .ok (.istore_n 2, 1) := by decide +kernel
theorem dX1_sides_71 : decode cX1_sides 71 = .ok (.iinc 3 1, 3) := by decide +kernel
theorem dX1_sides_74 : decode cX1_sides 74 = .ok (.goto (-60), 3) := by decide +kernel
theorem dX1_sides_77 : decode cX1_sides 77 = .ok (.iload_n 2, 1) := by decide +kernel
theorem dX1_sides_78 : decode cX1_sides 78 = .ok (.ireturn, 1) := by decide +kernel
abbrev cX1_lasting : ByteArray := prog_3_method_22_code
def yX1_lasting : MethodName := ⟨RX1, "lasting", "(III)I"⟩
theorem dX1_lasting_0 : decode cX1_lasting 0 = .ok (.aload_n 0, 1) := by decide +kernel
theorem dX1_lasting_1 : decode cX1_lasting 1 = .ok (.iload_n 1, 1) := by decide +kernel
theorem dX1_lasting_2 : decode cX1_lasting 2 = .ok (.invokevirtual 43, 3) := by decide +kernel
theorem dX1_lasting_5 : decode cX1_lasting 5 = .ok (.ifCond .ne 16, 3) := by decide +kernel
theorem dX1_lasting_8 : decode cX1_lasting 8 = .ok (.aload_n 0, 1) := by decide +kernel
theorem dX1_lasting_9 : decode cX1_lasting 9 = .ok (.iload_n 2, 1) := by decide +kernel
theorem dX1_lasting_10 : decode cX1_lasting 10 = .ok (.invokevirtual 43, 3) := by decide +kernel
theorem dX1_lasting_13 : decode cX1_lasting 13 = .ok (.ifCond .ne 8, 3) := by decide +kernel
theorem dX1_lasting_16 : decode cX1_lasting 16 = .ok (.iload_n 1, 1) := by decide +kernel
theorem dX1_lasting_17 : decode cX1_lasting 17 = .ok (.iload_n 2, 1) := by decide +kernel
theorem dX1_lasting_18 : decode cX1_lasting 18 = .ok (.if_icmp .le 5, 3) := by decide +kernel
theorem dX1_lasting_21 : decode cX1_lasting 21 = .ok (.iconst (-1), 1) := by decide +kernel
theorem dX1_lasting_22 : decode cX1_lasting 22 = .ok (.ireturn, 1) := by decide +kernel
theorem dX1_lasting_23 : decode cX1_lasting 23 = .ok (.aload_n 0, 1) := by decide +kernel
theorem dX1_lasting_24 : decode cX1_lasting 24 = .ok (.iload_n 3, 1) := by decide +kernel
theorem dX1_lasting_25 : decode cX1_lasting 25 = .ok (.invokevirtual 46, 3) := by decide +kernel
theorem dX1_lasting_28 : decode cX1_lasting 28 = .ok (.ifCond .eq 8, 3) := by decide +kernel
theorem dX1_lasting_31 : decode cX1_lasting 31 = .ok (.bipush (-2), 2) := by decide +kernel
theorem dX1_lasting_33 : decode cX1_lasting 33 = .ok (.goto 10, 3) := by decide +kernel
theorem dX1_lasting_36 : decode cX1_lasting 36 = .ok (.aload_n 0, 1) := by decide +kernel
theorem dX1_lasting_37 : decode cX1_lasting 37 = .ok (.iload_n 1, 1) := by decide +kernel
theorem dX1_lasting_38 : decode cX1_lasting 38 = .ok (.iload_n 2, 1) := by decide +kernel
theorem dX1_lasting_39 : decode cX1_lasting 39 = .ok (.iload_n 3, 1) := by decide +kernel
theorem dX1_lasting_40 : decode cX1_lasting 40 = .ok (.invokevirtual 60, 3) := by decide +kernel
theorem dX1_lasting_43 : decode cX1_lasting 43 = .ok (.ireturn, 1) := by decide +kernel
abbrev cX1_opens : ByteArray := prog_3_method_24_code
def yX1_opens : MethodName := ⟨RX1, "opens", "(I)I"⟩
theorem dX1_opens_0 : decode cX1_opens 0 = .ok (.aload_n 0, 1) := by decide +kernel
theorem dX1_opens_1 : decode cX1_opens 1 = .ok (.iload_n 1, 1) := by decide +kernel
theorem dX1_opens_2 : decode cX1_opens 2 = .ok (.invokevirtual 37, 3) := by decide +kernel
theorem dX1_opens_5 : decode cX1_opens 5 = .ok (.ifCond .eq 5, 3) := by decide +kernel
theorem dX1_opens_8 : decode cX1_opens 8 = .ok (.iconst (-1), 1) := by decide +kernel
theorem dX1_opens_9 : decode cX1_opens 9 = .ok (.ireturn, 1) := by decide +kernel
theorem dX1_opens_10 : decode cX1_opens 10 = .ok (.aload_n 0, 1) := by decide +kernel
theorem dX1_opens_11 : decode cX1_opens 11 = .ok (.iload_n 1, 1) := by decide +kernel
theorem dX1_opens_12 : decode cX1_opens 12 = .ok (.invokevirtual 63, 3) := by decide +kernel
theorem dX1_opens_15 : decode cX1_opens 15 = .ok (.ifCond .eq 7, 3) := by decide +kernel
theorem dX1_opens_18 : decode cX1_opens 18 = .ok (.iconst 1, 1) := by decide +kernel
theorem dX1_opens_19 : decode cX1_opens 19 = .ok (.goto 4, 3) := by decide +kernel
theorem dX1_opens_22 : decode cX1_opens 22 = .ok (.iconst 0, 1) := by decide +kernel
theorem dX1_opens_23 : decode cX1_opens 23 = .ok (.ireturn, 1) := by decide +kernel
abbrev cX1_opening : ByteArray := prog_3_method_23_code
def yX1_opening : MethodName := ⟨RX1, "opening", "(I)Z"⟩
theorem dX1_opening_0 : decode cX1_opening 0 = .ok (.aload_n 0, 1) := by decide +kernel
theorem dX1_opening_1 : decode cX1_opening 1 = .ok (.iload_n 1, 1) := by decide +kernel
theorem dX1_opening_2 : decode cX1_opening 2 = .ok (.invokevirtual 40, 3) := by decide +kernel
theorem dX1_opening_5 : decode cX1_opening 5 = .ok (.istore_n 2, 1) := by decide +kernel
theorem dX1_opening_6 : decode cX1_opening 6 = .ok (.aload_n 0, 1) := by decide +kernel
theorem dX1_opening_7 : decode cX1_opening 7 = .ok (.iload_n 1, 1) := by decide +kernel
theorem dX1_opening_8 : decode cX1_opening 8 = .ok (.iconst 1, 1) := by decide +kernel
theorem dX1_opening_9 : decode cX1_opening 9 = .ok (.iadd, 1) := by decide +kernel
theorem dX1_opening_10 : decode cX1_opening 10 = .ok (.iload_n 1, 1) := by decide +kernel
theorem dX1_opening_11 : decode cX1_opening 11 = .ok (.iconst 1, 1) := by decide +kernel
theorem dX1_opening_12 : decode cX1_opening 12 = .ok (.iadd, 1) := by decide +kernel
theorem dX1_opening_13 : decode cX1_opening 13 = .ok (.iload_n 2, 1) := by decide +kernel
theorem dX1_opening_14 : decode cX1_opening 14 = .ok (.invokevirtual 60, 3) := by decide +kernel
theorem dX1_opening_17 : decode cX1_opening 17 = .ok (.aload_n 0, 1) := by decide +kernel
theorem dX1_opening_18 : decode cX1_opening 18 = .ok (.iload_n 1, 1) := by decide +kernel
theorem dX1_opening_19 : decode cX1_opening 19 = .ok (.iload_n 1, 1) := by decide +kernel
theorem dX1_opening_20 : decode cX1_opening 20 = .ok (.iload_n 2, 1) := by decide +kernel
theorem dX1_opening_21 : decode cX1_opening 21 = .ok (.invokevirtual 60, 3) := by decide +kernel
theorem dX1_opening_24 : decode cX1_opening 24 = .ok (.if_icmp .le 7, 3) := by decide +kernel
theorem dX1_opening_27 : decode cX1_opening 27 = .ok (.iconst 1, 1) := by decide +kernel
theorem dX1_opening_28 : decode cX1_opening 28 = .ok (.goto 4, 3) := by decide +kernel
theorem dX1_opening_31 : decode cX1_opening 31 = .ok (.iconst 0, 1) := by decide +kernel
theorem dX1_opening_32 : decode cX1_opening 32 = .ok (.ireturn, 1) := by decide +kernel
abbrev cX1_partner : ByteArray := prog_3_method_27_code
def yX1_partner : MethodName := ⟨RX1, "partner", "(I)I"⟩
theorem dX1_partner_0 : decode cX1_partner 0 = .ok (.aload_n 0, 1) := by decide +kernel
theorem dX1_partner_1 : decode cX1_partner 1 = .ok (.iload_n 1, 1) := by decide +kernel
theorem dX1_partner_2 : decode cX1_partner 2 = .ok (.invokevirtual 37, 3) := by decide +kernel
theorem dX1_partner_5 : decode cX1_partner 5 = .ok (.ifCond .eq 7, 3) := by decide +kernel
theorem dX1_partner_8 : decode cX1_partner 8 = .ok (.iconst (-1), 1) := by decide +kernel
theorem dX1_partner_9 : decode cX1_partner 9 = .ok (.goto 8, 3) := by decide +kernel
theorem dX1_partner_12 : decode cX1_partner 12 = .ok (.aload_n 0, 1) := by decide +kernel
theorem dX1_partner_13 : decode cX1_partner 13 = .ok (.iload_n 1, 1) := by decide +kernel
theorem dX1_partner_14 : decode cX1_partner 14 = .ok (.invokevirtual 70, 3) := by decide +kernel
theorem dX1_partner_17 : decode cX1_partner 17 = .ok (.ireturn, 1) := by decide +kernel
abbrev cX1_mate : ByteArray := prog_3_method_26_code
def yX1_mate : MethodName := ⟨RX1, "mate", "(I)I"⟩
theorem dX1_mate_0 : decode cX1_mate 0 = .ok (.aload_n 0, 1) := by decide +kernel
theorem dX1_mate_1 : decode cX1_mate 1 = .ok (.iload_n 1, 1) := by decide +kernel
theorem dX1_mate_2 : decode cX1_mate 2 = .ok (.invokevirtual 63, 3) := by decide +kernel
theorem dX1_mate_5 : decode cX1_mate 5 = .ok (.istore_n 2, 1) := by decide +kernel
theorem dX1_mate_6 : decode cX1_mate 6 = .ok (.iconst 0, 1) := by decide +kernel
theorem dX1_mate_7 : decode cX1_mate 7 = .ok (.istore_n 3, 1) := by decide +kernel
theorem dX1_mate_8 : decode cX1_mate 8 = .ok (.iload_n 3, 1) := by decide +kernel
theorem dX1_mate_9 : decode cX1_mate 9 = .ok (.aload_n 0, 1) := by decide +kernel
theorem dX1_mate_10 : decode cX1_mate 10 = .ok (.getfield 20, 3) := by decide +kernel
theorem dX1_mate_13 : decode cX1_mate 13 = .ok (.if_icmp .ge 65, 3) := by decide +kernel
theorem dX1_mate_16 : decode cX1_mate 16 = .ok (.iload_n 2, 1) := by decide +kernel
theorem dX1_mate_17 : decode cX1_mate 17 = .ok (.ifCond .eq 27, 3) := by decide +kernel
theorem dX1_mate_20 : decode cX1_mate 20 = .ok (.iload_n 3, 1) := by decide +kernel
theorem dX1_mate_21 : decode cX1_mate 21 = .ok (.iload_n 1, 1) := by decide +kernel
theorem dX1_mate_22 : decode cX1_mate 22 = .ok (.if_icmp .le 22, 3) := by decide +kernel
theorem dX1_mate_25 : decode cX1_mate 25 = .ok (.aload_n 0, 1) := by decide +kernel
theorem dX1_mate_26 : decode cX1_mate 26 = .ok (.iload_n 3, 1) := by decide +kernel
theorem dX1_mate_27 : decode cX1_mate 27 = .ok (.invokevirtual 63, 3) := by decide +kernel
theorem dX1_mate_30 : decode cX1_mate 30 = .ok (.ifCond .ne 14, 3) := by decide +kernel
theorem dX1_mate_33 : decode cX1_mate 33 = .ok (.aload_n 0, 1) := by decide +kernel
theorem dX1_mate_34 : decode cX1_mate 34 = .ok (.iload_n 1, 1) := by decide +kernel
theorem dX1_mate_35 : decode cX1_mate 35 = .ok (.iload_n 3, 1) := by decide +kernel
theorem dX1_mate_36 : decode cX1_mate 36 = .ok (.invokevirtual 66, 3) := by decide +kernel
theorem dX1_mate_39 : decode cX1_mate 39 = .ok (.ifCond .eq 5, 3) := by decide +kernel
theorem dX1_mate_42 : decode cX1_mate 42 = .ok (.iload_n 3, 1) := by decide +kernel
theorem dX1_mate_43 : decode cX1_mate 43 = .ok (.ireturn, 1) := by decide +kernel
theorem dX1_mate_44 : decode cX1_mate 44 = .ok (.iload_n 2, 1) := by decide +kernel
theorem dX1_mate_45 : decode cX1_mate 45 = .ok (.ifCond .ne 27, 3) := by decide +kernel
theorem dX1_mate_48 : decode cX1_mate 48 = .ok (.iload_n 3, 1) := by decide +kernel
theorem dX1_mate_49 : decode cX1_mate 49 = .ok (.iload_n 1, 1) := by decide +kernel
theorem dX1_mate_50 : decode cX1_mate 50 = .ok (.if_icmp .ge 22, 3) := by decide +kernel
theorem dX1_mate_53 : decode cX1_mate 53 = .ok (.aload_n 0, 1) := by decide +kernel
theorem dX1_mate_54 : decode cX1_mate 54 = .ok (.iload_n 3, 1) := by decide +kernel
theorem dX1_mate_55 : decode cX1_mate 55 = .ok (.invokevirtual 63, 3) := by decide +kernel
theorem dX1_mate_58 : decode cX1_mate 58 = .ok (.ifCond .eq 14, 3) := by decide +kernel
theorem dX1_mate_61 : decode cX1_mate 61 = .ok (.aload_n 0, 1) := by decide +kernel
theorem dX1_mate_62 : decode cX1_mate 62 = .ok (.iload_n 3, 1) := by decide +kernel
theorem dX1_mate_63 : decode cX1_mate 63 = .ok (.iload_n 1, 1) := by decide +kernel
theorem dX1_mate_64 : decode cX1_mate 64 = .ok (.invokevirtual 66, 3) := by decide +kernel
theorem dX1_mate_67 : decode cX1_mate 67 = .ok (.ifCond .eq 5, 3) := by decide +kernel
theorem dX1_mate_70 : decode cX1_mate 70 = .ok (.iload_n 3, 1) := by decide +kernel
theorem dX1_mate_71 : decode cX1_mate 71 = .ok (.ireturn, 1) := by decide +kernel
theorem dX1_mate_72 : decode cX1_mate 72 = .ok (.iinc 3 1, 3) := by decide +kernel
theorem dX1_mate_75 : decode cX1_mate 75 = .ok (.goto (-67), 3) := by decide +kernel
theorem dX1_mate_78 : decode cX1_mate 78 = .ok (.bipush (-2), 2) := by decide +kernel
theorem dX1_mate_80 : decode cX1_mate 80 = .ok (.ireturn, 1) := by decide +kernel
abbrev cX1_partners : ByteArray := prog_3_method_25_code
def yX1_partners : MethodName := ⟨RX1, "partners", "(II)Z"⟩
theorem dX1_partners_0 : decode cX1_partners 0 = .ok (.aload_n 0, 1) := by decide +kernel
theorem dX1_partners_1 : decode cX1_partners 1 = .ok (.iload_n 1, 1) := by decide +kernel
theorem dX1_partners_2 : decode cX1_partners 2 = .ok (.invokevirtual 40, 3) := by decide +kernel
theorem dX1_partners_5 : decode cX1_partners 5 = .ok (.istore_n 3, 1) := by decide +kernel
theorem dX1_partners_6 : decode cX1_partners 6 = .ok (.aload_n 0, 1) := by decide +kernel
theorem dX1_partners_7 : decode cX1_partners 7 = .ok (.iload_n 2, 1) := by decide +kernel
theorem dX1_partners_8 : decode cX1_partners 8 = .ok (.invokevirtual 40, 3) := by decide +kernel
theorem dX1_partners_11 : decode cX1_partners 11 = .ok (.iload_n 3, 1) := by decide +kernel
theorem dX1_partners_12 : decode cX1_partners 12 = .ok (.iconst 1, 1) := by decide +kernel
theorem dX1_partners_13 : decode cX1_partners 13 = .ok (.iadd, 1) := by decide +kernel
theorem dX1_partners_14 : decode cX1_partners 14 = .ok (.if_icmp .eq 5, 3) := by decide +kernel
theorem dX1_partners_17 : decode cX1_partners 17 = .ok (.iconst 0, 1) := by decide +kernel
theorem dX1_partners_18 : decode cX1_partners 18 = .ok (.ireturn, 1) := by decide +kernel
theorem dX1_partners_19 : decode cX1_partners 19 = .ok (.aload_n 0, 1) := by decide +kernel
theorem dX1_partners_20 : decode cX1_partners 20 = .ok (.iload_n 1, 1) := by decide +kernel
theorem dX1_partners_21 : decode cX1_partners 21 = .ok (.iconst 1, 1) := by decide +kernel
theorem dX1_partners_22 : decode cX1_partners 22 = .ok (.iadd, 1) := by decide +kernel
theorem dX1_partners_23 : decode cX1_partners 23 = .ok (.iload_n 2, 1) := by decide +kernel
theorem dX1_partners_24 : decode cX1_partners 24 = .ok (.iload_n 3, 1) := by decide +kernel
theorem dX1_partners_25 : decode cX1_partners 25 = .ok (.invokevirtual 60, 3) := by decide +kernel
theorem dX1_partners_28 : decode cX1_partners 28 = .ok (.aload_n 0, 1) := by decide +kernel
theorem dX1_partners_29 : decode cX1_partners 29 = .ok (.iload_n 1, 1) := by decide +kernel
theorem dX1_partners_30 : decode cX1_partners 30 = .ok (.iconst 1, 1) := by decide +kernel
theorem dX1_partners_31 : decode cX1_partners 31 = .ok (.iadd, 1) := by decide +kernel
theorem dX1_partners_32 : decode cX1_partners 32 = .ok (.iload_n 2, 1) := by decide +kernel
theorem dX1_partners_33 : decode cX1_partners 33 = .ok (.iconst 1, 1) := by decide +kernel
theorem dX1_partners_34 : decode cX1_partners 34 = .ok (.iadd, 1) := by decide +kernel
theorem dX1_partners_35 : decode cX1_partners 35 = .ok (.iload_n 3, 1) := by decide +kernel
theorem dX1_partners_36 : decode cX1_partners 36 = .ok (.invokevirtual 60, 3) := by decide +kernel
theorem dX1_partners_39 : decode cX1_partners 39 = .ok (.isub, 1) := by decide +kernel
theorem dX1_partners_40 : decode cX1_partners 40 = .ok (.aload_n 0, 1) := by decide +kernel
theorem dX1_partners_41 : decode cX1_partners 41 = .ok (.iload_n 1, 1) := by decide +kernel
theorem dX1_partners_42 : decode cX1_partners 42 = .ok (.iload_n 2, 1) := by decide +kernel
theorem dX1_partners_43 : decode cX1_partners 43 = .ok (.iload_n 3, 1) := by decide +kernel
theorem dX1_partners_44 : decode cX1_partners 44 = .ok (.invokevirtual 60, 3) := by decide +kernel
theorem dX1_partners_47 : decode cX1_partners 47 = .ok (.isub, 1) := by decide +kernel
theorem dX1_partners_48 : decode cX1_partners 48 = .ok (.aload_n 0, 1) := by decide +kernel
theorem dX1_partners_49 : decode cX1_partners 49 = .ok (.iload_n 1, 1) := by decide +kernel
theorem dX1_partners_50 : decode cX1_partners 50 = .ok (.iload_n 2, 1) := by decide +kernel
theorem dX1_partners_51 : decode cX1_partners 51 = .ok (.iconst 1, 1) := by decide +kernel
theorem dX1_partners_52 : decode cX1_partners 52 = .ok (.iadd, 1) := by decide +kernel
theorem dX1_partners_53 : decode cX1_partners 53 = .ok (.iload_n 3, 1) := by decide +kernel
theorem dX1_partners_54 : decode cX1_partners 54 = .ok (.invokevirtual 60, 3) := by decide +kernel
theorem dX1_partners_57 : decode cX1_partners 57 = .ok (.iadd, 1) := by decide +kernel
theorem dX1_partners_58 : decode cX1_partners 58 = .ok (.iconst 1, 1) := by decide +kernel
theorem dX1_partners_59 : decode cX1_partners 59 = .ok (.if_icmp .ne 7, 3) := by decide +kernel
theorem dX1_partners_62 : decode cX1_partners 62 = .ok (.iconst 1, 1) := by decide +kernel
theorem dX1_partners_63 : decode cX1_partners 63 = .ok (.goto 4, 3) := by decide +kernel
theorem dX1_partners_66 : decode cX1_partners 66 = .ok (.iconst 0, 1) := by decide +kernel
theorem dX1_partners_67 : decode cX1_partners 67 = .ok (.ireturn, 1) := by decide +kernel
abbrev cX1_forever : ByteArray := prog_3_method_28_code
def yX1_forever : MethodName := ⟨RX1, "forever", "(I)I"⟩
theorem dX1_forever_0 : decode cX1_forever 0 = .ok (.aload_n 0, 1) := by decide +kernel
theorem dX1_forever_1 : decode cX1_forever 1 = .ok (.iload_n 1, 1) := by decide +kernel
theorem dX1_forever_2 : decode cX1_forever 2 = .ok (.invokevirtual 46, 3) := by decide +kernel
theorem dX1_forever_5 : decode cX1_forever 5 = .ok (.ifCond .eq 5, 3) := by decide +kernel
theorem dX1_forever_8 : decode cX1_forever 8 = .ok (.iconst (-1), 1) := by decide +kernel
theorem dX1_forever_9 : decode cX1_forever 9 = .ok (.ireturn, 1) := by decide +kernel
theorem dX1_forever_10 : decode cX1_forever 10 = .ok (.iconst 0, 1) := by decide +kernel
theorem dX1_forever_11 : decode cX1_forever 11 = .ok (.istore_n 2, 1) := by decide +kernel
theorem dX1_forever_12 : decode cX1_forever 12 = .ok (.iconst 0, 1) := by decide +kernel
theorem dX1_forever_13 : decode cX1_forever 13 = .ok (.istore_n 3, 1) := by decide +kernel
theorem dX1_forever_14 : decode cX1_forever 14 = .ok (.iload_n 3, 1) := by decide +kernel
theorem dX1_forever_15 : decode cX1_forever 15 = .ok (.aload_n 0, 1) := by decide +kernel
theorem dX1_forever_16 : decode cX1_forever 16 = .ok (.getfield 20, 3) := by decide +kernel
theorem dX1_forever_19 : decode cX1_forever 19 = .ok (.if_icmp .ge 37, 3) := by decide +kernel
theorem dX1_forever_22 : decode cX1_forever 22 = .ok (.aload_n 0, 1) := by decide +kernel
theorem dX1_forever_23 : decode cX1_forever 23 = .ok (.iload_n 3, 1) := by decide +kernel
theorem dX1_forever_24 : decode cX1_forever 24 = .ok (.invokevirtual 40, 3) := by decide +kernel
theorem dX1_forever_27 : decode cX1_forever 27 = .ok (.iload_n 1, 1) := by decide +kernel
theorem dX1_forever_28 : decode cX1_forever 28 = .ok (.if_icmp .ne 22, 3) := by decide +kernel
theorem dX1_forever_31 : decode cX1_forever 31 = .ok (.aload_n 0, 1) := by decide +kernel
theorem dX1_forever_32 : decode cX1_forever 32 = .ok (.iload_n 3, 1) := by decide +kernel
theorem dX1_forever_33 : decode cX1_forever 33 = .ok (.invokevirtual 63, 3) := by decide +kernel
theorem dX1_forever_36 : decode cX1_forever 36 = .ok (.ifCond .eq 14, 3) := by decide +kernel
theorem dX1_forever_39 : decode cX1_forever 39 = .ok (.aload_n 0, 1) := by decide +kernel
theorem dX1_forever_40 : decode cX1_forever 40 = .ok (.iload_n 3, 1) := by decide +kernel
theorem dX1_forever_41 : decode cX1_forever 41 = .ok (.invokevirtual 70, 3) := by decide +kernel
theorem dX1_forever_44 : decode cX1_forever 44 = .ok (.ifCond .ge 6, 3) := by decide +kernel
theorem dX1_forever_47 : decode cX1_forever 47 = .ok (.iinc 2 1, 3) := by decide +kernel
theorem dX1_forever_50 : decode cX1_forever 50 = .ok (.iinc 3 1, 3) := by decide +kernel
theorem dX1_forever_53 : decode cX1_forever 53 = .ok (.goto (-39), 3) := by decide +kernel
theorem dX1_forever_56 : decode cX1_forever 56 = .ok (.iload_n 2, 1) := by decide +kernel
theorem dX1_forever_57 : decode cX1_forever 57 = .ok (.ireturn, 1) := by decide +kernel
abbrev cX1_longest : ByteArray := prog_3_method_29_code
def yX1_longest : MethodName := ⟨RX1, "longest", "(I)I"⟩
theorem dX1_longest_0 : decode cX1_longest 0 = .ok (.aload_n 0, 1) := by decide +kernel
theorem dX1_longest_1 : decode cX1_longest 1 = .ok (.iload_n 1, 1) := by decide +kernel
theorem dX1_longest_2 : decode cX1_longest 2 = .ok (.invokevirtual 46, 3) := by decide +kernel
theorem dX1_longest_5 : decode cX1_longest 5 = .ok (.ifCond .eq 5, 3) := by decide +kernel
theorem dX1_longest_8 : decode cX1_longest 8 = .ok (.iconst (-1), 1) := by decide +kernel
theorem dX1_longest_9 : decode cX1_longest 9 = .ok (.ireturn, 1) := by decide +kernel
theorem dX1_longest_10 : decode cX1_longest 10 = .ok (.iconst 0, 1) := by decide +kernel
theorem dX1_longest_11 : decode cX1_longest 11 = .ok (.istore_n 2, 1) := by decide +kernel
theorem dX1_longest_12 : decode cX1_longest 12 = .ok (.iconst 0, 1) := by decide +kernel
theorem dX1_longest_13 : decode cX1_longest 13 = .ok (.istore_n 3, 1) := by decide +kernel
theorem dX1_longest_14 : decode cX1_longest 14 = .ok (.iload_n 3, 1) := by decide +kernel
theorem dX1_longest_15 : decode cX1_longest 15 = .ok (.aload_n 0, 1) := by decide +kernel
theorem dX1_longest_16 : decode cX1_longest 16 = .ok (.getfield 20, 3) := by decide +kernel
theorem dX1_longest_19 : decode cX1_longest 19 = .ok (.if_icmp .ge 51, 3) := by decide +kernel
theorem dX1_longest_22 : decode cX1_longest 22 = .ok (.aload_n 0, 1) := by decide +kernel
theorem dX1_longest_23 : decode cX1_longest 23 = .ok (.iload_n 3, 1) := by decide +kernel
theorem dX1_longest_24 : decode cX1_longest 24 = .ok (.invokevirtual 40, 3) := by decide +kernel
theorem dX1_longest_27 : decode cX1_longest 27 = .ok (.iload_n 1, 1) := by decide +kernel
theorem dX1_longest_28 : decode cX1_longest 28 = .ok (.if_icmp .ne 19, 3) := by decide +kernel
theorem dX1_longest_31 : decode cX1_longest 31 = .ok (.aload_n 0, 1) := by decide +kernel
theorem dX1_longest_32 : decode cX1_longest 32 = .ok (.iload_n 3, 1) := by decide +kernel
theorem dX1_longest_33 : decode cX1_longest 33 = .ok (.invokevirtual 63, 3) := by decide +kernel
theorem dX1_longest_36 : decode cX1_longest 36 = .ok (.ifCond .eq 11, 3) := by decide +kernel
theorem dX1_longest_39 : decode cX1_longest 39 = .ok (.aload_n 0, 1) := by decide +kernel
theorem dX1_longest_40 : decode cX1_longest 40 = .ok (.iload_n 3, 1) := by decide +kernel
theorem dX1_longest_41 : decode cX1_longest 41 = .ok (.invokevirtual 70, 3) := by decide +kernel
theorem dX1_longest_44 : decode cX1_longest 44 = .ok (.goto 5, 3) := by decide +kernel
theorem dX1_longest_47 : decode cX1_longest 47 = .ok (.bipush (-2), 2) := by decide +kernel
theorem dX1_longest_49 : decode cX1_longest 49 = .ok (.istore 4, 2) := by decide +kernel
theorem dX1_longest_51 : decode cX1_longest 51 = .ok (.iload 4, 2) := by decide +kernel
theorem dX1_longest_53 : decode cX1_longest 53 = .ok (.iload_n 3, 1) := by decide +kernel
theorem dX1_longest_54 : decode cX1_longest 54 = .ok (.isub, 1) := by decide +kernel
theorem dX1_longest_55 : decode cX1_longest 55 = .ok (.iload_n 2, 1) := by decide +kernel
theorem dX1_longest_56 : decode cX1_longest 56 = .ok (.if_icmp .le 8, 3) := by decide +kernel
theorem dX1_longest_59 : decode cX1_longest 59 = .ok (.iload 4, 2) := by decide +kernel
theorem dX1_longest_61 : decode cX1_longest 61 = .ok (.iload_n 3, 1) := by decide +kernel
theorem dX1_longest_62 : decode cX1_longest 62 = .ok (.isub, 1) := by decide +kernel
theorem dX1_longest_63 : decode cX1_longest 63 = .ok (.istore_n 2, 1) := by decide +kernel
theorem dX1_longest_64 : decode cX1_longest 64 = .ok (.iinc 3 1, 3) := by decide +kernel
theorem dX1_longest_67 : decode cX1_longest 67 = .ok (.goto (-53), 3) := by decide +kernel
theorem dX1_longest_70 : decode cX1_longest 70 = .ok (.iload_n 2, 1) := by decide +kernel
theorem dX1_longest_71 : decode cX1_longest 71 = .ok (.ireturn, 1) := by decide +kernel
abbrev cX1_euler : ByteArray := prog_3_method_30_code
def yX1_euler : MethodName := ⟨RX1, "euler", "(I)I"⟩
theorem dX1_euler_0 : decode cX1_euler 0 = .ok (.aload_n 0, 1) := by decide +kernel
theorem dX1_euler_1 : decode cX1_euler 1 = .ok (.iload_n 1, 1) := by decide +kernel
theorem dX1_euler_2 : decode cX1_euler 2 = .ok (.invokevirtual 43, 3) := by decide +kernel
theorem dX1_euler_5 : decode cX1_euler 5 = .ok (.ifCond .eq 7, 3) := by decide +kernel
theorem dX1_euler_8 : decode cX1_euler 8 = .ok (.sipush (-1000), 3) := by decide +kernel
theorem dX1_euler_11 : decode cX1_euler 11 = .ok (.ireturn, 1) := by decide +kernel
theorem dX1_euler_12 : decode cX1_euler 12 = .ok (.aload_n 0, 1) := by decide +kernel
theorem dX1_euler_13 : decode cX1_euler 13 = .ok (.iload_n 1, 1) := by decide +kernel
theorem dX1_euler_14 : decode cX1_euler 14 = .ok (.iconst 0, 1) := by decide +kernel
theorem dX1_euler_15 : decode cX1_euler 15 = .ok (.invokevirtual 49, 3) := by decide +kernel
theorem dX1_euler_18 : decode cX1_euler 18 = .ok (.aload_n 0, 1) := by decide +kernel
theorem dX1_euler_19 : decode cX1_euler 19 = .ok (.iload_n 1, 1) := by decide +kernel
theorem dX1_euler_20 : decode cX1_euler 20 = .ok (.iconst 1, 1) := by decide +kernel
theorem dX1_euler_21 : decode cX1_euler 21 = .ok (.invokevirtual 49, 3) := by decide +kernel
theorem dX1_euler_24 : decode cX1_euler 24 = .ok (.isub, 1) := by decide +kernel
theorem dX1_euler_25 : decode cX1_euler 25 = .ok (.aload_n 0, 1) := by decide +kernel
theorem dX1_euler_26 : decode cX1_euler 26 = .ok (.iload_n 1, 1) := by decide +kernel
theorem dX1_euler_27 : decode cX1_euler 27 = .ok (.iconst 2, 1) := by decide +kernel
theorem dX1_euler_28 : decode cX1_euler 28 = .ok (.invokevirtual 49, 3) := by decide +kernel
theorem dX1_euler_31 : decode cX1_euler 31 = .ok (.iadd, 1) := by decide +kernel
theorem dX1_euler_32 : decode cX1_euler 32 = .ok (.aload_n 0, 1) := by decide +kernel
theorem dX1_euler_33 : decode cX1_euler 33 = .ok (.iload_n 1, 1) := by decide +kernel
theorem dX1_euler_34 : decode cX1_euler 34 = .ok (.iconst 3, 1) := by decide +kernel
theorem dX1_euler_35 : decode cX1_euler 35 = .ok (.invokevirtual 49, 3) := by decide +kernel
theorem dX1_euler_38 : decode cX1_euler 38 = .ok (.isub, 1) := by decide +kernel
theorem dX1_euler_39 : decode cX1_euler 39 = .ok (.ireturn, 1) := by decide +kernel
abbrev cX1_border : ByteArray := prog_3_method_33_code
def yX1_border : MethodName := ⟨RX1, "border", "(I)I"⟩
theorem dX1_border_0 : decode cX1_border 0 = .ok (.iload_n 1, 1) := by decide +kernel
theorem dX1_border_1 : decode cX1_border 1 = .ok (.ifCond .lt 13, 3) := by decide +kernel
theorem dX1_border_4 : decode cX1_border 4 = .ok (.iload_n 1, 1) := by decide +kernel
theorem dX1_border_5 : decode cX1_border 5 = .ok (.iconst 1, 1) := by decide +kernel
theorem dX1_border_6 : decode cX1_border 6 = .ok (.aload_n 0, 1) := by decide +kernel
theorem dX1_border_7 : decode cX1_border 7 = .ok (.getfield 20, 3) := by decide +kernel
theorem dX1_border_10 : decode cX1_border 10 = .ok (.ishl, 1) := by decide +kernel
theorem dX1_border_11 : decode cX1_border 11 = .ok (.if_icmp .lt 5, 3) := by decide +kernel
theorem dX1_border_14 : decode cX1_border 14 = .ok (.iconst (-1), 1) := by decide +kernel
theorem dX1_border_15 : decode cX1_border 15 = .ok (.ireturn, 1) := by decide +kernel
theorem dX1_border_16 : decode cX1_border 16 = .ok (.aload_n 0, 1) := by decide +kernel
theorem dX1_border_17 : decode cX1_border 17 = .ok (.iload_n 1, 1) := by decide +kernel
theorem dX1_border_18 : decode cX1_border 18 = .ok (.invokevirtual 73, 3) := by decide +kernel
theorem dX1_border_21 : decode cX1_border 21 = .ok (.bipush (-2), 2) := by decide +kernel
theorem dX1_border_23 : decode cX1_border 23 = .ok (.if_icmp .ne 8, 3) := by decide +kernel
theorem dX1_border_26 : decode cX1_border 26 = .ok (.bipush (-2), 2) := by decide +kernel
theorem dX1_border_28 : decode cX1_border 28 = .ok (.goto 8, 3) := by decide +kernel
theorem dX1_border_31 : decode cX1_border 31 = .ok (.aload_n 0, 1) := by decide +kernel
theorem dX1_border_32 : decode cX1_border 32 = .ok (.iload_n 1, 1) := by decide +kernel
theorem dX1_border_33 : decode cX1_border 33 = .ok (.invokevirtual 76, 3) := by decide +kernel
theorem dX1_border_36 : decode cX1_border 36 = .ok (.ireturn, 1) := by decide +kernel
abbrev cX1_chainDimension : ByteArray := prog_3_method_31_code
def yX1_chainDimension : MethodName := ⟨RX1, "chainDimension", "(I)I"⟩
theorem dX1_chainDimension_0 : decode cX1_chainDimension 0 = .ok (.iconst (-1), 1) := by decide +kernel
theorem dX1_chainDimension_1 : decode cX1_chainDimension 1 = .ok (.istore_n 2, 1) := by decide +kernel
theorem dX1_chainDimension_2 : decode cX1_chainDimension 2 = .ok (.iconst 0, 1) := by decide +kernel
theorem dX1_chainDimension_3 : decode cX1_chainDimension 3 = .ok (.istore_n 3, 1) := by decide +kernel
theorem dX1_chainDimension_4 : decode cX1_chainDimension 4 = .ok (.iload_n 3, 1) := by decide +kernel
theorem dX1_chainDimension_5 : decode cX1_chainDimension 5 = .ok (.aload_n 0, 1) := by decide +kernel
theorem dX1_chainDimension_6 : decode cX1_chainDimension 6 = .ok (.getfield 20, 3) := by decide +kernel
theorem dX1_chainDimension_9 : decode cX1_chainDimension 9 = .ok (.if_icmp .ge 46, 3) := by decide +kernel
theorem dX1_chainDimension_12 : decode cX1_chainDimension 12 = .ok (.iload_n 3, 1) := by decide +kernel
theorem dX1_chainDimension_13 : decode cX1_chainDimension 13 = .ok (.bipush 26, 2) := by decide +kernel
theorem dX1_chainDimension_15 : decode cX1_chainDimension 15 = .ok (.if_icmp .ge 40, 3) := by decide +kernel
theorem dX1_chainDimension_18 : decode cX1_chainDimension 18 = .ok (.iload_n 1, 1) := by decide +kernel
theorem dX1_chainDimension_19 : decode cX1_chainDimension 19 = .ok (.iload_n 3, 1) := by decide +kernel
theorem dX1_chainDimension_20 : decode cX1_chainDimension 20 = .ok (.ishr, 1) := by decide +kernel
theorem dX1_chainDimension_21 : decode cX1_chainDimension 21 = .ok (.iconst 1, 1) := by decide +kernel
theorem dX1_chainDimension_22 : decode cX1_chainDimension 22 = .ok (.iand, 1) := by decide +kernel
theorem dX1_chainDimension_23 : decode cX1_chainDimension 23 = .ok (.iconst 1, 1) := by decide +kernel
theorem dX1_chainDimension_24 : decode cX1_chainDimension 24 = .ok (.if_icmp .ne 25, 3) := by decide +kernel
theorem dX1_chainDimension_27 : decode cX1_chainDimension 27 = .ok (.iload_n 2, 1) := by decide +kernel
theorem dX1_chainDimension_28 : decode cX1_chainDimension 28 = .ok (.ifCond .lt 15, 3) := by decide +kernel
theorem dX1_chainDimension_31 : decode cX1_chainDimension 31 = .ok (.aload_n 0, 1) := by decide +kernel
theorem dX1_chainDimension_32 : decode cX1_chainDimension 32 = .ok (.iload_n 3, 1) := by decide +kernel
theorem dX1_chainDimension_33 : decode cX1_chainDimension 33 = .ok (.invokevirtual 40, 3) := by decide +kernel
theorem dX1_chainDimension_36 : decode cX1_chainDimension 36 = .ok (.iload_n 2, 1) := by decide +kernel
theorem dX1_chainDimension_37 : decode cX1_chainDimension 37 = .ok (.if_icmp .eq 6, 3) := by decide +kernel
theorem dX1_chainDimension_40 : decode cX1_chainDimension 40 = .ok (.bipush (-2), 2) := by decide +kernel
theorem dX1_chainDimension_42 : decode cX1_chainDimension 42 = .ok (.ireturn, 1) := by decide +kernel
theorem dX1_chainDimension_43 : decode cX1_chainDimension 43 = .ok (.aload_n 0, 1) := by decide +kernel
theorem dX1_chainDimension_44 : decode cX1_chainDimension 44 = .ok (.iload_n 3, 1) := by decide +kernel
theorem dX1_chainDimension_45 : decode cX1_chainDimension 45 = .ok (.invokevirtual 40, 3) := by decide +kernel
theorem dX1_chainDimension_48 : decode cX1_chainDimension 48 = .ok (.istore_n 2, 1) := by decide +kernel
theorem dX1_chainDimension_49 : decode cX1_chainDimension 49 = .ok (.iinc 3 1, 3) := by decide +kernel
theorem dX1_chainDimension_52 : decode cX1_chainDimension 52 = .ok (.goto (-48), 3) := by decide +kernel
theorem dX1_chainDimension_55 : decode cX1_chainDimension 55 = .ok (.iload_n 2, 1) := by decide +kernel
theorem dX1_chainDimension_56 : decode cX1_chainDimension 56 = .ok (.ireturn, 1) := by decide +kernel
abbrev cX1_edge : ByteArray := prog_3_method_32_code
def yX1_edge : MethodName := ⟨RX1, "edge", "(I)I"⟩
theorem dX1_edge_0 : decode cX1_edge 0 = .ok (.iconst 0, 1) := by decide +kernel
theorem dX1_edge_1 : decode cX1_edge 1 = .ok (.istore_n 2, 1) := by decide +kernel
theorem dX1_edge_2 : decode cX1_edge 2 = .ok (.iconst 0, 1) := by decide +kernel
theorem dX1_edge_3 : decode cX1_edge 3 = .ok (.istore_n 3, 1) := by decide +kernel
theorem dX1_edge_4 : decode cX1_edge 4 = .ok (.iload_n 3, 1) := by decide +kernel
theorem dX1_edge_5 : decode cX1_edge 5 = .ok (.aload_n 0, 1) := by decide +kernel
theorem dX1_edge_6 : decode cX1_edge 6 = .ok (.getfield 20, 3) := by decide +kernel
theorem dX1_edge_9 : decode cX1_edge 9 = .ok (.if_icmp .ge 26, 3) := by decide +kernel
theorem dX1_edge_12 : decode cX1_edge 12 = .ok (.iload_n 1, 1) := by decide +kernel
theorem dX1_edge_13 : decode cX1_edge 13 = .ok (.iload_n 3, 1) := by decide +kernel
theorem dX1_edge_14 : decode cX1_edge 14 = .ok (.ishr, 1) := by decide +kernel
theorem dX1_edge_15 : decode cX1_edge 15 = .ok (.iconst 1, 1) := by decide +kernel
theorem dX1_edge_16 : decode cX1_edge 16 = .ok (.iand, 1) := by decide +kernel
theorem dX1_edge_17 : decode cX1_edge 17 = .ok (.iconst 1, 1) := by decide +kernel
theorem dX1_edge_18 : decode cX1_edge 18 = .ok (.if_icmp .ne 11, 3) := by decide +kernel
theorem dX1_edge_21 : decode cX1_edge 21 = .ok (.iload_n 2, 1) := by decide +kernel
theorem dX1_edge_22 : decode cX1_edge 22 = .ok (.aload_n 0, 1) := by decide +kernel
theorem dX1_edge_23 : decode cX1_edge 23 = .ok (.iload_n 3, 1) := by decide +kernel
theorem dX1_edge_24 : decode cX1_edge 24 = .ok (.invokevirtual 53, 3) := by decide +kernel
theorem dX1_edge_27 : decode cX1_edge 27 = .ok (.ixor, 1) := by decide +kernel
theorem dX1_edge_28 : decode cX1_edge 28 = .ok (.istore_n 2, 1) := by decide +kernel
theorem dX1_edge_29 : decode cX1_edge 29 = .ok (.iinc 3 1, 3) := by decide +kernel
theorem dX1_edge_32 : decode cX1_edge 32 = .ok (.goto (-28), 3) := by decide +kernel
theorem dX1_edge_35 : decode cX1_edge 35 = .ok (.iload_n 2, 1) := by decide +kernel
theorem dX1_edge_36 : decode cX1_edge 36 = .ok (.ireturn, 1) := by decide +kernel
abbrev cX1_bounds : ByteArray := prog_3_method_34_code
def yX1_bounds : MethodName := ⟨RX1, "bounds", "(I)I"⟩
theorem dX1_bounds_0 : decode cX1_bounds 0 = .ok (.iload_n 1, 1) := by decide +kernel
theorem dX1_bounds_1 : decode cX1_bounds 1 = .ok (.ifCond .lt 13, 3) := by decide +kernel
theorem dX1_bounds_4 : decode cX1_bounds 4 = .ok (.iload_n 1, 1) := by decide +kernel
theorem dX1_bounds_5 : decode cX1_bounds 5 = .ok (.iconst 1, 1) := by decide +kernel
theorem dX1_bounds_6 : decode cX1_bounds 6 = .ok (.aload_n 0, 1) := by decide +kernel
theorem dX1_bounds_7 : decode cX1_bounds 7 = .ok (.getfield 20, 3) := by decide +kernel
theorem dX1_bounds_10 : decode cX1_bounds 10 = .ok (.ishl, 1) := by decide +kernel
theorem dX1_bounds_11 : decode cX1_bounds 11 = .ok (.if_icmp .lt 5, 3) := by decide +kernel
theorem dX1_bounds_14 : decode cX1_bounds 14 = .ok (.iconst (-1), 1) := by decide +kernel
theorem dX1_bounds_15 : decode cX1_bounds 15 = .ok (.ireturn, 1) := by decide +kernel
theorem dX1_bounds_16 : decode cX1_bounds 16 = .ok (.aload_n 0, 1) := by decide +kernel
theorem dX1_bounds_17 : decode cX1_bounds 17 = .ok (.iload_n 1, 1) := by decide +kernel
theorem dX1_bounds_18 : decode cX1_bounds 18 = .ok (.invokevirtual 73, 3) := by decide +kernel
theorem dX1_bounds_21 : decode cX1_bounds 21 = .ok (.istore_n 2, 1) := by decide +kernel
theorem dX1_bounds_22 : decode cX1_bounds 22 = .ok (.iload_n 2, 1) := by decide +kernel
theorem dX1_bounds_23 : decode cX1_bounds 23 = .ok (.bipush (-2), 2) := by decide +kernel
theorem dX1_bounds_25 : decode cX1_bounds 25 = .ok (.if_icmp .ne 6, 3) := by decide +kernel
theorem dX1_bounds_28 : decode cX1_bounds 28 = .ok (.bipush (-2), 2) := by decide +kernel
theorem dX1_bounds_30 : decode cX1_bounds 30 = .ok (.ireturn, 1) := by decide +kernel
theorem dX1_bounds_31 : decode cX1_bounds 31 = .ok (.aload_n 0, 1) := by decide +kernel
theorem dX1_bounds_32 : decode cX1_bounds 32 = .ok (.iload_n 1, 1) := by decide +kernel
theorem dX1_bounds_33 : decode cX1_bounds 33 = .ok (.invokevirtual 76, 3) := by decide +kernel
theorem dX1_bounds_36 : decode cX1_bounds 36 = .ok (.ifCond .eq 5, 3) := by decide +kernel
theorem dX1_bounds_39 : decode cX1_bounds 39 = .ok (.iconst 2, 1) := by decide +kernel
theorem dX1_bounds_40 : decode cX1_bounds 40 = .ok (.ireturn, 1) := by decide +kernel
theorem dX1_bounds_41 : decode cX1_bounds 41 = .ok (.aload_n 0, 1) := by decide +kernel
theorem dX1_bounds_42 : decode cX1_bounds 42 = .ok (.aload_n 0, 1) := by decide +kernel
theorem dX1_bounds_43 : decode cX1_bounds 43 = .ok (.getfield 20, 3) := by decide +kernel
theorem dX1_bounds_46 : decode cX1_bounds 46 = .ok (.iload_n 2, 1) := by decide +kernel
theorem dX1_bounds_47 : decode cX1_bounds 47 = .ok (.iconst 1, 1) := by decide +kernel
theorem dX1_bounds_48 : decode cX1_bounds 48 = .ok (.iadd, 1) := by decide +kernel
theorem dX1_bounds_49 : decode cX1_bounds 49 = .ok (.iconst 0, 1) := by decide +kernel
theorem dX1_bounds_50 : decode cX1_bounds 50 = .ok (.invokevirtual 56, 3) := by decide +kernel
theorem dX1_bounds_53 : decode cX1_bounds 53 = .ok (.istore_n 3, 1) := by decide +kernel
theorem dX1_bounds_54 : decode cX1_bounds 54 = .ok (.iload_n 1, 1) := by decide +kernel
theorem dX1_bounds_55 : decode cX1_bounds 55 = .ok (.istore 4, 2) := by decide +kernel
theorem dX1_bounds_57 : decode cX1_bounds 57 = .ok (.iconst 0, 1) := by decide +kernel
theorem dX1_bounds_58 : decode cX1_bounds 58 = .ok (.istore 5, 2) := by decide +kernel
theorem dX1_bounds_60 : decode cX1_bounds 60 = .ok (.iload 5, 2) := by decide +kernel
theorem dX1_bounds_62 : decode cX1_bounds 62 = .ok (.iload_n 3, 1) := by decide +kernel
theorem dX1_bounds_63 : decode cX1_bounds 63 = .ok (.if_icmp .ge 58, 3) := by decide +kernel
theorem dX1_bounds_66 : decode cX1_bounds 66 = .ok (.iload_n 2, 1) := by decide +kernel
theorem dX1_bounds_67 : decode cX1_bounds 67 = .ok (.ifCond .lt 54, 3) := by decide +kernel
theorem dX1_bounds_70 : decode cX1_bounds 70 = .ok (.iload 5, 2) := by decide +kernel
theorem dX1_bounds_72 : decode cX1_bounds 72 = .ok (.bipush 26, 2) := by decide +kernel
theorem dX1_bounds_74 : decode cX1_bounds 74 = .ok (.if_icmp .ge 47, 3) := by decide +kernel
theorem dX1_bounds_77 : decode cX1_bounds 77 = .ok (.aload_n 0, 1) := by decide +kernel
theorem dX1_bounds_78 : decode cX1_bounds 78 = .ok (.getfield 13, 3) := by decide +kernel
theorem dX1_bounds_81 : decode cX1_bounds 81 = .ok (.iload 5, 2) := by decide +kernel
theorem dX1_bounds_83 : decode cX1_bounds 83 = .ok (.iaload, 1) := by decide +kernel
theorem dX1_bounds_84 : decode cX1_bounds 84 = .ok (.aload_n 0, 1) := by decide +kernel
theorem dX1_bounds_85 : decode cX1_bounds 85 = .ok (.getfield 13, 3) := by decide +kernel
theorem dX1_bounds_88 : decode cX1_bounds 88 = .ok (.iload 5, 2) := by decide +kernel
theorem dX1_bounds_90 : decode cX1_bounds 90 = .ok (.iaload, 1) := by decide +kernel
theorem dX1_bounds_91 : decode cX1_bounds 91 = .ok (.ineg, 1) := by decide +kernel
theorem dX1_bounds_92 : decode cX1_bounds 92 = .ok (.iand, 1) := by decide +kernel
theorem dX1_bounds_93 : decode cX1_bounds 93 = .ok (.istore 6, 2) := by decide +kernel
theorem dX1_bounds_95 : decode cX1_bounds 95 = .ok (.iload 4, 2) := by decide +kernel
theorem dX1_bounds_97 : decode cX1_bounds 97 = .ok (.iload 6, 2) := by decide +kernel
theorem dX1_bounds_99 : decode cX1_bounds 99 = .ok (.iand, 1) := by decide +kernel
theorem dX1_bounds_100 : decode cX1_bounds 100 = .ok (.ifCond .eq 15, 3) := by decide +kernel
theorem dX1_bounds_103 : decode cX1_bounds 103 = .ok (.iload 4, 2) := by decide +kernel
theorem dX1_bounds_105 : decode cX1_bounds 105 = .ok (.aload_n 0, 1) := by decide +kernel
theorem dX1_bounds_106 : decode cX1_bounds 106 = .ok (.getfield 13, 3) := by decide +kernel
theorem dX1_bounds_109 : decode cX1_bounds 109 = .ok (.iload 5, 2) := by decide +kernel
theorem dX1_bounds_111 : decode cX1_bounds 111 = .ok (.iaload, 1) := by decide +kernel
theorem dX1_bounds_112 : decode cX1_bounds 112 = .ok (.ixor, 1) := by decide +kernel
theorem dX1_bounds_113 : decode cX1_bounds 113 = .ok (.istore 4, 2) := by decide +kernel
theorem dX1_bounds_115 : decode cX1_bounds 115 = .ok (.iinc 5 1, 3) := by decide +kernel
theorem dX1_bounds_118 : decode cX1_bounds 118 = .ok (.goto (-58), 3) := by decide +kernel
theorem dX1_bounds_121 : decode cX1_bounds 121 = .ok (.iload 4, 2) := by decide +kernel
theorem dX1_bounds_123 : decode cX1_bounds 123 = .ok (.ifCond .ne 7, 3) := by decide +kernel
theorem dX1_bounds_126 : decode cX1_bounds 126 = .ok (.iconst 1, 1) := by decide +kernel
theorem dX1_bounds_127 : decode cX1_bounds 127 = .ok (.goto 4, 3) := by decide +kernel
theorem dX1_bounds_130 : decode cX1_bounds 130 = .ok (.iconst 0, 1) := by decide +kernel
theorem dX1_bounds_131 : decode cX1_bounds 131 = .ok (.ireturn, 1) := by decide +kernel
theorem q30 : (Jvm.Cond.initialized "PersistentBarsModel") ∈ lw_all := lw_g (lw_at lw_m1 2 rfl) rfl
theorem q172 : (Jvm.Cond.instantiable "PersistentBarsModel" (3 : Nat)) ∈ lw_all := lw_g (lw_at lw_m1 144 rfl) rfl
theorem q174 : (Jvm.Cond.instanceMethod ({ cls := "PersistentBarsModel", name := "<init>", desc := "()V" } : Jvm.MethodName)) ∈ lw_all := lw_g (lw_at lw_m1 146 rfl) rfl
theorem q175 : (Jvm.Cond.code ({ cls := "PersistentBarsModel", name := "<init>", desc := "()V" } : Jvm.MethodName) prog_3_method_1_code (1 : Nat) (Option.none : Option Jvm.ClassFile.FieldType)) ∈ lw_all := lw_g (lw_at lw_m1 147 rfl) rfl
theorem q176 : (Jvm.Cond.methodLink "PersistentBarsModel" (1 : Nat) ({ cls := "java/lang/Object", name := "<init>", desc := "()V" } : Jvm.MethodName)) ∈ lw_all := lw_g (lw_at lw_m1 148 rfl) rfl
theorem q177 : (Jvm.Cond.fieldLink "PersistentBarsModel" (20 : Nat) "PersistentBarsModel" "count" "I") ∈ lw_all := lw_g (lw_at lw_m1 149 rfl) rfl
theorem q178 : (Jvm.Cond.fieldLink "PersistentBarsModel" (7 : Nat) "PersistentBarsModel" "pieces" "[I") ∈ lw_all := lw_g (lw_at lw_m1 150 rfl) rfl
theorem q179 : (Jvm.Cond.fieldLink "PersistentBarsModel" (13 : Nat) "PersistentBarsModel" "column" "[I") ∈ lw_all := lw_g (lw_at lw_m1 151 rfl) rfl
theorem q180 : (Jvm.Cond.lays "PersistentBarsModel" "PersistentBarsModel" "count" "I") ∈ lw_all := lw_g (lw_at lw_m1 152 rfl) rfl
theorem q181 : (Jvm.Cond.soleField "PersistentBarsModel" "count") ∈ lw_all := lw_g (lw_at lw_m1 153 rfl) rfl
theorem q182 : (Jvm.Cond.lays "PersistentBarsModel" "PersistentBarsModel" "pieces" "[I") ∈ lw_all := lw_g (lw_at lw_m1 154 rfl) rfl
theorem q183 : (Jvm.Cond.soleField "PersistentBarsModel" "pieces") ∈ lw_all := lw_g (lw_at lw_m1 155 rfl) rfl
theorem q184 : (Jvm.Cond.lays "PersistentBarsModel" "PersistentBarsModel" "column" "[I") ∈ lw_all := lw_g (lw_at lw_m1 156 rfl) rfl
theorem q185 : (Jvm.Cond.soleField "PersistentBarsModel" "column") ∈ lw_all := lw_g (lw_at lw_m1 157 rfl) rfl
theorem q186 : (Jvm.Cond.superclass "PersistentBarsModel" "java/lang/Object") ∈ lw_all := lw_g (lw_at lw_m1 158 rfl) rfl
theorem q188 : (Jvm.Cond.instanceMethod ({ cls := "PersistentBarsModel", name := "add", desc := "(I)I" } : Jvm.MethodName)) ∈ lw_all := lw_g (lw_at lw_m1 160 rfl) rfl
theorem q189 : (Jvm.Cond.selects "PersistentBarsModel" ({ cls := "PersistentBarsModel", name := "add", desc := "(I)I" } : Jvm.MethodName) ({ cls := "PersistentBarsModel", name := "add", desc := "(I)I" } : Jvm.MethodName)) ∈ lw_all := lw_g (lw_at lw_m1 161 rfl) rfl
theorem q190 : (Jvm.Cond.code ({ cls := "PersistentBarsModel", name := "add", desc := "(I)I" } : Jvm.MethodName) prog_3_method_7_code (2 : Nat) (Option.some Jvm.ClassFile.FieldType.int)) ∈ lw_all := lw_g (lw_at lw_m1 162 rfl) rfl
theorem q191 : (Jvm.Cond.methodLink "PersistentBarsModel" (27 : Nat) ({ cls := "PersistentBarsModel", name := "badPiece", desc := "(I)Z" } : Jvm.MethodName)) ∈ lw_all := lw_g (lw_at lw_m1 163 rfl) rfl
theorem q192 : (Jvm.Cond.privateMethod ({ cls := "PersistentBarsModel", name := "badPiece", desc := "(I)Z" } : Jvm.MethodName)) ∈ lw_tbl := lw_at lw_m1 164 rfl
theorem q193 : (Jvm.Cond.instanceMethod ({ cls := "PersistentBarsModel", name := "badPiece", desc := "(I)Z" } : Jvm.MethodName)) ∈ lw_all := lw_g (lw_at lw_m1 165 rfl) rfl
theorem q194 : (Jvm.Cond.code ({ cls := "PersistentBarsModel", name := "badPiece", desc := "(I)Z" } : Jvm.MethodName) prog_3_method_3_code (2 : Nat) (Option.some Jvm.ClassFile.FieldType.boolean)) ∈ lw_all := lw_g (lw_at lw_m1 166 rfl) rfl
theorem q195 : (Jvm.Cond.methodLink "PersistentBarsModel" (16 : Nat) ({ cls := "PersistentBarsModel", name := "points", desc := "(I)I" } : Jvm.MethodName)) ∈ lw_all := lw_g (lw_at lw_m1 167 rfl) rfl
theorem q196 : (Jvm.Cond.privateMethod ({ cls := "PersistentBarsModel", name := "points", desc := "(I)I" } : Jvm.MethodName)) ∈ lw_tbl := lw_at lw_m1 168 rfl
theorem q197 : (Jvm.Cond.instanceMethod ({ cls := "PersistentBarsModel", name := "points", desc := "(I)I" } : Jvm.MethodName)) ∈ lw_all := lw_g (lw_at lw_m1 169 rfl) rfl
theorem q198 : (Jvm.Cond.code ({ cls := "PersistentBarsModel", name := "points", desc := "(I)I" } : Jvm.MethodName) prog_3_method_2_code (4 : Nat) (Option.some Jvm.ClassFile.FieldType.int)) ∈ lw_all := lw_g (lw_at lw_m1 170 rfl) rfl
theorem q199 : (Jvm.Cond.methodLink "PersistentBarsModel" (24 : Nat) ({ cls := "PersistentBarsModel", name := "find", desc := "(I)I" } : Jvm.MethodName)) ∈ lw_all := lw_g (lw_at lw_m1 171 rfl) rfl
theorem q200 : (Jvm.Cond.privateMethod ({ cls := "PersistentBarsModel", name := "find", desc := "(I)I" } : Jvm.MethodName)) ∈ lw_tbl := lw_at lw_m1 172 rfl
theorem q201 : (Jvm.Cond.instanceMethod ({ cls := "PersistentBarsModel", name := "find", desc := "(I)I" } : Jvm.MethodName)) ∈ lw_all := lw_g (lw_at lw_m1 173 rfl) rfl
theorem q202 : (Jvm.Cond.code ({ cls := "PersistentBarsModel", name := "find", desc := "(I)I" } : Jvm.MethodName) prog_3_method_4_code (3 : Nat) (Option.some Jvm.ClassFile.FieldType.int)) ∈ lw_all := lw_g (lw_at lw_m1 174 rfl) rfl
theorem q203 : (Jvm.Cond.methodLink "PersistentBarsModel" (31 : Nat) ({ cls := "PersistentBarsModel", name := "sidesThere", desc := "(I)Z" } : Jvm.MethodName)) ∈ lw_all := lw_g (lw_at lw_m1 175 rfl) rfl
theorem q204 : (Jvm.Cond.privateMethod ({ cls := "PersistentBarsModel", name := "sidesThere", desc := "(I)Z" } : Jvm.MethodName)) ∈ lw_tbl := lw_at lw_m1 176 rfl
theorem q205 : (Jvm.Cond.instanceMethod ({ cls := "PersistentBarsModel", name := "sidesThere", desc := "(I)Z" } : Jvm.MethodName)) ∈ lw_all := lw_g (lw_at lw_m1 177 rfl) rfl
theorem q206 : (Jvm.Cond.code ({ cls := "PersistentBarsModel", name := "sidesThere", desc := "(I)Z" } : Jvm.MethodName) prog_3_method_5_code (3 : Nat) (Option.some Jvm.ClassFile.FieldType.boolean)) ∈ lw_all := lw_g (lw_at lw_m1 178 rfl) rfl
theorem q207 : (Jvm.Cond.methodLink "PersistentBarsModel" (34 : Nat) ({ cls := "PersistentBarsModel", name := "put", desc := "(I)I" } : Jvm.MethodName)) ∈ lw_all := lw_g (lw_at lw_m1 179 rfl) rfl
theorem q208 : (Jvm.Cond.privateMethod ({ cls := "PersistentBarsModel", name := "put", desc := "(I)I" } : Jvm.MethodName)) ∈ lw_tbl := lw_at lw_m1 180 rfl
theorem q209 : (Jvm.Cond.instanceMethod ({ cls := "PersistentBarsModel", name := "put", desc := "(I)I" } : Jvm.MethodName)) ∈ lw_all := lw_g (lw_at lw_m1 181 rfl) rfl
theorem q210 : (Jvm.Cond.code ({ cls := "PersistentBarsModel", name := "put", desc := "(I)I" } : Jvm.MethodName) prog_3_method_6_code (3 : Nat) (Option.some Jvm.ClassFile.FieldType.int)) ∈ lw_all := lw_g (lw_at lw_m1 182 rfl) rfl
theorem q212 : (Jvm.Cond.instanceMethod ({ cls := "PersistentBarsModel", name := "fill", desc := "(I)I" } : Jvm.MethodName)) ∈ lw_all := lw_g (lw_at lw_m1 184 rfl) rfl
theorem q213 : (Jvm.Cond.selects "PersistentBarsModel" ({ cls := "PersistentBarsModel", name := "fill", desc := "(I)I" } : Jvm.MethodName) ({ cls := "PersistentBarsModel", name := "fill", desc := "(I)I" } : Jvm.MethodName)) ∈ lw_all := lw_g (lw_at lw_m1 185 rfl) rfl
theorem q214 : (Jvm.Cond.code ({ cls := "PersistentBarsModel", name := "fill", desc := "(I)I" } : Jvm.MethodName) prog_3_method_8_code (4 : Nat) (Option.some Jvm.ClassFile.FieldType.int)) ∈ lw_all := lw_g (lw_at lw_m1 186 rfl) rfl
theorem q216 : (Jvm.Cond.instanceMethod ({ cls := "PersistentBarsModel", name := "undo", desc := "()I" } : Jvm.MethodName)) ∈ lw_all := lw_g (lw_at lw_m1 188 rfl) rfl
theorem q217 : (Jvm.Cond.selects "PersistentBarsModel" ({ cls := "PersistentBarsModel", name := "undo", desc := "()I" } : Jvm.MethodName) ({ cls := "PersistentBarsModel", name := "undo", desc := "()I" } : Jvm.MethodName)) ∈ lw_all := lw_g (lw_at lw_m1 189 rfl) rfl
theorem q218 : (Jvm.Cond.code ({ cls := "PersistentBarsModel", name := "undo", desc := "()I" } : Jvm.MethodName) prog_3_method_9_code (1 : Nat) (Option.some Jvm.ClassFile.FieldType.int)) ∈ lw_all := lw_g (lw_at lw_m1 190 rfl) rfl
theorem q220 : (Jvm.Cond.instanceMethod ({ cls := "PersistentBarsModel", name := "size", desc := "()I" } : Jvm.MethodName)) ∈ lw_all := lw_g (lw_at lw_m1 192 rfl) rfl
theorem q221 : (Jvm.Cond.selects "PersistentBarsModel" ({ cls := "PersistentBarsModel", name := "size", desc := "()I" } : Jvm.MethodName) ({ cls := "PersistentBarsModel", name := "size", desc := "()I" } : Jvm.MethodName)) ∈ lw_all := lw_g (lw_at lw_m1 193 rfl) rfl
theorem q222 : (Jvm.Cond.code ({ cls := "PersistentBarsModel", name := "size", desc := "()I" } : Jvm.MethodName) prog_3_method_10_code (1 : Nat) (Option.some Jvm.ClassFile.FieldType.int)) ∈ lw_all := lw_g (lw_at lw_m1 194 rfl) rfl
theorem q224 : (Jvm.Cond.instanceMethod ({ cls := "PersistentBarsModel", name := "piece", desc := "(I)I" } : Jvm.MethodName)) ∈ lw_all := lw_g (lw_at lw_m1 196 rfl) rfl
theorem q225 : (Jvm.Cond.selects "PersistentBarsModel" ({ cls := "PersistentBarsModel", name := "piece", desc := "(I)I" } : Jvm.MethodName) ({ cls := "PersistentBarsModel", name := "piece", desc := "(I)I" } : Jvm.MethodName)) ∈ lw_all := lw_g (lw_at lw_m1 197 rfl) rfl
theorem q226 : (Jvm.Cond.code ({ cls := "PersistentBarsModel", name := "piece", desc := "(I)I" } : Jvm.MethodName) prog_3_method_12_code (2 : Nat) (Option.some Jvm.ClassFile.FieldType.int)) ∈ lw_all := lw_g (lw_at lw_m1 198 rfl) rfl
theorem q227 : (Jvm.Cond.methodLink "PersistentBarsModel" (37 : Nat) ({ cls := "PersistentBarsModel", name := "bad", desc := "(I)Z" } : Jvm.MethodName)) ∈ lw_all := lw_g (lw_at lw_m1 199 rfl) rfl
theorem q228 : (Jvm.Cond.privateMethod ({ cls := "PersistentBarsModel", name := "bad", desc := "(I)Z" } : Jvm.MethodName)) ∈ lw_tbl := lw_at lw_m1 200 rfl
theorem q229 : (Jvm.Cond.instanceMethod ({ cls := "PersistentBarsModel", name := "bad", desc := "(I)Z" } : Jvm.MethodName)) ∈ lw_all := lw_g (lw_at lw_m1 201 rfl) rfl
theorem q230 : (Jvm.Cond.code ({ cls := "PersistentBarsModel", name := "bad", desc := "(I)Z" } : Jvm.MethodName) prog_3_method_11_code (2 : Nat) (Option.some Jvm.ClassFile.FieldType.boolean)) ∈ lw_all := lw_g (lw_at lw_m1 202 rfl) rfl
theorem q232 : (Jvm.Cond.instanceMethod ({ cls := "PersistentBarsModel", name := "pieces", desc := "(II)I" } : Jvm.MethodName)) ∈ lw_all := lw_g (lw_at lw_m1 204 rfl) rfl
theorem q233 : (Jvm.Cond.selects "PersistentBarsModel" ({ cls := "PersistentBarsModel", name := "pieces", desc := "(II)I" } : Jvm.MethodName) ({ cls := "PersistentBarsModel", name := "pieces", desc := "(II)I" } : Jvm.MethodName)) ∈ lw_all := lw_g (lw_at lw_m1 205 rfl) rfl
theorem q234 : (Jvm.Cond.code ({ cls := "PersistentBarsModel", name := "pieces", desc := "(II)I" } : Jvm.MethodName) prog_3_method_17_code (3 : Nat) (Option.some Jvm.ClassFile.FieldType.int)) ∈ lw_all := lw_g (lw_at lw_m1 206 rfl) rfl
theorem q235 : (Jvm.Cond.methodLink "PersistentBarsModel" (43 : Nat) ({ cls := "PersistentBarsModel", name := "badTime", desc := "(I)Z" } : Jvm.MethodName)) ∈ lw_all := lw_g (lw_at lw_m1 207 rfl) rfl
theorem q236 : (Jvm.Cond.privateMethod ({ cls := "PersistentBarsModel", name := "badTime", desc := "(I)Z" } : Jvm.MethodName)) ∈ lw_tbl := lw_at lw_m1 208 rfl
theorem q237 : (Jvm.Cond.instanceMethod ({ cls := "PersistentBarsModel", name := "badTime", desc := "(I)Z" } : Jvm.MethodName)) ∈ lw_all := lw_g (lw_at lw_m1 209 rfl) rfl
theorem q238 : (Jvm.Cond.code ({ cls := "PersistentBarsModel", name := "badTime", desc := "(I)Z" } : Jvm.MethodName) prog_3_method_14_code (2 : Nat) (Option.some Jvm.ClassFile.FieldType.boolean)) ∈ lw_all := lw_g (lw_at lw_m1 210 rfl) rfl
theorem q239 : (Jvm.Cond.methodLink "PersistentBarsModel" (46 : Nat) ({ cls := "PersistentBarsModel", name := "badDimension", desc := "(I)Z" } : Jvm.MethodName)) ∈ lw_all := lw_g (lw_at lw_m1 211 rfl) rfl
theorem q240 : (Jvm.Cond.privateMethod ({ cls := "PersistentBarsModel", name := "badDimension", desc := "(I)Z" } : Jvm.MethodName)) ∈ lw_tbl := lw_at lw_m1 212 rfl
theorem q241 : (Jvm.Cond.instanceMethod ({ cls := "PersistentBarsModel", name := "badDimension", desc := "(I)Z" } : Jvm.MethodName)) ∈ lw_all := lw_g (lw_at lw_m1 213 rfl) rfl
theorem q242 : (Jvm.Cond.code ({ cls := "PersistentBarsModel", name := "badDimension", desc := "(I)Z" } : Jvm.MethodName) prog_3_method_15_code (2 : Nat) (Option.some Jvm.ClassFile.FieldType.boolean)) ∈ lw_all := lw_g (lw_at lw_m1 214 rfl) rfl
theorem q243 : (Jvm.Cond.methodLink "PersistentBarsModel" (49 : Nat) ({ cls := "PersistentBarsModel", name := "tally", desc := "(II)I" } : Jvm.MethodName)) ∈ lw_all := lw_g (lw_at lw_m1 215 rfl) rfl
theorem q244 : (Jvm.Cond.privateMethod ({ cls := "PersistentBarsModel", name := "tally", desc := "(II)I" } : Jvm.MethodName)) ∈ lw_tbl := lw_at lw_m1 216 rfl
theorem q245 : (Jvm.Cond.instanceMethod ({ cls := "PersistentBarsModel", name := "tally", desc := "(II)I" } : Jvm.MethodName)) ∈ lw_all := lw_g (lw_at lw_m1 217 rfl) rfl
theorem q246 : (Jvm.Cond.code ({ cls := "PersistentBarsModel", name := "tally", desc := "(II)I" } : Jvm.MethodName) prog_3_method_16_code (5 : Nat) (Option.some Jvm.ClassFile.FieldType.int)) ∈ lw_all := lw_g (lw_at lw_m1 218 rfl) rfl
theorem q247 : (Jvm.Cond.methodLink "PersistentBarsModel" (40 : Nat) ({ cls := "PersistentBarsModel", name := "dimension", desc := "(I)I" } : Jvm.MethodName)) ∈ lw_all := lw_g (lw_at lw_m1 219 rfl) rfl
theorem q248 : (Jvm.Cond.privateMethod ({ cls := "PersistentBarsModel", name := "dimension", desc := "(I)I" } : Jvm.MethodName)) ∈ lw_tbl := lw_at lw_m1 220 rfl
theorem q249 : (Jvm.Cond.instanceMethod ({ cls := "PersistentBarsModel", name := "dimension", desc := "(I)I" } : Jvm.MethodName)) ∈ lw_all := lw_g (lw_at lw_m1 221 rfl) rfl
theorem q250 : (Jvm.Cond.code ({ cls := "PersistentBarsModel", name := "dimension", desc := "(I)I" } : Jvm.MethodName) prog_3_method_13_code (2 : Nat) (Option.some Jvm.ClassFile.FieldType.int)) ∈ lw_all := lw_g (lw_at lw_m1 222 rfl) rfl
theorem q252 : (Jvm.Cond.instanceMethod ({ cls := "PersistentBarsModel", name := "holes", desc := "(II)I" } : Jvm.MethodName)) ∈ lw_all := lw_g (lw_at lw_m1 224 rfl) rfl
theorem q253 : (Jvm.Cond.selects "PersistentBarsModel" ({ cls := "PersistentBarsModel", name := "holes", desc := "(II)I" } : Jvm.MethodName) ({ cls := "PersistentBarsModel", name := "holes", desc := "(II)I" } : Jvm.MethodName)) ∈ lw_all := lw_g (lw_at lw_m1 225 rfl) rfl
theorem q254 : (Jvm.Cond.code ({ cls := "PersistentBarsModel", name := "holes", desc := "(II)I" } : Jvm.MethodName) prog_3_method_21_code (3 : Nat) (Option.some Jvm.ClassFile.FieldType.int)) ∈ lw_all := lw_g (lw_at lw_m1 226 rfl) rfl
theorem q255 : (Jvm.Cond.methodLink "PersistentBarsModel" (60 : Nat) ({ cls := "PersistentBarsModel", name := "last", desc := "(III)I" } : Jvm.MethodName)) ∈ lw_all := lw_g (lw_at lw_m1 227 rfl) rfl
theorem q256 : (Jvm.Cond.privateMethod ({ cls := "PersistentBarsModel", name := "last", desc := "(III)I" } : Jvm.MethodName)) ∈ lw_tbl := lw_at lw_m1 228 rfl
theorem q257 : (Jvm.Cond.instanceMethod ({ cls := "PersistentBarsModel", name := "last", desc := "(III)I" } : Jvm.MethodName)) ∈ lw_all := lw_g (lw_at lw_m1 229 rfl) rfl
theorem q258 : (Jvm.Cond.code ({ cls := "PersistentBarsModel", name := "last", desc := "(III)I" } : Jvm.MethodName) prog_3_method_20_code (6 : Nat) (Option.some Jvm.ClassFile.FieldType.int)) ∈ lw_all := lw_g (lw_at lw_m1 230 rfl) rfl
theorem q259 : (Jvm.Cond.methodLink "PersistentBarsModel" (56 : Nat) ({ cls := "PersistentBarsModel", name := "rank", desc := "(III)I" } : Jvm.MethodName)) ∈ lw_all := lw_g (lw_at lw_m1 231 rfl) rfl
theorem q260 : (Jvm.Cond.privateMethod ({ cls := "PersistentBarsModel", name := "rank", desc := "(III)I" } : Jvm.MethodName)) ∈ lw_tbl := lw_at lw_m1 232 rfl
theorem q261 : (Jvm.Cond.instanceMethod ({ cls := "PersistentBarsModel", name := "rank", desc := "(III)I" } : Jvm.MethodName)) ∈ lw_all := lw_g (lw_at lw_m1 233 rfl) rfl
theorem q262 : (Jvm.Cond.code ({ cls := "PersistentBarsModel", name := "rank", desc := "(III)I" } : Jvm.MethodName) prog_3_method_19_code (9 : Nat) (Option.some Jvm.ClassFile.FieldType.int)) ∈ lw_all := lw_g (lw_at lw_m1 234 rfl) rfl
theorem q263 : (Jvm.Cond.methodLink "PersistentBarsModel" (53 : Nat) ({ cls := "PersistentBarsModel", name := "sides", desc := "(I)I" } : Jvm.MethodName)) ∈ lw_all := lw_g (lw_at lw_m1 235 rfl) rfl
theorem q264 : (Jvm.Cond.privateMethod ({ cls := "PersistentBarsModel", name := "sides", desc := "(I)I" } : Jvm.MethodName)) ∈ lw_tbl := lw_at lw_m1 236 rfl
theorem q265 : (Jvm.Cond.instanceMethod ({ cls := "PersistentBarsModel", name := "sides", desc := "(I)I" } : Jvm.MethodName)) ∈ lw_all := lw_g (lw_at lw_m1 237 rfl) rfl
theorem q266 : (Jvm.Cond.code ({ cls := "PersistentBarsModel", name := "sides", desc := "(I)I" } : Jvm.MethodName) prog_3_method_18_code (4 : Nat) (Option.some Jvm.ClassFile.FieldType.int)) ∈ lw_all := lw_g (lw_at lw_m1 238 rfl) rfl
theorem q268 : (Jvm.Cond.instanceMethod ({ cls := "PersistentBarsModel", name := "lasting", desc := "(III)I" } : Jvm.MethodName)) ∈ lw_all := lw_g (lw_at lw_m2 0 rfl) rfl
theorem q269 : (Jvm.Cond.selects "PersistentBarsModel" ({ cls := "PersistentBarsModel", name := "lasting", desc := "(III)I" } : Jvm.MethodName) ({ cls := "PersistentBarsModel", name := "lasting", desc := "(III)I" } : Jvm.MethodName)) ∈ lw_all := lw_g (lw_at lw_m2 1 rfl) rfl
theorem q270 : (Jvm.Cond.code ({ cls := "PersistentBarsModel", name := "lasting", desc := "(III)I" } : Jvm.MethodName) prog_3_method_22_code (4 : Nat) (Option.some Jvm.ClassFile.FieldType.int)) ∈ lw_all := lw_g (lw_at lw_m2 2 rfl) rfl
theorem q272 : (Jvm.Cond.instanceMethod ({ cls := "PersistentBarsModel", name := "opens", desc := "(I)I" } : Jvm.MethodName)) ∈ lw_all := lw_g (lw_at lw_m2 4 rfl) rfl
theorem q273 : (Jvm.Cond.selects "PersistentBarsModel" ({ cls := "PersistentBarsModel", name := "opens", desc := "(I)I" } : Jvm.MethodName) ({ cls := "PersistentBarsModel", name := "opens", desc := "(I)I" } : Jvm.MethodName)) ∈ lw_all := lw_g (lw_at lw_m2 5 rfl) rfl
theorem q274 : (Jvm.Cond.code ({ cls := "PersistentBarsModel", name := "opens", desc := "(I)I" } : Jvm.MethodName) prog_3_method_24_code (2 : Nat) (Option.some Jvm.ClassFile.FieldType.int)) ∈ lw_all := lw_g (lw_at lw_m2 6 rfl) rfl
theorem q275 : (Jvm.Cond.methodLink "PersistentBarsModel" (63 : Nat) ({ cls := "PersistentBarsModel", name := "opening", desc := "(I)Z" } : Jvm.MethodName)) ∈ lw_all := lw_g (lw_at lw_m2 7 rfl) rfl
theorem q276 : (Jvm.Cond.privateMethod ({ cls := "PersistentBarsModel", name := "opening", desc := "(I)Z" } : Jvm.MethodName)) ∈ lw_tbl := lw_at lw_m2 8 rfl
theorem q277 : (Jvm.Cond.instanceMethod ({ cls := "PersistentBarsModel", name := "opening", desc := "(I)Z" } : Jvm.MethodName)) ∈ lw_all := lw_g (lw_at lw_m2 9 rfl) rfl
theorem q278 : (Jvm.Cond.code ({ cls := "PersistentBarsModel", name := "opening", desc := "(I)Z" } : Jvm.MethodName) prog_3_method_23_code (3 : Nat) (Option.some Jvm.ClassFile.FieldType.boolean)) ∈ lw_all := lw_g (lw_at lw_m2 10 rfl) rfl
theorem q280 : (Jvm.Cond.instanceMethod ({ cls := "PersistentBarsModel", name := "partner", desc := "(I)I" } : Jvm.MethodName)) ∈ lw_all := lw_g (lw_at lw_m2 12 rfl) rfl
theorem q281 : (Jvm.Cond.selects "PersistentBarsModel" ({ cls := "PersistentBarsModel", name := "partner", desc := "(I)I" } : Jvm.MethodName) ({ cls := "PersistentBarsModel", name := "partner", desc := "(I)I" } : Jvm.MethodName)) ∈ lw_all := lw_g (lw_at lw_m2 13 rfl) rfl
theorem q282 : (Jvm.Cond.code ({ cls := "PersistentBarsModel", name := "partner", desc := "(I)I" } : Jvm.MethodName) prog_3_method_27_code (2 : Nat) (Option.some Jvm.ClassFile.FieldType.int)) ∈ lw_all := lw_g (lw_at lw_m2 14 rfl) rfl
theorem q283 : (Jvm.Cond.methodLink "PersistentBarsModel" (70 : Nat) ({ cls := "PersistentBarsModel", name := "mate", desc := "(I)I" } : Jvm.MethodName)) ∈ lw_all := lw_g (lw_at lw_m2 15 rfl) rfl
theorem q284 : (Jvm.Cond.privateMethod ({ cls := "PersistentBarsModel", name := "mate", desc := "(I)I" } : Jvm.MethodName)) ∈ lw_tbl := lw_at lw_m2 16 rfl
theorem q285 : (Jvm.Cond.instanceMethod ({ cls := "PersistentBarsModel", name := "mate", desc := "(I)I" } : Jvm.MethodName)) ∈ lw_all := lw_g (lw_at lw_m2 17 rfl) rfl
theorem q286 : (Jvm.Cond.code ({ cls := "PersistentBarsModel", name := "mate", desc := "(I)I" } : Jvm.MethodName) prog_3_method_26_code (4 : Nat) (Option.some Jvm.ClassFile.FieldType.int)) ∈ lw_all := lw_g (lw_at lw_m2 18 rfl) rfl
theorem q287 : (Jvm.Cond.methodLink "PersistentBarsModel" (66 : Nat) ({ cls := "PersistentBarsModel", name := "partners", desc := "(II)Z" } : Jvm.MethodName)) ∈ lw_all := lw_g (lw_at lw_m2 19 rfl) rfl
theorem q288 : (Jvm.Cond.privateMethod ({ cls := "PersistentBarsModel", name := "partners", desc := "(II)Z" } : Jvm.MethodName)) ∈ lw_tbl := lw_at lw_m2 20 rfl
theorem q289 : (Jvm.Cond.instanceMethod ({ cls := "PersistentBarsModel", name := "partners", desc := "(II)Z" } : Jvm.MethodName)) ∈ lw_all := lw_g (lw_at lw_m2 21 rfl) rfl
theorem q290 : (Jvm.Cond.code ({ cls := "PersistentBarsModel", name := "partners", desc := "(II)Z" } : Jvm.MethodName) prog_3_method_25_code (4 : Nat) (Option.some Jvm.ClassFile.FieldType.boolean)) ∈ lw_all := lw_g (lw_at lw_m2 22 rfl) rfl
theorem q292 : (Jvm.Cond.instanceMethod ({ cls := "PersistentBarsModel", name := "forever", desc := "(I)I" } : Jvm.MethodName)) ∈ lw_all := lw_g (lw_at lw_m2 24 rfl) rfl
theorem q293 : (Jvm.Cond.selects "PersistentBarsModel" ({ cls := "PersistentBarsModel", name := "forever", desc := "(I)I" } : Jvm.MethodName) ({ cls := "PersistentBarsModel", name := "forever", desc := "(I)I" } : Jvm.MethodName)) ∈ lw_all := lw_g (lw_at lw_m2 25 rfl) rfl
theorem q294 : (Jvm.Cond.code ({ cls := "PersistentBarsModel", name := "forever", desc := "(I)I" } : Jvm.MethodName) prog_3_method_28_code (4 : Nat) (Option.some Jvm.ClassFile.FieldType.int)) ∈ lw_all := lw_g (lw_at lw_m2 26 rfl) rfl
theorem q296 : (Jvm.Cond.instanceMethod ({ cls := "PersistentBarsModel", name := "longest", desc := "(I)I" } : Jvm.MethodName)) ∈ lw_all := lw_g (lw_at lw_m2 28 rfl) rfl
theorem q297 : (Jvm.Cond.selects "PersistentBarsModel" ({ cls := "PersistentBarsModel", name := "longest", desc := "(I)I" } : Jvm.MethodName) ({ cls := "PersistentBarsModel", name := "longest", desc := "(I)I" } : Jvm.MethodName)) ∈ lw_all := lw_g (lw_at lw_m2 29 rfl) rfl
theorem q298 : (Jvm.Cond.code ({ cls := "PersistentBarsModel", name := "longest", desc := "(I)I" } : Jvm.MethodName) prog_3_method_29_code (5 : Nat) (Option.some Jvm.ClassFile.FieldType.int)) ∈ lw_all := lw_g (lw_at lw_m2 30 rfl) rfl
theorem q300 : (Jvm.Cond.instanceMethod ({ cls := "PersistentBarsModel", name := "euler", desc := "(I)I" } : Jvm.MethodName)) ∈ lw_all := lw_g (lw_at lw_m2 32 rfl) rfl
theorem q301 : (Jvm.Cond.selects "PersistentBarsModel" ({ cls := "PersistentBarsModel", name := "euler", desc := "(I)I" } : Jvm.MethodName) ({ cls := "PersistentBarsModel", name := "euler", desc := "(I)I" } : Jvm.MethodName)) ∈ lw_all := lw_g (lw_at lw_m2 33 rfl) rfl
theorem q302 : (Jvm.Cond.code ({ cls := "PersistentBarsModel", name := "euler", desc := "(I)I" } : Jvm.MethodName) prog_3_method_30_code (2 : Nat) (Option.some Jvm.ClassFile.FieldType.int)) ∈ lw_all := lw_g (lw_at lw_m2 34 rfl) rfl
theorem q304 : (Jvm.Cond.instanceMethod ({ cls := "PersistentBarsModel", name := "border", desc := "(I)I" } : Jvm.MethodName)) ∈ lw_all := lw_g (lw_at lw_m2 36 rfl) rfl
theorem q305 : (Jvm.Cond.selects "PersistentBarsModel" ({ cls := "PersistentBarsModel", name := "border", desc := "(I)I" } : Jvm.MethodName) ({ cls := "PersistentBarsModel", name := "border", desc := "(I)I" } : Jvm.MethodName)) ∈ lw_all := lw_g (lw_at lw_m2 37 rfl) rfl
theorem q306 : (Jvm.Cond.code ({ cls := "PersistentBarsModel", name := "border", desc := "(I)I" } : Jvm.MethodName) prog_3_method_33_code (2 : Nat) (Option.some Jvm.ClassFile.FieldType.int)) ∈ lw_all := lw_g (lw_at lw_m2 38 rfl) rfl
theorem q307 : (Jvm.Cond.methodLink "PersistentBarsModel" (73 : Nat) ({ cls := "PersistentBarsModel", name := "chainDimension", desc := "(I)I" } : Jvm.MethodName)) ∈ lw_all := lw_g (lw_at lw_m2 39 rfl) rfl
theorem q308 : (Jvm.Cond.privateMethod ({ cls := "PersistentBarsModel", name := "chainDimension", desc := "(I)I" } : Jvm.MethodName)) ∈ lw_tbl := lw_at lw_m2 40 rfl
theorem q309 : (Jvm.Cond.instanceMethod ({ cls := "PersistentBarsModel", name := "chainDimension", desc := "(I)I" } : Jvm.MethodName)) ∈ lw_all := lw_g (lw_at lw_m2 41 rfl) rfl
theorem q310 : (Jvm.Cond.code ({ cls := "PersistentBarsModel", name := "chainDimension", desc := "(I)I" } : Jvm.MethodName) prog_3_method_31_code (4 : Nat) (Option.some Jvm.ClassFile.FieldType.int)) ∈ lw_all := lw_g (lw_at lw_m2 42 rfl) rfl
theorem q311 : (Jvm.Cond.methodLink "PersistentBarsModel" (76 : Nat) ({ cls := "PersistentBarsModel", name := "edge", desc := "(I)I" } : Jvm.MethodName)) ∈ lw_all := lw_g (lw_at lw_m2 43 rfl) rfl
theorem q312 : (Jvm.Cond.privateMethod ({ cls := "PersistentBarsModel", name := "edge", desc := "(I)I" } : Jvm.MethodName)) ∈ lw_tbl := lw_at lw_m2 44 rfl
theorem q313 : (Jvm.Cond.instanceMethod ({ cls := "PersistentBarsModel", name := "edge", desc := "(I)I" } : Jvm.MethodName)) ∈ lw_all := lw_g (lw_at lw_m2 45 rfl) rfl
theorem q314 : (Jvm.Cond.code ({ cls := "PersistentBarsModel", name := "edge", desc := "(I)I" } : Jvm.MethodName) prog_3_method_32_code (4 : Nat) (Option.some Jvm.ClassFile.FieldType.int)) ∈ lw_all := lw_g (lw_at lw_m2 46 rfl) rfl
theorem q316 : (Jvm.Cond.instanceMethod ({ cls := "PersistentBarsModel", name := "bounds", desc := "(I)I" } : Jvm.MethodName)) ∈ lw_all := lw_g (lw_at lw_m2 48 rfl) rfl
theorem q317 : (Jvm.Cond.selects "PersistentBarsModel" ({ cls := "PersistentBarsModel", name := "bounds", desc := "(I)I" } : Jvm.MethodName) ({ cls := "PersistentBarsModel", name := "bounds", desc := "(I)I" } : Jvm.MethodName)) ∈ lw_all := lw_g (lw_at lw_m2 49 rfl) rfl
theorem q318 : (Jvm.Cond.code ({ cls := "PersistentBarsModel", name := "bounds", desc := "(I)I" } : Jvm.MethodName) prog_3_method_34_code (7 : Nat) (Option.some Jvm.ClassFile.FieldType.int)) ∈ lw_all := lw_g (lw_at lw_m2 50 rfl) rfl
theorem in_X1 : ∀ w ∈ wsX10, w ∈ lw_all := lw_in wsX10 [180, 182, 184] (by decide +kernel) (by decide +kernel)
end
section
/-! the law's own entry -/
set_option maxRecDepth 100000
abbrev cL_law : ByteArray := code
theorem dL_law_0 : decode cL_law 0 = .ok (.new 7, 3) := by decide +kernel
theorem dL_law_3 : decode cL_law 3 = .ok (.dup, 1) := by decide +kernel
theorem dL_law_4 : decode cL_law 4 = .ok (.invokespecial 9, 3) := by decide +kernel
theorem dL_law_7 : decode cL_law 7 = .ok (.astore_n 1, 1) := by decide +kernel
theorem dL_law_8 : decode cL_law 8 = .ok (.new 10, 3) := by decide +kernel
theorem dL_law_11 : decode cL_law 11 = .ok (.dup, 1) := by decide +kernel
theorem dL_law_12 : decode cL_law 12 = .ok (.invokespecial 12, 3) := by decide +kernel
theorem dL_law_15 : decode cL_law 15 = .ok (.astore_n 2, 1) := by decide +kernel
theorem dL_law_16 : decode cL_law 16 = .ok (.iconst 0, 1) := by decide +kernel
theorem dL_law_17 : decode cL_law 17 = .ok (.istore_n 3, 1) := by decide +kernel
theorem dL_law_18 : decode cL_law 18 = .ok (.iload_n 3, 1) := by decide +kernel
theorem dL_law_19 : decode cL_law 19 = .ok (.aload_n 0, 1) := by decide +kernel
theorem dL_law_20 : decode cL_law 20 = .ok (.arraylength, 1) := by decide +kernel
theorem dL_law_21 : decode cL_law 21 = .ok (.iconst 4, 1) := by decide +kernel
theorem dL_law_22 : decode cL_law 22 = .ok (.isub, 1) := by decide +kernel
theorem dL_law_23 : decode cL_law 23 = .ok (.if_icmp .gt 456, 3) := by decide +kernel
theorem dL_law_26 : decode cL_law 26 = .ok (.aload_n 0, 1) := by decide +kernel
theorem dL_law_27 : decode cL_law 27 = .ok (.iload_n 3, 1) := by decide +kernel
theorem dL_law_28 : decode cL_law 28 = .ok (.iaload, 1) := by decide +kernel
theorem dL_law_29 : decode cL_law 29 = .ok (.bipush 15, 2) := by decide +kernel
theorem dL_law_31 : decode cL_law 31 = .ok (.iand, 1) := by decide +kernel
theorem dL_law_32 : decode cL_law 32 = .ok (.tableswitch 441 0 14 #[76, 99, 122, 135, 148, 171, 204, 237, 280, 303, 326, 349, 372, 395, 418], 76) := by decide +kernel
theorem dL_law_108 : decode cL_law 108 = .ok (.aload_n 1, 1) := by decide +kernel
theorem dL_law_109 : decode cL_law 109 = .ok (.aload_n 0, 1) := by decide +kernel
theorem dL_law_110 : decode cL_law 110 = .ok (.iload_n 3, 1) := by decide +kernel
theorem dL_law_111 : decode cL_law 111 = .ok (.iconst 1, 1) := by decide +kernel
theorem dL_law_112 : decode cL_law 112 = .ok (.iadd, 1) := by decide +kernel
theorem dL_law_113 : decode cL_law 113 = .ok (.iaload, 1) := by decide +kernel
theorem dL_law_114 : decode cL_law 114 = .ok (.invokevirtual 13, 3) := by decide +kernel
theorem dL_law_117 : decode cL_law 117 = .ok (.aload_n 2, 1) := by decide +kernel
theorem dL_law_118 : decode cL_law 118 = .ok (.aload_n 0, 1) := by decide +kernel
theorem dL_law_119 : decode cL_law 119 = .ok (.iload_n 3, 1) := by decide +kernel
theorem dL_law_120 : decode cL_law 120 = .ok (.iconst 1, 1) := by decide +kernel
theorem dL_law_121 : decode cL_law 121 = .ok (.iadd, 1) := by decide +kernel
theorem dL_law_122 : decode cL_law 122 = .ok (.iaload, 1) := by decide +kernel
theorem dL_law_123 : decode cL_law 123 = .ok (.invokevirtual 17, 3) := by decide +kernel
theorem dL_law_126 : decode cL_law 126 = .ok (.if_icmp .eq 347, 3) := by decide +kernel
theorem dL_law_129 : decode cL_law 129 = .ok (.iconst 0, 1) := by decide +kernel
theorem dL_law_130 : decode cL_law 130 = .ok (.ireturn, 1) := by decide +kernel
theorem dL_law_131 : decode cL_law 131 = .ok (.aload_n 1, 1) := by decide +kernel
theorem dL_law_132 : decode cL_law 132 = .ok (.aload_n 0, 1) := by decide +kernel
theorem dL_law_133 : decode cL_law 133 = .ok (.iload_n 3, 1) := by decide +kernel
theorem dL_law_134 : decode cL_law 134 = .ok (.iconst 1, 1) := by decide +kernel
theorem dL_law_135 : decode cL_law 135 = .ok (.iadd, 1) := by decide +kernel
theorem dL_law_136 : decode cL_law 136 = .ok (.iaload, 1) := by decide +kernel
theorem dL_law_137 : decode cL_law 137 = .ok (.invokevirtual 18, 3) := by decide +kernel
theorem dL_law_140 : decode cL_law 140 = .ok (.aload_n 2, 1) := by decide +kernel
theorem dL_law_141 : decode cL_law 141 = .ok (.aload_n 0, 1) := by decide +kernel
theorem dL_law_142 : decode cL_law 142 = .ok (.iload_n 3, 1) := by decide +kernel
theorem dL_law_143 : decode cL_law 143 = .ok (.iconst 1, 1) := by decide +kernel
theorem dL_law_144 : decode cL_law 144 = .ok (.iadd, 1) := by decide +kernel
theorem dL_law_145 : decode cL_law 145 = .ok (.iaload, 1) := by decide +kernel
theorem dL_law_146 : decode cL_law 146 = .ok (.invokevirtual 21, 3) := by decide +kernel
theorem dL_law_149 : decode cL_law 149 = .ok (.if_icmp .eq 324, 3) := by decide +kernel
theorem dL_law_152 : decode cL_law 152 = .ok (.iconst 0, 1) := by decide +kernel
theorem dL_law_153 : decode cL_law 153 = .ok (.ireturn, 1) := by decide +kernel
theorem dL_law_154 : decode cL_law 154 = .ok (.aload_n 1, 1) := by decide +kernel
theorem dL_law_155 : decode cL_law 155 = .ok (.invokevirtual 22, 3) := by decide +kernel
theorem dL_law_158 : decode cL_law 158 = .ok (.aload_n 2, 1) := by decide +kernel
theorem dL_law_159 : decode cL_law 159 = .ok (.invokevirtual 26, 3) := by decide +kernel
theorem dL_law_162 : decode cL_law 162 = .ok (.if_icmp .eq 311, 3) := by decide +kernel
theorem dL_law_165 : decode cL_law 165 = .ok (.iconst 0, 1) := by decide +kernel
theorem dL_law_166 : decode cL_law 166 = .ok (.ireturn, 1) := by decide +kernel
theorem dL_law_167 : decode cL_law 167 = .ok (.aload_n 1, 1) := by decide +kernel
theorem dL_law_168 : decode cL_law 168 = .ok (.invokevirtual 27, 3) := by decide +kernel
theorem dL_law_171 : decode cL_law 171 = .ok (.aload_n 2, 1) := by decide +kernel
theorem dL_law_172 : decode cL_law 172 = .ok (.invokevirtual 30, 3) := by decide +kernel
theorem dL_law_175 : decode cL_law 175 = .ok (.if_icmp .eq 298, 3) := by decide +kernel
theorem dL_law_178 : decode cL_law 178 = .ok (.iconst 0, 1) := by decide +kernel
theorem dL_law_179 : decode cL_law 179 = .ok (.ireturn, 1) := by decide +kernel
theorem dL_law_180 : decode cL_law 180 = .ok (.aload_n 1, 1) := by decide +kernel
theorem dL_law_181 : decode cL_law 181 = .ok (.aload_n 0, 1) := by decide +kernel
theorem dL_law_182 : decode cL_law 182 = .ok (.iload_n 3, 1) := by decide +kernel
theorem dL_law_183 : decode cL_law 183 = .ok (.iconst 1, 1) := by decide +kernel
theorem dL_law_184 : decode cL_law 184 = .ok (.iadd, 1) := by decide +kernel
theorem dL_law_185 : decode cL_law 185 = .ok (.iaload, 1) := by decide +kernel
theorem dL_law_186 : decode cL_law 186 = .ok (.invokevirtual 31, 3) := by decide +kernel
theorem dL_law_189 : decode cL_law 189 = .ok (.aload_n 2, 1) := by decide +kernel
theorem dL_law_190 : decode cL_law 190 = .ok (.aload_n 0, 1) := by decide +kernel
theorem dL_law_191 : decode cL_law 191 = .ok (.iload_n 3, 1) := by decide +kernel
theorem dL_law_192 : decode cL_law 192 = .ok (.iconst 1, 1) := by decide +kernel
theorem dL_law_193 : decode cL_law 193 = .ok (.iadd, 1) := by decide +kernel
theorem dL_law_194 : decode cL_law 194 = .ok (.iaload, 1) := by decide +kernel
theorem dL_law_195 : decode cL_law 195 = .ok (.invokevirtual 34, 3) := by decide +kernel
theorem dL_law_198 : decode cL_law 198 = .ok (.if_icmp .eq 275, 3) := by decide +kernel
theorem dL_law_201 : decode cL_law 201 = .ok (.iconst 0, 1) := by decide +kernel
theorem dL_law_202 : decode cL_law 202 = .ok (.ireturn, 1) := by decide +kernel
theorem dL_law_203 : decode cL_law 203 = .ok (.aload_n 1, 1) := by decide +kernel
theorem dL_law_204 : decode cL_law 204 = .ok (.aload_n 0, 1) := by decide +kernel
theorem dL_law_205 : decode cL_law 205 = .ok (.iload_n 3, 1) := by decide +kernel
theorem dL_law_206 : decode cL_law 206 = .ok (.iconst 1, 1) := by decide +kernel
theorem dL_law_207 : decode cL_law 207 = .ok (.iadd, 1) := by decide +kernel
theorem dL_law_208 : decode cL_law 208 = .ok (.iaload, 1) := by decide +kernel
theorem dL_law_209 : decode cL_law 209 = .ok (.aload_n 0, 1) := by decide +kernel
theorem dL_law_210 : decode cL_law 210 = .ok (.iload_n 3, 1) := by decide +kernel
theorem dL_law_211 : decode cL_law 211 = .ok (.iconst 2, 1) := by decide +kernel
theorem dL_law_212 : decode cL_law 212 = .ok (.iadd, 1) := by decide +kernel
theorem dL_law_213 : decode cL_law 213 = .ok (.iaload, 1) := by decide +kernel
theorem dL_law_214 : decode cL_law 214 = .ok (.invokevirtual 35, 3) := by decide +kernel
theorem dL_law_217 : decode cL_law 217 = .ok (.aload_n 2, 1) := by decide +kernel
theorem dL_law_218 : decode cL_law 218 = .ok (.aload_n 0, 1) := by decide +kernel
theorem dL_law_219 : decode cL_law 219 = .ok (.iload_n 3, 1) := by decide +kernel
theorem dL_law_220 : decode cL_law 220 = .ok (.iconst 1, 1) := by decide +kernel
theorem dL_law_221 : decode cL_law 221 = .ok (.iadd, 1) := by decide +kernel
theorem dL_law_222 : decode cL_law 222 = .ok (.iaload, 1) := by decide +kernel
theorem dL_law_223 : decode cL_law 223 = .ok (.aload_n 0, 1) := by decide +kernel
theorem dL_law_224 : decode cL_law 224 = .ok (.iload_n 3, 1) := by decide +kernel
theorem dL_law_225 : decode cL_law 225 = .ok (.iconst 2, 1) := by decide +kernel
theorem dL_law_226 : decode cL_law 226 = .ok (.iadd, 1) := by decide +kernel
theorem dL_law_227 : decode cL_law 227 = .ok (.iaload, 1) := by decide +kernel
theorem dL_law_228 : decode cL_law 228 = .ok (.invokevirtual 39, 3) := by decide +kernel
theorem dL_law_231 : decode cL_law 231 = .ok (.if_icmp .eq 242, 3) := by decide +kernel
theorem dL_law_234 : decode cL_law 234 = .ok (.iconst 0, 1) := by decide +kernel
theorem dL_law_235 : decode cL_law 235 = .ok (.ireturn, 1) := by decide +kernel
theorem dL_law_236 : decode cL_law 236 = .ok (.aload_n 1, 1) := by decide +kernel
theorem dL_law_237 : decode cL_law 237 = .ok (.aload_n 0, 1) := by decide +kernel
theorem dL_law_238 : decode cL_law 238 = .ok (.iload_n 3, 1) := by decide +kernel
theorem dL_law_239 : decode cL_law 239 = .ok (.iconst 1, 1) := by decide +kernel
theorem dL_law_240 : decode cL_law 240 = .ok (.iadd, 1) := by decide +kernel
theorem dL_law_241 : decode cL_law 241 = .ok (.iaload, 1) := by decide +kernel
theorem dL_law_242 : decode cL_law 242 = .ok (.aload_n 0, 1) := by decide +kernel
theorem dL_law_243 : decode cL_law 243 = .ok (.iload_n 3, 1) := by decide +kernel
theorem dL_law_244 : decode cL_law 244 = .ok (.iconst 2, 1) := by decide +kernel
theorem dL_law_245 : decode cL_law 245 = .ok (.iadd, 1) := by decide +kernel
theorem dL_law_246 : decode cL_law 246 = .ok (.iaload, 1) := by decide +kernel
theorem dL_law_247 : decode cL_law 247 = .ok (.invokevirtual 40, 3) := by decide +kernel
theorem dL_law_250 : decode cL_law 250 = .ok (.aload_n 2, 1) := by decide +kernel
theorem dL_law_251 : decode cL_law 251 = .ok (.aload_n 0, 1) := by decide +kernel
theorem dL_law_252 : decode cL_law 252 = .ok (.iload_n 3, 1) := by decide +kernel
theorem dL_law_253 : decode cL_law 253 = .ok (.iconst 1, 1) := by decide +kernel
theorem dL_law_254 : decode cL_law 254 = .ok (.iadd, 1) := by decide +kernel
theorem dL_law_255 : decode cL_law 255 = .ok (.iaload, 1) := by decide +kernel
theorem dL_law_256 : decode cL_law 256 = .ok (.aload_n 0, 1) := by decide +kernel
theorem dL_law_257 : decode cL_law 257 = .ok (.iload_n 3, 1) := by decide +kernel
theorem dL_law_258 : decode cL_law 258 = .ok (.iconst 2, 1) := by decide +kernel
theorem dL_law_259 : decode cL_law 259 = .ok (.iadd, 1) := by decide +kernel
theorem dL_law_260 : decode cL_law 260 = .ok (.iaload, 1) := by decide +kernel
theorem dL_law_261 : decode cL_law 261 = .ok (.invokevirtual 43, 3) := by decide +kernel
theorem dL_law_264 : decode cL_law 264 = .ok (.if_icmp .eq 209, 3) := by decide +kernel
theorem dL_law_267 : decode cL_law 267 = .ok (.iconst 0, 1) := by decide +kernel
theorem dL_law_268 : decode cL_law 268 = .ok (.ireturn, 1) := by decide +kernel
theorem dL_law_269 : decode cL_law 269 = .ok (.aload_n 1, 1) := by decide +kernel
theorem dL_law_270 : decode cL_law 270 = .ok (.aload_n 0, 1) := by decide +kernel
theorem dL_law_271 : decode cL_law 271 = .ok (.iload_n 3, 1) := by decide +kernel
theorem dL_law_272 : decode cL_law 272 = .ok (.iconst 1, 1) := by decide +kernel
theorem dL_law_273 : decode cL_law 273 = .ok (.iadd, 1) := by decide +kernel
theorem dL_law_274 : decode cL_law 274 = .ok (.iaload, 1) := by decide +kernel
theorem dL_law_275 : decode cL_law 275 = .ok (.aload_n 0, 1) := by decide +kernel
theorem dL_law_276 : decode cL_law 276 = .ok (.iload_n 3, 1) := by decide +kernel
theorem dL_law_277 : decode cL_law 277 = .ok (.iconst 2, 1) := by decide +kernel
theorem dL_law_278 : decode cL_law 278 = .ok (.iadd, 1) := by decide +kernel
theorem dL_law_279 : decode cL_law 279 = .ok (.iaload, 1) := by decide +kernel
theorem dL_law_280 : decode cL_law 280 = .ok (.aload_n 0, 1) := by decide +kernel
theorem dL_law_281 : decode cL_law 281 = .ok (.iload_n 3, 1) := by decide +kernel
theorem dL_law_282 : decode cL_law 282 = .ok (.iconst 3, 1) := by decide +kernel
theorem dL_law_283 : decode cL_law 283 = .ok (.iadd, 1) := by decide +kernel
theorem dL_law_284 : decode cL_law 284 = .ok (.iaload, 1) := by decide +kernel
theorem dL_law_285 : decode cL_law 285 = .ok (.invokevirtual 44, 3) := by decide +kernel
theorem dL_law_288 : decode cL_law 288 = .ok (.aload_n 2, 1) := by decide +kernel
theorem dL_law_289 : decode cL_law 289 = .ok (.aload_n 0, 1) := by decide +kernel
theorem dL_law_290 : decode cL_law 290 = .ok (.iload_n 3, 1) := by decide +kernel
theorem dL_law_291 : decode cL_law 291 = .ok (.iconst 1, 1) := by decide +kernel
theorem dL_law_292 : decode cL_law 292 = .ok (.iadd, 1) := by decide +kernel
theorem dL_law_293 : decode cL_law 293 = .ok (.iaload, 1) := by decide +kernel
theorem dL_law_294 : decode cL_law 294 = .ok (.aload_n 0, 1) := by decide +kernel
theorem dL_law_295 : decode cL_law 295 = .ok (.iload_n 3, 1) := by decide +kernel
theorem dL_law_296 : decode cL_law 296 = .ok (.iconst 2, 1) := by decide +kernel
theorem dL_law_297 : decode cL_law 297 = .ok (.iadd, 1) := by decide +kernel
theorem dL_law_298 : decode cL_law 298 = .ok (.iaload, 1) := by decide +kernel
theorem dL_law_299 : decode cL_law 299 = .ok (.aload_n 0, 1) := by decide +kernel
theorem dL_law_300 : decode cL_law 300 = .ok (.iload_n 3, 1) := by decide +kernel
theorem dL_law_301 : decode cL_law 301 = .ok (.iconst 3, 1) := by decide +kernel
theorem dL_law_302 : decode cL_law 302 = .ok (.iadd, 1) := by decide +kernel
theorem dL_law_303 : decode cL_law 303 = .ok (.iaload, 1) := by decide +kernel
theorem dL_law_304 : decode cL_law 304 = .ok (.invokevirtual 48, 3) := by decide +kernel
theorem dL_law_307 : decode cL_law 307 = .ok (.if_icmp .eq 166, 3) := by decide +kernel
theorem dL_law_310 : decode cL_law 310 = .ok (.iconst 0, 1) := by decide +kernel
theorem dL_law_311 : decode cL_law 311 = .ok (.ireturn, 1) := by decide +kernel
theorem dL_law_312 : decode cL_law 312 = .ok (.aload_n 1, 1) := by decide +kernel
theorem dL_law_313 : decode cL_law 313 = .ok (.aload_n 0, 1) := by decide +kernel
theorem dL_law_314 : decode cL_law 314 = .ok (.iload_n 3, 1) := by decide +kernel
theorem dL_law_315 : decode cL_law 315 = .ok (.iconst 1, 1) := by decide +kernel
theorem dL_law_316 : decode cL_law 316 = .ok (.iadd, 1) := by decide +kernel
theorem dL_law_317 : decode cL_law 317 = .ok (.iaload, 1) := by decide +kernel
theorem dL_law_318 : decode cL_law 318 = .ok (.invokevirtual 49, 3) := by decide +kernel
theorem dL_law_321 : decode cL_law 321 = .ok (.aload_n 2, 1) := by decide +kernel
theorem dL_law_322 : decode cL_law 322 = .ok (.aload_n 0, 1) := by decide +kernel
theorem dL_law_323 : decode cL_law 323 = .ok (.iload_n 3, 1) := by decide +kernel
theorem dL_law_324 : decode cL_law 324 = .ok (.iconst 1, 1) := by decide +kernel
theorem dL_law_325 : decode cL_law 325 = .ok (.iadd, 1) := by decide +kernel
theorem dL_law_326 : decode cL_law 326 = .ok (.iaload, 1) := by decide +kernel
theorem dL_law_327 : decode cL_law 327 = .ok (.invokevirtual 52, 3) := by decide +kernel
theorem dL_law_330 : decode cL_law 330 = .ok (.if_icmp .eq 143, 3) := by decide +kernel
theorem dL_law_333 : decode cL_law 333 = .ok (.iconst 0, 1) := by decide +kernel
theorem dL_law_334 : decode cL_law 334 = .ok (.ireturn, 1) := by decide +kernel
theorem dL_law_335 : decode cL_law 335 = .ok (.aload_n 1, 1) := by decide +kernel
theorem dL_law_336 : decode cL_law 336 = .ok (.aload_n 0, 1) := by decide +kernel
theorem dL_law_337 : decode cL_law 337 = .ok (.iload_n 3, 1) := by decide +kernel
theorem dL_law_338 : decode cL_law 338 = .ok (.iconst 1, 1) := by decide +kernel
theorem dL_law_339 : decode cL_law 339 = .ok (.iadd, 1) := by decide +kernel
theorem dL_law_340 : decode cL_law 340 = .ok (.iaload, 1) := by decide +kernel
theorem dL_law_341 : decode cL_law 341 = .ok (.invokevirtual 53, 3) := by decide +kernel
theorem dL_law_344 : decode cL_law 344 = .ok (.aload_n 2, 1) := by decide +kernel
theorem dL_law_345 : decode cL_law 345 = .ok (.aload_n 0, 1) := by decide +kernel
theorem dL_law_346 : decode cL_law 346 = .ok (.iload_n 3, 1) := by decide +kernel
theorem dL_law_347 : decode cL_law 347 = .ok (.iconst 1, 1) := by decide +kernel
theorem dL_law_348 : decode cL_law 348 = .ok (.iadd, 1) := by decide +kernel
theorem dL_law_349 : decode cL_law 349 = .ok (.iaload, 1) := by decide +kernel
theorem dL_law_350 : decode cL_law 350 = .ok (.invokevirtual 56, 3) := by decide +kernel
theorem dL_law_353 : decode cL_law 353 = .ok (.if_icmp .eq 120, 3) := by decide +kernel
theorem dL_law_356 : decode cL_law 356 = .ok (.iconst 0, 1) := by decide +kernel
theorem dL_law_357 : decode cL_law 357 = .ok (.ireturn, 1) := by decide +kernel
theorem dL_law_358 : decode cL_law 358 = .ok (.aload_n 1, 1) := by decide +kernel
theorem dL_law_359 : decode cL_law 359 = .ok (.aload_n 0, 1) := by decide +kernel
theorem dL_law_360 : decode cL_law 360 = .ok (.iload_n 3, 1) := by decide +kernel
theorem dL_law_361 : decode cL_law 361 = .ok (.iconst 1, 1) := by decide +kernel
theorem dL_law_362 : decode cL_law 362 = .ok (.iadd, 1) := by decide +kernel
theorem dL_law_363 : decode cL_law 363 = .ok (.iaload, 1) := by decide +kernel
theorem dL_law_364 : decode cL_law 364 = .ok (.invokevirtual 57, 3) := by decide +kernel
theorem dL_law_367 : decode cL_law 367 = .ok (.aload_n 2, 1) := by decide +kernel
theorem dL_law_368 : decode cL_law 368 = .ok (.aload_n 0, 1) := by decide +kernel
theorem dL_law_369 : decode cL_law 369 = .ok (.iload_n 3, 1) := by decide +kernel
theorem dL_law_370 : decode cL_law 370 = .ok (.iconst 1, 1) := by decide +kernel
theorem dL_law_371 : decode cL_law 371 = .ok (.iadd, 1) := by decide +kernel
theorem dL_law_372 : decode cL_law 372 = .ok (.iaload, 1) := by decide +kernel
theorem dL_law_373 : decode cL_law 373 = .ok (.invokevirtual 60, 3) := by decide +kernel
theorem dL_law_376 : decode cL_law 376 = .ok (.if_icmp .eq 97, 3) := by decide +kernel
theorem dL_law_379 : decode cL_law 379 = .ok (.iconst 0, 1) := by decide +kernel
theorem dL_law_380 : decode cL_law 380 = .ok (.ireturn, 1) := by decide +kernel
theorem dL_law_381 : decode cL_law 381 = .ok (.aload_n 1, 1) := by decide +kernel
theorem dL_law_382 : decode cL_law 382 = .ok (.aload_n 0, 1) := by decide +kernel
theorem dL_law_383 : decode cL_law 383 = .ok (.iload_n 3, 1) := by decide +kernel
theorem dL_law_384 : decode cL_law 384 = .ok (.iconst 1, 1) := by decide +kernel
theorem dL_law_385 : decode cL_law 385 = .ok (.iadd, 1) := by decide +kernel
theorem dL_law_386 : decode cL_law 386 = .ok (.iaload, 1) := by decide +kernel
theorem dL_law_387 : decode cL_law 387 = .ok (.invokevirtual 61, 3) := by decide +kernel
theorem dL_law_390 : decode cL_law 390 = .ok (.aload_n 2, 1) := by decide +kernel
theorem dL_law_391 : decode cL_law 391 = .ok (.aload_n 0, 1) := by decide +kernel
theorem dL_law_392 : decode cL_law 392 = .ok (.iload_n 3, 1) := by decide +kernel
theorem dL_law_393 : decode cL_law 393 = .ok (.iconst 1, 1) := by decide +kernel
theorem dL_law_394 : decode cL_law 394 = .ok (.iadd, 1) := by decide +kernel
theorem dL_law_395 : decode cL_law 395 = .ok (.iaload, 1) := by decide +kernel
theorem dL_law_396 : decode cL_law 396 = .ok (.invokevirtual 64, 3) := by decide +kernel
theorem dL_law_399 : decode cL_law 399 = .ok (.if_icmp .eq 74, 3) := by decide +kernel
theorem dL_law_402 : decode cL_law 402 = .ok (.iconst 0, 1) := by decide +kernel
theorem dL_law_403 : decode cL_law 403 = .ok (.ireturn, 1) := by decide +kernel
theorem dL_law_404 : decode cL_law 404 = .ok (.aload_n 1, 1) := by decide +kernel
theorem dL_law_405 : decode cL_law 405 = .ok (.aload_n 0, 1) := by decide +kernel
theorem dL_law_406 : decode cL_law 406 = .ok (.iload_n 3, 1) := by decide +kernel
theorem dL_law_407 : decode cL_law 407 = .ok (.iconst 1, 1) := by decide +kernel
theorem dL_law_408 : decode cL_law 408 = .ok (.iadd, 1) := by decide +kernel
theorem dL_law_409 : decode cL_law 409 = .ok (.iaload, 1) := by decide +kernel
theorem dL_law_410 : decode cL_law 410 = .ok (.invokevirtual 65, 3) := by decide +kernel
theorem dL_law_413 : decode cL_law 413 = .ok (.aload_n 2, 1) := by decide +kernel
theorem dL_law_414 : decode cL_law 414 = .ok (.aload_n 0, 1) := by decide +kernel
theorem dL_law_415 : decode cL_law 415 = .ok (.iload_n 3, 1) := by decide +kernel
theorem dL_law_416 : decode cL_law 416 = .ok (.iconst 1, 1) := by decide +kernel
theorem dL_law_417 : decode cL_law 417 = .ok (.iadd, 1) := by decide +kernel
theorem dL_law_418 : decode cL_law 418 = .ok (.iaload, 1) := by decide +kernel
theorem dL_law_419 : decode cL_law 419 = .ok (.invokevirtual 68, 3) := by decide +kernel
theorem dL_law_422 : decode cL_law 422 = .ok (.if_icmp .eq 51, 3) := by decide +kernel
theorem dL_law_425 : decode cL_law 425 = .ok (.iconst 0, 1) := by decide +kernel
theorem dL_law_426 : decode cL_law 426 = .ok (.ireturn, 1) := by decide +kernel
theorem dL_law_427 : decode cL_law 427 = .ok (.aload_n 1, 1) := by decide +kernel
theorem dL_law_428 : decode cL_law 428 = .ok (.aload_n 0, 1) := by decide +kernel
theorem dL_law_429 : decode cL_law 429 = .ok (.iload_n 3, 1) := by decide +kernel
theorem dL_law_430 : decode cL_law 430 = .ok (.iconst 1, 1) := by decide +kernel
theorem dL_law_431 : decode cL_law 431 = .ok (.iadd, 1) := by decide +kernel
theorem dL_law_432 : decode cL_law 432 = .ok (.iaload, 1) := by decide +kernel
theorem dL_law_433 : decode cL_law 433 = .ok (.invokevirtual 69, 3) := by decide +kernel
theorem dL_law_436 : decode cL_law 436 = .ok (.aload_n 2, 1) := by decide +kernel
theorem dL_law_437 : decode cL_law 437 = .ok (.aload_n 0, 1) := by decide +kernel
theorem dL_law_438 : decode cL_law 438 = .ok (.iload_n 3, 1) := by decide +kernel
theorem dL_law_439 : decode cL_law 439 = .ok (.iconst 1, 1) := by decide +kernel
theorem dL_law_440 : decode cL_law 440 = .ok (.iadd, 1) := by decide +kernel
theorem dL_law_441 : decode cL_law 441 = .ok (.iaload, 1) := by decide +kernel
theorem dL_law_442 : decode cL_law 442 = .ok (.invokevirtual 72, 3) := by decide +kernel
theorem dL_law_445 : decode cL_law 445 = .ok (.if_icmp .eq 28, 3) := by decide +kernel
theorem dL_law_448 : decode cL_law 448 = .ok (.iconst 0, 1) := by decide +kernel
theorem dL_law_449 : decode cL_law 449 = .ok (.ireturn, 1) := by decide +kernel
theorem dL_law_450 : decode cL_law 450 = .ok (.aload_n 1, 1) := by decide +kernel
theorem dL_law_451 : decode cL_law 451 = .ok (.aload_n 0, 1) := by decide +kernel
theorem dL_law_452 : decode cL_law 452 = .ok (.iload_n 3, 1) := by decide +kernel
theorem dL_law_453 : decode cL_law 453 = .ok (.iconst 1, 1) := by decide +kernel
theorem dL_law_454 : decode cL_law 454 = .ok (.iadd, 1) := by decide +kernel
theorem dL_law_455 : decode cL_law 455 = .ok (.iaload, 1) := by decide +kernel
theorem dL_law_456 : decode cL_law 456 = .ok (.invokevirtual 73, 3) := by decide +kernel
theorem dL_law_459 : decode cL_law 459 = .ok (.aload_n 2, 1) := by decide +kernel
theorem dL_law_460 : decode cL_law 460 = .ok (.aload_n 0, 1) := by decide +kernel
theorem dL_law_461 : decode cL_law 461 = .ok (.iload_n 3, 1) := by decide +kernel
theorem dL_law_462 : decode cL_law 462 = .ok (.iconst 1, 1) := by decide +kernel
theorem dL_law_463 : decode cL_law 463 = .ok (.iadd, 1) := by decide +kernel
theorem dL_law_464 : decode cL_law 464 = .ok (.iaload, 1) := by decide +kernel
theorem dL_law_465 : decode cL_law 465 = .ok (.invokevirtual 76, 3) := by decide +kernel
theorem dL_law_468 : decode cL_law 468 = .ok (.if_icmp .eq 5, 3) := by decide +kernel
theorem dL_law_471 : decode cL_law 471 = .ok (.iconst 0, 1) := by decide +kernel
theorem dL_law_472 : decode cL_law 472 = .ok (.ireturn, 1) := by decide +kernel
theorem dL_law_473 : decode cL_law 473 = .ok (.iinc 3 4, 3) := by decide +kernel
theorem dL_law_476 : decode cL_law 476 = .ok (.goto (-458), 3) := by decide +kernel
theorem dL_law_479 : decode cL_law 479 = .ok (.iconst 1, 1) := by decide +kernel
theorem dL_law_480 : decode cL_law 480 = .ok (.ireturn, 1) := by decide +kernel
/-! java/lang/Object -/
def RJ0 : String := "java/lang/Object"
abbrev cJ0_init : ByteArray := object_method_1_code
def yJ0_init : MethodName := ⟨RJ0, "<init>", "()V"⟩
theorem dJ0_init_0 : decode cJ0_init 0 = .ok (.return_, 1) := by decide +kernel
theorem q37 : (Jvm.Cond.instanceMethod ({ cls := "java/lang/Object", name := "<init>", desc := "()V" } : Jvm.MethodName)) ∈ lw_all := lw_g (lw_at lw_m1 9 rfl) rfl
theorem q38 : (Jvm.Cond.code ({ cls := "java/lang/Object", name := "<init>", desc := "()V" } : Jvm.MethodName) object_method_1_code (1 : Nat) (Option.none : Option Jvm.ClassFile.FieldType)) ∈ lw_all := lw_g (lw_at lw_m1 10 rfl) rfl
theorem q28 : (Jvm.Cond.initialized "PersistentBarsLaw") ∈ lw_all := lw_g (lw_at lw_m1 0 rfl) rfl
theorem q31 : (Jvm.Cond.classLink "PersistentBarsLaw" (7 : Nat) "PersistentBars") ∈ lw_all := lw_g (lw_at lw_m1 3 rfl) rfl
theorem q33 : (Jvm.Cond.methodLink "PersistentBarsLaw" (9 : Nat) ({ cls := "PersistentBars", name := "<init>", desc := "()V" } : Jvm.MethodName)) ∈ lw_all := lw_g (lw_at lw_m1 5 rfl) rfl
theorem q62 : (Jvm.Cond.methodLink "PersistentBarsLaw" (13 : Nat) ({ cls := "PersistentBars", name := "add", desc := "(I)I" } : Jvm.MethodName)) ∈ lw_all := lw_g (lw_at lw_m1 34 rfl) rfl
theorem q80 : (Jvm.Cond.methodLink "PersistentBarsLaw" (18 : Nat) ({ cls := "PersistentBars", name := "fill", desc := "(I)I" } : Jvm.MethodName)) ∈ lw_all := lw_g (lw_at lw_m1 52 rfl) rfl
theorem q84 : (Jvm.Cond.methodLink "PersistentBarsLaw" (22 : Nat) ({ cls := "PersistentBars", name := "undo", desc := "()I" } : Jvm.MethodName)) ∈ lw_all := lw_g (lw_at lw_m1 56 rfl) rfl
theorem q88 : (Jvm.Cond.methodLink "PersistentBarsLaw" (27 : Nat) ({ cls := "PersistentBars", name := "size", desc := "()I" } : Jvm.MethodName)) ∈ lw_all := lw_g (lw_at lw_m1 60 rfl) rfl
theorem q92 : (Jvm.Cond.methodLink "PersistentBarsLaw" (31 : Nat) ({ cls := "PersistentBars", name := "piece", desc := "(I)I" } : Jvm.MethodName)) ∈ lw_all := lw_g (lw_at lw_m1 64 rfl) rfl
theorem q100 : (Jvm.Cond.methodLink "PersistentBarsLaw" (35 : Nat) ({ cls := "PersistentBars", name := "pieces", desc := "(II)I" } : Jvm.MethodName)) ∈ lw_all := lw_g (lw_at lw_m1 72 rfl) rfl
theorem q108 : (Jvm.Cond.methodLink "PersistentBarsLaw" (40 : Nat) ({ cls := "PersistentBars", name := "holes", desc := "(II)I" } : Jvm.MethodName)) ∈ lw_all := lw_g (lw_at lw_m1 80 rfl) rfl
theorem q127 : (Jvm.Cond.methodLink "PersistentBarsLaw" (44 : Nat) ({ cls := "PersistentBars", name := "lasting", desc := "(III)I" } : Jvm.MethodName)) ∈ lw_all := lw_g (lw_at lw_m1 99 rfl) rfl
theorem q131 : (Jvm.Cond.methodLink "PersistentBarsLaw" (49 : Nat) ({ cls := "PersistentBars", name := "opens", desc := "(I)I" } : Jvm.MethodName)) ∈ lw_all := lw_g (lw_at lw_m1 103 rfl) rfl
theorem q135 : (Jvm.Cond.methodLink "PersistentBarsLaw" (53 : Nat) ({ cls := "PersistentBars", name := "partner", desc := "(I)I" } : Jvm.MethodName)) ∈ lw_all := lw_g (lw_at lw_m1 107 rfl) rfl
theorem q139 : (Jvm.Cond.methodLink "PersistentBarsLaw" (57 : Nat) ({ cls := "PersistentBars", name := "forever", desc := "(I)I" } : Jvm.MethodName)) ∈ lw_all := lw_g (lw_at lw_m1 111 rfl) rfl
theorem q143 : (Jvm.Cond.methodLink "PersistentBarsLaw" (61 : Nat) ({ cls := "PersistentBars", name := "longest", desc := "(I)I" } : Jvm.MethodName)) ∈ lw_all := lw_g (lw_at lw_m1 115 rfl) rfl
theorem q147 : (Jvm.Cond.methodLink "PersistentBarsLaw" (65 : Nat) ({ cls := "PersistentBars", name := "euler", desc := "(I)I" } : Jvm.MethodName)) ∈ lw_all := lw_g (lw_at lw_m1 119 rfl) rfl
theorem q151 : (Jvm.Cond.methodLink "PersistentBarsLaw" (69 : Nat) ({ cls := "PersistentBars", name := "border", desc := "(I)I" } : Jvm.MethodName)) ∈ lw_all := lw_g (lw_at lw_m1 123 rfl) rfl
theorem q167 : (Jvm.Cond.methodLink "PersistentBarsLaw" (73 : Nat) ({ cls := "PersistentBars", name := "bounds", desc := "(I)I" } : Jvm.MethodName)) ∈ lw_all := lw_g (lw_at lw_m1 139 rfl) rfl
theorem q171 : (Jvm.Cond.classLink "PersistentBarsLaw" (10 : Nat) "PersistentBarsModel") ∈ lw_all := lw_g (lw_at lw_m1 143 rfl) rfl
theorem q173 : (Jvm.Cond.methodLink "PersistentBarsLaw" (12 : Nat) ({ cls := "PersistentBarsModel", name := "<init>", desc := "()V" } : Jvm.MethodName)) ∈ lw_all := lw_g (lw_at lw_m1 145 rfl) rfl
theorem q187 : (Jvm.Cond.methodLink "PersistentBarsLaw" (17 : Nat) ({ cls := "PersistentBarsModel", name := "add", desc := "(I)I" } : Jvm.MethodName)) ∈ lw_all := lw_g (lw_at lw_m1 159 rfl) rfl
theorem q211 : (Jvm.Cond.methodLink "PersistentBarsLaw" (21 : Nat) ({ cls := "PersistentBarsModel", name := "fill", desc := "(I)I" } : Jvm.MethodName)) ∈ lw_all := lw_g (lw_at lw_m1 183 rfl) rfl
theorem q215 : (Jvm.Cond.methodLink "PersistentBarsLaw" (26 : Nat) ({ cls := "PersistentBarsModel", name := "undo", desc := "()I" } : Jvm.MethodName)) ∈ lw_all := lw_g (lw_at lw_m1 187 rfl) rfl
theorem q219 : (Jvm.Cond.methodLink "PersistentBarsLaw" (30 : Nat) ({ cls := "PersistentBarsModel", name := "size", desc := "()I" } : Jvm.MethodName)) ∈ lw_all := lw_g (lw_at lw_m1 191 rfl) rfl
theorem q223 : (Jvm.Cond.methodLink "PersistentBarsLaw" (34 : Nat) ({ cls := "PersistentBarsModel", name := "piece", desc := "(I)I" } : Jvm.MethodName)) ∈ lw_all := lw_g (lw_at lw_m1 195 rfl) rfl
theorem q231 : (Jvm.Cond.methodLink "PersistentBarsLaw" (39 : Nat) ({ cls := "PersistentBarsModel", name := "pieces", desc := "(II)I" } : Jvm.MethodName)) ∈ lw_all := lw_g (lw_at lw_m1 203 rfl) rfl
theorem q251 : (Jvm.Cond.methodLink "PersistentBarsLaw" (43 : Nat) ({ cls := "PersistentBarsModel", name := "holes", desc := "(II)I" } : Jvm.MethodName)) ∈ lw_all := lw_g (lw_at lw_m1 223 rfl) rfl
theorem q267 : (Jvm.Cond.methodLink "PersistentBarsLaw" (48 : Nat) ({ cls := "PersistentBarsModel", name := "lasting", desc := "(III)I" } : Jvm.MethodName)) ∈ lw_all := lw_g (lw_at lw_m1 239 rfl) rfl
theorem q271 : (Jvm.Cond.methodLink "PersistentBarsLaw" (52 : Nat) ({ cls := "PersistentBarsModel", name := "opens", desc := "(I)I" } : Jvm.MethodName)) ∈ lw_all := lw_g (lw_at lw_m2 3 rfl) rfl
theorem q279 : (Jvm.Cond.methodLink "PersistentBarsLaw" (56 : Nat) ({ cls := "PersistentBarsModel", name := "partner", desc := "(I)I" } : Jvm.MethodName)) ∈ lw_all := lw_g (lw_at lw_m2 11 rfl) rfl
theorem q291 : (Jvm.Cond.methodLink "PersistentBarsLaw" (60 : Nat) ({ cls := "PersistentBarsModel", name := "forever", desc := "(I)I" } : Jvm.MethodName)) ∈ lw_all := lw_g (lw_at lw_m2 23 rfl) rfl
theorem q295 : (Jvm.Cond.methodLink "PersistentBarsLaw" (64 : Nat) ({ cls := "PersistentBarsModel", name := "longest", desc := "(I)I" } : Jvm.MethodName)) ∈ lw_all := lw_g (lw_at lw_m2 27 rfl) rfl
theorem q299 : (Jvm.Cond.methodLink "PersistentBarsLaw" (68 : Nat) ({ cls := "PersistentBarsModel", name := "euler", desc := "(I)I" } : Jvm.MethodName)) ∈ lw_all := lw_g (lw_at lw_m2 31 rfl) rfl
theorem q303 : (Jvm.Cond.methodLink "PersistentBarsLaw" (72 : Nat) ({ cls := "PersistentBarsModel", name := "border", desc := "(I)I" } : Jvm.MethodName)) ∈ lw_all := lw_g (lw_at lw_m2 35 rfl) rfl
theorem q315 : (Jvm.Cond.methodLink "PersistentBarsLaw" (76 : Nat) ({ cls := "PersistentBarsModel", name := "bounds", desc := "(I)I" } : Jvm.MethodName)) ∈ lw_all := lw_g (lw_at lw_m2 47 rfl) rfl
theorem q61 : (Jvm.Cond.arrayClass Jvm.ClassFile.FieldType.int) ∈ lw_all := lw_g (lw_at lw_m1 33 rfl) rfl
end
section
/-! combinations over the field of two elements: an indexed family V of numbers read as vectors of bits, its sums (xor), ranks -/
/-- the sum (xor) of those V b, b below m, that c picks -/
def pb_cb (V : Nat → Nat) (c : Nat → Bool) : Nat → Nat
  | 0 => 0
  | m + 1 => pb_cb V c m ^^^ (if c m = true then V m else 0)
theorem pb_cb_succ (V : Nat → Nat) (c : Nat → Bool) (m : Nat) : pb_cb V c (m + 1) = pb_cb V c m ^^^ (if c m = true then V m else 0) := rfl
/-- v is a sum of some of V 0 .. V (m-1) -/
def pb_Sp (V : Nat → Nat) (m v : Nat) : Prop := ∃ c : Nat → Bool, v = pb_cb V c m
theorem pb_xa (a b : Nat) : (a ^^^ b) ^^^ b = a := by rw [Nat.xor_assoc, Nat.xor_self, Nat.xor_zero]
theorem pb_xb (a b : Nat) : (a ^^^ b) ^^^ a = b := by rw [Nat.xor_comm a b, pb_xa]
theorem pb_xd (a b x : Nat) : (a ^^^ x) ^^^ (b ^^^ x) = a ^^^ b := by
  apply Nat.eq_of_testBit_eq
  intro i
  simp only [Nat.testBit_xor]
  cases a.testBit i <;> cases b.testBit i <;> cases x.testBit i <;> rfl
theorem pb_x3 (a b x : Nat) : (a ^^^ x) ^^^ b = (a ^^^ b) ^^^ x := by
  apply Nat.eq_of_testBit_eq
  intro i
  simp only [Nat.testBit_xor]
  cases a.testBit i <;> cases b.testBit i <;> cases x.testBit i <;> rfl
theorem pb_sp0 {V : Nat → Nat} {m : Nat} : pb_Sp V m 0 := by
  refine ⟨fun _ => false, ?_⟩
  induction m with
  | zero => rfl
  | succ m ih =>
    rw [pb_cb_succ, ← ih]
    simp
theorem pb_cb_xor (V : Nat → Nat) (c d : Nat → Bool) (m : Nat) : pb_cb V (fun i => (c i ^^ d i)) m = pb_cb V c m ^^^ pb_cb V d m := by
  induction m with
  | zero => simp [pb_cb]
  | succ m ih =>
    rw [pb_cb_succ, pb_cb_succ, pb_cb_succ, ih]
    generalize pb_cb V c m = a
    generalize pb_cb V d m = b
    generalize V m = x
    cases c m <;> cases d m
    · simp
    · simp [Nat.xor_assoc]
    · simp [pb_x3]
    · simp [pb_xd]
theorem pb_spx {V : Nat → Nat} {m a b : Nat} (ha : pb_Sp V m a) (hb : pb_Sp V m b) : pb_Sp V m (a ^^^ b) := by
  obtain ⟨c, rfl⟩ := ha
  obtain ⟨d, rfl⟩ := hb
  exact ⟨fun i => (c i ^^ d i), (pb_cb_xor V c d m).symm⟩
theorem pb_cb_congr {V : Nat → Nat} {c d : Nat → Bool} {m : Nat} (h : ∀ i, i < m → c i = d i) : pb_cb V c m = pb_cb V d m := by
  induction m with
  | zero => rfl
  | succ m ih => rw [pb_cb_succ, pb_cb_succ, ih (fun i hi => h i (by omega)), h m (by omega)]
theorem pb_cb_congrV {V U : Nat → Nat} {c : Nat → Bool} {m : Nat} (h : ∀ i, i < m → c i = true → V i = U i) : pb_cb V c m = pb_cb U c m := by
  induction m with
  | zero => rfl
  | succ m ih =>
    rw [pb_cb_succ, pb_cb_succ, ih (fun i hi => h i (by omega))]
    by_cases hc : c m = true
    · rw [if_pos hc, if_pos hc, h m (by omega) hc]
    · rw [if_neg hc, if_neg hc]
theorem pb_cb_one (V : Nat → Nat) (b m : Nat) : pb_cb V (fun i => decide (i = b)) m = if b < m then V b else 0 := by
  induction m with
  | zero => simp [pb_cb]
  | succ m ih =>
    rw [pb_cb_succ, ih]
    by_cases h : m = b
    · subst h
      simp
    · by_cases h2 : b < m
      · have h3 : b < m + 1 := by omega
        simp [h, h2, h3]
      · have h3 : ¬ b < m + 1 := by omega
        simp [h, h2, h3]
theorem pb_spg {V : Nat → Nat} {m b : Nat} (h : b < m) : pb_Sp V m (V b) := ⟨fun i => decide (i = b), by rw [pb_cb_one, if_pos h]⟩
theorem pb_sp_succ {V : Nat → Nat} {m v : Nat} (h : pb_Sp V m v) : pb_Sp V (m + 1) v := by
  obtain ⟨c, rfl⟩ := h
  refine ⟨fun i => c i && decide (i < m), ?_⟩
  have e : pb_cb V (fun i => c i && decide (i < m)) m = pb_cb V c m := pb_cb_congr (fun i hi => by simp [hi])
  rw [pb_cb_succ, e]
  simp
theorem pb_sp_mono {V : Nat → Nat} {m n v : Nat} (h : pb_Sp V m v) (hmn : m ≤ n) : pb_Sp V n v := by
  induction hmn with
  | refl => exact h
  | step _ ih => exact pb_sp_succ ih
theorem pb_sp_trans {V U : Nat → Nat} {m n v : Nat} (h : ∀ b, b < m → pb_Sp U n (V b)) (hv : pb_Sp V m v) : pb_Sp U n v := by
  obtain ⟨c, rfl⟩ := hv
  induction m with
  | zero => exact pb_sp0
  | succ m ih =>
    rw [pb_cb_succ]
    refine pb_spx (ih (fun b hb => h b (by omega))) ?_
    by_cases hc : c m = true
    · rw [if_pos hc]
      exact h m (by omega)
    · rw [if_neg hc]
      exact pb_sp0
theorem pb_cb_map {g : Nat → Nat} (g0 : g 0 = 0) (gx : ∀ a b, g (a ^^^ b) = g a ^^^ g b) (V : Nat → Nat) (c : Nat → Bool) (m : Nat) : g (pb_cb V c m) = pb_cb (fun b => g (V b)) c m := by
  induction m with
  | zero => exact g0
  | succ m ih =>
    rw [pb_cb_succ, pb_cb_succ, gx, ih]
    by_cases hc : c m = true
    · rw [if_pos hc, if_pos hc]
    · rw [if_neg hc, if_neg hc, g0]
theorem pb_sp_map {g : Nat → Nat} (g0 : g 0 = 0) (gx : ∀ a b, g (a ^^^ b) = g a ^^^ g b) {V : Nat → Nat} {m v : Nat} (h : pb_Sp V m v) : pb_Sp (fun b => g (V b)) m (g v) := by
  obtain ⟨c, rfl⟩ := h
  exact ⟨c, pb_cb_map g0 gx V c m⟩
/-- the bits from f on -/
def pb_mk (f v : Nat) : Nat := v >>> f <<< f
theorem pb_mk_bit (f v i : Nat) : (pb_mk f v).testBit i = (decide (f ≤ i) && v.testBit i) := by
  unfold pb_mk
  rw [Nat.testBit_shiftLeft, Nat.testBit_shiftRight]
  by_cases h : f ≤ i
  · have e : f + (i - f) = i := by omega
    simp [h, e]
  · simp [h]
theorem pb_mk_0 (f : Nat) : pb_mk f 0 = 0 := by
  apply Nat.eq_of_testBit_eq
  intro i
  simp [pb_mk_bit]
theorem pb_mk_z (v : Nat) : pb_mk 0 v = v := by
  apply Nat.eq_of_testBit_eq
  intro i
  simp [pb_mk_bit]
theorem pb_mk_x (f a b : Nat) : pb_mk f (a ^^^ b) = pb_mk f a ^^^ pb_mk f b := by
  apply Nat.eq_of_testBit_eq
  intro i
  simp only [pb_mk_bit, Nat.testBit_xor]
  cases decide (f ≤ i) <;> cases a.testBit i <;> cases b.testBit i <;> rfl
/-- i is the highest bit of v -/
def pb_Top (v i : Nat) : Prop := v.testBit i = true ∧ ∀ j, i < j → v.testBit j = false
theorem pb_top_ne {v i : Nat} (h : pb_Top v i) : v ≠ 0 := by
  intro e
  have h1 := h.1
  rw [e] at h1
  simp at h1
theorem pb_top_u {v i j : Nat} (h : pb_Top v i) (h2 : pb_Top v j) : i = j := by
  rcases Nat.lt_trichotomy i j with q | q | q
  · have e := h.2 j q
    rw [h2.1] at e
    cases e
  · exact q
  · have e := h2.2 i q
    rw [h.1] at e
    cases e
theorem pb_top_x {a b i j : Nat} (ha : pb_Top a i) (hb : pb_Top b j) (h : i < j) : pb_Top (a ^^^ b) j := by
  refine ⟨?_, fun k hk => ?_⟩
  · rw [Nat.testBit_xor, ha.2 j h, hb.1]
    rfl
  · rw [Nat.testBit_xor, ha.2 k (by omega), hb.2 k hk]
    rfl
theorem pb_top_mk {v i f : Nat} (h : pb_Top v i) (hf : f ≤ i) : pb_Top (pb_mk f v) i := by
  refine ⟨?_, fun k hk => ?_⟩
  · rw [pb_mk_bit, h.1]
    simp [hf]
  · rw [pb_mk_bit, h.2 k hk]
    simp
theorem pb_top_mk0 {v i f : Nat} (h : pb_Top v i) (hf : i < f) : pb_mk f v = 0 := by
  apply Nat.eq_of_testBit_eq
  intro j
  rw [pb_mk_bit]
  by_cases q : f ≤ j
  · rw [h.2 j (by omega)]
    simp
  · simp [q]
/-- members that are not 0 have a highest bit, and these differ -/
def pb_Ech (U lo : Nat → Nat) (n : Nat) : Prop := (∀ b, b < n → U b ≠ 0 → pb_Top (U b) (lo b)) ∧ ∀ b d, b < n → d < n → U b ≠ 0 → U d ≠ 0 → lo b = lo d → b = d
theorem pb_ech_cb {U lo : Nat → Nat} {n : Nat} (h : pb_Ech U lo n) (c : Nat → Bool) (m : Nat) (hm : m ≤ n) : pb_cb U c m = 0 ∨ ∃ b, b < m ∧ U b ≠ 0 ∧ pb_Top (pb_cb U c m) (lo b) := by
  induction m with
  | zero => exact Or.inl rfl
  | succ m ih =>
    rw [pb_cb_succ]
    by_cases hc : c m = true ∧ U m ≠ 0
    · rw [if_pos hc.1]
      have ht := h.1 m (by omega) hc.2
      rcases ih (by omega) with e | ⟨b, hb, hne, htop⟩
      · rw [e, Nat.zero_xor]
        exact Or.inr ⟨m, by omega, hc.2, ht⟩
      · rcases Nat.lt_trichotomy (lo b) (lo m) with q | q | q
        · exact Or.inr ⟨m, by omega, hc.2, pb_top_x htop ht q⟩
        · have := h.2 b m (by omega) (by omega) hne hc.2 q
          omega
        · rw [Nat.xor_comm]
          exact Or.inr ⟨b, by omega, hne, pb_top_x ht htop q⟩
    · have e : (if c m = true then U m else 0) = 0 := by
        by_cases h1 : c m = true
        · rw [if_pos h1]
          exact Classical.byContradiction (fun h2 => hc ⟨h1, h2⟩)
        · rw [if_neg h1]
      rw [e, Nat.xor_zero]
      rcases ih (by omega) with e | ⟨b, hb, hne, htop⟩
      · exact Or.inl e
      · exact Or.inr ⟨b, by omega, hne, htop⟩
theorem pb_ech_in {U lo : Nat → Nat} {n b : Nat} (h : pb_Ech U lo n) (hb : b < n) : pb_Sp U b (U b) ↔ U b = 0 := by
  constructor
  · rintro ⟨c, hc⟩
    refine Classical.byContradiction fun hne => ?_
    rcases pb_ech_cb h c b (by omega) with e | ⟨d, hd, hdn, ht⟩
    · exact hne (hc.trans e)
    · rw [← hc] at ht
      have := h.2 b d hb (by omega) hne hdn (pb_top_u (h.1 b hb hne) ht)
      omega
  · intro e
    rw [e]
    exact pb_sp0
theorem pb_ech_out {U lo : Nat → Nat} {n v i : Nat} (h : pb_Ech U lo n) (ht : pb_Top v i) (hi : ∀ b, b < n → U b ≠ 0 → lo b ≠ i) : ¬ pb_Sp U n v := by
  rintro ⟨c, rfl⟩
  rcases pb_ech_cb h c n (Nat.le_refl _) with e | ⟨b, hb, hne, h2⟩
  · exact pb_top_ne ht e
  · exact hi b hb hne (pb_top_u h2 ht)
/-! counts -/
noncomputable def pb_b (p : Prop) : Nat := @ite Nat p (Classical.propDecidable p) 1 0
theorem pb_b1 {p : Prop} (h : p) : pb_b p = 1 := by
  unfold pb_b
  rw [if_pos h]
theorem pb_b0 {p : Prop} (h : ¬ p) : pb_b p = 0 := by
  unfold pb_b
  rw [if_neg h]
theorem pb_bc {p q : Prop} (h : p ↔ q) : pb_b p = pb_b q := by rw [propext h]
theorem pb_b_le (p : Prop) : pb_b p ≤ 1 := by
  by_cases h : p
  · rw [pb_b1 h]; exact Nat.le_refl 1
  · rw [pb_b0 h]; exact Nat.zero_le 1
noncomputable def pb_cn (p : Nat → Prop) : Nat → Nat
  | 0 => 0
  | n + 1 => pb_cn p n + pb_b (p n)
theorem pb_cn_succ (p : Nat → Prop) (n : Nat) : pb_cn p (n + 1) = pb_cn p n + pb_b (p n) := rfl
theorem pb_cn_congr {p q : Nat → Prop} {n : Nat} (h : ∀ i, i < n → (p i ↔ q i)) : pb_cn p n = pb_cn q n := by
  induction n with
  | zero => rfl
  | succ n ih => rw [pb_cn_succ, pb_cn_succ, ih (fun i hi => h i (by omega)), pb_bc (h n (by omega))]
theorem pb_cn_le (p : Nat → Prop) (n : Nat) : pb_cn p n ≤ n := by
  induction n with
  | zero => exact Nat.le_refl 0
  | succ n ih =>
    rw [pb_cn_succ]
    have := pb_b_le (p n)
    omega
theorem pb_cn_split (p q : Nat → Prop) (n : Nat) : pb_cn p n = pb_cn (fun i => p i ∧ q i) n + pb_cn (fun i => p i ∧ ¬ q i) n := by
  induction n with
  | zero => rfl
  | succ n ih =>
    rw [pb_cn_succ, pb_cn_succ, pb_cn_succ, ih]
    by_cases hp : p n
    · by_cases hq : q n
      · rw [pb_b1 hp, pb_b1 (⟨hp, hq⟩ : p n ∧ q n), pb_b0 (fun h : p n ∧ ¬ q n => h.2 hq)]
        omega
      · rw [pb_b1 hp, pb_b0 (fun h : p n ∧ q n => hq h.2), pb_b1 (⟨hp, hq⟩ : p n ∧ ¬ q n)]
        omega
    · rw [pb_b0 hp, pb_b0 (fun h : p n ∧ q n => hp h.1), pb_b0 (fun h : p n ∧ ¬ q n => hp h.1)]
      omega
theorem pb_cn_none {p : Nat → Prop} {n : Nat} (h : ∀ i, i < n → ¬ p i) : pb_cn p n = 0 := by
  induction n with
  | zero => rfl
  | succ n ih => rw [pb_cn_succ, ih (fun i hi => h i (by omega)), pb_b0 (h n (by omega))]
theorem pb_cn_one (c n : Nat) : pb_cn (fun a => a = c) n = pb_b (c < n) := by
  induction n with
  | zero => rw [pb_b0 (Nat.not_lt_zero c)]; rfl
  | succ n ih =>
    rw [pb_cn_succ, ih]
    by_cases h : n = c
    · rw [pb_b1 h, pb_b0 (show ¬ c < n by omega), pb_b1 (show c < n + 1 by omega)]
    · rw [pb_b0 h]
      exact pb_bc ⟨fun h1 => by omega, fun h1 => by omega⟩
/-- counting the b by their values f b -/
theorem pb_cn_bij {Q : Nat → Prop} {f : Nat → Nat} {j : Nat} (hf : ∀ b d, b < j → d < j → Q b → Q d → f b = f d → b = d) (i : Nat) : pb_cn (fun b => Q b ∧ f b < i) j = pb_cn (fun a => ∃ b, b < j ∧ Q b ∧ f b = a) i := by
  induction j with
  | zero =>
    rw [pb_cn_none (n := i)]
    · rfl
    · rintro a _ ⟨b, hb, _⟩
      omega
  | succ j ih =>
    rw [pb_cn_succ, ih (fun b d hb hd => hf b d (by omega) (by omega))]
    by_cases hQ : Q j
    · have e : pb_b (Q j ∧ f j < i) = pb_cn (fun a => a = f j) i := by
        rw [pb_cn_one]
        exact pb_bc ⟨fun h => h.2, fun h => ⟨hQ, h⟩⟩
      rw [e, pb_cn_split (fun a => ∃ b, b < j + 1 ∧ Q b ∧ f b = a) (fun a => a = f j) i, Nat.add_comm]
      congr 1
      · exact pb_cn_congr fun a _ => ⟨fun h => ⟨⟨j, by omega, hQ, h.symm⟩, h⟩, fun h => h.2⟩
      · refine pb_cn_congr fun a _ => ⟨?_, ?_⟩
        · rintro ⟨b, hb, hq, rfl⟩
          exact ⟨⟨b, by omega, hq, rfl⟩, fun h => by have := hf b j (by omega) (by omega) hq hQ h; omega⟩
        · rintro ⟨⟨b, hb, hq, rfl⟩, hn⟩
          refine ⟨b, ?_, hq, rfl⟩
          rcases Nat.lt_or_ge b j with h | h
          · exact h
          · have e2 : b = j := by omega
            exact absurd (by rw [e2]) hn
    · rw [pb_b0 (fun h : Q j ∧ f j < i => hQ h.1), Nat.add_zero]
      refine pb_cn_congr fun a _ => ⟨?_, ?_⟩
      · rintro ⟨b, hb, hq, rfl⟩
        exact ⟨b, by omega, hq, rfl⟩
      · rintro ⟨b, hb, hq, rfl⟩
        refine ⟨b, ?_, hq, rfl⟩
        rcases Nat.lt_or_ge b j with h | h
        · exact h
        · have e2 : b = j := by omega
          exact absurd (e2 ▸ hq) hQ
/-! ranks -/
noncomputable def pb_rk (V : Nat → Nat) (t : Nat) : Nat := pb_cn (fun b => ¬ pb_Sp V b (V b)) t
theorem pb_sp_same {V U : Nat → Nat} {n : Nat} (h : ∀ b, b < n → pb_Sp V b (U b ^^^ V b)) : ∀ m, m ≤ n → ∀ v, pb_Sp U m v ↔ pb_Sp V m v := by
  intro m
  induction m with
  | zero => exact fun _ v => Iff.rfl
  | succ m ih =>
    intro hm v
    have ihm := ih (by omega)
    constructor
    · refine pb_sp_trans fun b hb => ?_
      have h3 := pb_spx (pb_sp_mono (h b (by omega)) (show b ≤ m + 1 by omega)) (pb_spg (V := V) hb)
      rwa [pb_xa] at h3
    · refine pb_sp_trans fun b hb => ?_
      by_cases hbm : b < m
      · exact pb_sp_succ ((ihm _).mpr (pb_spg hbm))
      · have e : b = m := by omega
        subst e
        have h3 := pb_spx (pb_sp_succ ((ihm _).mpr (h b (by omega)))) (pb_spg (V := U) (show b < b + 1 by omega))
        rwa [pb_xb] at h3
theorem pb_in_same {V U : Nat → Nat} {n b : Nat} (h : ∀ b, b < n → pb_Sp V b (U b ^^^ V b)) (hb : b < n) : pb_Sp U b (U b) ↔ pb_Sp V b (V b) := by
  rw [pb_sp_same h b (by omega)]
  have h1 := h b hb
  constructor
  · intro q
    have h3 := pb_spx h1 q
    rwa [pb_xb] at h3
  · intro q
    have h3 := pb_spx h1 q
    rwa [pb_xa] at h3
theorem pb_rk_ech {V U lo : Nat → Nat} {n t : Nat} (h : ∀ b, b < n → pb_Sp V b (U b ^^^ V b)) (hE : pb_Ech U lo n) (ht : t ≤ n) : pb_rk V t = pb_cn (fun b => U b ≠ 0) t := by
  unfold pb_rk
  refine pb_cn_congr fun b hb => ?_
  rw [← pb_in_same h (show b < n by omega), pb_ech_in hE (show b < n by omega)]
theorem pb_rk_mk {V U lo : Nat → Nat} {n t : Nat} (f : Nat) (h : ∀ b, b < n → pb_Sp V b (U b ^^^ V b)) (hE : pb_Ech U lo n) (ht : t ≤ n) : pb_rk (fun b => pb_mk f (V b)) t = pb_cn (fun b => U b ≠ 0 ∧ f ≤ lo b) t := by
  have hz : ∀ b, b < n → (pb_mk f (U b) ≠ 0 ↔ U b ≠ 0 ∧ f ≤ lo b) := by
    intro b hb
    constructor
    · intro hne
      have h1 : U b ≠ 0 := fun e => hne (by rw [e, pb_mk_0])
      refine ⟨h1, ?_⟩
      rcases Nat.lt_or_ge (lo b) f with q | q
      · exact absurd (pb_top_mk0 (hE.1 b hb h1) q) hne
      · exact q
    · rintro ⟨h1, h2⟩
      exact pb_top_ne (pb_top_mk (hE.1 b hb h1) h2)
  have hE2 : pb_Ech (fun b => pb_mk f (U b)) lo n := by
    refine ⟨fun b hb hne => ?_, fun b d hb hd h1 h2 e => hE.2 b d hb hd ((hz b hb).mp h1).1 ((hz d hd).mp h2).1 e⟩
    obtain ⟨h1, h2⟩ := (hz b hb).mp hne
    exact pb_top_mk (hE.1 b hb h1) h2
  rw [pb_rk_ech (U := fun b => pb_mk f (U b)) (lo := lo) (n := n) ?_ hE2 ht]
  · exact pb_cn_congr fun b hb => hz b (by omega)
  · intro b hb
    have h1 := pb_sp_map (pb_mk_0 f) (pb_mk_x f) (h b hb)
    rwa [pb_mk_x] at h1
end
section
/-! rows in the order of their making, each cleared at the lowest bits of the rows ahead of it -/
/-- i is the lowest bit of v -/
def pb_Low (v i : Nat) : Prop := v.testBit i = true ∧ ∀ j, j < i → v.testBit j = false
theorem pb_low_u {v i j : Nat} (h : pb_Low v i) (h2 : pb_Low v j) : i = j := by
  rcases Nat.lt_trichotomy i j with q | q | q
  · have e := h2.2 i q
    rw [h.1] at e
    cases e
  · exact q
  · have e := h.2 j q
    rw [h2.1] at e
    cases e
theorem pb_low_ex {v : Nat} (h : v ≠ 0) : ∃ i, pb_Low v i := by
  obtain ⟨k, h1, h2⟩ := pk_least (fun i => v.testBit i = true) (Nat.exists_testBit_of_ne_zero h)
  exact ⟨k, h1, fun j hj => by simpa using h2 j hj⟩
def pb_GE (G : Nat → Nat) (m : Nat) : Prop := (∀ r, r < m → G r ≠ 0) ∧ ∀ r r' x, r < r' → r' < m → pb_Low (G r) x → (G r').testBit x = false
/-- c is c0 with some of the first r rows added, and clear at their lowest bits -/
def pb_Rd (G : Nat → Nat) (c0 r c : Nat) : Prop := pb_Sp G r (c ^^^ c0) ∧ ∀ r' x, r' < r → pb_Low (G r') x → c.testBit x = false
theorem pb_rd_0 (G : Nat → Nat) (c0 : Nat) : pb_Rd G c0 0 c0 := by
  refine ⟨?_, fun r' x h => absurd h (Nat.not_lt_zero _)⟩
  rw [Nat.xor_self]
  exact pb_sp0
theorem pb_rd_no {G : Nat → Nat} {m c0 r c x : Nat} (hG : pb_GE G m) (hr : r < m) (h : pb_Rd G c0 r c) (hx : pb_Low (G r) x) (hc : c.testBit x = false) : pb_Rd G c0 (r + 1) c := by
  refine ⟨pb_sp_succ h.1, fun r' y hr' hy => ?_⟩
  rcases Nat.lt_or_ge r' r with q | q
  · exact h.2 r' y q hy
  · have e : r' = r := by omega
    subst e
    rw [pb_low_u hy hx]
    exact hc
theorem pb_rd_yes {G : Nat → Nat} {m c0 r c x : Nat} (hG : pb_GE G m) (hr : r < m) (h : pb_Rd G c0 r c) (hx : pb_Low (G r) x) (hc : c.testBit x = true) : pb_Rd G c0 (r + 1) (c ^^^ G r) := by
  refine ⟨?_, fun r' y hr' hy => ?_⟩
  · have h3 := pb_spx (pb_sp_succ h.1) (pb_spg (V := G) (show r < r + 1 by omega))
    rwa [pb_x3] at h3
  · rcases Nat.lt_or_ge r' r with q | q
    · rw [Nat.testBit_xor, h.2 r' y q hy, hG.2 r' r y q hr hy]
      rfl
    · have e : r' = r := by omega
      subst e
      rw [pb_low_u hy hx, Nat.testBit_xor, hc, hx.1]
      rfl
/-- one place of a sum in which all other members are clear there -/
theorem pb_cb_at {G : Nat → Nat} {c : Nat → Bool} {r x : Nat} (h1 : (G r).testBit x = true) (m : Nat) (h : ∀ r', r' < m → r' ≠ r → c r' = true → (G r').testBit x = false) : (pb_cb G c m).testBit x = (decide (r < m) && c r) := by
  induction m with
  | zero => simp [pb_cb]
  | succ m ih =>
    rw [pb_cb_succ, Nat.testBit_xor, ih (fun r' hr' => h r' (by omega))]
    by_cases e : m = r
    · subst e
      cases hc : c m <;> simp [h1]
    · have e1 : (if c m = true then G m else 0).testBit x = false := by
        by_cases hc : c m = true
        · rw [if_pos hc]
          exact h m (by omega) e hc
        · rw [if_neg hc, Nat.zero_testBit]
      rw [e1]
      have e2 : decide (r < m + 1) = decide (r < m) := by
        by_cases q : r < m
        · simp [q, show r < m + 1 by omega]
        · simp [q, show ¬ r < m + 1 by omega]
      rw [e2]
      simp
theorem pb_ge_zero {G : Nat → Nat} {m v : Nat} (hG : pb_GE G m) (hv : pb_Sp G m v) (hz : ∀ r x, r < m → pb_Low (G r) x → v.testBit x = false) : v = 0 := by
  obtain ⟨c, rfl⟩ := hv
  have hc : ∀ k r, r < k → r < m → c r = false := by
    intro k
    induction k with
    | zero => exact fun r h => absurd h (Nat.not_lt_zero _)
    | succ k ih =>
      intro r hrk hr
      obtain ⟨x, hx⟩ := pb_low_ex (hG.1 r hr)
      have e := pb_cb_at (c := c) hx.1 m (fun r' hr' hne hc' => by
        rcases Nat.lt_or_ge r' r with q | q
        · rw [ih r' (by omega) hr'] at hc'
          cases hc'
        · exact hG.2 r r' x (by omega) hr' hx)
      rw [hz r x hr hx] at e
      simp [hr] at e
      exact e
  have e : pb_cb G c m = pb_cb G (fun _ => false) m := pb_cb_congr (fun i hi => hc (i + 1) i (by omega) hi)
  rw [e]
  clear e hc hz hG
  induction m with
  | zero => rfl
  | succ m ih =>
    rw [pb_cb_succ, ih]
    simp
theorem pb_rd_end {G : Nat → Nat} {m c0 c : Nat} (hG : pb_GE G m) (h : pb_Rd G c0 m c) : c = 0 ↔ pb_Sp G m c0 := by
  constructor
  · intro e
    have h1 := h.1
    rw [e, Nat.zero_xor] at h1
    exact h1
  · intro h0
    have h1 := pb_spx h.1 h0
    rw [pb_xa] at h1
    exact pb_ge_zero hG h1 h.2
/-- the rows stand for the first i members of V -/
def pb_GR (G : Nat → Nat) (m : Nat) (V : Nat → Nat) (i : Nat) : Prop := pb_GE G m ∧ (∀ v, pb_Sp G m v ↔ pb_Sp V i v) ∧ m = pb_rk V i
theorem pb_gr_0 (G V : Nat → Nat) : pb_GR G 0 V 0 := ⟨⟨fun r h => absurd h (Nat.not_lt_zero _), fun r r' x _ h => absurd h (Nat.not_lt_zero _)⟩, fun v => Iff.rfl, rfl⟩
theorem pb_sp_grow {V : Nat → Nat} {i : Nat} (h : pb_Sp V i (V i)) (v : Nat) : pb_Sp V (i + 1) v ↔ pb_Sp V i v := by
  refine ⟨pb_sp_trans fun b hb => ?_, pb_sp_succ⟩
  rcases Nat.lt_or_ge b i with q | q
  · exact pb_spg q
  · have e : b = i := by omega
    rw [e]
    exact h
theorem pb_gr_in {G : Nat → Nat} {m : Nat} {V : Nat → Nat} {i : Nat} (h : pb_GR G m V i) (hc : pb_Sp G m (V i)) : pb_GR G m V (i + 1) := by
  obtain ⟨h1, h2, h3⟩ := h
  have hv := (h2 _).mp hc
  refine ⟨h1, fun v => (h2 v).trans (pb_sp_grow hv v).symm, ?_⟩
  unfold pb_rk at h3 ⊢
  rw [pb_cn_succ, ← h3, pb_b0 (fun q => q hv)]
  rfl
theorem pb_gr_skip {G : Nat → Nat} {m : Nat} {V : Nat → Nat} {i : Nat} (h : pb_GR G m V i) (hc : V i = 0) : pb_GR G m V (i + 1) := pb_gr_in h (by rw [hc]; exact pb_sp0)
def pb_up (G : Nat → Nat) (k x : Nat) : Nat → Nat := fun j => if j = k then x else G j
theorem pb_up_s (G : Nat → Nat) (k x : Nat) : pb_up G k x k = x := if_pos rfl
theorem pb_up_n {G : Nat → Nat} {k x j : Nat} (h : j ≠ k) : pb_up G k x j = G j := if_neg h
theorem pb_sp_up {G : Nat → Nat} {m x v : Nat} : pb_Sp (pb_up G m x) m v ↔ pb_Sp G m v := by
  constructor
  · refine pb_sp_trans fun b hb => ?_
    rw [pb_up_n (by omega)]
    exact pb_spg hb
  · refine pb_sp_trans fun b hb => ?_
    have h := pb_spg (V := pb_up G m x) hb
    rwa [pb_up_n (by omega)] at h
theorem pb_gr_push {G : Nat → Nat} {m : Nat} {V : Nat → Nat} {i c : Nat} (h : pb_GR G m V i) (hd : pb_Rd G (V i) m c) (hc : c ≠ 0) : pb_GR (pb_up G m c) (m + 1) V (i + 1) := by
  obtain ⟨h1, h2, h3⟩ := h
  have hn : ¬ pb_Sp G m (V i) := fun q => hc ((pb_rd_end h1 hd).mpr q)
  refine ⟨⟨fun r hr => ?_, fun r r' x hr hr' hx => ?_⟩, fun v => ?_, ?_⟩
  · rcases Nat.lt_or_ge r m with q | q
    · rw [pb_up_n (by omega)]
      exact h1.1 r q
    · have e : r = m := by omega
      rw [e, pb_up_s]
      exact hc
  · rw [pb_up_n (show r ≠ m by omega)] at hx
    rcases Nat.lt_or_ge r' m with q | q
    · rw [pb_up_n (by omega)]
      exact h1.2 r r' x hr q hx
    · have e : r' = m := by omega
      rw [e, pb_up_s]
      exact hd.2 r x (by omega) hx
  · have hs : ∀ w, pb_Sp G m w → pb_Sp (pb_up G m c) (m + 1) w := fun w hw => pb_sp_succ (pb_sp_up.mpr hw)
    have hcc : pb_Sp (pb_up G m c) (m + 1) c := by
      have q := pb_spg (V := pb_up G m c) (show m < m + 1 by omega)
      rwa [pb_up_s] at q
    constructor
    · refine pb_sp_trans fun b hb => ?_
      rcases Nat.lt_or_ge b m with q | q
      · rw [pb_up_n (by omega)]
        exact pb_sp_succ ((h2 _).mp (pb_spg q))
      · have e : b = m := by omega
        rw [e, pb_up_s]
        have q1 := pb_spx (pb_sp_succ ((h2 _).mp hd.1)) (pb_spg (V := V) (show i < i + 1 by omega))
        rwa [pb_xa] at q1
    · refine pb_sp_trans fun b hb => ?_
      rcases Nat.lt_or_ge b i with q | q
      · exact hs _ ((h2 _).mpr (pb_spg q))
      · have e : b = i := by omega
        rw [e]
        have q1 := pb_spx (hs _ hd.1) hcc
        rwa [pb_xb] at q1
  · unfold pb_rk at h3 ⊢
    rw [pb_cn_succ, ← h3, pb_b1 (fun q => hn ((h2 _).mpr q))]
theorem pb_rk_le (V : Nat → Nat) (t : Nat) : pb_rk V t ≤ t := pb_cn_le _ t
end
section
/-! pieces as sets of six points, their sides, and the pairs that the reduction finds -/
/-- how many of the first p points are in q -/
def pb_pt (q : Nat) : Nat → Nat
  | 0 => 0
  | p + 1 => pb_pt q p + q / 2 ^ p % 2
def pb_pop (q : Nat) : Nat := pb_pt q 6
/-- s is q without one point, and not empty -/
def pb_fc (s q : Nat) : Bool := Nat.beq (s &&& q) s && (!(Nat.beq s 0) && Nat.beq (pb_pop s + 1) (pb_pop q))
def pb_orb (f : Nat → Bool) : Nat → Nat
  | 0 => 0
  | j + 1 => pb_orb f j ||| (if f j = true then 2 ^ j else 0)
theorem pb_orb_succ (f : Nat → Bool) (m : Nat) : pb_orb f (m + 1) = pb_orb f m ||| (if f m = true then 2 ^ m else 0) := rfl
theorem pb_orb_bit (f : Nat → Bool) (m x : Nat) : (pb_orb f m).testBit x = (decide (x < m) && f x) := by
  induction m with
  | zero => simp [pb_orb]
  | succ m ih =>
    rw [pb_orb_succ, Nat.testBit_or, ih]
    by_cases e : m = x
    · subst e
      cases hf : f m
      · simp
      · simp [Nat.testBit_two_pow_self]
    · have e1 : (if f m = true then 2 ^ m else 0).testBit x = false := by
        by_cases hc : f m = true
        · rw [if_pos hc]
          exact Nat.testBit_two_pow_of_ne e
        · rw [if_neg hc, Nat.zero_testBit]
      rw [e1, Bool.or_false]
      by_cases q : x < m
      · simp [q, show x < m + 1 by omega]
      · simp [q, show ¬ x < m + 1 by omega]
def pb_xs (f : Nat → Bool) : Nat → Bool
  | 0 => false
  | m + 1 => (pb_xs f m ^^ f m)
theorem pb_xs_succ (f : Nat → Bool) (m : Nat) : pb_xs f (m + 1) = (pb_xs f m ^^ f m) := rfl
theorem pb_cb_bit (V : Nat → Nat) (c : Nat → Bool) (m x : Nat) : (pb_cb V c m).testBit x = pb_xs (fun j => c j && (V j).testBit x) m := by
  induction m with
  | zero => simp [pb_cb, pb_xs]
  | succ m ih =>
    rw [pb_cb_succ, Nat.testBit_xor, ih, pb_xs_succ]
    cases hc : c m <;> simp
theorem pb_xs_congr {f g : Nat → Bool} {m : Nat} (h : ∀ i, i < m → f i = g i) : pb_xs f m = pb_xs g m := by
  induction m with
  | zero => rfl
  | succ m ih => rw [pb_xs_succ, pb_xs_succ, ih (fun i hi => h i (by omega)), h m (by omega)]
theorem pb_xs_none {f : Nat → Bool} {m : Nat} (h : ∀ i, i < m → f i = false) : pb_xs f m = false := by
  induction m with
  | zero => rfl
  | succ m ih => rw [pb_xs_succ, ih (fun i hi => h i (by omega)), h m (by omega)]; rfl
theorem pb_xs_xor (f g : Nat → Bool) (m : Nat) : pb_xs (fun s => (f s ^^ g s)) m = (pb_xs f m ^^ pb_xs g m) := by
  induction m with
  | zero => rfl
  | succ m ih =>
    rw [pb_xs_succ, pb_xs_succ, pb_xs_succ, ih]
    cases pb_xs f m <;> cases pb_xs g m <;> cases f m <;> cases g m <;> rfl
theorem pb_xs_one (f : Nat → Bool) (c m : Nat) : pb_xs (fun s => f s && decide (s = c)) m = (decide (c < m) && f c) := by
  induction m with
  | zero => simp [pb_xs]
  | succ m ih =>
    rw [pb_xs_succ, ih]
    by_cases e : m = c
    · subst e
      simp
    · by_cases q : c < m
      · simp [e, q, show c < m + 1 by omega]
      · simp [e, q, show ¬ c < m + 1 by omega]
/-- is s among the first n -/
def pb_among (P : Nat → Nat) (n s : Nat) : Bool := decide (∃ j, j < n ∧ P j = s)
theorem pb_among_t {P : Nat → Nat} {n s : Nat} (h : ∃ j, j < n ∧ P j = s) : pb_among P n s = true := by
  unfold pb_among
  exact decide_eq_true h
theorem pb_among_f {P : Nat → Nat} {n s : Nat} (h : ¬ ∃ j, j < n ∧ P j = s) : pb_among P n s = false := by
  unfold pb_among
  exact decide_eq_false h
theorem pb_xs_re {P : Nat → Nat} {n : Nat} (f : Nat → Bool) (hi : ∀ i j, i < n → j < n → P i = P j → i = j) (hl : ∀ i, i < n → P i < 64) : pb_xs (fun j => f (P j)) n = pb_xs (fun s => f s && pb_among P n s) 64 := by
  induction n with
  | zero =>
    refine (pb_xs_none fun s _ => ?_).symm
    rw [pb_among_f]
    · simp
    · rintro ⟨j, hj, _⟩
      omega
  | succ n ih =>
    rw [pb_xs_succ, ih (fun i j h1 h2 => hi i j (by omega) (by omega)) (fun i h1 => hl i (by omega))]
    have e1 := pb_xs_one f (P n) 64
    rw [decide_eq_true (hl n (by omega)), Bool.true_and] at e1
    rw [← e1, ← pb_xs_xor]
    refine pb_xs_congr fun s _ => ?_
    by_cases hs : s = P n
    · have h1 : pb_among P n s = false := pb_among_f (by
        rintro ⟨j, hj, hj2⟩
        have := hi j n (by omega) (by omega) (hj2.trans hs)
        omega)
      have h2 : pb_among P (n + 1) s = true := pb_among_t ⟨n, by omega, hs.symm⟩
      rw [h1, h2, decide_eq_true hs]
      cases f s <;> rfl
    · rw [decide_eq_false hs]
      by_cases h : ∃ j, j < n ∧ P j = s
      · obtain ⟨j, hj, hj2⟩ := h
        rw [pb_among_t ⟨j, hj, hj2⟩, pb_among_t ⟨j, by omega, hj2⟩]
        cases f s <;> rfl
      · rw [pb_among_f h, pb_among_f (n := n + 1)]
        · cases f s <;> rfl
        · rintro ⟨j, hj, hj2⟩
          rcases Nat.lt_or_ge j n with q | q
          · exact h ⟨j, q, hj2⟩
          · have e : j = n := by omega
            exact hs (by rw [← hj2, e])
def pb_ddg (q r s : Nat) : Bool := Nat.beq (s &&& q) s && (Nat.beq (r &&& s) r && (pb_fc s q && pb_fc r s))
theorem pb_ddg_eq (q r s : Nat) : pb_ddg q r s = (pb_fc s q && pb_fc r s) := by
  unfold pb_ddg pb_fc
  cases Nat.beq (s &&& q) s <;> cases Nat.beq (r &&& s) r <;> simp
set_option maxRecDepth 100000 in
theorem pb_dd_tab : ((List.range 64).all fun q => (List.range 64).all fun r => !(pb_xs (fun s => pb_ddg q r s) 64)) = true := by decide +kernel
theorem pb_dd_at {q r : Nat} (hq : q < 64) (hr : r < 64) : pb_xs (fun s => pb_fc s q && pb_fc r s) 64 = false := by
  have h1 := List.all_eq_true.mp pb_dd_tab q (List.mem_range.mpr hq)
  have h2 := List.all_eq_true.mp h1 r (List.mem_range.mpr hr)
  have e : pb_xs (fun s => pb_ddg q r s) 64 = pb_xs (fun s => pb_fc s q && pb_fc r s) 64 := pb_xs_congr fun s _ => pb_ddg_eq q r s
  rw [e] at h2
  simpa using h2
/-- the sides of piece i, as bits of the places of earlier pieces -/
def pb_col (P : Nat → Nat) (i : Nat) : Nat := pb_orb (fun j => pb_fc (P j) (P i)) i
theorem pb_col_bit (P : Nat → Nat) (i j : Nat) : (pb_col P i).testBit j = (decide (j < i) && pb_fc (P j) (P i)) := pb_orb_bit _ _ _
/-- n pieces, each a set of one to four of six points, none twice, each behind its sides -/
def pb_Cx (n : Nat) (P : Nat → Nat) : Prop := n ≤ 26 ∧ (∀ i, i < n → 1 ≤ P i ∧ P i < 64 ∧ pb_pop (P i) ≤ 4) ∧ (∀ i j, i < n → j < n → P i = P j → i = j) ∧ ∀ i, i < n → ∀ r, pb_fc r (P i) = true → ∃ j, j < i ∧ P j = r
theorem pb_col_in {n : Nat} {P : Nat → Nat} (hC : pb_Cx n P) {i j : Nat} (hi : i < n) (hj : j < n) : (pb_col P i).testBit j = pb_fc (P j) (P i) := by
  rw [pb_col_bit]
  cases h : pb_fc (P j) (P i)
  · simp
  · obtain ⟨x, hx, hx2⟩ := hC.2.2.2 i hi _ h
    have := hC.2.2.1 x j (by omega) hj hx2
    subst this
    simp [hx]
theorem pb_dd {n : Nat} {P : Nat → Nat} (hC : pb_Cx n P) {i : Nat} (hi : i < n) : pb_cb (pb_col P) (fun j => (pb_col P i).testBit j) n = 0 := by
  apply Nat.eq_of_testBit_eq
  intro x
  rw [pb_cb_bit, Nat.zero_testBit]
  by_cases hx : x < n
  · have e1 : pb_xs (fun j => (pb_col P i).testBit j && (pb_col P j).testBit x) n = pb_xs (fun j => (fun s => pb_fc s (P i) && pb_fc (P x) s) (P j)) n := pb_xs_congr fun j hj => by
      rw [pb_col_in hC hi hj, pb_col_in hC hj hx]
    rw [e1, pb_xs_re (fun s => pb_fc s (P i) && pb_fc (P x) s) hC.2.2.1 (fun j hj => (hC.2.1 j hj).2.1)]
    have e2 : pb_xs (fun s => (pb_fc s (P i) && pb_fc (P x) s) && pb_among P n s) 64 = pb_xs (fun s => pb_fc s (P i) && pb_fc (P x) s) 64 := pb_xs_congr fun s _ => by
      cases h : pb_fc s (P i)
      · rfl
      · obtain ⟨j, hj, hj2⟩ := hC.2.2.2 i hi s h
        rw [pb_among_t ⟨j, by omega, hj2⟩]
        simp
    exact e2.trans (pb_dd_at (hC.2.1 i hi).2.1 (hC.2.1 x hx).2.1)
  · refine pb_xs_none fun j hj => ?_
    rw [pb_col_bit P j x, decide_eq_false (show ¬ x < j by omega)]
    simp
/-- the pieces of k points, the others as 0 -/
def pb_V (P : Nat → Nat) (k b : Nat) : Nat := if pb_pop (P b) = k then pb_col P b else 0
theorem pb_V_y {P : Nat → Nat} {k b : Nat} (h : pb_pop (P b) = k) : pb_V P k b = pb_col P b := if_pos h
theorem pb_V_n {P : Nat → Nat} {k b : Nat} (h : ¬ pb_pop (P b) = k) : pb_V P k b = 0 := if_neg h
/-- R are reduced sides, lo their highest bits -/
def pb_Sol (n : Nat) (P R lo : Nat → Nat) : Prop := (∀ b, b < n → pb_Sp (pb_V P (pb_pop (P b))) b (R b ^^^ pb_col P b)) ∧ pb_Ech R lo n
def pb_U (P R : Nat → Nat) (k b : Nat) : Nat := if pb_pop (P b) = k then R b else 0
theorem pb_U_y {P R : Nat → Nat} {k b : Nat} (h : pb_pop (P b) = k) : pb_U P R k b = R b := if_pos h
theorem pb_U_n {P R : Nat → Nat} {k b : Nat} (h : ¬ pb_pop (P b) = k) : pb_U P R k b = 0 := if_neg h
theorem pb_U_ne {P R : Nat → Nat} {k b : Nat} : pb_U P R k b ≠ 0 ↔ pb_pop (P b) = k ∧ R b ≠ 0 := by
  constructor
  · intro h
    by_cases e : pb_pop (P b) = k
    · rw [pb_U_y e] at h
      exact ⟨e, h⟩
    · exact absurd (pb_U_n e) h
  · rintro ⟨e, h⟩
    rw [pb_U_y e]
    exact h
theorem pb_sol_U {n : Nat} {P R lo : Nat → Nat} (hS : pb_Sol n P R lo) (k b : Nat) (hb : b < n) : pb_Sp (pb_V P k) b (pb_U P R k b ^^^ pb_V P k b) := by
  by_cases e : pb_pop (P b) = k
  · rw [pb_U_y e, pb_V_y e, ← e]
    exact hS.1 b hb
  · rw [pb_U_n e, pb_V_n e, Nat.xor_self]
    exact pb_sp0
theorem pb_ech_U {n : Nat} {P R lo : Nat → Nat} (hS : pb_Sol n P R lo) (k : Nat) : pb_Ech (pb_U P R k) lo n := by
  refine ⟨fun b hb h => ?_, fun b d hb hd h1 h2 => hS.2.2 b d hb hd (pb_U_ne.mp h1).2 (pb_U_ne.mp h2).2⟩
  obtain ⟨e, h2⟩ := pb_U_ne.mp h
  rw [pb_U_y e]
  exact hS.2.1 b hb h2
theorem pb_fc_pop {s q : Nat} (h : pb_fc s q = true) : pb_pop s + 1 = pb_pop q := by
  unfold pb_fc at h
  simp only [Bool.and_eq_true] at h
  exact Nat.eq_of_beq_eq_true h.2.2
theorem pb_cb_hom (P : Nat → Nat) (k : Nat) (c : Nat → Bool) (m j : Nat) (h : (pb_cb (pb_V P k) c m).testBit j = true) : j < m ∧ pb_pop (P j) + 1 = k := by
  induction m with
  | zero =>
    rw [show pb_cb (pb_V P k) c 0 = 0 from rfl, Nat.zero_testBit] at h
    cases h
  | succ m ih =>
    rw [pb_cb_succ, Nat.testBit_xor] at h
    cases h1 : (pb_cb (pb_V P k) c m).testBit j
    · rw [h1, Bool.false_xor] at h
      by_cases hc : c m = true
      · rw [if_pos hc] at h
        by_cases e : pb_pop (P m) = k
        · rw [pb_V_y e, pb_col_bit] at h
          simp only [Bool.and_eq_true, decide_eq_true_eq] at h
          exact ⟨by omega, by rw [← e]; exact pb_fc_pop h.2⟩
        · rw [pb_V_n e, Nat.zero_testBit] at h
          cases h
      · rw [if_neg hc, Nat.zero_testBit] at h
        cases h
    · have := ih h1
      exact ⟨by omega, this.2⟩
/-- what a member of a sum of sides of pieces of k points is made of -/
theorem pb_hom {P : Nat → Nat} {b v j : Nat} (h : pb_Sp (pb_V P (pb_pop (P b))) b (v ^^^ pb_col P b)) (hj : v.testBit j = true) : j < b ∧ pb_pop (P j) + 1 = pb_pop (P b) := by
  obtain ⟨c, hc⟩ := h
  cases h1 : (pb_col P b).testBit j
  · have h2 : (v ^^^ pb_col P b).testBit j = true := by rw [Nat.testBit_xor, hj, h1]; rfl
    rw [hc] at h2
    exact pb_cb_hom P _ c b j h2
  · rw [pb_col_bit] at h1
    simp only [Bool.and_eq_true, decide_eq_true_eq] at h1
    exact ⟨h1.1, pb_fc_pop h1.2⟩
theorem pb_lo_lt {n : Nat} {P R lo : Nat → Nat} (hS : pb_Sol n P R lo) {b : Nat} (hb : b < n) (h : R b ≠ 0) : lo b < b ∧ pb_pop (P (lo b)) + 1 = pb_pop (P b) := pb_hom (hS.1 b hb) (hS.2.1 b hb h).1
theorem pb_cb_trunc {V : Nat → Nat} {c : Nat → Bool} {m n : Nat} (hmn : m ≤ n) (h : ∀ i, m ≤ i → i < n → c i = false) : pb_cb V c n = pb_cb V c m := by
  induction hmn with
  | refl => rfl
  | @step n hmn ih =>
    rw [pb_cb_succ, ih (fun i h1 h2 => h i h1 (by omega)), h n hmn (by omega)]
    simp
theorem pb_bd_x (W : Nat → Nat) (a b n : Nat) : pb_cb W (fun j => (a ^^^ b).testBit j) n = pb_cb W (fun j => a.testBit j) n ^^^ pb_cb W (fun j => b.testBit j) n := by
  rw [← pb_cb_xor]
  exact pb_cb_congr fun i _ => Nat.testBit_xor a b i
theorem pb_bd_0 (W : Nat → Nat) (n : Nat) : pb_cb W (fun j => (0 : Nat).testBit j) n = 0 := by
  rw [pb_cb_trunc (m := 0) (Nat.zero_le n) (fun i _ _ => Nat.zero_testBit i)]
  rfl
theorem pb_bd_sp {n : Nat} {P : Nat → Nat} (hC : pb_Cx n P) {k m v : Nat} (hm : m ≤ n) (h : pb_Sp (pb_V P k) m v) : pb_cb (pb_col P) (fun j => v.testBit j) n = 0 := by
  obtain ⟨c, rfl⟩ := h
  induction m with
  | zero => exact pb_bd_0 _ n
  | succ m ih =>
    rw [pb_cb_succ, pb_bd_x, ih (by omega), Nat.zero_xor]
    by_cases hc : c m = true
    · rw [if_pos hc]
      by_cases e : pb_pop (P m) = k
      · rw [pb_V_y e]
        exact pb_dd hC (by omega)
      · rw [pb_V_n e]
        exact pb_bd_0 _ n
    · rw [if_neg hc]
      exact pb_bd_0 _ n
/-- the partner of a piece that closes is one that opens -/
theorem pb_lo_zero {n : Nat} {P R lo : Nat → Nat} (hC : pb_Cx n P) (hS : pb_Sol n P R lo) {b : Nat} (hb : b < n) (h : R b ≠ 0) : R (lo b) = 0 := by
  have hl := pb_lo_lt hS hb h
  have ht := hS.2.1 b hb h
  have ha : lo b < n := by omega
  generalize ea : lo b = a at hl ht ha ⊢
  have h0 : pb_cb (pb_col P) (fun j => (R b).testBit j) n = 0 := by
    have h1 := pb_bd_sp hC (show b ≤ n by omega) (hS.1 b hb)
    rw [pb_bd_x, pb_dd hC hb, Nat.xor_zero] at h1
    exact h1
  rw [pb_cb_trunc (m := a + 1) (by omega) (fun i h1 _ => ht.2 i (by omega)), pb_cb_succ, if_pos ht.1] at h0
  have h2 : pb_cb (pb_col P) (fun j => (R b).testBit j) a = pb_cb (pb_V P (pb_pop (P a))) (fun j => (R b).testBit j) a := pb_cb_congrV fun i _ hi => by
    have := (pb_hom (hS.1 b hb) hi).2
    rw [pb_V_y (by omega)]
  have h3 : pb_Sp (pb_V P (pb_pop (P a))) a (pb_V P (pb_pop (P a)) a) := by
    refine ⟨fun j => (R b).testBit j, ?_⟩
    rw [← h2, pb_V_y rfl]
    have h4 := pb_xb (pb_cb (pb_col P) (fun j => (R b).testBit j) a) (pb_col P a)
    rw [h0, Nat.zero_xor] at h4
    exact h4.symm
  have h5 := (pb_in_same (pb_sol_U hS (pb_pop (P a))) ha).mpr h3
  rw [pb_ech_in (pb_ech_U hS _) ha, pb_U_y rfl] at h5
  exact h5
/-- holes of pieces of k points opened before i, not closed before j -/
noncomputable def pb_Lm (P R lo : Nat → Nat) (i j k : Nat) : Nat := pb_cn (fun a => pb_pop (P a) = k ∧ R a = 0 ∧ ¬ ∃ b, b < j ∧ R b ≠ 0 ∧ lo b = a) i
noncomputable def pb_tal (P : Nat → Nat) (t k : Nat) : Nat := pb_cn (fun a => pb_pop (P a) = k) t
theorem pb_rk_V {n : Nat} {P R lo : Nat → Nat} (hS : pb_Sol n P R lo) (k : Nat) {t : Nat} (ht : t ≤ n) : pb_rk (pb_V P k) t = pb_cn (fun b => pb_pop (P b) = k ∧ R b ≠ 0) t := by
  rw [pb_rk_ech (pb_sol_U hS k) (pb_ech_U hS k) ht]
  exact pb_cn_congr fun b _ => pb_U_ne
theorem pb_last {n : Nat} {P R lo : Nat → Nat} (hC : pb_Cx n P) (hS : pb_Sol n P R lo) {i j : Nat} (k : Nat) (hij : i ≤ j) (hj : j ≤ n) : pb_tal P i k + pb_rk (fun b => pb_mk i (pb_V P (k + 1) b)) j = pb_Lm P R lo i j k + pb_rk (pb_V P k) i + pb_rk (pb_V P (k + 1)) j := by
  have e1 : pb_tal P i k = pb_cn (fun b => pb_pop (P b) = k ∧ R b ≠ 0) i + pb_cn (fun b => pb_pop (P b) = k ∧ ¬ R b ≠ 0) i := pb_cn_split _ _ _
  have e2 := pb_cn_split (fun b => pb_pop (P b) = k ∧ ¬ R b ≠ 0) (fun a => ∃ b, b < j ∧ R b ≠ 0 ∧ lo b = a) i
  have e3 : pb_cn (fun a => (pb_pop (P a) = k ∧ ¬ R a ≠ 0) ∧ ¬ ∃ b, b < j ∧ R b ≠ 0 ∧ lo b = a) i = pb_Lm P R lo i j k := pb_cn_congr fun a _ => ⟨fun h => ⟨h.1.1, Classical.not_not.mp h.1.2, h.2⟩, fun h => ⟨⟨h.1, fun q => q h.2.1⟩, h.2.2⟩⟩
  have e4 := pb_rk_V hS (k + 1) hj
  have e5 := pb_cn_split (fun b => pb_pop (P b) = k + 1 ∧ R b ≠ 0) (fun b => lo b < i) j
  have e6 := pb_cn_bij (Q := fun b => pb_pop (P b) = k + 1 ∧ R b ≠ 0) (f := lo) (j := j) (fun b d hb hd h1 h2 => hS.2.2 b d (by omega) (by omega) h1.2 h2.2) i
  have e7 : pb_cn (fun a => (pb_pop (P a) = k ∧ ¬ R a ≠ 0) ∧ ∃ b, b < j ∧ R b ≠ 0 ∧ lo b = a) i = pb_cn (fun a => ∃ b, b < j ∧ (pb_pop (P b) = k + 1 ∧ R b ≠ 0) ∧ lo b = a) i := pb_cn_congr fun a _ => by
    constructor
    · rintro ⟨⟨h1, _⟩, b, hb, h2, rfl⟩
      have := (pb_lo_lt hS (show b < n by omega) h2).2
      exact ⟨b, hb, ⟨by omega, h2⟩, rfl⟩
    · rintro ⟨b, hb, ⟨h1, h2⟩, rfl⟩
      have := (pb_lo_lt hS (show b < n by omega) h2).2
      exact ⟨⟨by omega, fun q => q (pb_lo_zero hC hS (by omega) h2)⟩, b, hb, h2, rfl⟩
  have e8 : pb_rk (fun b => pb_mk i (pb_V P (k + 1) b)) j = pb_cn (fun b => (pb_pop (P b) = k + 1 ∧ R b ≠ 0) ∧ ¬ lo b < i) j := by
    rw [pb_rk_mk i (pb_sol_U hS (k + 1)) (pb_ech_U hS (k + 1)) hj]
    refine pb_cn_congr fun b _ => ?_
    rw [pb_U_ne, Nat.not_lt]
  have e9 := pb_rk_V hS k (show i ≤ n by omega)
  omega
theorem pb_open {n : Nat} {P R lo : Nat → Nat} (hS : pb_Sol n P R lo) {i : Nat} (hi : i < n) : pb_Lm P R lo (i + 1) (i + 1) (pb_pop (P i)) = pb_Lm P R lo i i (pb_pop (P i)) + pb_b (R i = 0) := by
  unfold pb_Lm
  rw [pb_cn_succ]
  congr 1
  · refine pb_cn_congr fun a _ => ?_
    constructor
    · rintro ⟨h1, h2, h3⟩
      exact ⟨h1, h2, fun ⟨b, hb, h4⟩ => h3 ⟨b, by omega, h4⟩⟩
    · rintro ⟨h1, h2, h3⟩
      refine ⟨h1, h2, ?_⟩
      rintro ⟨b, hb, h4, h5⟩
      rcases Nat.lt_or_ge b i with q | q
      · exact h3 ⟨b, q, h4, h5⟩
      · have e : b = i := by omega
        subst e
        have := (pb_lo_lt hS hi h4).2
        rw [h5] at this
        omega
  · refine pb_bc ⟨fun h => h.2.1, fun h => ⟨rfl, h, ?_⟩⟩
    rintro ⟨b, hb, h4, h5⟩
    have := (pb_lo_lt hS (show b < n by omega) h4).1
    omega
/-- the four counts around i and j: their alternating sum is 1 just for partners -/
theorem pb_pair {n : Nat} {P R lo : Nat → Nat} (hC : pb_Cx n P) (hS : pb_Sol n P R lo) {i j : Nat} (hij : i < j) (hj : j < n) : ∃ x y : Nat, pb_Lm P R lo (i + 1) j (pb_pop (P i)) = pb_Lm P R lo i j (pb_pop (P i)) + x ∧ pb_Lm P R lo (i + 1) (j + 1) (pb_pop (P i)) = pb_Lm P R lo i (j + 1) (pb_pop (P i)) + y ∧ x ≤ 1 ∧ y ≤ 1 ∧ (x = y + 1 ↔ R j ≠ 0 ∧ lo j = i) := by
  refine ⟨_, _, pb_cn_succ _ i, pb_cn_succ _ i, pb_b_le _, pb_b_le _, ?_⟩
  by_cases h : R j ≠ 0 ∧ lo j = i
  · have hz : R i = 0 := by rw [← h.2]; exact pb_lo_zero hC hS hj h.1
    rw [pb_b1, pb_b0]
    · exact ⟨fun _ => h, fun _ => rfl⟩
    · exact fun q => q.2.2 ⟨j, by omega, h.1, h.2⟩
    · refine ⟨rfl, hz, ?_⟩
      rintro ⟨b, hb, h4, h5⟩
      have := hS.2.2 b j (by omega) hj h4 h.1 (by omega)
      omega
  · refine ⟨fun q => ?_, fun q => absurd q h⟩
    have e : (pb_pop (P i) = pb_pop (P i) ∧ R i = 0 ∧ ¬ ∃ b, b < j ∧ R b ≠ 0 ∧ lo b = i) ↔ (pb_pop (P i) = pb_pop (P i) ∧ R i = 0 ∧ ¬ ∃ b, b < j + 1 ∧ R b ≠ 0 ∧ lo b = i) := by
      constructor
      · rintro ⟨h1, h2, h3⟩
        refine ⟨h1, h2, ?_⟩
        rintro ⟨b, hb, h4, h5⟩
        rcases Nat.lt_or_ge b j with q | q
        · exact h3 ⟨b, q, h4, h5⟩
        · have e : b = j := by omega
          subst e
          exact h ⟨h4, h5⟩
      · rintro ⟨h1, h2, h3⟩
        exact ⟨h1, h2, fun ⟨b, hb, h4⟩ => h3 ⟨b, by omega, h4⟩⟩
    rw [pb_bc e] at q
    omega
theorem pb_bnd {n : Nat} {P R lo : Nat → Nat} (hS : pb_Sol n P R lo) {v k : Nat} (hv : ∀ j, v.testBit j = true → j < n ∧ pb_pop (P j) = k) : pb_Sp R n v ↔ pb_Sp (pb_V P (k + 1)) n v := by
  rw [← pb_sp_same (pb_sol_U hS (k + 1)) n (Nat.le_refl n)]
  constructor
  · intro h
    have g0 : (0 : Nat) &&& pb_orb (fun j => decide (pb_pop (P j) = k)) n = 0 := Nat.zero_and _
    have h1 := pb_sp_map (g := fun x => x &&& pb_orb (fun j => decide (pb_pop (P j) = k)) n) g0 (fun a b => Nat.and_xor_distrib_right) h
    have e1 : v &&& pb_orb (fun j => decide (pb_pop (P j) = k)) n = v := by
      apply Nat.eq_of_testBit_eq
      intro j
      rw [Nat.testBit_and, pb_orb_bit]
      cases hj : v.testBit j
      · rfl
      · have := hv j hj
        simp [this.1, this.2]
    rw [e1] at h1
    refine pb_sp_trans (fun b hb => ?_) h1
    have e2 : R b &&& pb_orb (fun j => decide (pb_pop (P j) = k)) n = pb_U P R (k + 1) b := by
      apply Nat.eq_of_testBit_eq
      intro j
      rw [Nat.testBit_and, pb_orb_bit]
      by_cases e : pb_pop (P b) = k + 1
      · rw [pb_U_y e]
        cases hj : (R b).testBit j
        · rfl
        · have := pb_hom (hS.1 b hb) hj
          have h3 : j < n := by omega
          have h4 : pb_pop (P j) = k := by omega
          simp [h3, h4]
      · rw [pb_U_n e, Nat.zero_testBit]
        cases hj : (R b).testBit j
        · rfl
        · have := pb_hom (hS.1 b hb) hj
          have h4 : ¬ pb_pop (P j) = k := by omega
          simp [h4]
    show pb_Sp (pb_U P R (k + 1)) n (R b &&& pb_orb (fun j => decide (pb_pop (P j) = k)) n)
    rw [e2]
    exact pb_spg hb
  · refine pb_sp_trans fun b hb => ?_
    by_cases e : pb_pop (P b) = k + 1
    · rw [pb_U_y e]
      exact pb_spg hb
    · rw [pb_U_n e]
      exact pb_sp0
/-! the reduction, a step at a time -/
theorem pb_sol_0 (P R lo : Nat → Nat) : pb_Sol 0 P R lo := ⟨fun b h => absurd h (Nat.not_lt_zero _), fun b h => absurd h (Nat.not_lt_zero _), fun b d h => absurd h (Nat.not_lt_zero _)⟩
theorem pb_red_step {i : Nat} {P R lo : Nat → Nat} (hS : pb_Sol i P R lo) {c b : Nat} (hc : pb_Sp (pb_V P (pb_pop (P i))) i (c ^^^ pb_col P i)) (hb : b < i) (hR : R b ≠ 0) (ht : pb_Top c (lo b)) : pb_Sp (pb_V P (pb_pop (P i))) i ((c ^^^ R b) ^^^ pb_col P i) ∧ ∀ j, lo b ≤ j → (c ^^^ R b).testBit j = false := by
  have h1 := (pb_hom hc ht.1).2
  have h2 := (pb_lo_lt hS hb hR).2
  have e : pb_pop (P b) = pb_pop (P i) := by omega
  have h3 := hS.1 b hb
  rw [e] at h3
  have h4 := pb_spx (pb_sp_mono h3 (show b ≤ i by omega)) (pb_spg (V := pb_V P (pb_pop (P i))) hb)
  rw [pb_V_y e, pb_xa] at h4
  have h5 := pb_spx hc h4
  rw [pb_x3] at h5
  refine ⟨h5, fun j hj => ?_⟩
  have hT := hS.2.1 b hb hR
  rw [Nat.testBit_xor]
  rcases Nat.lt_or_ge (lo b) j with q | q
  · rw [ht.2 j q, hT.2 j q]
    rfl
  · have e2 : j = lo b := by omega
    rw [e2, ht.1, hT.1]
    rfl
theorem pb_sp_congr {V U : Nat → Nat} {m v : Nat} (h : ∀ b, b < m → V b = U b) (hv : pb_Sp V m v) : pb_Sp U m v := pb_sp_trans (fun b hb => by rw [h b hb]; exact pb_spg hb) hv
theorem pb_sol_add {i : Nat} {P R lo : Nat → Nat} (hS : pb_Sol i P R lo) {c t : Nat} (hc : pb_Sp (pb_V P (pb_pop (P i))) i (c ^^^ pb_col P i)) (ht : c ≠ 0 → pb_Top c t ∧ ∀ b, b < i → R b ≠ 0 → lo b ≠ t) : pb_Sol (i + 1) P (pb_up R i c) (pb_up lo i t) := by
  refine ⟨fun b hb => ?_, fun b hb hne => ?_, fun b d hb hd h1 h2 e => ?_⟩
  · rcases Nat.lt_or_ge b i with q | q
    · rw [pb_up_n (by omega)]
      exact hS.1 b q
    · have e : b = i := by omega
      subst e
      rw [pb_up_s]
      exact hc
  · rcases Nat.lt_or_ge b i with q | q
    · rw [pb_up_n (by omega)] at hne ⊢
      rw [pb_up_n (by omega)]
      exact hS.2.1 b q hne
    · have e : b = i := by omega
      subst e
      rw [pb_up_s] at hne ⊢
      rw [pb_up_s]
      exact (ht hne).1
  · rcases Nat.lt_or_ge b i with q | q
    · rw [pb_up_n (show b ≠ i by omega)] at h1 e
      rcases Nat.lt_or_ge d i with q2 | q2
      · rw [pb_up_n (show d ≠ i by omega)] at h2 e
        exact hS.2.2 b d q q2 h1 h2 e
      · have e3 : d = i := by omega
        subst e3
        rw [pb_up_s] at h2 e
        exact absurd e ((ht h2).2 b q h1)
    · have e3 : b = i := by omega
      subst e3
      rw [pb_up_s] at h1 e
      rcases Nat.lt_or_ge d b with q2 | q2
      · rw [pb_up_n (show d ≠ b by omega)] at h2 e
        exact absurd e.symm ((ht h1).2 d q2 h2)
      · omega
theorem pb_col_congr {P Q : Nat → Nat} {b : Nat} (h : ∀ j, j ≤ b → P j = Q j) : pb_col P b = pb_col Q b := by
  apply Nat.eq_of_testBit_eq
  intro x
  rw [pb_col_bit, pb_col_bit, h b (Nat.le_refl b)]
  by_cases q : x < b
  · rw [h x (by omega)]
  · simp [q]
theorem pb_sol_congr {n : Nat} {P Q R lo : Nat → Nat} (h : ∀ j, j < n → P j = Q j) (hS : pb_Sol n P R lo) : pb_Sol n Q R lo := by
  refine ⟨fun b hb => ?_, hS.2⟩
  have h1 := hS.1 b hb
  rw [pb_col_congr (fun j hj => h j (by omega)), h b hb] at h1
  refine pb_sp_congr (fun d hd => ?_) h1
  unfold pb_V
  rw [pb_col_congr (fun j hj => h j (by omega)), h d (by omega)]
theorem pb_cx_congr {n : Nat} {P Q : Nat → Nat} (h : ∀ j, j < n → P j = Q j) (hC : pb_Cx n P) : pb_Cx n Q := by
  obtain ⟨h1, h2, h3, h4⟩ := hC
  refine ⟨h1, fun i hi => ?_, fun i j hi hj e => ?_, fun i hi r hr => ?_⟩
  · rw [← h i hi]
    exact h2 i hi
  · rw [← h i hi, ← h j hj] at e
    exact h3 i j hi hj e
  · rw [← h i hi] at hr
    obtain ⟨j, hj, hj2⟩ := h4 i hi r hr
    exact ⟨j, hj, by rw [← h j (by omega)]; exact hj2⟩
theorem pb_cx_less {n m : Nat} {P : Nat → Nat} (hm : m ≤ n) (hC : pb_Cx n P) : pb_Cx m P := by
  obtain ⟨h1, h2, h3, h4⟩ := hC
  exact ⟨by omega, fun i hi => h2 i (by omega), fun i j hi hj => h3 i j (by omega) (by omega), fun i hi => h4 i (by omega)⟩
/-- one more piece -/
theorem pb_cx_add {n q : Nat} {P : Nat → Nat} (hC : pb_Cx n P) (hn : n < 26) (hq : 1 ≤ q ∧ q < 64 ∧ pb_pop q ≤ 4) (hnew : ∀ i, i < n → P i ≠ q) (hs : ∀ r, pb_fc r q = true → ∃ j, j < n ∧ P j = r) : pb_Cx (n + 1) (pb_up P n q) := by
  have hC' := pb_cx_congr (Q := pb_up P n q) (fun j hj => (pb_up_n (by omega)).symm) hC
  obtain ⟨h1, h2, h3, h4⟩ := hC'
  refine ⟨by omega, fun i hi => ?_, fun i j hi hj e => ?_, fun i hi r hr => ?_⟩
  · rcases Nat.lt_or_ge i n with q1 | q1
    · exact h2 i q1
    · have e : i = n := by omega
      subst e
      rw [pb_up_s]
      exact hq
  · rcases Nat.lt_or_ge i n with q1 | q1
    · rcases Nat.lt_or_ge j n with q2 | q2
      · exact h3 i j q1 q2 e
      · have e2 : j = n := by omega
        subst e2
        rw [pb_up_s, pb_up_n (by omega)] at e
        exact absurd e (hnew i q1)
    · have e2 : i = n := by omega
      subst e2
      rcases Nat.lt_or_ge j i with q2 | q2
      · rw [pb_up_s, pb_up_n (show j ≠ i by omega)] at e
        exact absurd e.symm (hnew j q2)
      · omega
  · rcases Nat.lt_or_ge i n with q1 | q1
    · exact h4 i q1 r hr
    · have e2 : i = n := by omega
      subst e2
      rw [pb_up_s] at hr
      obtain ⟨j, hj, hj2⟩ := hs r hr
      exact ⟨j, hj, by rw [pb_up_n (by omega)]; exact hj2⟩
end
section
/-! ints of the machine as numbers -/
theorem nx_and (a b : Nat) : nI a &&& nI b = nI (a &&& b) := by
  apply Int32.toBitVec_inj.1
  show BitVec.ofNat 32 a &&& BitVec.ofNat 32 b = BitVec.ofNat 32 (a &&& b)
  apply BitVec.eq_of_getLsbD_eq
  intro i hi
  simp [hi]
theorem nx_or (a b : Nat) : nI a ||| nI b = nI (a ||| b) := by
  apply Int32.toBitVec_inj.1
  show BitVec.ofNat 32 a ||| BitVec.ofNat 32 b = BitVec.ofNat 32 (a ||| b)
  apply BitVec.eq_of_getLsbD_eq
  intro i hi
  simp [hi]
theorem nx_xor (a b : Nat) : nI a ^^^ nI b = nI (a ^^^ b) := by
  apply Int32.toBitVec_inj.1
  show BitVec.ofNat 32 a ^^^ BitVec.ofNat 32 b = BitVec.ofNat 32 (a ^^^ b)
  apply BitVec.eq_of_getLsbD_eq
  intro i hi
  simp [hi]
theorem pb_sl : ∀ n, n < 32 → ((nI n &&& 31).toBitVec.smod 32).toNat = n := by decide +kernel
theorem pb_shr {a k : Nat} (ha : a < 2 ^ 31) (hk : k < 32) : nI a >>> (nI k &&& 31) = nI (a >>> k) := by
  rw [pk_shrN ha _ k (pb_sl k hk), Nat.shiftRight_eq_div_pow]
theorem pb_shl {a k : Nat} (h : a <<< k < 2 ^ 31) (hk : k < 32) : nI a <<< (nI k &&& 31) = nI (a <<< k) := by
  rw [Nat.shiftLeft_eq] at h ⊢
  exact pk_shlN _ k (pb_sl k hk) (by omega)
theorem pb_shl1 {k : Nat} (hk : k < 31) : nI 1 <<< (nI k &&& 31) = nI (2 ^ k) := by
  have h1 : 2 ^ k < 2 ^ 31 := Nat.pow_lt_pow_right (by decide) hk
  rw [pk_shlN _ k (pb_sl k (by omega)) (by omega), Nat.one_mul]
/-- a truth value as an int -/
def pb_z (b : Bool) : Int32 := match b with
  | true => 1
  | false => 0
theorem pb_z_n (b : Bool) : pb_z b = nI b.toNat := by cases b <;> rfl
theorem pb_bit {a k : Nat} (ha : a < 2 ^ 31) (hk : k < 32) : nI a >>> (nI k &&& 31) &&& nI 1 = pb_z (a.testBit k) := by
  rw [pb_shr ha hk, nx_and, Nat.and_one_is_mod, pb_z_n, Nat.toNat_testBit, Nat.shiftRight_eq_div_pow]
theorem pb_nz (s : Nat) (b : Bool) : nI s + pb_z b = nI (s + b.toNat) := by rw [pb_z_n, nI_add]
/-- q without the point p -/
def pb_rm (q p : Nat) : Nat := if q.testBit p = true then q - 2 ^ p else q
theorem pb_side : ∀ q, q < 64 → ∀ p, p < 6 → nI q &&& (nI (2 ^ p) ^^^ (-1)) = nI (pb_rm q p) := by decide +kernel
theorem pb_andn : ∀ q, q < 64 → ∀ x, x < 64 → nI x &&& (nI q ^^^ (-1)) = nI (x - (x &&& q)) := by decide +kernel
theorem pb_lowb {v x : Nat} (hx : x < 32) (h : pb_Low v x) : nI v &&& (-(nI v)) = nI (2 ^ x) := by
  apply Int32.toBitVec_inj.1
  show BitVec.ofNat 32 v &&& -(BitVec.ofNat 32 v) = BitVec.ofNat 32 (2 ^ x)
  apply BitVec.eq_of_getLsbD_eq
  intro i hi
  rw [BitVec.getLsbD_and, BitVec.getLsbD_neg, BitVec.getLsbD_ofNat, BitVec.getLsbD_ofNat, decide_eq_true hi, Bool.true_and, Bool.true_and, Bool.true_and]
  rcases Nat.lt_trichotomy i x with q | q | q
  · rw [h.2 i q, Nat.testBit_two_pow_of_ne (by omega)]
    rfl
  · subst q
    rw [h.1, Nat.testBit_two_pow_self, decide_eq_false]
    · rfl
    · rintro ⟨j, hj, hj2⟩
      rw [BitVec.getLsbD_ofNat, h.2 j hj] at hj2
      simp at hj2
  · rw [Nat.testBit_two_pow_of_ne (by omega), decide_eq_true]
    · cases v.testBit i <;> rfl
    · refine ⟨x, q, ?_⟩
      rw [BitVec.getLsbD_ofNat, decide_eq_true hx, h.1]
      rfl
theorem pb_and2 (c x : Nat) : c &&& 2 ^ x = 0 ↔ c.testBit x = false := by
  constructor
  · intro h
    have h1 : (c &&& 2 ^ x).testBit x = false := by rw [h, Nat.zero_testBit]
    rw [Nat.testBit_and, Nat.testBit_two_pow_self, Bool.and_true] at h1
    exact h1
  · intro h
    apply Nat.eq_of_testBit_eq
    intro i
    rw [Nat.testBit_and, Nat.zero_testBit]
    by_cases e : x = i
    · subst e
      rw [h]
      rfl
    · rw [Nat.testBit_two_pow_of_ne e, Bool.and_false]
theorem pb_and2_lt (c : Nat) {x : Nat} (hx : x < 31) : c &&& 2 ^ x < 2 ^ 31 := Nat.lt_of_le_of_lt Nat.and_le_right (Nat.pow_lt_pow_right (by decide) hx)
theorem pb_low_lt {v x n : Nat} (h : pb_Low v x) (hv : v < 2 ^ n) : x < n := by
  rcases Nat.lt_or_ge x n with q | q
  · exact q
  · have h1 := Nat.ge_two_pow_of_testBit h.1
    have h2 : 2 ^ n ≤ 2 ^ x := Nat.pow_le_pow_right (by decide) q
    omega
theorem pb_top_lt {v x n : Nat} (h : pb_Top v x) (hv : v < 2 ^ n) : x < n := by
  rcases Nat.lt_or_ge x n with q | q
  · exact q
  · have h1 := Nat.ge_two_pow_of_testBit h.1
    have h2 : 2 ^ n ≤ 2 ^ x := Nat.pow_le_pow_right (by decide) q
    omega
/-- an argument: below 0, above n, or one of 0 .. n -/
theorem pb_arg (t : Int32) {n : Nat} (hn : n < 2 ^ 30) : t < 0 ∨ (¬ t < 0 ∧ nI n < t) ∨ ∃ j, j ≤ n ∧ t = nI j := by
  rcases pk_ix t (n := n + 1) (by omega) with h | h | ⟨j, hj, h⟩
  · exact Or.inl h
  · refine Or.inr (Or.inl ?_)
    rw [Int32.le_iff_toInt_le, nI_toInt (by omega)] at h
    rw [Int32.lt_iff_toInt_lt, Int32.lt_iff_toInt_lt, nI_toInt (by omega)]
    have e : (0 : Int32).toInt = 0 := rfl
    rw [e]
    omega
  · exact Or.inr (Or.inr ⟨j, by omega, h⟩)
theorem pb_argn (t : Int32) : t < 0 ∨ ∃ j, j < 2 ^ 31 ∧ t = nI j := by
  by_cases h : t < 0
  · exact Or.inl h
  · exact Or.inr (nI_of h)
theorem pb_pop_le (q : Nat) : pb_pop q ≤ 6 := by
  unfold pb_pop pb_pt pb_pt pb_pt pb_pt pb_pt pb_pt pb_pt
  omega
theorem pb_pt_le (q p : Nat) : pb_pt q p ≤ p := by
  induction p with
  | zero => exact Nat.le_refl 0
  | succ p ih =>
    show pb_pt q p + q / 2 ^ p % 2 ≤ p + 1
    omega
theorem pb_pop_pos : ∀ q, q < 64 → 1 ≤ q → 1 ≤ pb_pop q := by decide +kernel
theorem pb_n2 : (-2 : Int32) < 0 := by decide
theorem pb_n1 : (-1 : Int32) < 0 := by decide
theorem pb_n2g : ¬ (0 : Int32) ≤ -2 := by decide
theorem pb_n1g : ¬ (0 : Int32) ≤ -1 := by decide
theorem pb_nn {a : Nat} (h : a < 2 ^ 31) : ¬ nI a < 0 := nI_pos h
theorem pb_n_ne2 {a : Nat} (h : a < 2 ^ 31) : nI a ≠ -2 := fun e => nI_pos h (by rw [e]; exact pb_n2)
theorem pb_n_ne1 {a : Nat} (h : a < 2 ^ 31) : nI a ≠ -1 := fun e => nI_pos h (by rw [e]; exact pb_n1)
end
section
/-! the walk's own rows: what holds all through a run, Nat branches, fields, arrays, calls -/
set_option maxRecDepth 100000
abbrev pb_cl : List vw_C := [(RX0, TX0, 7), (RX1, TX1, 3)]
/-- the world of a PersistentBars: the object and its five arrays -/
abbrev pb_xW (sg : Nat → Nat) (d : ClassId) (a0 a1 a2 a3 a4 : Nat → Int32) (cn sv : Int32) : va_W := [(sg 0, .inr (0, [.ref (sg 1), .ref (sg 2), .ref (sg 3), .ref (sg 4), .ref (sg 5), .int cn, .int sv])), (sg 1, .inl (d, 26, .inl a0)), (sg 2, .inl (d, 64, .inl a1)), (sg 3, .inl (d, 26, .inl a2)), (sg 4, .inl (d, 26, .inl a3)), (sg 5, .inl (d, 26, .inl a4))]
/-- the world of a PersistentBarsModel: the object and its two arrays -/
abbrev pb_mW (sg : Nat → Nat) (d : ClassId) (cn : Int32) (b0 b1 : Nat → Int32) : va_W := [(sg 0, .inr (1, [.int cn, .ref (sg 1), .ref (sg 2)])), (sg 1, .inl (d, 26, .inl b0)), (sg 2, .inl (d, 26, .inl b1))]
def pb_A (sg : Nat → Nat) (k : Nat) : Nat → Prop := fun q => ∃ i, i < k ∧ q = sg i
def pb_Nd (sg : Nat → Nat) (k : Nat) : Prop := ∀ i j, i < k → j < k → sg i = sg j → i = j
theorem pb_Dof {sg : Nat → Nat} {k : Nat} (hn : pb_Nd sg k) {w : va_W} (hw : w.map (fun q => q.1) = (List.range k).map sg) : va_D (pb_A sg k) w := by
  have key : ∀ (i : Nat) (q : Nat × va_E), w[i]? = some q → i < k ∧ q.1 = sg i := by
    intro i q h
    have h1 : (w.map (fun q => q.1))[i]? = some q.1 := by rw [List.getElem?_map, h]; rfl
    rw [hw, List.getElem?_map] at h1
    have h2 : i < k := by
      rcases Nat.lt_or_ge i k with x | x
      · exact x
      · rw [List.getElem?_eq_none (by simpa using x)] at h1
        cases h1
    rw [List.getElem?_range h2] at h1
    exact ⟨h2, (Option.some.inj h1).symm⟩
  refine ⟨fun i j p q hp hq e => ?_, fun i q hq => ?_⟩
  · obtain ⟨h1, h2⟩ := key i p hp
    obtain ⟨h3, h4⟩ := key j q hq
    exact hn i j h1 h3 (by rw [← h2, ← h4]; exact e)
  · obtain ⟨h1, h2⟩ := key i q hq
    exact ⟨i, h1, h2⟩
/-- a world and what the tables say of its kinds -/
def pb_B (D : va_G) (d : ClassId) (w : va_W) (U : State) : Prop := va_P D pb_cl w U.heap ∧ va_K D pb_cl [(d, .int)] U
theorem pb_blind (D : va_G) (d : ClassId) (w : va_W) (vals : List Value) : FrameBlind (va_Pc vals (pb_B D d w)) := fun a U g mk q => ⟨q.1, q.2.1, va_K.moved (u := U) (U := U.calling g mk a) (Vm.Alike.refl U.vm) q.2.2⟩
abbrev pb_ro (k : Nat) : Room := { frames := k, cells := 0, slots := 0, locals := 30 * k }
def pb_no : Addr → Prop := fun _ => False
/-- an answer, nothing written -/
def pb_Q (v : Int32) : Array Value → State → Outcome → State → Prop := fun _ st oc t => oc = .returned (some (.int v)) ∧ t.heap = st.heap
/-- an answer, and a heap in which only cells of A have changed -/
def pb_Qm (A : Nat → Prop) (post : Int32 → Heap → Prop) : Array Value → State → Outcome → State → Prop := fun _ st oc t => (∃ r, oc = .returned (some (.int r)) ∧ post r t.heap) ∧ va_F A st t
def pb_Qn (A : Nat → Prop) (post : Heap → Prop) : Array Value → State → Outcome → State → Prop := fun _ st oc t => (oc = .returned none ∧ post t.heap) ∧ va_F A st t
section PBW
variable {p : Program} {l : Launch} {e : Env} {R : Room} {s : State} {m : MethodId} {args : Array Value} {below : List Frame} {meth : Method} {c : Code} {H : Heap} {locs : List Loc} {cells slots : Nat} {Q : State → Prop}
variable {cc : ByteArray} {pc nL : Nat} {ls : Array Slot} {rest : List Value} {ret : Option FieldType} {own : String} {D : va_G} {d : ClassId} {sg : Nat → Nat} {H0 : Heap} {A : Nat → Prop}
variable {a0 a1 a2 a3 a4 b0 b1 : Nat → Int32} {cn sv : Int32}
def pb_C (p : Program) (s : State) (m : MethodId) (meth : Method) (c : Code) (args : Array Value) (cc : ByteArray) (nL : Nat) (ret : Option FieldType) (own : String) : Prop := p.tables.exec = Jvm.exec ∧ c.code = cc ∧ c.maxLocals = nL ∧ meth.sig.returnType = ret ∧ s.vm.findClass own = some m.cls ∧ meth.locks = false ∧ ∀ w ∈ lw_all, w.before args s = true
theorem pb_met {l : Launch} {y : MethodName} {cc : ByteArray} {n : Nat} {ret : Option FieldType} {rm : Room} {vals : List Value} {lv : List (Nat × Value)} {B : State → Prop} {Qc : Array Value → State → Outcome → State → Prop} {mc ms : Nat} {free : Addr → Prop} (own : String) (hy : plainName y.cls = true) (hown : y.cls = own) (hlen : (lg_sl vals).length ≤ n) (hlv : lv_args 0 vals = lv)
    (body : ∀ (p : Program) (e : Env) (s : State) (m : MethodId) (below : List Frame) (meth : Method) (c : Code) (ls : Array Slot), pb_C p s m meth c vals.toArray cc n ret own → meth.name = y.name → B s → lv_has ls n lv → W p l e rm s m vals.toArray below meth c s.heap [] 0 0 (MQ below Qc vals.toArray s mc ms free) (F0 m 0 ls [])) : Met l y (ws_ y cc n ret) rm (va_Pc vals B) Qc mc ms free := by
  refine Met.ofW (cc := cc) (maxL := n) (ret := ret) hy rfl ?_
  intro p e s m args below meth c s₁ B0 hml hv
  obtain ⟨rfl, hv⟩ := hv
  have hts := atoms_spec (ws := ws_ y cc n ret) B0.pre
  have hts : ∀ w ∈ lw_all, w.before _ s = true := fun w h => hts w (List.mem_cons_of_mem _ h)
  have hown2 : s.vm.findClass own = some m.cls := by
    rw [← hown]
    exact findClass_of_methodNamed B0.named
  have hl := lv_entry vals hlen
  rw [hlv] at hl
  rw [lg_entry_eq]
  exact body p e s m below meth c _ ⟨B0.exec, B0.bytes, hml, B0.returns, hown2, B0.notSynchronized, hts⟩ (name_of_methodNamed B0.named B0.method).1 hv hl
/-- the value on top in other words -/
theorem pb_top {x : Int32} (y : Int32) (h : x = y) (k : W p l e R s m args below meth c H locs cells slots Q (F0 m pc ls (.int y :: rest))) : W p l e R s m args below meth c H locs cells slots Q (F0 m pc ls (.int x :: rest)) := h ▸ k
theorem pb_tup {x y : Int32} (h : x = y) (k : W p l e R s m args below meth c H locs cells slots Q (F0 m pc ls (.int y :: rest))) : W p l e R s m args below meth c H locs cells slots Q (F0 m pc ls (.int x :: rest)) := h ▸ k
theorem pb_ieq {a b : Nat} {off : Int} {tgt : Nat} (hx : p.tables.exec = Jvm.exec) (hb : c.code = cc) (hdg : decode cc pc = .ok (.if_icmp .eq off, 3)) (ht : (pc : Int) + off = (tgt : Int)) (ha : a < 2 ^ 31) (hb2 : b < 2 ^ 31) (kt : a = b → W p l e R s m args below meth c H locs cells slots Q (F0 m tgt ls rest)) (kf : a ≠ b → W p l e R s m args below meth c H locs cells slots Q (F0 m (pc + 3) ls rest)) : W p l e R s m args below meth c H locs cells slots Q (F0 m pc ls (.int (nI b) :: .int (nI a) :: rest)) :=
  lv_icmp_eq hx hb hdg ht (fun q => kt ((nI_eq ha hb2).mp q)) (fun q => kf (fun z => q ((nI_eq ha hb2).mpr z)))
theorem pb_ine {a b : Nat} {off : Int} {tgt : Nat} (hx : p.tables.exec = Jvm.exec) (hb : c.code = cc) (hdg : decode cc pc = .ok (.if_icmp .ne off, 3)) (ht : (pc : Int) + off = (tgt : Int)) (ha : a < 2 ^ 31) (hb2 : b < 2 ^ 31) (kt : a ≠ b → W p l e R s m args below meth c H locs cells slots Q (F0 m tgt ls rest)) (kf : a = b → W p l e R s m args below meth c H locs cells slots Q (F0 m (pc + 3) ls rest)) : W p l e R s m args below meth c H locs cells slots Q (F0 m pc ls (.int (nI b) :: .int (nI a) :: rest)) :=
  lv_icmp_ne hx hb hdg ht (fun q => kt (fun z => q ((nI_eq ha hb2).mpr z))) (fun q => kf ((nI_eq ha hb2).mp q))
theorem pb_ilt {a b : Nat} {off : Int} {tgt : Nat} (hx : p.tables.exec = Jvm.exec) (hb : c.code = cc) (hdg : decode cc pc = .ok (.if_icmp .lt off, 3)) (ht : (pc : Int) + off = (tgt : Int)) (ha : a < 2 ^ 31) (hb2 : b < 2 ^ 31) (kt : a < b → W p l e R s m args below meth c H locs cells slots Q (F0 m tgt ls rest)) (kf : b ≤ a → W p l e R s m args below meth c H locs cells slots Q (F0 m (pc + 3) ls rest)) : W p l e R s m args below meth c H locs cells slots Q (F0 m pc ls (.int (nI b) :: .int (nI a) :: rest)) :=
  lv_icmp_lt hx hb hdg ht (fun q => kt ((nI_ltI ha hb2).mp q)) (fun q => kf (Nat.not_lt.mp (fun z => q ((nI_ltI ha hb2).mpr z))))
theorem pb_ige {a b : Nat} {off : Int} {tgt : Nat} (hx : p.tables.exec = Jvm.exec) (hb : c.code = cc) (hdg : decode cc pc = .ok (.if_icmp .ge off, 3)) (ht : (pc : Int) + off = (tgt : Int)) (ha : a < 2 ^ 31) (hb2 : b < 2 ^ 31) (kt : b ≤ a → W p l e R s m args below meth c H locs cells slots Q (F0 m tgt ls rest)) (kf : a < b → W p l e R s m args below meth c H locs cells slots Q (F0 m (pc + 3) ls rest)) : W p l e R s m args below meth c H locs cells slots Q (F0 m pc ls (.int (nI b) :: .int (nI a) :: rest)) :=
  lv_icmp_ge hx hb hdg ht (fun q => kt ((nI_leI hb2 ha).mp q)) (fun q => kf (Nat.not_le.mp (fun z => q ((nI_leI hb2 ha).mpr z))))
theorem pb_igt {a b : Nat} {off : Int} {tgt : Nat} (hx : p.tables.exec = Jvm.exec) (hb : c.code = cc) (hdg : decode cc pc = .ok (.if_icmp .gt off, 3)) (ht : (pc : Int) + off = (tgt : Int)) (ha : a < 2 ^ 31) (hb2 : b < 2 ^ 31) (kt : b < a → W p l e R s m args below meth c H locs cells slots Q (F0 m tgt ls rest)) (kf : a ≤ b → W p l e R s m args below meth c H locs cells slots Q (F0 m (pc + 3) ls rest)) : W p l e R s m args below meth c H locs cells slots Q (F0 m pc ls (.int (nI b) :: .int (nI a) :: rest)) :=
  lv_icmp_gt hx hb hdg ht (fun q => kt ((nI_ltI hb2 ha).mp q)) (fun q => kf (Nat.not_lt.mp (fun z => q ((nI_ltI hb2 ha).mpr z))))
theorem pb_ile {a b : Nat} {off : Int} {tgt : Nat} (hx : p.tables.exec = Jvm.exec) (hb : c.code = cc) (hdg : decode cc pc = .ok (.if_icmp .le off, 3)) (ht : (pc : Int) + off = (tgt : Int)) (ha : a < 2 ^ 31) (hb2 : b < 2 ^ 31) (kt : a ≤ b → W p l e R s m args below meth c H locs cells slots Q (F0 m tgt ls rest)) (kf : b < a → W p l e R s m args below meth c H locs cells slots Q (F0 m (pc + 3) ls rest)) : W p l e R s m args below meth c H locs cells slots Q (F0 m pc ls (.int (nI b) :: .int (nI a) :: rest)) :=
  lv_icmp_le hx hb hdg ht (fun q => kt ((nI_leI ha hb2).mp q)) (fun q => kf (Nat.not_le.mp (fun z => q ((nI_leI ha hb2).mpr z))))
theorem pb_ceq {a : Nat} {off : Int} {tgt : Nat} (hx : p.tables.exec = Jvm.exec) (hb : c.code = cc) (hdg : decode cc pc = .ok (.ifCond .eq off, 3)) (ht : (pc : Int) + off = (tgt : Int)) (ha : a < 2 ^ 31) (kt : a = 0 → W p l e R s m args below meth c H locs cells slots Q (F0 m tgt ls rest)) (kf : a ≠ 0 → W p l e R s m args below meth c H locs cells slots Q (F0 m (pc + 3) ls rest)) : W p l e R s m args below meth c H locs cells slots Q (F0 m pc ls (.int (nI a) :: rest)) :=
  lv_if_eq hx hb hdg ht (fun q => kt ((nI_eq ha (by decide)).mp (q.trans nI_0.symm))) (fun q => kf (fun z => q (by rw [z]; exact nI_0)))
theorem pb_cne {a : Nat} {off : Int} {tgt : Nat} (hx : p.tables.exec = Jvm.exec) (hb : c.code = cc) (hdg : decode cc pc = .ok (.ifCond .ne off, 3)) (ht : (pc : Int) + off = (tgt : Int)) (ha : a < 2 ^ 31) (kt : a ≠ 0 → W p l e R s m args below meth c H locs cells slots Q (F0 m tgt ls rest)) (kf : a = 0 → W p l e R s m args below meth c H locs cells slots Q (F0 m (pc + 3) ls rest)) : W p l e R s m args below meth c H locs cells slots Q (F0 m pc ls (.int (nI a) :: rest)) :=
  lv_if_ne hx hb hdg ht (fun q => kt (fun z => q (by rw [z]; exact nI_0))) (fun q => kf ((nI_eq ha (by decide)).mp (q.trans nI_0.symm)))
theorem pb_cle {a : Nat} {off : Int} {tgt : Nat} (hx : p.tables.exec = Jvm.exec) (hb : c.code = cc) (hdg : decode cc pc = .ok (.ifCond .le off, 3)) (ht : (pc : Int) + off = (tgt : Int)) (ha : a < 2 ^ 31) (kt : a = 0 → W p l e R s m args below meth c H locs cells slots Q (F0 m tgt ls rest)) (kf : a ≠ 0 → W p l e R s m args below meth c H locs cells slots Q (F0 m (pc + 3) ls rest)) : W p l e R s m args below meth c H locs cells slots Q (F0 m pc ls (.int (nI a) :: rest)) :=
  lv_if_le hx hb hdg ht (fun q => kt (Nat.le_zero.mp ((nI_leI ha (by decide)).mp (nI_0 ▸ q)))) (fun q => kf (fun z => q (by rw [z, nI_0]; decide)))
theorem pb_clt {a : Nat} {off : Int} {tgt : Nat} (hx : p.tables.exec = Jvm.exec) (hb : c.code = cc) (hdg : decode cc pc = .ok (.ifCond .lt off, 3)) (ht : (pc : Int) + off = (tgt : Int)) (ha : a < 2 ^ 31) (kf : W p l e R s m args below meth c H locs cells slots Q (F0 m (pc + 3) ls rest)) : W p l e R s m args below meth c H locs cells slots Q (F0 m pc ls (.int (nI a) :: rest)) :=
  lv_if_lt hx hb hdg ht (fun q => absurd q (nI_pos ha)) (fun _ => kf)
theorem pb_cge {a : Nat} {off : Int} {tgt : Nat} (hx : p.tables.exec = Jvm.exec) (hb : c.code = cc) (hdg : decode cc pc = .ok (.ifCond .ge off, 3)) (ht : (pc : Int) + off = (tgt : Int)) (ha : a < 2 ^ 31) (kt : W p l e R s m args below meth c H locs cells slots Q (F0 m tgt ls rest)) : W p l e R s m args below meth c H locs cells slots Q (F0 m pc ls (.int (nI a) :: rest)) :=
  lv_if_ge hx hb hdg ht (fun _ => kt) (fun q => absurd (nI_pos' ha) q)
theorem pb_cltN {x : Int32} {off : Int} {tgt : Nat} (hx : p.tables.exec = Jvm.exec) (hb : c.code = cc) (hdg : decode cc pc = .ok (.ifCond .lt off, 3)) (ht : (pc : Int) + off = (tgt : Int)) (h : x < 0) (kt : W p l e R s m args below meth c H locs cells slots Q (F0 m tgt ls rest)) : W p l e R s m args below meth c H locs cells slots Q (F0 m pc ls (.int x :: rest)) :=
  lv_if_lt hx hb hdg ht (fun _ => kt) (fun q => absurd h q)
theorem pb_cgeN {x : Int32} {off : Int} {tgt : Nat} (hx : p.tables.exec = Jvm.exec) (hb : c.code = cc) (hdg : decode cc pc = .ok (.ifCond .ge off, 3)) (ht : (pc : Int) + off = (tgt : Int)) (h : ¬ 0 ≤ x) (kf : W p l e R s m args below meth c H locs cells slots Q (F0 m (pc + 3) ls rest)) : W p l e R s m args below meth c H locs cells slots Q (F0 m pc ls (.int x :: rest)) :=
  lv_if_ge hx hb hdg ht (fun q => absurd q h) (fun _ => kf)
theorem pb_zeq {b : Bool} {off : Int} {tgt : Nat} (hx : p.tables.exec = Jvm.exec) (hb : c.code = cc) (hdg : decode cc pc = .ok (.ifCond .eq off, 3)) (ht : (pc : Int) + off = (tgt : Int)) (kt : b = false → W p l e R s m args below meth c H locs cells slots Q (F0 m tgt ls rest)) (kf : b = true → W p l e R s m args below meth c H locs cells slots Q (F0 m (pc + 3) ls rest)) : W p l e R s m args below meth c H locs cells slots Q (F0 m pc ls (.int (pb_z b) :: rest)) :=
  lv_if_eq hx hb hdg ht (fun q => kt (by cases b; rfl; exact absurd q (by decide))) (fun q => kf (by cases b; exact absurd rfl q; rfl))
theorem pb_zne {b : Bool} {off : Int} {tgt : Nat} (hx : p.tables.exec = Jvm.exec) (hb : c.code = cc) (hdg : decode cc pc = .ok (.ifCond .ne off, 3)) (ht : (pc : Int) + off = (tgt : Int)) (kt : b = true → W p l e R s m args below meth c H locs cells slots Q (F0 m tgt ls rest)) (kf : b = false → W p l e R s m args below meth c H locs cells slots Q (F0 m (pc + 3) ls rest)) : W p l e R s m args below meth c H locs cells slots Q (F0 m pc ls (.int (pb_z b) :: rest)) :=
  lv_if_ne hx hb hdg ht (fun q => kt (by cases b; exact absurd rfl q; rfl)) (fun q => kf (by cases b; rfl; exact absurd q (by decide)))
/-- a bit against 1 -/
theorem pb_z1ne {b : Bool} {off : Int} {tgt : Nat} (hx : p.tables.exec = Jvm.exec) (hb : c.code = cc) (hdg : decode cc pc = .ok (.if_icmp .ne off, 3)) (ht : (pc : Int) + off = (tgt : Int)) (kt : b = false → W p l e R s m args below meth c H locs cells slots Q (F0 m tgt ls rest)) (kf : b = true → W p l e R s m args below meth c H locs cells slots Q (F0 m (pc + 3) ls rest)) : W p l e R s m args below meth c H locs cells slots Q (F0 m pc ls (.int (nI 1) :: .int (pb_z b) :: rest)) :=
  lv_icmp_ne hx hb hdg ht (fun q => kt (by cases b; rfl; exact absurd rfl q)) (fun q => kf (by cases b; exact absurd q (by decide); rfl))
theorem pb_gX0 (C : pb_C p s m meth c args cc nL ret RX0) (hK : va_K D pb_cl [(d, .int)] s) (hP : va_P D pb_cl (pb_xW sg d a0 a1 a2 a3 a4 cn sv) H) (hdg : decode cc pc = .ok (.getfield 7, 3)) (kk : W p l e R s m args below meth c H locs cells slots Q (F0 m (pc + 3) ls (.ref (sg 1) :: rest))) : W p l e R s m args below meth c H locs cells slots Q (F0 m pc ls (.ref (sg 0) :: rest)) :=
  va_get (D := D) (ci := 0) (v := .ref (sg 1)) (C := RX0) (T := TX0) (N := 7) C.1 C.2.1 C.2.2.2.2.2.2 in_X0 C.2.2.2.2.1 hK hP 0 rfl rfl 0 (by decide) (C.2.2.2.2.2.2 _ q39) (fun _ h9 => h9) rfl hdg kk
theorem pb_gX1 (C : pb_C p s m meth c args cc nL ret RX0) (hK : va_K D pb_cl [(d, .int)] s) (hP : va_P D pb_cl (pb_xW sg d a0 a1 a2 a3 a4 cn sv) H) (hdg : decode cc pc = .ok (.getfield 13, 3)) (kk : W p l e R s m args below meth c H locs cells slots Q (F0 m (pc + 3) ls (.ref (sg 2) :: rest))) : W p l e R s m args below meth c H locs cells slots Q (F0 m pc ls (.ref (sg 0) :: rest)) :=
  va_get (D := D) (ci := 0) (v := .ref (sg 2)) (C := RX0) (T := TX0) (N := 7) C.1 C.2.1 C.2.2.2.2.2.2 in_X0 C.2.2.2.2.1 hK hP 0 rfl rfl 1 (by decide) (C.2.2.2.2.2.2 _ q40) (fun _ h9 => h9) rfl hdg kk
theorem pb_gX2 (C : pb_C p s m meth c args cc nL ret RX0) (hK : va_K D pb_cl [(d, .int)] s) (hP : va_P D pb_cl (pb_xW sg d a0 a1 a2 a3 a4 cn sv) H) (hdg : decode cc pc = .ok (.getfield 16, 3)) (kk : W p l e R s m args below meth c H locs cells slots Q (F0 m (pc + 3) ls (.ref (sg 3) :: rest))) : W p l e R s m args below meth c H locs cells slots Q (F0 m pc ls (.ref (sg 0) :: rest)) :=
  va_get (D := D) (ci := 0) (v := .ref (sg 3)) (C := RX0) (T := TX0) (N := 7) C.1 C.2.1 C.2.2.2.2.2.2 in_X0 C.2.2.2.2.1 hK hP 0 rfl rfl 2 (by decide) (C.2.2.2.2.2.2 _ q41) (fun _ h9 => h9) rfl hdg kk
theorem pb_gX3 (C : pb_C p s m meth c args cc nL ret RX0) (hK : va_K D pb_cl [(d, .int)] s) (hP : va_P D pb_cl (pb_xW sg d a0 a1 a2 a3 a4 cn sv) H) (hdg : decode cc pc = .ok (.getfield 19, 3)) (kk : W p l e R s m args below meth c H locs cells slots Q (F0 m (pc + 3) ls (.ref (sg 4) :: rest))) : W p l e R s m args below meth c H locs cells slots Q (F0 m pc ls (.ref (sg 0) :: rest)) :=
  va_get (D := D) (ci := 0) (v := .ref (sg 4)) (C := RX0) (T := TX0) (N := 7) C.1 C.2.1 C.2.2.2.2.2.2 in_X0 C.2.2.2.2.1 hK hP 0 rfl rfl 3 (by decide) (C.2.2.2.2.2.2 _ q42) (fun _ h9 => h9) rfl hdg kk
theorem pb_gX4 (C : pb_C p s m meth c args cc nL ret RX0) (hK : va_K D pb_cl [(d, .int)] s) (hP : va_P D pb_cl (pb_xW sg d a0 a1 a2 a3 a4 cn sv) H) (hdg : decode cc pc = .ok (.getfield 22, 3)) (kk : W p l e R s m args below meth c H locs cells slots Q (F0 m (pc + 3) ls (.ref (sg 5) :: rest))) : W p l e R s m args below meth c H locs cells slots Q (F0 m pc ls (.ref (sg 0) :: rest)) :=
  va_get (D := D) (ci := 0) (v := .ref (sg 5)) (C := RX0) (T := TX0) (N := 7) C.1 C.2.1 C.2.2.2.2.2.2 in_X0 C.2.2.2.2.1 hK hP 0 rfl rfl 4 (by decide) (C.2.2.2.2.2.2 _ q43) (fun _ h9 => h9) rfl hdg kk
theorem pb_gX5 (C : pb_C p s m meth c args cc nL ret RX0) (hK : va_K D pb_cl [(d, .int)] s) (hP : va_P D pb_cl (pb_xW sg d a0 a1 a2 a3 a4 cn sv) H) (hdg : decode cc pc = .ok (.getfield 32, 3)) (kk : W p l e R s m args below meth c H locs cells slots Q (F0 m (pc + 3) ls (.int cn :: rest))) : W p l e R s m args below meth c H locs cells slots Q (F0 m pc ls (.ref (sg 0) :: rest)) :=
  va_get (D := D) (ci := 0) (v := .int cn) (C := RX0) (T := TX0) (N := 7) C.1 C.2.1 C.2.2.2.2.2.2 in_X0 C.2.2.2.2.1 hK hP 0 rfl rfl 5 (by decide) (C.2.2.2.2.2.2 _ q44) (fun _ h9 => h9) rfl hdg kk
theorem pb_gX6 (C : pb_C p s m meth c args cc nL ret RX0) (hK : va_K D pb_cl [(d, .int)] s) (hP : va_P D pb_cl (pb_xW sg d a0 a1 a2 a3 a4 cn sv) H) (hdg : decode cc pc = .ok (.getfield 40, 3)) (kk : W p l e R s m args below meth c H locs cells slots Q (F0 m (pc + 3) ls (.int sv :: rest))) : W p l e R s m args below meth c H locs cells slots Q (F0 m pc ls (.ref (sg 0) :: rest)) :=
  va_get (D := D) (ci := 0) (v := .int sv) (C := RX0) (T := TX0) (N := 7) C.1 C.2.1 C.2.2.2.2.2.2 in_X0 C.2.2.2.2.1 hK hP 0 rfl rfl 6 (by decide) (C.2.2.2.2.2.2 _ q45) (fun _ h9 => h9) rfl hdg kk
theorem pb_gM0 (C : pb_C p s m meth c args cc nL ret RX1) (hK : va_K D pb_cl [(d, .int)] s) (hP : va_P D pb_cl (pb_mW sg d cn b0 b1) H) (hdg : decode cc pc = .ok (.getfield 20, 3)) (kk : W p l e R s m args below meth c H locs cells slots Q (F0 m (pc + 3) ls (.int cn :: rest))) : W p l e R s m args below meth c H locs cells slots Q (F0 m pc ls (.ref (sg 0) :: rest)) :=
  va_get (D := D) (ci := 1) (v := .int cn) (C := RX1) (T := TX1) (N := 3) C.1 C.2.1 C.2.2.2.2.2.2 in_X1 C.2.2.2.2.1 hK hP 0 rfl rfl 0 (by decide) (C.2.2.2.2.2.2 _ q177) (fun _ h9 => h9) rfl hdg kk
theorem pb_gM1 (C : pb_C p s m meth c args cc nL ret RX1) (hK : va_K D pb_cl [(d, .int)] s) (hP : va_P D pb_cl (pb_mW sg d cn b0 b1) H) (hdg : decode cc pc = .ok (.getfield 7, 3)) (kk : W p l e R s m args below meth c H locs cells slots Q (F0 m (pc + 3) ls (.ref (sg 1) :: rest))) : W p l e R s m args below meth c H locs cells slots Q (F0 m pc ls (.ref (sg 0) :: rest)) :=
  va_get (D := D) (ci := 1) (v := .ref (sg 1)) (C := RX1) (T := TX1) (N := 3) C.1 C.2.1 C.2.2.2.2.2.2 in_X1 C.2.2.2.2.1 hK hP 0 rfl rfl 1 (by decide) (C.2.2.2.2.2.2 _ q178) (fun _ h9 => h9) rfl hdg kk
theorem pb_gM2 (C : pb_C p s m meth c args cc nL ret RX1) (hK : va_K D pb_cl [(d, .int)] s) (hP : va_P D pb_cl (pb_mW sg d cn b0 b1) H) (hdg : decode cc pc = .ok (.getfield 13, 3)) (kk : W p l e R s m args below meth c H locs cells slots Q (F0 m (pc + 3) ls (.ref (sg 2) :: rest))) : W p l e R s m args below meth c H locs cells slots Q (F0 m pc ls (.ref (sg 0) :: rest)) :=
  va_get (D := D) (ci := 1) (v := .ref (sg 2)) (C := RX1) (T := TX1) (N := 3) C.1 C.2.1 C.2.2.2.2.2.2 in_X1 C.2.2.2.2.1 hK hP 0 rfl rfl 2 (by decide) (C.2.2.2.2.2.2 _ q179) (fun _ h9 => h9) rfl hdg kk
theorem pb_pX5 {v : Int32} (C : pb_C p s m meth c args cc nL ret RX0) (hK : va_K D pb_cl [(d, .int)] s) (hn : pb_Nd sg 6) (hP : va_P D pb_cl (pb_xW sg d a0 a1 a2 a3 a4 cn sv) H) (hS : va_S (pb_A sg 6) H0 H locs) (hdg : decode cc pc = .ok (.putfield 32, 3)) (kk : ∀ (H1 : Heap) (locs1 : List Loc), va_P D pb_cl (pb_xW sg d a0 a1 a2 a3 a4 v sv) H1 → va_S (pb_A sg 6) H0 H1 locs1 → W p l e R s m args below meth c H1 locs1 cells slots Q (F0 m (pc + 3) ls rest)) : W p l e R s m args below meth c H locs cells slots Q (F0 m pc ls (.int v :: .ref (sg 0) :: rest)) :=
  va_put (D := D) (ci := 0) (v := .int v) (ty := .int) (C := RX0) (T := TX0) (N := 7) C.1 C.2.1 C.2.2.2.2.2.2 in_X0 tyX0 tyX0_ok nmX0 C.2.2.2.2.1 hK hP (pb_Dof hn rfl) hS 0 rfl rfl 5 (by decide) (C.2.2.2.2.2.2 _ q44) (fun _ h9 => h9) rfl (by decide +kernel) rfl rfl (Nat.le_of_ble_eq_true rfl) hdg (fun H1 locs1 hP1 _ hS1 => kk H1 locs1 hP1 hS1)
theorem pb_pX6 {v : Int32} (C : pb_C p s m meth c args cc nL ret RX0) (hK : va_K D pb_cl [(d, .int)] s) (hn : pb_Nd sg 6) (hP : va_P D pb_cl (pb_xW sg d a0 a1 a2 a3 a4 cn sv) H) (hS : va_S (pb_A sg 6) H0 H locs) (hdg : decode cc pc = .ok (.putfield 40, 3)) (kk : ∀ (H1 : Heap) (locs1 : List Loc), va_P D pb_cl (pb_xW sg d a0 a1 a2 a3 a4 cn v) H1 → va_S (pb_A sg 6) H0 H1 locs1 → W p l e R s m args below meth c H1 locs1 cells slots Q (F0 m (pc + 3) ls rest)) : W p l e R s m args below meth c H locs cells slots Q (F0 m pc ls (.int v :: .ref (sg 0) :: rest)) :=
  va_put (D := D) (ci := 0) (v := .int v) (ty := .int) (C := RX0) (T := TX0) (N := 7) C.1 C.2.1 C.2.2.2.2.2.2 in_X0 tyX0 tyX0_ok nmX0 C.2.2.2.2.1 hK hP (pb_Dof hn rfl) hS 0 rfl rfl 6 (by decide) (C.2.2.2.2.2.2 _ q45) (fun _ h9 => h9) rfl (by decide +kernel) rfl rfl (Nat.le_of_ble_eq_true rfl) hdg (fun H1 locs1 hP1 _ hS1 => kk H1 locs1 hP1 hS1)
theorem pb_pM0 {v : Int32} (C : pb_C p s m meth c args cc nL ret RX1) (hK : va_K D pb_cl [(d, .int)] s) (hn : pb_Nd sg 3) (hP : va_P D pb_cl (pb_mW sg d cn b0 b1) H) (hS : va_S (pb_A sg 3) H0 H locs) (hdg : decode cc pc = .ok (.putfield 20, 3)) (kk : ∀ (H1 : Heap) (locs1 : List Loc), va_P D pb_cl (pb_mW sg d v b0 b1) H1 → va_S (pb_A sg 3) H0 H1 locs1 → W p l e R s m args below meth c H1 locs1 cells slots Q (F0 m (pc + 3) ls rest)) : W p l e R s m args below meth c H locs cells slots Q (F0 m pc ls (.int v :: .ref (sg 0) :: rest)) :=
  va_put (D := D) (ci := 1) (v := .int v) (ty := .int) (C := RX1) (T := TX1) (N := 3) C.1 C.2.1 C.2.2.2.2.2.2 in_X1 tyX1 tyX1_ok nmX1 C.2.2.2.2.1 hK hP (pb_Dof hn rfl) hS 0 rfl rfl 0 (by decide) (C.2.2.2.2.2.2 _ q177) (fun _ h9 => h9) rfl (by decide +kernel) rfl rfl (Nat.le_of_ble_eq_true rfl) hdg (fun H1 locs1 hP1 _ hS1 => kk H1 locs1 hP1 hS1)
theorem pb_ald (v : Int32) {w : va_W} (C : pb_C p s m meth c args cc nL ret own) (hK : va_K D pb_cl [(d, .int)] s) (hP : va_P D pb_cl w H) (q0 : Nat) {a n : Nat} {f : Nat → Int32} (ha : w[q0]? = some (a, .inl (d, n, .inl f))) {j : Nat} (hj : j < n) (hn : n < 2 ^ 31) (hv : f j = v) (hdg : decode cc pc = .ok (.iaload, 1)) (kk : W p l e R s m args below meth c H locs cells slots Q (F0 m (pc + 1) ls (.int v :: rest))) : W p l e R s m args below meth c H locs cells slots Q (F0 m pc ls (.int (nI j) :: .ref a :: rest)) :=
  va_iald C.1 C.2.1 hK hP q0 0 ha rfl (vp_in_nI hj hn) hdg (by rw [nI_clamp (by omega), hv]; exact kk)
theorem pb_ast {w : va_W} (C : pb_C p s m meth c args cc nL ret own) (hK : va_K D pb_cl [(d, .int)] s) (hP : va_P D pb_cl w H) (hD : va_D A w) (hS : va_S A H0 H locs) (q0 : Nat) {a n : Nat} {f : Nat → Int32} (ha : w[q0]? = some (a, .inl (d, n, .inl f))) {j : Nat} {x : Int32} (hj : j < n) (hn : n < 2 ^ 31) (hdg : decode cc pc = .ok (.iastore, 1)) (kk : ∀ (H1 : Heap) (locs1 : List Loc), va_P D pb_cl (w.set q0 (a, .inl (d, n, .inl (upd f j x)))) H1 → va_S A H0 H1 locs1 → W p l e R s m args below meth c H1 locs1 cells slots Q (F0 m (pc + 1) ls rest)) : W p l e R s m args below meth c H locs cells slots Q (F0 m pc ls (.int x :: .int (nI j) :: .ref a :: rest)) :=
  va_iast C.1 C.2.1 hK hP hD hS q0 0 ha rfl (vp_in_nI hj hn) hdg (fun H1 locs1 hP1 _ hS1 => kk H1 locs1 (by rw [nI_clamp (by omega)] at hP1; exact hP1) hS1)
/-! answers -/
theorem pb_iret {x v : Int32} (C : pb_C p s m meth c args cc nL (some .int) own) (hv : x = v) (hdg : decode cc pc = .ok (.ireturn, 1)) : W p l e R s m args below meth c s.heap [] 0 0 (MQ below (pb_Q v) args s 0 0 pb_no) (F0 m pc ls [.int x]) := by
  subst hv
  exact W.iret C.1 C.2.1 C.2.2.2.1 (fun t ht _ => ⟨rfl, ht⟩) (fun q hq => by cases hq) hdg C.2.2.2.2.2.1
theorem pb_nar (b : Bool) : narrow .boolean (.int (pb_z b)) = .int (pb_z b) := by cases b <;> rfl
theorem pb_zret {x : Int32} {b : Bool} (C : pb_C p s m meth c args cc nL (some .boolean) own) (hv : x = pb_z b) (hdg : decode cc pc = .ok (.ireturn, 1)) : W p l e R s m args below meth c s.heap [] 0 0 (MQ below (pb_Q (pb_z b)) args s 0 0 pb_no) (F0 m pc ls [.int x]) := by
  subst hv
  exact W.zret C.1 C.2.1 C.2.2.2.1 (pb_nar b) (fun t ht _ => ⟨rfl, ht⟩) (fun q hq => by cases hq) hdg C.2.2.2.2.2.1
theorem pb_miret {x : Int32} {post : Int32 → Heap → Prop} (C : pb_C p s m meth c args cc nL (some .int) own) (hS : va_S A s.heap H locs) (hp : post x H) (hdg : decode cc pc = .ok (.ireturn, 1)) : W p l e R s m args below meth c H locs 0 0 (MQ below (pb_Qm A post) args s 0 0 A) (F0 m pc ls [.int x]) :=
  W.iret C.1 C.2.1 C.2.2.2.1 (fun t ht _ => ⟨⟨x, rfl, by rw [ht]; exact hp⟩, hS.F ht⟩) hS.2.2 hdg C.2.2.2.2.2.1
theorem pb_mzret {x : Int32} {post : Int32 → Heap → Prop} (b : Bool) (C : pb_C p s m meth c args cc nL (some .boolean) own) (hS : va_S A s.heap H locs) (hv : x = pb_z b) (hp : post x H) (hdg : decode cc pc = .ok (.ireturn, 1)) : W p l e R s m args below meth c H locs 0 0 (MQ below (pb_Qm A post) args s 0 0 A) (F0 m pc ls [.int x]) := by
  subst hv
  exact W.zret C.1 C.2.1 C.2.2.2.1 (pb_nar b) (fun t ht _ => ⟨⟨_, rfl, by rw [ht]; exact hp⟩, hS.F ht⟩) hS.2.2 hdg C.2.2.2.2.2.1
theorem pb_mvret {post : Heap → Prop} (C : pb_C p s m meth c args cc nL none own) (hS : va_S A s.heap H locs) (hp : post H) (hdg : decode cc pc = .ok (.return_, 1)) : W p l e R s m args below meth c H locs 0 0 (MQ below (pb_Qn A post) args s 0 0 A) (F0 m pc ls []) :=
  W.vret C.1 C.2.1 C.2.2.2.1 (fun t ht _ => ⟨⟨rfl, by rw [ht]; exact hp⟩, hS.F ht⟩) hS.2.2 hdg C.2.2.2.2.2.1
/-! calls -/
section PBC
variable {st0 : List Value} {a : Array Value} {v : Int32} {y : MethodName} {bytes : ByteArray} {maxL idx b ci : Nat} {rt : Option FieldType} {rm : Room} {w : va_W} {fs : List Value} {A0 : Nat → Prop} {rC : vw_C} {As : List Value}
theorem pb_afterQ (hr : va_Run p l e R s m args below meth c H locs cells slots 0 0 (F0 m pc ls st0) rest (pb_Q v a) pb_no) (kk : W p l e R s m args below meth c H locs cells slots Q (F0 m (pc + 3) ls (.int v :: rest))) : W p l e R s m args below meth c H locs cells slots Q (F0 m pc ls st0) := by
  intro T hT X
  obtain ⟨v', st₀, t, T', L, h0, X', hL, e1, e2, ⟨hv, hh⟩, st⟩ := hr T hT X
  cases hv
  have hL0 : L = [] := by
    cases L with
    | nil => rfl
    | cons q r => exact absurd (hL q List.mem_cons_self) (fun z => z)
  subst hL0
  rw [List.append_nil] at X'
  obtain ⟨t2, a1, b1⟩ := kk T' (by rw [e1, hh, h0]) X'
  exact ⟨t2, st t2 a1, b1⟩
theorem pb_afterM {post : Int32 → Heap → Prop} (hr : va_Run p l e R s m args below meth c H locs cells slots 0 0 (F0 m pc ls st0) rest (pb_Qm A post a) A) (hS : va_S A0 H0 H locs) (hA : ∀ q, A q → A0 q) (kk : ∀ (r : Int32) (H1 : Heap) (locs1 : List Loc), post r H1 → (∀ q : Nat, q < H.size → ¬ A q → H1[q]? = H[q]?) → va_S A0 H0 H1 locs1 → W p l e R s m args below meth c H1 locs1 cells slots Q (F0 m (pc + 3) ls (.int r :: rest))) : W p l e R s m args below meth c H locs cells slots Q (F0 m pc ls st0) := by
  intro T hT X
  obtain ⟨v', st₀, t, T', L, h0, X', hL, e1, e2, ⟨⟨r, hv, hp⟩, hz, hk⟩, st⟩ := hr T hT X
  cases hv
  rw [h0] at hz hk
  obtain ⟨t2, a1, b1⟩ := kk r T'.heap (locs ++ L) (by rw [e1]; exact hp) (fun q h1 h2 => by rw [e1]; exact hk q h1 h2)
    ⟨Nat.le_trans hS.1 (by rw [e1]; exact hz), fun q h1 h2 => by rw [e1, hk q (Nat.lt_of_lt_of_le h1 hS.1) (fun z => h2 (hA q z))]; exact hS.2.1 q h1 h2, fun q hq => by
      rcases List.mem_append.mp hq with h | h
      · exact hS.2.2 q h
      · exact hA _ (hL q h)⟩ T' rfl X'
  exact ⟨t2, st t2 a1, b1⟩
theorem pb_afterN {post : Heap → Prop} (hr : va_Run p l e R s m args below meth c H locs cells slots 0 0 (F0 m pc ls st0) rest (pb_Qn A post a) A) (hS : va_S A0 H0 H locs) (hA : ∀ q, A q → A0 q) (kk : ∀ (H1 : Heap) (locs1 : List Loc), post H1 → (∀ q : Nat, q < H.size → ¬ A q → H1[q]? = H[q]?) → va_S A0 H0 H1 locs1 → W p l e R s m args below meth c H1 locs1 cells slots Q (F0 m (pc + 3) ls rest)) : W p l e R s m args below meth c H locs cells slots Q (F0 m pc ls st0) := by
  intro T hT X
  obtain ⟨v', st₀, t, T', L, h0, X', hL, e1, e2, ⟨⟨hv, hp⟩, hz, hk⟩, st⟩ := hr T hT X
  cases hv
  rw [h0] at hz hk
  obtain ⟨t2, a1, b1⟩ := kk T'.heap (locs ++ L) (by rw [e1]; exact hp) (fun q h1 h2 => by rw [e1]; exact hk q h1 h2)
    ⟨Nat.le_trans hS.1 (by rw [e1]; exact hz), fun q h1 h2 => by rw [e1, hk q (Nat.lt_of_lt_of_le h1 hS.1) (fun z => h2 (hA q z))]; exact hS.2.1 q h1 h2, fun q hq => by
      rcases List.mem_append.mp hq with h | h
      · exact hS.2.2 q h
      · exact hA _ (hL q h)⟩ T' rfl X'
  exact ⟨t2, st t2 a1, b1⟩
/-- a call through the object b of the world w -/
theorem pb_runV {Qc : Array Value → State → Outcome → State → Prop} {free : Addr → Prop} (C : pb_C p s m meth c args cc nL ret own) (hM : Met l y (ws_ y bytes maxL rt) rm (va_Pc (.ref b :: As) (pb_B D d w)) Qc 0 0 free) (hG : GoodIn lw_all (wsV own idx rC.1 y (ws_ y bytes maxL rt))) (hd : y.cls = rC.1 ∧ y.cls ≠ "java/lang/invoke/MethodHandle" ∧ y.cls ≠ "java/lang/invoke/VarHandle" ∧ (parseMethodDescriptor y.desc).map (fun d => d.parameters.length) = some As.length)
    (hrm : rm.cells = 0 ∧ rm.slots = 0 ∧ rm.frames + 1 ≤ R.frames ∧ 8 + (maxL + 11) + rm.locals ≤ R.locals) (hf : cells ≤ R.cells ∧ slots ≤ R.slots) (hK : va_K D pb_cl [(d, .int)] s) (hP : va_P D pb_cl w H) (hc : pb_cl[ci]? = some rC) (he : w[0]? = some (b, .inr (ci, fs))) (hl : ls.size = nL) (hst : st0 = As.reverse ++ .ref b :: rest) (hW : (rest.map fun v => v.category).sum ≤ 8) (hdg : decode cc pc = .ok (.invokevirtual idx, 3)) :
    va_Run p l e R s m args below meth c H locs cells slots 0 0 (F0 m pc ls st0) rest (Qc (Value.ref b :: As).toArray) free :=
  va_runV (C := rC.1) (As := As) (rest := rest) ⟨C.1, C.2.1, C.2.2.1, C.2.2.2.2.1, C.2.2.2.2.2.2⟩ hM (cwV As.length C.2.2.2.2.2.2 hG rfl hrm.1 hrm.2.1 hd hrm.2.2) ⟨pb_blind D d w _, va_recv hK hP hc he, fun U hU hW => ⟨rfl, by rw [hU]; exact hP, va_K.moved hW.alike hK⟩⟩ rfl rfl hl hst (lv_room hW) hdg hf
/-- a call of a method of no object -/
theorem pb_runS {Qc : Array Value → State → Outcome → State → Prop} {free : Addr → Prop} (C : pb_C p s m meth c args cc nL ret own) (hM : Met l y (ws_ y bytes maxL rt) rm (va_Pc As (fun _ => True)) Qc 0 0 free) (hG : GoodIn lw_all (va_wsS own idx y (ws_ y bytes maxL rt))) (hd : y.cls ≠ "java/lang/invoke/MethodHandle" ∧ y.cls ≠ "java/lang/invoke/VarHandle" ∧ (parseMethodDescriptor y.desc).map (fun d => d.parameters.length) = some As.length)
    (hrm : rm.cells = 0 ∧ rm.slots = 0 ∧ rm.frames + 1 ≤ R.frames ∧ 8 + (maxL + 11) + rm.locals ≤ R.locals) (hf : cells ≤ R.cells ∧ slots ≤ R.slots) (hl : ls.size = nL) (hst : st0 = As.reverse ++ rest) (hW : (rest.map fun v => v.category).sum ≤ 8) (hdg : decode cc pc = .ok (.invokestatic idx, 3)) :
    va_Run p l e R s m args below meth c H locs cells slots 0 0 (F0 m pc ls st0) rest (Qc As.toArray) free :=
  va_runS (As := As) (rest := rest) ⟨C.1, C.2.1, C.2.2.1, C.2.2.2.2.1, C.2.2.2.2.2.2⟩ hM (va_cwS As.length C.2.2.2.2.2.2 hG rfl hrm.1 hrm.2.1 hd hrm.2.2) ⟨fun a U g mk q => ⟨q.1, trivial⟩, fun U hU hW => ⟨rfl, trivial⟩⟩ rfl rfl hl hst (lv_room hW) hdg hf
end PBC
end PBW
end
section
/-! what the arrays hold, and what each call answers, of n pieces P -/
/-- the arrays of a PersistentBars: list, place, count -/
def pb_BX (n : Nat) (P : Nat → Nat) (a0 a1 : Nat → Int32) (cn : Int32) : Prop := cn = nI n ∧ (∀ i, i < n → a0 i = nI (P i)) ∧ ∀ q, q < 64 → (∃ i, i < n ∧ P i = q ∧ a1 q = nI i) ∨ ((∀ i, i < n → P i ≠ q) ∧ a1 q = -2)
/-- the arrays of a PersistentBarsModel -/
def pb_BM (n : Nat) (P : Nat → Nat) (cn : Int32) (b0 : Nat → Int32) : Prop := cn = nI n ∧ ∀ i, i < n → b0 i = nI (P i)
def pb_okP (x : Int32) (b : Bool) : Prop := (b = true ∧ ∃ q, 1 ≤ q ∧ q < 64 ∧ pb_pop q ≤ 4 ∧ x = nI q) ∨ (b = false ∧ x < nI 1) ∨ (b = false ∧ ¬ x < nI 1 ∧ nI 63 < x) ∨ (b = false ∧ ∃ q, 1 ≤ q ∧ q < 64 ∧ 4 < pb_pop q ∧ x = nI q)
theorem pb_okP_ex (x : Int32) : ∃ b, pb_okP x b := by
  rcases pb_arg x (n := 63) (by decide) with h | ⟨h0, h⟩ | ⟨j, hj, h⟩
  · refine ⟨false, Or.inr (Or.inl ⟨rfl, ?_⟩)⟩
    rw [Int32.lt_iff_toInt_lt] at h ⊢
    have e0 : (0 : Int32).toInt = 0 := rfl
    rw [nI_toInt (by decide)]
    rw [e0] at h
    omega
  · refine ⟨false, Or.inr (Or.inr (Or.inl ⟨rfl, fun q => ?_, h⟩))⟩
    rw [Int32.lt_iff_toInt_lt, nI_toInt (by decide)] at h q
    omega
  · rcases Nat.eq_zero_or_pos j with q | q
    · subst q
      exact ⟨false, Or.inr (Or.inl ⟨rfl, by rw [h]; exact nI_lt (by decide) (by decide)⟩)⟩
    · rcases Nat.lt_or_ge 4 (pb_pop j) with z | z
      · exact ⟨false, Or.inr (Or.inr (Or.inr ⟨rfl, j, q, by omega, z, h⟩))⟩
      · exact ⟨true, Or.inl ⟨rfl, j, q, by omega, z, h⟩⟩
/-- where q stands -/
def pb_At (n : Nat) (P : Nat → Nat) (q : Nat) (none v : Int32) : Prop := (∃ i, i < n ∧ P i = q ∧ v = nI i) ∨ ((∀ i, i < n → P i ≠ q) ∧ v = none)
theorem pb_At_ex (n : Nat) (P : Nat → Nat) (q : Nat) (none : Int32) : ∃ v, pb_At n P q none v := by
  by_cases h : ∃ i, i < n ∧ P i = q
  · obtain ⟨i, h1, h2⟩ := h
    exact ⟨_, Or.inl ⟨i, h1, h2, rfl⟩⟩
  · exact ⟨_, Or.inr ⟨fun i h1 h2 => h ⟨i, h1, h2⟩, rfl⟩⟩
/-- all sides of q are there -/
def pb_Has (n : Nat) (P : Nat → Nat) (q : Nat) : Prop := ∀ r, pb_fc r q = true → ∃ i, i < n ∧ P i = r
def pb_okS (n : Nat) (P : Nat → Nat) (q : Nat) (b : Bool) : Prop := (b = true ∧ pb_Has n P q) ∨ (b = false ∧ ¬ pb_Has n P q)
theorem pb_okS_ex (n : Nat) (P : Nat → Nat) (q : Nat) : ∃ b, pb_okS n P q b := by
  by_cases h : pb_Has n P q
  · exact ⟨true, Or.inl ⟨rfl, h⟩⟩
  · exact ⟨false, Or.inr ⟨rfl, h⟩⟩
theorem pb_fc_rm : ∀ q, q < 64 → ∀ r, r < 64 → pb_fc r q = true → ∃ u, u < 6 ∧ q.testBit u = true ∧ pb_rm q u = r := by decide +kernel
theorem pb_rm_fc : ∀ q, q < 64 → ∀ u, u < 6 → q.testBit u = true → pb_pop q ≠ 1 → pb_fc (pb_rm q u) q = true := by decide +kernel
theorem pb_rm_same : ∀ q, q < 64 → ∀ u, u < 6 → q.testBit u = false → pb_rm q u = q := by decide +kernel
theorem pb_rm_less : ∀ q, q < 64 → ∀ u, u < 6 → q.testBit u = true → pb_rm q u ≠ q := by decide +kernel
theorem pb_rm_z : ∀ q, q < 64 → ∀ u, u < 6 → 1 ≤ q → (pb_rm q u = 0 ↔ (q.testBit u = true ∧ pb_pop q = 1)) := by decide +kernel
theorem pb_rm_lt : ∀ q, q < 64 → ∀ u, u < 6 → pb_rm q u < 64 := by decide +kernel
theorem pb_fc_lt {r q : Nat} (h : pb_fc r q = true) : r ≤ q ∧ r ≠ 0 := by
  unfold pb_fc at h
  simp only [Bool.and_eq_true, Bool.not_eq_true'] at h
  have h1 := Nat.eq_of_beq_eq_true h.1
  refine ⟨?_, fun e => ?_⟩
  · rw [← h1]
    exact Nat.and_le_right
  · rw [e] at h
    simp at h
theorem pb_fc_one {r q : Nat} (hq : q < 64) (h1 : pb_pop q = 1) : pb_fc r q = false := by
  cases h : pb_fc r q
  · rfl
  · have h2 := pb_fc_pop h
    have h3 := pb_fc_lt h
    have h4 := pb_pop_pos r (by omega) (by omega)
    omega
theorem pb_Has_of {n q : Nat} {P : Nat → Nat} (hq : q < 64) (h : ∀ u, u < 6 → q.testBit u = true → pb_pop q ≠ 1 → ∃ i, i < n ∧ P i = pb_rm q u) : pb_Has n P q := by
  intro r hr
  have h1 := pb_fc_lt hr
  obtain ⟨u, h2, h3, h4⟩ := pb_fc_rm q hq r (by omega) hr
  by_cases e : pb_pop q = 1
  · rw [pb_fc_one hq e] at hr
    cases hr
  · rw [← h4]
    exact h u h2 h3 e
/-- an index -/
def pb_okI (n : Nat) (x : Int32) (b : Bool) : Prop := (b = true ∧ ∃ i, i < n ∧ x = nI i) ∨ (b = false ∧ x < 0) ∨ (b = false ∧ ∃ i, n ≤ i ∧ i < 2 ^ 31 ∧ x = nI i)
theorem pb_okI_ex (n : Nat) (x : Int32) : ∃ b, pb_okI n x b := by
  rcases pb_argn x with h | ⟨j, hj, h⟩
  · exact ⟨false, Or.inr (Or.inl ⟨rfl, h⟩)⟩
  · rcases Nat.lt_or_ge j n with q | q
    · exact ⟨true, Or.inl ⟨rfl, j, q, h⟩⟩
    · exact ⟨false, Or.inr (Or.inr ⟨rfl, j, q, hj, h⟩)⟩
/-- the piece at an index -/
def pb_PieceS (n : Nat) (P : Nat → Nat) (x r : Int32) : Prop := (∃ i, i < n ∧ x = nI i ∧ r = nI (P i)) ∨ (pb_okI n x false ∧ r = -1)
theorem pb_PieceS_ex (n : Nat) (P : Nat → Nat) (x : Int32) : ∃ r, pb_PieceS n P x r := by
  obtain ⟨b, h⟩ := pb_okI_ex n x
  cases b
  · exact ⟨-1, Or.inr ⟨h, rfl⟩⟩
  · rcases h with ⟨_, i, h1, h2⟩ | ⟨h, _⟩ | ⟨h, _⟩
    · exact ⟨_, Or.inl ⟨i, h1, h2, rfl⟩⟩
    · cases h
    · cases h
def pb_PiecesS (n : Nat) (P : Nat → Nat) (t k r : Int32) : Prop := (pb_okI (n + 1) t false ∧ r = -1) ∨ (∃ i, i ≤ n ∧ t = nI i ∧ pb_okI 4 k false ∧ r = -2) ∨ (∃ i j, i ≤ n ∧ t = nI i ∧ j < 4 ∧ k = nI j ∧ r = nI (pb_tal P i (j + 1)))
theorem pb_PiecesS_ex (n : Nat) (P : Nat → Nat) (t k : Int32) : ∃ r, pb_PiecesS n P t k r := by
  obtain ⟨b, h⟩ := pb_okI_ex (n + 1) t
  obtain ⟨b2, h2⟩ := pb_okI_ex 4 k
  cases b
  · exact ⟨_, Or.inl ⟨h, rfl⟩⟩
  · rcases h with ⟨_, i, h3, h4⟩ | ⟨h, _⟩ | ⟨h, _⟩
    · cases b2
      · exact ⟨_, Or.inr (Or.inl ⟨i, by omega, h4, h2, rfl⟩)⟩
      · rcases h2 with ⟨_, j, h5, h6⟩ | ⟨h, _⟩ | ⟨h, _⟩
        · exact ⟨_, Or.inr (Or.inr ⟨i, j, by omega, h4, h5, h6, rfl⟩)⟩
        · cases h
        · cases h
    · cases h
    · cases h
noncomputable def pb_eu (P : Nat → Nat) (t : Nat) : Int32 := nI (pb_tal P t 1) - nI (pb_tal P t 2) + nI (pb_tal P t 3) - nI (pb_tal P t 4)
def pb_EulerS (n : Nat) (P : Nat → Nat) (t r : Int32) : Prop := (pb_okI (n + 1) t false ∧ r = -1000) ∨ (∃ i, i ≤ n ∧ t = nI i ∧ r = pb_eu P i)
theorem pb_EulerS_ex (n : Nat) (P : Nat → Nat) (t : Int32) : ∃ r, pb_EulerS n P t r := by
  obtain ⟨b, h⟩ := pb_okI_ex (n + 1) t
  cases b
  · exact ⟨_, Or.inl ⟨h, rfl⟩⟩
  · rcases h with ⟨_, i, h3, h4⟩ | ⟨h, _⟩ | ⟨h, _⟩
    · exact ⟨_, Or.inr ⟨i, by omega, h4, rfl⟩⟩
    · cases h
    · cases h
theorem pb_tal_y {P : Nat → Nat} {i k : Nat} (h : pb_pop (P i) = k) : pb_tal P (i + 1) k = pb_tal P i k + 1 := by
  unfold pb_tal
  rw [pb_cn_succ, pb_b1 h]
theorem pb_tal_n {P : Nat → Nat} {i k : Nat} (h : ¬ pb_pop (P i) = k) : pb_tal P (i + 1) k = pb_tal P i k := by
  unfold pb_tal
  rw [pb_cn_succ, pb_b0 h]
  rfl
theorem pb_tal_le (P : Nat → Nat) (i k : Nat) : pb_tal P i k ≤ i := pb_cn_le _ _
theorem pb_ptS (q u : Nat) : nI (pb_pt q u) + pb_z (q.testBit u) = nI (pb_pt q (u + 1)) := by
  rw [pb_nz, Nat.toNat_testBit]
  rfl
/-- bits of a chain -/
theorem pb_ch_lt {n ch j : Nat} (h : ch < 2 ^ n) (hj : ch.testBit j = true) : j < n := by
  rcases Nat.lt_or_ge j n with q | q
  · exact q
  · have h1 := Nat.ge_two_pow_of_testBit hj
    have h2 : 2 ^ n ≤ 2 ^ j := Nat.pow_le_pow_right (by decide) q
    omega
/-- all pieces of a chain have k points -/
def pb_Hm (P : Nat → Nat) (ch k : Nat) : Prop := ∀ j, ch.testBit j = true → pb_pop (P j) = k
def pb_ChD (P : Nat → Nat) (ch : Nat) (v : Int32) : Prop := (ch = 0 ∧ v = -1) ∨ (∃ k, ch ≠ 0 ∧ pb_Hm P ch (k + 1) ∧ v = nI k) ∨ ((∀ k, ¬ pb_Hm P ch k) ∧ v = -2)
/-- a chain -/
def pb_okC (n : Nat) (x : Int32) (b : Bool) : Prop := pb_okI (2 ^ n) x b
noncomputable def pb_bd (P : Nat → Nat) (n ch : Nat) : Nat := pb_cb (pb_col P) (fun j => ch.testBit j) n
/-- even: one number of points; or not -/
def pb_okE (P : Nat → Nat) (ch : Nat) (b : Bool) : Prop := (b = true ∧ ∃ k, 1 ≤ k ∧ k ≤ 4 ∧ pb_Hm P ch k) ∨ (b = false ∧ ∀ k, ¬ pb_Hm P ch k)
theorem pb_okE_ex {n : Nat} {P : Nat → Nat} (hC : pb_Cx n P) {ch : Nat} (hch : ch < 2 ^ n) : ∃ b, pb_okE P ch b := by
  by_cases h : ∃ k, pb_Hm P ch k
  · obtain ⟨k, h⟩ := h
    refine ⟨true, Or.inl ⟨rfl, ?_⟩⟩
    by_cases e : ch = 0
    · refine ⟨1, Nat.le_refl 1, by decide, fun j hj => ?_⟩
      rw [e, Nat.zero_testBit] at hj
      cases hj
    · obtain ⟨j, hj⟩ := Nat.exists_testBit_of_ne_zero e
      have h1 := hC.2.1 j (pb_ch_lt hch hj)
      have h2 := pb_pop_pos (P j) h1.2.1 h1.1
      have h3 := h j hj
      exact ⟨k, by omega, by omega, h⟩
  · exact ⟨false, Or.inr ⟨rfl, fun k hk => h ⟨k, hk⟩⟩⟩
theorem pb_ChD_ex {n : Nat} {P : Nat → Nat} (hC : pb_Cx n P) {ch : Nat} (hch : ch < 2 ^ n) : ∃ v, pb_ChD P ch v := by
  obtain ⟨b, h⟩ := pb_okE_ex hC hch
  by_cases e : ch = 0
  · exact ⟨_, Or.inl ⟨e, rfl⟩⟩
  · rcases h with ⟨_, k, h1, h2, h3⟩ | ⟨_, h⟩
    · exact ⟨_, Or.inr (Or.inl ⟨k - 1, e, by rw [show k - 1 + 1 = k by omega]; exact h3, rfl⟩)⟩
    · exact ⟨_, Or.inr (Or.inr ⟨h, rfl⟩)⟩
def pb_BorderS (n : Nat) (P : Nat → Nat) (x r : Int32) : Prop := (pb_okC n x false ∧ r = -1) ∨ (∃ ch, ch < 2 ^ n ∧ x = nI ch ∧ pb_okE P ch false ∧ r = -2) ∨ (∃ ch, ch < 2 ^ n ∧ x = nI ch ∧ pb_okE P ch true ∧ r = nI (pb_bd P n ch))
theorem pb_BorderS_ex {n : Nat} {P : Nat → Nat} (hC : pb_Cx n P) (x : Int32) : ∃ r, pb_BorderS n P x r := by
  obtain ⟨b, h⟩ := pb_okI_ex (2 ^ n) x
  cases b
  · exact ⟨_, Or.inl ⟨h, rfl⟩⟩
  · rcases h with ⟨_, i, h3, h4⟩ | ⟨h, _⟩ | ⟨h, _⟩
    · obtain ⟨b2, h2⟩ := pb_okE_ex hC h3
      cases b2
      · exact ⟨_, Or.inr (Or.inl ⟨i, h3, h4, h2, rfl⟩)⟩
      · exact ⟨_, Or.inr (Or.inr ⟨i, h3, h4, h2, rfl⟩)⟩
    · cases h
    · cases h
theorem pb_orb_y {f : Nat → Bool} {j : Nat} (h : f j = true) : nI (pb_orb f j) ||| nI (2 ^ j) = nI (pb_orb f (j + 1)) := by
  rw [nx_or, pb_orb_succ, if_pos h]
theorem pb_orb_n {f : Nat → Bool} {j : Nat} (h : f j = false) : pb_orb f (j + 1) = pb_orb f j := by
  rw [pb_orb_succ, h]
  simp
theorem pb_orb_lt (f : Nat → Bool) (m : Nat) : pb_orb f m < 2 ^ m := by
  refine Nat.lt_pow_two_of_testBit _ fun i hi => ?_
  rw [pb_orb_bit, decide_eq_false (show ¬ i < m by omega)]
  rfl
theorem pb_col_lt (P : Nat → Nat) (i : Nat) : pb_col P i < 2 ^ i := pb_orb_lt _ _
theorem pb_p26 {i v : Nat} (h : v < 2 ^ i) (hi : i ≤ 26) : v < 2 ^ 26 := Nat.lt_of_lt_of_le h (Nat.pow_le_pow_right (by decide) hi)
theorem pb_col_up {n : Nat} {P : Nat → Nat} (hC : pb_Cx n P) {i : Nat} (hi : i < n) : pb_orb (fun x => pb_fc (P x) (P i)) n = pb_col P i := by
  apply Nat.eq_of_testBit_eq
  intro j
  rw [pb_orb_bit]
  by_cases hj : j < n
  · rw [pb_col_in hC hi hj, decide_eq_true hj]
    rfl
  · rw [pb_col_bit, decide_eq_false hj, decide_eq_false (show ¬ j < i by omega)]
theorem pb_col_v {n : Nat} {P : Nat → Nat} (hC : pb_Cx n P) {i : Nat} (hi : i < n) (h : pb_pop (P i) = 1) : pb_col P i = 0 := by
  apply Nat.eq_of_testBit_eq
  intro j
  rw [pb_col_bit, Nat.zero_testBit, pb_fc_one (hC.2.1 i hi).2.1 h]
  simp
theorem pb_fc_i {s q : Nat} (hs : 1 ≤ s) (h1 : s &&& q = s) (h2 : pb_pop s + 1 = pb_pop q) : pb_fc s q = true := by
  unfold pb_fc
  rw [h1, h2]
  have e : Nat.beq s 0 = false := by
    cases s with
    | zero => omega
    | succ s => rfl
  rw [e]
  simp [Nat.beq_refl]
theorem pb_fc_n1 {s q : Nat} (h1 : ¬ s &&& q = s) : pb_fc s q = false := by
  cases h : pb_fc s q
  · rfl
  · unfold pb_fc at h
    simp only [Bool.and_eq_true] at h
    exact absurd (Nat.eq_of_beq_eq_true h.1) h1
theorem pb_fc_n2 {s q : Nat} (h1 : ¬ pb_pop s + 1 = pb_pop q) : pb_fc s q = false := by
  cases h : pb_fc s q
  · rfl
  · exact absurd (pb_fc_pop h) h1
theorem pb_cx_pop {n : Nat} {P : Nat → Nat} (hC : pb_Cx n P) {i : Nat} (hi : i < n) : 1 ≤ P i ∧ P i < 64 ∧ 1 ≤ pb_pop (P i) ∧ pb_pop (P i) ≤ 4 := by
  have h := hC.2.1 i hi
  exact ⟨h.1, h.2.1, pb_pop_pos _ h.2.1 h.1, h.2.2⟩
theorem pb_bd_lt {n : Nat} (P : Nat → Nat) (c : Nat → Bool) (hn : n ≤ 26) : ∀ m, m ≤ n → pb_cb (pb_col P) c m < 2 ^ 26 := by
  intro m
  induction m with
  | zero => exact fun _ => Nat.two_pow_pos 26
  | succ m ih =>
    intro hm
    rw [pb_cb_succ]
    refine Nat.xor_lt_two_pow (ih (by omega)) ?_
    by_cases h : c m = true
    · rw [if_pos h]
      exact pb_p26 (pb_col_lt P m) (by omega)
    · rw [if_neg h]
      decide
theorem pb_cb_y {V : Nat → Nat} {c : Nat → Bool} {m : Nat} (h : c m = true) : nI (pb_cb V c m) ^^^ nI (V m) = nI (pb_cb V c (m + 1)) := by
  rw [nx_xor, pb_cb_succ, if_pos h]
theorem pb_cb_n {V : Nat → Nat} {c : Nat → Bool} {m : Nat} (h : c m = false) : pb_cb V c (m + 1) = pb_cb V c m := by
  rw [pb_cb_succ, h]
  simp
end
section
/-! the words of every call, and its shape -/
set_option maxRecDepth 100000
theorem gw_X0_X0_isPiece : GoodIn lw_all (va_wsS RX0 25 yX0_isPiece (ws_ yX0_isPiece cX0_isPiece 1 (some .boolean))) := lw_S q66 q67 q29 q68
theorem hd_X0_isPiece : yX0_isPiece.cls ≠ "java/lang/invoke/MethodHandle" ∧ yX0_isPiece.cls ≠ "java/lang/invoke/VarHandle" ∧ (parseMethodDescriptor yX0_isPiece.desc).map (fun d => d.parameters.length) = some 1 := by decide +kernel
theorem gw_X0_X0_hasSides : GoodIn lw_all (wsV RX0 29 RX0 yX0_hasSides (ws_ yX0_hasSides cX0_hasSides 4 (some .boolean))) := lw_V q72 q74 qs0 q29 q75
theorem hd_X0_hasSides : yX0_hasSides.cls = RX0 ∧ yX0_hasSides.cls ≠ "java/lang/invoke/MethodHandle" ∧ yX0_hasSides.cls ≠ "java/lang/invoke/VarHandle" ∧ (parseMethodDescriptor yX0_hasSides.desc).map (fun d => d.parameters.length) = some 1 := by decide +kernel
theorem gw_X0_X0_enter : GoodIn lw_all (wsV RX0 36 RX0 yX0_enter (ws_ yX0_enter cX0_enter 2 none)) := lw_V q76 q78 qs1 q29 q79
theorem hd_X0_enter : yX0_enter.cls = RX0 ∧ yX0_enter.cls ≠ "java/lang/invoke/MethodHandle" ∧ yX0_enter.cls ≠ "java/lang/invoke/VarHandle" ∧ (parseMethodDescriptor yX0_enter.desc).map (fun d => d.parameters.length) = some 1 := by decide +kernel
theorem gw_X0_X0_isGood : GoodIn lw_all (wsV RX0 43 RX0 yX0_isGood (ws_ yX0_isGood cX0_isGood 2 (some .boolean))) := lw_V q96 q98 qs2 q29 q99
theorem hd_X0_isGood : yX0_isGood.cls = RX0 ∧ yX0_isGood.cls ≠ "java/lang/invoke/MethodHandle" ∧ yX0_isGood.cls ≠ "java/lang/invoke/VarHandle" ∧ (parseMethodDescriptor yX0_isGood.desc).map (fun d => d.parameters.length) = some 1 := by decide +kernel
theorem gw_X0_X0_dimension : GoodIn lw_all (wsV RX0 46 RX0 yX0_dimension (ws_ yX0_dimension cX0_dimension 2 (some .int))) := lw_V q104 q106 qs3 q29 q107
theorem hd_X0_dimension : yX0_dimension.cls = RX0 ∧ yX0_dimension.cls ≠ "java/lang/invoke/MethodHandle" ∧ yX0_dimension.cls ≠ "java/lang/invoke/VarHandle" ∧ (parseMethodDescriptor yX0_dimension.desc).map (fun d => d.parameters.length) = some 1 := by decide +kernel
theorem gw_X0_X0_living : GoodIn lw_all (wsV RX0 50 RX0 yX0_living (ws_ yX0_living cX0_living 7 (some .int))) := lw_V q112 q114 qs4 q29 q115
theorem hd_X0_living : yX0_living.cls = RX0 ∧ yX0_living.cls ≠ "java/lang/invoke/MethodHandle" ∧ yX0_living.cls ≠ "java/lang/invoke/VarHandle" ∧ (parseMethodDescriptor yX0_living.desc).map (fun d => d.parameters.length) = some 3 := by decide +kernel
theorem gw_X0_X0_solve : GoodIn lw_all (wsV RX0 54 RX0 yX0_solve (ws_ yX0_solve cX0_solve 5 none)) := lw_V q116 q118 qs5 q29 q119
theorem hd_X0_solve : yX0_solve.cls = RX0 ∧ yX0_solve.cls ≠ "java/lang/invoke/MethodHandle" ∧ yX0_solve.cls ≠ "java/lang/invoke/VarHandle" ∧ (parseMethodDescriptor yX0_solve.desc).map (fun d => d.parameters.length) = some 0 := by decide +kernel
theorem gw_X0_X0_isChain : GoodIn lw_all (wsV RX0 57 RX0 yX0_isChain (ws_ yX0_isChain cX0_isChain 2 (some .boolean))) := lw_V q155 q157 qs7 q29 q158
theorem hd_X0_isChain : yX0_isChain.cls = RX0 ∧ yX0_isChain.cls ≠ "java/lang/invoke/MethodHandle" ∧ yX0_isChain.cls ≠ "java/lang/invoke/VarHandle" ∧ (parseMethodDescriptor yX0_isChain.desc).map (fun d => d.parameters.length) = some 1 := by decide +kernel
theorem gw_X0_X0_isEven : GoodIn lw_all (wsV RX0 60 RX0 yX0_isEven (ws_ yX0_isEven cX0_isEven 5 (some .boolean))) := lw_V q159 q161 qs8 q29 q162
theorem hd_X0_isEven : yX0_isEven.cls = RX0 ∧ yX0_isEven.cls ≠ "java/lang/invoke/MethodHandle" ∧ yX0_isEven.cls ≠ "java/lang/invoke/VarHandle" ∧ (parseMethodDescriptor yX0_isEven.desc).map (fun d => d.parameters.length) = some 1 := by decide +kernel
theorem gw_X0_X0_borderOf : GoodIn lw_all (wsV RX0 63 RX0 yX0_borderOf (ws_ yX0_borderOf cX0_borderOf 4 (some .int))) := lw_V q163 q165 qs9 q29 q166
theorem hd_X0_borderOf : yX0_borderOf.cls = RX0 ∧ yX0_borderOf.cls ≠ "java/lang/invoke/MethodHandle" ∧ yX0_borderOf.cls ≠ "java/lang/invoke/VarHandle" ∧ (parseMethodDescriptor yX0_borderOf.desc).map (fun d => d.parameters.length) = some 1 := by decide +kernel
theorem gw_X0_X0_points : GoodIn lw_all (va_wsS RX0 66 yX0_points (ws_ yX0_points cX0_points 3 (some .int))) := lw_S q69 q70 q29 q71
theorem hd_X0_points : yX0_points.cls ≠ "java/lang/invoke/MethodHandle" ∧ yX0_points.cls ≠ "java/lang/invoke/VarHandle" ∧ (parseMethodDescriptor yX0_points.desc).map (fun d => d.parameters.length) = some 1 := by decide +kernel
theorem gw_X0_X0_sidesOf : GoodIn lw_all (wsV RX0 69 RX0 yX0_sidesOf (ws_ yX0_sidesOf cX0_sidesOf 5 (some .int))) := lw_V q120 q122 qs6 q29 q123
theorem hd_X0_sidesOf : yX0_sidesOf.cls = RX0 ∧ yX0_sidesOf.cls ≠ "java/lang/invoke/MethodHandle" ∧ yX0_sidesOf.cls ≠ "java/lang/invoke/VarHandle" ∧ (parseMethodDescriptor yX0_sidesOf.desc).map (fun d => d.parameters.length) = some 1 := by decide +kernel
theorem gw_X0_X0_lowest : GoodIn lw_all (va_wsS RX0 72 yX0_lowest (ws_ yX0_lowest cX0_lowest 2 (some .int))) := lw_S q124 q125 q29 q126
theorem hd_X0_lowest : yX0_lowest.cls ≠ "java/lang/invoke/MethodHandle" ∧ yX0_lowest.cls ≠ "java/lang/invoke/VarHandle" ∧ (parseMethodDescriptor yX0_lowest.desc).map (fun d => d.parameters.length) = some 1 := by decide +kernel
theorem gw_L_X0_add : GoodIn lw_all (wsV "PersistentBarsLaw" 13 RX0 yX0_add (ws_ yX0_add cX0_add 2 (some .int))) := lw_V q62 q63 q64 q29 q65
theorem hd_X0_add : yX0_add.cls = RX0 ∧ yX0_add.cls ≠ "java/lang/invoke/MethodHandle" ∧ yX0_add.cls ≠ "java/lang/invoke/VarHandle" ∧ (parseMethodDescriptor yX0_add.desc).map (fun d => d.parameters.length) = some 1 := by decide +kernel
theorem gw_L_X1_add : GoodIn lw_all (wsV "PersistentBarsLaw" 17 RX1 yX1_add (ws_ yX1_add cX1_add 2 (some .int))) := lw_V q187 q188 q189 q30 q190
theorem hd_X1_add : yX1_add.cls = RX1 ∧ yX1_add.cls ≠ "java/lang/invoke/MethodHandle" ∧ yX1_add.cls ≠ "java/lang/invoke/VarHandle" ∧ (parseMethodDescriptor yX1_add.desc).map (fun d => d.parameters.length) = some 1 := by decide +kernel
theorem gw_L_X0_fill : GoodIn lw_all (wsV "PersistentBarsLaw" 18 RX0 yX0_fill (ws_ yX0_fill cX0_fill 4 (some .int))) := lw_V q80 q81 q82 q29 q83
theorem hd_X0_fill : yX0_fill.cls = RX0 ∧ yX0_fill.cls ≠ "java/lang/invoke/MethodHandle" ∧ yX0_fill.cls ≠ "java/lang/invoke/VarHandle" ∧ (parseMethodDescriptor yX0_fill.desc).map (fun d => d.parameters.length) = some 1 := by decide +kernel
theorem gw_L_X1_fill : GoodIn lw_all (wsV "PersistentBarsLaw" 21 RX1 yX1_fill (ws_ yX1_fill cX1_fill 4 (some .int))) := lw_V q211 q212 q213 q30 q214
theorem hd_X1_fill : yX1_fill.cls = RX1 ∧ yX1_fill.cls ≠ "java/lang/invoke/MethodHandle" ∧ yX1_fill.cls ≠ "java/lang/invoke/VarHandle" ∧ (parseMethodDescriptor yX1_fill.desc).map (fun d => d.parameters.length) = some 1 := by decide +kernel
theorem gw_L_X0_undo : GoodIn lw_all (wsV "PersistentBarsLaw" 22 RX0 yX0_undo (ws_ yX0_undo cX0_undo 1 (some .int))) := lw_V q84 q85 q86 q29 q87
theorem hd_X0_undo : yX0_undo.cls = RX0 ∧ yX0_undo.cls ≠ "java/lang/invoke/MethodHandle" ∧ yX0_undo.cls ≠ "java/lang/invoke/VarHandle" ∧ (parseMethodDescriptor yX0_undo.desc).map (fun d => d.parameters.length) = some 0 := by decide +kernel
theorem gw_L_X1_undo : GoodIn lw_all (wsV "PersistentBarsLaw" 26 RX1 yX1_undo (ws_ yX1_undo cX1_undo 1 (some .int))) := lw_V q215 q216 q217 q30 q218
theorem hd_X1_undo : yX1_undo.cls = RX1 ∧ yX1_undo.cls ≠ "java/lang/invoke/MethodHandle" ∧ yX1_undo.cls ≠ "java/lang/invoke/VarHandle" ∧ (parseMethodDescriptor yX1_undo.desc).map (fun d => d.parameters.length) = some 0 := by decide +kernel
theorem gw_L_X0_size : GoodIn lw_all (wsV "PersistentBarsLaw" 27 RX0 yX0_size (ws_ yX0_size cX0_size 1 (some .int))) := lw_V q88 q89 q90 q29 q91
theorem hd_X0_size : yX0_size.cls = RX0 ∧ yX0_size.cls ≠ "java/lang/invoke/MethodHandle" ∧ yX0_size.cls ≠ "java/lang/invoke/VarHandle" ∧ (parseMethodDescriptor yX0_size.desc).map (fun d => d.parameters.length) = some 0 := by decide +kernel
theorem gw_L_X1_size : GoodIn lw_all (wsV "PersistentBarsLaw" 30 RX1 yX1_size (ws_ yX1_size cX1_size 1 (some .int))) := lw_V q219 q220 q221 q30 q222
theorem hd_X1_size : yX1_size.cls = RX1 ∧ yX1_size.cls ≠ "java/lang/invoke/MethodHandle" ∧ yX1_size.cls ≠ "java/lang/invoke/VarHandle" ∧ (parseMethodDescriptor yX1_size.desc).map (fun d => d.parameters.length) = some 0 := by decide +kernel
theorem gw_L_X0_piece : GoodIn lw_all (wsV "PersistentBarsLaw" 31 RX0 yX0_piece (ws_ yX0_piece cX0_piece 2 (some .int))) := lw_V q92 q93 q94 q29 q95
theorem hd_X0_piece : yX0_piece.cls = RX0 ∧ yX0_piece.cls ≠ "java/lang/invoke/MethodHandle" ∧ yX0_piece.cls ≠ "java/lang/invoke/VarHandle" ∧ (parseMethodDescriptor yX0_piece.desc).map (fun d => d.parameters.length) = some 1 := by decide +kernel
theorem gw_L_X1_piece : GoodIn lw_all (wsV "PersistentBarsLaw" 34 RX1 yX1_piece (ws_ yX1_piece cX1_piece 2 (some .int))) := lw_V q223 q224 q225 q30 q226
theorem hd_X1_piece : yX1_piece.cls = RX1 ∧ yX1_piece.cls ≠ "java/lang/invoke/MethodHandle" ∧ yX1_piece.cls ≠ "java/lang/invoke/VarHandle" ∧ (parseMethodDescriptor yX1_piece.desc).map (fun d => d.parameters.length) = some 1 := by decide +kernel
theorem gw_L_X0_pieces : GoodIn lw_all (wsV "PersistentBarsLaw" 35 RX0 yX0_pieces (ws_ yX0_pieces cX0_pieces 5 (some .int))) := lw_V q100 q101 q102 q29 q103
theorem hd_X0_pieces : yX0_pieces.cls = RX0 ∧ yX0_pieces.cls ≠ "java/lang/invoke/MethodHandle" ∧ yX0_pieces.cls ≠ "java/lang/invoke/VarHandle" ∧ (parseMethodDescriptor yX0_pieces.desc).map (fun d => d.parameters.length) = some 2 := by decide +kernel
theorem gw_L_X1_pieces : GoodIn lw_all (wsV "PersistentBarsLaw" 39 RX1 yX1_pieces (ws_ yX1_pieces cX1_pieces 3 (some .int))) := lw_V q231 q232 q233 q30 q234
theorem hd_X1_pieces : yX1_pieces.cls = RX1 ∧ yX1_pieces.cls ≠ "java/lang/invoke/MethodHandle" ∧ yX1_pieces.cls ≠ "java/lang/invoke/VarHandle" ∧ (parseMethodDescriptor yX1_pieces.desc).map (fun d => d.parameters.length) = some 2 := by decide +kernel
theorem gw_L_X0_holes : GoodIn lw_all (wsV "PersistentBarsLaw" 40 RX0 yX0_holes (ws_ yX0_holes cX0_holes 3 (some .int))) := lw_V q108 q109 q110 q29 q111
theorem hd_X0_holes : yX0_holes.cls = RX0 ∧ yX0_holes.cls ≠ "java/lang/invoke/MethodHandle" ∧ yX0_holes.cls ≠ "java/lang/invoke/VarHandle" ∧ (parseMethodDescriptor yX0_holes.desc).map (fun d => d.parameters.length) = some 2 := by decide +kernel
theorem gw_L_X1_holes : GoodIn lw_all (wsV "PersistentBarsLaw" 43 RX1 yX1_holes (ws_ yX1_holes cX1_holes 3 (some .int))) := lw_V q251 q252 q253 q30 q254
theorem hd_X1_holes : yX1_holes.cls = RX1 ∧ yX1_holes.cls ≠ "java/lang/invoke/MethodHandle" ∧ yX1_holes.cls ≠ "java/lang/invoke/VarHandle" ∧ (parseMethodDescriptor yX1_holes.desc).map (fun d => d.parameters.length) = some 2 := by decide +kernel
theorem gw_L_X0_lasting : GoodIn lw_all (wsV "PersistentBarsLaw" 44 RX0 yX0_lasting (ws_ yX0_lasting cX0_lasting 4 (some .int))) := lw_V q127 q128 q129 q29 q130
theorem hd_X0_lasting : yX0_lasting.cls = RX0 ∧ yX0_lasting.cls ≠ "java/lang/invoke/MethodHandle" ∧ yX0_lasting.cls ≠ "java/lang/invoke/VarHandle" ∧ (parseMethodDescriptor yX0_lasting.desc).map (fun d => d.parameters.length) = some 3 := by decide +kernel
theorem gw_L_X1_lasting : GoodIn lw_all (wsV "PersistentBarsLaw" 48 RX1 yX1_lasting (ws_ yX1_lasting cX1_lasting 4 (some .int))) := lw_V q267 q268 q269 q30 q270
theorem hd_X1_lasting : yX1_lasting.cls = RX1 ∧ yX1_lasting.cls ≠ "java/lang/invoke/MethodHandle" ∧ yX1_lasting.cls ≠ "java/lang/invoke/VarHandle" ∧ (parseMethodDescriptor yX1_lasting.desc).map (fun d => d.parameters.length) = some 3 := by decide +kernel
theorem gw_L_X0_opens : GoodIn lw_all (wsV "PersistentBarsLaw" 49 RX0 yX0_opens (ws_ yX0_opens cX0_opens 2 (some .int))) := lw_V q131 q132 q133 q29 q134
theorem hd_X0_opens : yX0_opens.cls = RX0 ∧ yX0_opens.cls ≠ "java/lang/invoke/MethodHandle" ∧ yX0_opens.cls ≠ "java/lang/invoke/VarHandle" ∧ (parseMethodDescriptor yX0_opens.desc).map (fun d => d.parameters.length) = some 1 := by decide +kernel
theorem gw_L_X1_opens : GoodIn lw_all (wsV "PersistentBarsLaw" 52 RX1 yX1_opens (ws_ yX1_opens cX1_opens 2 (some .int))) := lw_V q271 q272 q273 q30 q274
theorem hd_X1_opens : yX1_opens.cls = RX1 ∧ yX1_opens.cls ≠ "java/lang/invoke/MethodHandle" ∧ yX1_opens.cls ≠ "java/lang/invoke/VarHandle" ∧ (parseMethodDescriptor yX1_opens.desc).map (fun d => d.parameters.length) = some 1 := by decide +kernel
theorem gw_L_X0_partner : GoodIn lw_all (wsV "PersistentBarsLaw" 53 RX0 yX0_partner (ws_ yX0_partner cX0_partner 2 (some .int))) := lw_V q135 q136 q137 q29 q138
theorem hd_X0_partner : yX0_partner.cls = RX0 ∧ yX0_partner.cls ≠ "java/lang/invoke/MethodHandle" ∧ yX0_partner.cls ≠ "java/lang/invoke/VarHandle" ∧ (parseMethodDescriptor yX0_partner.desc).map (fun d => d.parameters.length) = some 1 := by decide +kernel
theorem gw_L_X1_partner : GoodIn lw_all (wsV "PersistentBarsLaw" 56 RX1 yX1_partner (ws_ yX1_partner cX1_partner 2 (some .int))) := lw_V q279 q280 q281 q30 q282
theorem hd_X1_partner : yX1_partner.cls = RX1 ∧ yX1_partner.cls ≠ "java/lang/invoke/MethodHandle" ∧ yX1_partner.cls ≠ "java/lang/invoke/VarHandle" ∧ (parseMethodDescriptor yX1_partner.desc).map (fun d => d.parameters.length) = some 1 := by decide +kernel
theorem gw_L_X0_forever : GoodIn lw_all (wsV "PersistentBarsLaw" 57 RX0 yX0_forever (ws_ yX0_forever cX0_forever 2 (some .int))) := lw_V q139 q140 q141 q29 q142
theorem hd_X0_forever : yX0_forever.cls = RX0 ∧ yX0_forever.cls ≠ "java/lang/invoke/MethodHandle" ∧ yX0_forever.cls ≠ "java/lang/invoke/VarHandle" ∧ (parseMethodDescriptor yX0_forever.desc).map (fun d => d.parameters.length) = some 1 := by decide +kernel
theorem gw_L_X1_forever : GoodIn lw_all (wsV "PersistentBarsLaw" 60 RX1 yX1_forever (ws_ yX1_forever cX1_forever 4 (some .int))) := lw_V q291 q292 q293 q30 q294
theorem hd_X1_forever : yX1_forever.cls = RX1 ∧ yX1_forever.cls ≠ "java/lang/invoke/MethodHandle" ∧ yX1_forever.cls ≠ "java/lang/invoke/VarHandle" ∧ (parseMethodDescriptor yX1_forever.desc).map (fun d => d.parameters.length) = some 1 := by decide +kernel
theorem gw_L_X0_longest : GoodIn lw_all (wsV "PersistentBarsLaw" 61 RX0 yX0_longest (ws_ yX0_longest cX0_longest 4 (some .int))) := lw_V q143 q144 q145 q29 q146
theorem hd_X0_longest : yX0_longest.cls = RX0 ∧ yX0_longest.cls ≠ "java/lang/invoke/MethodHandle" ∧ yX0_longest.cls ≠ "java/lang/invoke/VarHandle" ∧ (parseMethodDescriptor yX0_longest.desc).map (fun d => d.parameters.length) = some 1 := by decide +kernel
theorem gw_L_X1_longest : GoodIn lw_all (wsV "PersistentBarsLaw" 64 RX1 yX1_longest (ws_ yX1_longest cX1_longest 5 (some .int))) := lw_V q295 q296 q297 q30 q298
theorem hd_X1_longest : yX1_longest.cls = RX1 ∧ yX1_longest.cls ≠ "java/lang/invoke/MethodHandle" ∧ yX1_longest.cls ≠ "java/lang/invoke/VarHandle" ∧ (parseMethodDescriptor yX1_longest.desc).map (fun d => d.parameters.length) = some 1 := by decide +kernel
theorem gw_L_X0_euler : GoodIn lw_all (wsV "PersistentBarsLaw" 65 RX0 yX0_euler (ws_ yX0_euler cX0_euler 4 (some .int))) := lw_V q147 q148 q149 q29 q150
theorem hd_X0_euler : yX0_euler.cls = RX0 ∧ yX0_euler.cls ≠ "java/lang/invoke/MethodHandle" ∧ yX0_euler.cls ≠ "java/lang/invoke/VarHandle" ∧ (parseMethodDescriptor yX0_euler.desc).map (fun d => d.parameters.length) = some 1 := by decide +kernel
theorem gw_L_X1_euler : GoodIn lw_all (wsV "PersistentBarsLaw" 68 RX1 yX1_euler (ws_ yX1_euler cX1_euler 2 (some .int))) := lw_V q299 q300 q301 q30 q302
theorem hd_X1_euler : yX1_euler.cls = RX1 ∧ yX1_euler.cls ≠ "java/lang/invoke/MethodHandle" ∧ yX1_euler.cls ≠ "java/lang/invoke/VarHandle" ∧ (parseMethodDescriptor yX1_euler.desc).map (fun d => d.parameters.length) = some 1 := by decide +kernel
theorem gw_L_X0_border : GoodIn lw_all (wsV "PersistentBarsLaw" 69 RX0 yX0_border (ws_ yX0_border cX0_border 2 (some .int))) := lw_V q151 q152 q153 q29 q154
theorem hd_X0_border : yX0_border.cls = RX0 ∧ yX0_border.cls ≠ "java/lang/invoke/MethodHandle" ∧ yX0_border.cls ≠ "java/lang/invoke/VarHandle" ∧ (parseMethodDescriptor yX0_border.desc).map (fun d => d.parameters.length) = some 1 := by decide +kernel
theorem gw_L_X1_border : GoodIn lw_all (wsV "PersistentBarsLaw" 72 RX1 yX1_border (ws_ yX1_border cX1_border 2 (some .int))) := lw_V q303 q304 q305 q30 q306
theorem hd_X1_border : yX1_border.cls = RX1 ∧ yX1_border.cls ≠ "java/lang/invoke/MethodHandle" ∧ yX1_border.cls ≠ "java/lang/invoke/VarHandle" ∧ (parseMethodDescriptor yX1_border.desc).map (fun d => d.parameters.length) = some 1 := by decide +kernel
theorem gw_L_X0_bounds : GoodIn lw_all (wsV "PersistentBarsLaw" 73 RX0 yX0_bounds (ws_ yX0_bounds cX0_bounds 4 (some .int))) := lw_V q167 q168 q169 q29 q170
theorem hd_X0_bounds : yX0_bounds.cls = RX0 ∧ yX0_bounds.cls ≠ "java/lang/invoke/MethodHandle" ∧ yX0_bounds.cls ≠ "java/lang/invoke/VarHandle" ∧ (parseMethodDescriptor yX0_bounds.desc).map (fun d => d.parameters.length) = some 1 := by decide +kernel
theorem gw_L_X1_bounds : GoodIn lw_all (wsV "PersistentBarsLaw" 76 RX1 yX1_bounds (ws_ yX1_bounds cX1_bounds 7 (some .int))) := lw_V q315 q316 q317 q30 q318
theorem hd_X1_bounds : yX1_bounds.cls = RX1 ∧ yX1_bounds.cls ≠ "java/lang/invoke/MethodHandle" ∧ yX1_bounds.cls ≠ "java/lang/invoke/VarHandle" ∧ (parseMethodDescriptor yX1_bounds.desc).map (fun d => d.parameters.length) = some 1 := by decide +kernel
theorem gw_X1_X1_points : GoodIn lw_all (wsV RX1 16 RX1 yX1_points (ws_ yX1_points cX1_points 4 (some .int))) := lw_V q195 q197 qs11 q30 q198
theorem hd_X1_points : yX1_points.cls = RX1 ∧ yX1_points.cls ≠ "java/lang/invoke/MethodHandle" ∧ yX1_points.cls ≠ "java/lang/invoke/VarHandle" ∧ (parseMethodDescriptor yX1_points.desc).map (fun d => d.parameters.length) = some 1 := by decide +kernel
theorem gw_X1_X1_find : GoodIn lw_all (wsV RX1 24 RX1 yX1_find (ws_ yX1_find cX1_find 3 (some .int))) := lw_V q199 q201 qs12 q30 q202
theorem hd_X1_find : yX1_find.cls = RX1 ∧ yX1_find.cls ≠ "java/lang/invoke/MethodHandle" ∧ yX1_find.cls ≠ "java/lang/invoke/VarHandle" ∧ (parseMethodDescriptor yX1_find.desc).map (fun d => d.parameters.length) = some 1 := by decide +kernel
theorem gw_X1_X1_badPiece : GoodIn lw_all (wsV RX1 27 RX1 yX1_badPiece (ws_ yX1_badPiece cX1_badPiece 2 (some .boolean))) := lw_V q191 q193 qs10 q30 q194
theorem hd_X1_badPiece : yX1_badPiece.cls = RX1 ∧ yX1_badPiece.cls ≠ "java/lang/invoke/MethodHandle" ∧ yX1_badPiece.cls ≠ "java/lang/invoke/VarHandle" ∧ (parseMethodDescriptor yX1_badPiece.desc).map (fun d => d.parameters.length) = some 1 := by decide +kernel
theorem gw_X1_X1_sidesThere : GoodIn lw_all (wsV RX1 31 RX1 yX1_sidesThere (ws_ yX1_sidesThere cX1_sidesThere 3 (some .boolean))) := lw_V q203 q205 qs13 q30 q206
theorem hd_X1_sidesThere : yX1_sidesThere.cls = RX1 ∧ yX1_sidesThere.cls ≠ "java/lang/invoke/MethodHandle" ∧ yX1_sidesThere.cls ≠ "java/lang/invoke/VarHandle" ∧ (parseMethodDescriptor yX1_sidesThere.desc).map (fun d => d.parameters.length) = some 1 := by decide +kernel
theorem gw_X1_X1_put : GoodIn lw_all (wsV RX1 34 RX1 yX1_put (ws_ yX1_put cX1_put 3 (some .int))) := lw_V q207 q209 qs14 q30 q210
theorem hd_X1_put : yX1_put.cls = RX1 ∧ yX1_put.cls ≠ "java/lang/invoke/MethodHandle" ∧ yX1_put.cls ≠ "java/lang/invoke/VarHandle" ∧ (parseMethodDescriptor yX1_put.desc).map (fun d => d.parameters.length) = some 1 := by decide +kernel
theorem gw_X1_X1_bad : GoodIn lw_all (wsV RX1 37 RX1 yX1_bad (ws_ yX1_bad cX1_bad 2 (some .boolean))) := lw_V q227 q229 qs15 q30 q230
theorem hd_X1_bad : yX1_bad.cls = RX1 ∧ yX1_bad.cls ≠ "java/lang/invoke/MethodHandle" ∧ yX1_bad.cls ≠ "java/lang/invoke/VarHandle" ∧ (parseMethodDescriptor yX1_bad.desc).map (fun d => d.parameters.length) = some 1 := by decide +kernel
theorem gw_X1_X1_dimension : GoodIn lw_all (wsV RX1 40 RX1 yX1_dimension (ws_ yX1_dimension cX1_dimension 2 (some .int))) := lw_V q247 q249 qs19 q30 q250
theorem hd_X1_dimension : yX1_dimension.cls = RX1 ∧ yX1_dimension.cls ≠ "java/lang/invoke/MethodHandle" ∧ yX1_dimension.cls ≠ "java/lang/invoke/VarHandle" ∧ (parseMethodDescriptor yX1_dimension.desc).map (fun d => d.parameters.length) = some 1 := by decide +kernel
theorem gw_X1_X1_badTime : GoodIn lw_all (wsV RX1 43 RX1 yX1_badTime (ws_ yX1_badTime cX1_badTime 2 (some .boolean))) := lw_V q235 q237 qs16 q30 q238
theorem hd_X1_badTime : yX1_badTime.cls = RX1 ∧ yX1_badTime.cls ≠ "java/lang/invoke/MethodHandle" ∧ yX1_badTime.cls ≠ "java/lang/invoke/VarHandle" ∧ (parseMethodDescriptor yX1_badTime.desc).map (fun d => d.parameters.length) = some 1 := by decide +kernel
theorem gw_X1_X1_badDimension : GoodIn lw_all (wsV RX1 46 RX1 yX1_badDimension (ws_ yX1_badDimension cX1_badDimension 2 (some .boolean))) := lw_V q239 q241 qs17 q30 q242
theorem hd_X1_badDimension : yX1_badDimension.cls = RX1 ∧ yX1_badDimension.cls ≠ "java/lang/invoke/MethodHandle" ∧ yX1_badDimension.cls ≠ "java/lang/invoke/VarHandle" ∧ (parseMethodDescriptor yX1_badDimension.desc).map (fun d => d.parameters.length) = some 1 := by decide +kernel
theorem gw_X1_X1_tally : GoodIn lw_all (wsV RX1 49 RX1 yX1_tally (ws_ yX1_tally cX1_tally 5 (some .int))) := lw_V q243 q245 qs18 q30 q246
theorem hd_X1_tally : yX1_tally.cls = RX1 ∧ yX1_tally.cls ≠ "java/lang/invoke/MethodHandle" ∧ yX1_tally.cls ≠ "java/lang/invoke/VarHandle" ∧ (parseMethodDescriptor yX1_tally.desc).map (fun d => d.parameters.length) = some 2 := by decide +kernel
theorem gw_X1_X1_sides : GoodIn lw_all (wsV RX1 53 RX1 yX1_sides (ws_ yX1_sides cX1_sides 4 (some .int))) := lw_V q263 q265 qs22 q30 q266
theorem hd_X1_sides : yX1_sides.cls = RX1 ∧ yX1_sides.cls ≠ "java/lang/invoke/MethodHandle" ∧ yX1_sides.cls ≠ "java/lang/invoke/VarHandle" ∧ (parseMethodDescriptor yX1_sides.desc).map (fun d => d.parameters.length) = some 1 := by decide +kernel
theorem gw_X1_X1_rank : GoodIn lw_all (wsV RX1 56 RX1 yX1_rank (ws_ yX1_rank cX1_rank 9 (some .int))) := lw_V q259 q261 qs21 q30 q262
theorem hd_X1_rank : yX1_rank.cls = RX1 ∧ yX1_rank.cls ≠ "java/lang/invoke/MethodHandle" ∧ yX1_rank.cls ≠ "java/lang/invoke/VarHandle" ∧ (parseMethodDescriptor yX1_rank.desc).map (fun d => d.parameters.length) = some 3 := by decide +kernel
theorem gw_X1_X1_last : GoodIn lw_all (wsV RX1 60 RX1 yX1_last (ws_ yX1_last cX1_last 6 (some .int))) := lw_V q255 q257 qs20 q30 q258
theorem hd_X1_last : yX1_last.cls = RX1 ∧ yX1_last.cls ≠ "java/lang/invoke/MethodHandle" ∧ yX1_last.cls ≠ "java/lang/invoke/VarHandle" ∧ (parseMethodDescriptor yX1_last.desc).map (fun d => d.parameters.length) = some 3 := by decide +kernel
theorem gw_X1_X1_opening : GoodIn lw_all (wsV RX1 63 RX1 yX1_opening (ws_ yX1_opening cX1_opening 3 (some .boolean))) := lw_V q275 q277 qs23 q30 q278
theorem hd_X1_opening : yX1_opening.cls = RX1 ∧ yX1_opening.cls ≠ "java/lang/invoke/MethodHandle" ∧ yX1_opening.cls ≠ "java/lang/invoke/VarHandle" ∧ (parseMethodDescriptor yX1_opening.desc).map (fun d => d.parameters.length) = some 1 := by decide +kernel
theorem gw_X1_X1_partners : GoodIn lw_all (wsV RX1 66 RX1 yX1_partners (ws_ yX1_partners cX1_partners 4 (some .boolean))) := lw_V q287 q289 qs25 q30 q290
theorem hd_X1_partners : yX1_partners.cls = RX1 ∧ yX1_partners.cls ≠ "java/lang/invoke/MethodHandle" ∧ yX1_partners.cls ≠ "java/lang/invoke/VarHandle" ∧ (parseMethodDescriptor yX1_partners.desc).map (fun d => d.parameters.length) = some 2 := by decide +kernel
theorem gw_X1_X1_mate : GoodIn lw_all (wsV RX1 70 RX1 yX1_mate (ws_ yX1_mate cX1_mate 4 (some .int))) := lw_V q283 q285 qs24 q30 q286
theorem hd_X1_mate : yX1_mate.cls = RX1 ∧ yX1_mate.cls ≠ "java/lang/invoke/MethodHandle" ∧ yX1_mate.cls ≠ "java/lang/invoke/VarHandle" ∧ (parseMethodDescriptor yX1_mate.desc).map (fun d => d.parameters.length) = some 1 := by decide +kernel
theorem gw_X1_X1_chainDimension : GoodIn lw_all (wsV RX1 73 RX1 yX1_chainDimension (ws_ yX1_chainDimension cX1_chainDimension 4 (some .int))) := lw_V q307 q309 qs26 q30 q310
theorem hd_X1_chainDimension : yX1_chainDimension.cls = RX1 ∧ yX1_chainDimension.cls ≠ "java/lang/invoke/MethodHandle" ∧ yX1_chainDimension.cls ≠ "java/lang/invoke/VarHandle" ∧ (parseMethodDescriptor yX1_chainDimension.desc).map (fun d => d.parameters.length) = some 1 := by decide +kernel
theorem gw_X1_X1_edge : GoodIn lw_all (wsV RX1 76 RX1 yX1_edge (ws_ yX1_edge cX1_edge 4 (some .int))) := lw_V q311 q313 qs27 q30 q314
theorem hd_X1_edge : yX1_edge.cls = RX1 ∧ yX1_edge.cls ≠ "java/lang/invoke/MethodHandle" ∧ yX1_edge.cls ≠ "java/lang/invoke/VarHandle" ∧ (parseMethodDescriptor yX1_edge.desc).map (fun d => d.parameters.length) = some 1 := by decide +kernel
end
section
/-! answers that rest on the reduction, and what changes the pieces -/
theorem pb_four {a b c d f : Nat} (h : a + d = f + b + c) : nI a - nI b - (nI c - nI d) = nI f := by
  have h1 : nI a + nI d = nI f + nI b + nI c := by rw [nI_add, h, ← nI_add, ← nI_add]
  generalize nI a = A at *
  generalize nI b = B at *
  generalize nI c = E at *
  generalize nI d = F at *
  generalize nI f = G at *
  grind
theorem pb_mu0 (A B X Y : Int32) : (A + X) - (B + Y) - A + B = X - Y := by grind
theorem pb_mu {A B x y : Nat} (hx : x ≤ 1) (hy : y ≤ 1) : nI (A + x) - nI (B + y) - nI A + nI B = nI 1 ↔ x = y + 1 := by
  rw [← nI_add, ← nI_add, pb_mu0]
  rcases (show x = 0 ∨ x = 1 by omega) with rfl | rfl <;> rcases (show y = 0 ∨ y = 1 by omega) with rfl | rfl <;> decide
theorem pb_mk_lt {f v m : Nat} (h : v < 2 ^ m) : pb_mk f v < 2 ^ m := by
  refine Nat.lt_pow_two_of_testBit _ fun i hi => ?_
  rw [pb_mk_bit, Nat.testBit_lt_two_pow (Nat.lt_of_lt_of_le h (Nat.pow_le_pow_right (by decide) hi))]
  simp
/-- who closes i, as its number and one; 0 for nobody -/
def pb_cf (R lo : Nat → Nat) (i : Nat) : Nat → Nat
  | 0 => 0
  | b + 1 => if R b ≠ 0 ∧ lo b = i then b + 1 else pb_cf R lo i b
theorem pb_cf_z {R lo : Nat → Nat} {i m : Nat} (h : pb_cf R lo i m = 0) : ∀ b, b < m → R b ≠ 0 → lo b ≠ i := by
  induction m with
  | zero => exact fun b hb => absurd hb (Nat.not_lt_zero _)
  | succ m ih =>
    unfold pb_cf at h
    by_cases hc : R m ≠ 0 ∧ lo m = i
    · rw [if_pos hc] at h
      omega
    · rw [if_neg hc] at h
      intro b hb h1 h2
      rcases Nat.lt_or_ge b m with q | q
      · exact ih h b q h1 h2
      · have e : b = m := by omega
        subst e
        exact hc ⟨h1, h2⟩
theorem pb_cf_s {R lo : Nat → Nat} {i m x : Nat} (h : pb_cf R lo i m = x + 1) : x < m ∧ R x ≠ 0 ∧ lo x = i := by
  induction m with
  | zero => cases h
  | succ m ih =>
    unfold pb_cf at h
    by_cases hc : R m ≠ 0 ∧ lo m = i
    · rw [if_pos hc] at h
      have e : m = x := by omega
      subst e
      exact ⟨by omega, hc⟩
    · rw [if_neg hc] at h
      have := ih h
      exact ⟨by omega, this.2⟩
theorem pb_cf_of {R lo : Nat → Nat} {n i b : Nat} (hE : pb_Ech R lo n) (hb : b < n) (h1 : R b ≠ 0) (h2 : lo b = i) : pb_cf R lo i n = b + 1 := by
  cases h : pb_cf R lo i n with
  | zero => exact absurd h2 (pb_cf_z h b hb h1)
  | succ x =>
    obtain ⟨h3, h4, h5⟩ := pb_cf_s h
    rw [hE.2 x b h3 hb h4 h1 (by omega)]
theorem pb_cf_ex {R lo : Nat → Nat} {i m : Nat} : (∃ b, b < m ∧ R b ≠ 0 ∧ lo b = i) ↔ pb_cf R lo i m ≠ 0 := by
  constructor
  · rintro ⟨b, hb, h1, h2⟩ h
    exact pb_cf_z h b hb h1 h2
  · intro h
    cases e : pb_cf R lo i m with
    | zero => exact absurd e h
    | succ x => exact ⟨x, pb_cf_s e⟩
/-- the array closer, the array partners -/
def pb_cv (n : Nat) (R lo : Nat → Nat) (i : Nat) : Int32 := if pb_cf R lo i n = 0 then -2 else nI (pb_cf R lo i n - 1)
def pb_pv (n : Nat) (R lo : Nat → Nat) (i : Nat) : Int32 := if R i ≠ 0 then nI (lo i) else pb_cv n R lo i
theorem pb_cv_c {n : Nat} {R lo : Nat → Nat} (i : Nat) : (pb_cf R lo i n = 0 ∧ pb_cv n R lo i = -2) ∨ ∃ b, b < n ∧ R b ≠ 0 ∧ lo b = i ∧ pb_cf R lo i n = b + 1 ∧ pb_cv n R lo i = nI b := by
  unfold pb_cv
  cases h : pb_cf R lo i n with
  | zero => exact Or.inl ⟨rfl, if_pos rfl⟩
  | succ b =>
    obtain ⟨h1, h2, h3⟩ := pb_cf_s h
    refine Or.inr ⟨b, h1, h2, h3, rfl, ?_⟩
    rw [if_neg (Nat.succ_ne_zero b), Nat.add_sub_cancel]
theorem pb_pv_n {n : Nat} {R lo : Nat → Nat} {i : Nat} (h : R i ≠ 0) : pb_pv n R lo i = nI (lo i) := if_pos h
theorem pb_pv_z {n : Nat} {R lo : Nat → Nat} {i : Nat} (h : R i = 0) : pb_pv n R lo i = pb_cv n R lo i := if_neg (fun q => q h)
/-- which of the pieces have been reduced, and how -/
def pb_SX (m : Nat) (P R lo : Nat → Nat) (a2 a3 a4 : Nat → Int32) : Prop := pb_Sol m P R lo ∧ (∀ i, i < m → a2 i = nI (R i)) ∧ (∀ i, i < m → a3 i = pb_pv m R lo i) ∧ ∀ i, i < m → a4 i = pb_cv m R lo i
theorem pb_R_lt {n : Nat} {P R lo : Nat → Nat} (hS : pb_Sol n P R lo) {b : Nat} (hb : b < n) : R b < 2 ^ b := by
  refine Nat.lt_pow_two_of_testBit _ fun i hi => ?_
  cases h : (R b).testBit i
  · rfl
  · have := (pb_hom (hS.1 b hb) h).1
    omega
/-- lengths of bars -/
def pb_mx (n : Nat) (P R lo : Nat → Nat) (k : Nat) : Nat → Nat
  | 0 => 0
  | i + 1 => if pb_pop (P i) = k ∧ R i = 0 ∧ pb_mx n P R lo k i < pb_cf R lo i n - 1 - i then pb_cf R lo i n - 1 - i else pb_mx n P R lo k i
theorem pb_mx_y {n : Nat} {P R lo : Nat → Nat} {k i : Nat} (h1 : pb_pop (P i) = k) (h2 : R i = 0) (h3 : pb_mx n P R lo k i < pb_cf R lo i n - 1 - i) : pb_mx n P R lo k (i + 1) = pb_cf R lo i n - 1 - i := if_pos ⟨h1, h2, h3⟩
theorem pb_mx_n {n : Nat} {P R lo : Nat → Nat} {k i : Nat} (h : ¬ (pb_pop (P i) = k ∧ R i = 0 ∧ pb_mx n P R lo k i < pb_cf R lo i n - 1 - i)) : pb_mx n P R lo k (i + 1) = pb_mx n P R lo k i := if_neg h
theorem pb_mx_le {n : Nat} {P R lo : Nat → Nat} {k : Nat} (i : Nat) : pb_mx n P R lo k i ≤ n := by
  induction i with
  | zero => exact Nat.zero_le _
  | succ i ih =>
    unfold pb_mx
    by_cases h : pb_pop (P i) = k ∧ R i = 0 ∧ pb_mx n P R lo k i < pb_cf R lo i n - 1 - i
    · rw [if_pos h]
      cases e : pb_cf R lo i n with
      | zero => omega
      | succ x =>
        have := (pb_cf_s e).1
        omega
    · rw [if_neg h]
      exact ih
theorem pb_Lm_le (P R lo : Nat → Nat) (i j k : Nat) : pb_Lm P R lo i j k ≤ i := pb_cn_le _ _
theorem pb_Lm_y {P R lo : Nat → Nat} {i j k : Nat} (h : pb_pop (P i) = k ∧ R i = 0 ∧ ¬ ∃ b, b < j ∧ R b ≠ 0 ∧ lo b = i) : pb_Lm P R lo (i + 1) j k = pb_Lm P R lo i j k + 1 := by
  unfold pb_Lm
  rw [pb_cn_succ, pb_b1 h]
theorem pb_Lm_n {P R lo : Nat → Nat} {i j k : Nat} (h : ¬ (pb_pop (P i) = k ∧ R i = 0 ∧ ¬ ∃ b, b < j ∧ R b ≠ 0 ∧ lo b = i)) : pb_Lm P R lo (i + 1) j k = pb_Lm P R lo i j k := by
  unfold pb_Lm
  rw [pb_cn_succ, pb_b0 h]
  rfl
def pb_HolesS (n : Nat) (P R lo : Nat → Nat) (t k r : Int32) : Prop := (pb_okI (n + 1) t false ∧ r = -1) ∨ (∃ i, i ≤ n ∧ t = nI i ∧ pb_okI 4 k false ∧ r = -2) ∨ (∃ i j, i ≤ n ∧ t = nI i ∧ j < 4 ∧ k = nI j ∧ r = nI (pb_Lm P R lo i i (j + 1)))
def pb_bad2 (n : Nat) (i j : Int32) : Prop := i < 0 ∨ (∃ a, a < 2 ^ 31 ∧ i = nI a ∧ j < 0) ∨ (∃ a b, a < 2 ^ 31 ∧ b < 2 ^ 31 ∧ i = nI a ∧ j = nI b ∧ (b < a ∨ n < b))
def pb_LastingS (n : Nat) (P R lo : Nat → Nat) (x y k r : Int32) : Prop := (pb_bad2 n x y ∧ r = -1) ∨ (∃ i j, i ≤ j ∧ j ≤ n ∧ x = nI i ∧ y = nI j ∧ pb_okI 4 k false ∧ r = -2) ∨ (∃ i j a, i ≤ j ∧ j ≤ n ∧ x = nI i ∧ y = nI j ∧ a < 4 ∧ k = nI a ∧ r = nI (pb_Lm P R lo i j (a + 1)))
def pb_OpensS (n : Nat) (R : Nat → Nat) (x r : Int32) : Prop := (pb_okI n x false ∧ r = -1) ∨ (∃ i, i < n ∧ x = nI i ∧ r = pb_z (decide (R i = 0)))
def pb_PartnerS (n : Nat) (R lo : Nat → Nat) (x r : Int32) : Prop := (pb_okI n x false ∧ r = -1) ∨ (∃ i, i < n ∧ x = nI i ∧ r = pb_pv n R lo i)
def pb_ForeverS (n : Nat) (P R lo : Nat → Nat) (k r : Int32) : Prop := (pb_okI 4 k false ∧ r = -1) ∨ (∃ j, j < 4 ∧ k = nI j ∧ r = nI (pb_Lm P R lo n n (j + 1)))
def pb_LongestS (n : Nat) (P R lo : Nat → Nat) (k r : Int32) : Prop := (pb_okI 4 k false ∧ r = -1) ∨ (∃ j, j < 4 ∧ k = nI j ∧ r = nI (pb_mx n P R lo (j + 1) n))
def pb_BoundsS (n : Nat) (P R : Nat → Nat) (x r : Int32) : Prop := (pb_okC n x false ∧ r = -1) ∨ (∃ ch, ch < 2 ^ n ∧ x = nI ch ∧ pb_okE P ch false ∧ r = -2) ∨ (∃ ch, ch < 2 ^ n ∧ x = nI ch ∧ pb_okE P ch true ∧ pb_bd P n ch ≠ 0 ∧ r = 2) ∨ (∃ ch b, ch < 2 ^ n ∧ x = nI ch ∧ pb_okE P ch true ∧ pb_bd P n ch = 0 ∧ (b = true ↔ pb_Sp R n ch) ∧ r = pb_z b)
/-! what changes the pieces -/
def pb_AddS (n : Nat) (P : Nat → Nat) (x r : Int32) (n2 : Nat) (P2 : Nat → Nat) : Prop := (pb_okP x false ∧ r = -1 ∧ n = n2 ∧ P = P2) ∨ (∃ q, 1 ≤ q ∧ q < 64 ∧ pb_pop q ≤ 4 ∧ x = nI q ∧ (((∃ i, i < n ∧ P i = q) ∧ r = -2 ∧ n = n2 ∧ P = P2) ∨ ((∀ i, i < n → P i ≠ q) ∧ ¬ pb_Has n P q ∧ r = -3 ∧ n = n2 ∧ P = P2) ∨ ((∀ i, i < n → P i ≠ q) ∧ pb_Has n P q ∧ n = 26 ∧ r = -4 ∧ n = n2 ∧ P = P2) ∨ ((∀ i, i < n → P i ≠ q) ∧ pb_Has n P q ∧ n < 26 ∧ r = nI n ∧ n2 = n + 1 ∧ P2 = pb_up P n q)))
theorem pb_AddS_ex {n : Nat} {P : Nat → Nat} (hC : pb_Cx n P) (x : Int32) : ∃ r n2 P2, pb_AddS n P x r n2 P2 ∧ pb_Cx n2 P2 := by
  obtain ⟨b, h⟩ := pb_okP_ex x
  cases b
  · exact ⟨_, _, _, Or.inl ⟨h, rfl, rfl, rfl⟩, hC⟩
  · rcases h with ⟨_, q, h1, h2, h3, h4⟩ | ⟨h, _⟩ | ⟨h, _⟩ | ⟨h, _⟩
    · by_cases hm : ∃ i, i < n ∧ P i = q
      · exact ⟨_, _, _, Or.inr ⟨q, h1, h2, h3, h4, Or.inl ⟨hm, rfl, rfl, rfl⟩⟩, hC⟩
      · have hm : ∀ i, i < n → P i ≠ q := fun i h5 h6 => hm ⟨i, h5, h6⟩
        by_cases hs : pb_Has n P q
        · by_cases h26 : n = 26
          · exact ⟨_, _, _, Or.inr ⟨q, h1, h2, h3, h4, Or.inr (Or.inr (Or.inl ⟨hm, hs, h26, rfl, rfl, rfl⟩))⟩, hC⟩
          · have hn : n < 26 := by have := hC.1; omega
            exact ⟨_, _, _, Or.inr ⟨q, h1, h2, h3, h4, Or.inr (Or.inr (Or.inr ⟨hm, hs, hn, rfl, rfl, rfl⟩))⟩, pb_cx_add hC hn ⟨h1, h2, h3⟩ hm hs⟩
        · exact ⟨_, _, _, Or.inr ⟨q, h1, h2, h3, h4, Or.inr (Or.inl ⟨hm, hs, rfl, rfl, rfl⟩)⟩, hC⟩
    · cases h
    · cases h
    · cases h
def pb_UndoS (n : Nat) (P : Nat → Nat) (r : Int32) (n2 : Nat) : Prop := (n = 0 ∧ r = -1 ∧ n2 = 0) ∨ (0 < n ∧ r = nI (P (n - 1)) ∧ n2 = n - 1)
theorem pb_UndoS_ex (n : Nat) (P : Nat → Nat) : ∃ r n2, pb_UndoS n P r n2 ∧ n2 ≤ n := by
  rcases Nat.eq_zero_or_pos n with h | h
  · exact ⟨_, _, Or.inl ⟨h, rfl, rfl⟩, Nat.zero_le _⟩
  · exact ⟨_, _, Or.inr ⟨h, rfl, rfl⟩, by omega⟩
/-- x is a part of q that is wanting -/
def pb_fr (n : Nat) (P : Nat → Nat) (q x : Nat) : Bool := decide (1 ≤ x) && (decide (x &&& q = x) && !pb_among P n x)
def pb_fn (n : Nat) (P : Nat → Nat) (q : Nat) : Nat → Nat
  | 0 => 0
  | x + 1 => pb_fn n P q x + (pb_fr n P q x).toNat
/-- with the parts below x filled in -/
def pb_fP (n : Nat) (P : Nat → Nat) (q : Nat) : Nat → (Nat → Nat)
  | 0 => P
  | x + 1 => if pb_fr n P q x = true then pb_up (pb_fP n P q x) (n + pb_fn n P q x) x else pb_fP n P q x
theorem pb_fr_i {n : Nat} {P : Nat → Nat} {q x : Nat} : pb_fr n P q x = true ↔ 1 ≤ x ∧ x &&& q = x ∧ ∀ i, i < n → P i ≠ x := by
  unfold pb_fr
  simp only [Bool.and_eq_true, decide_eq_true_eq, Bool.not_eq_true']
  constructor
  · rintro ⟨h1, h2, h3⟩
    exact ⟨h1, h2, fun i hi e => by rw [pb_among_t ⟨i, hi, e⟩] at h3; cases h3⟩
  · rintro ⟨h1, h2, h3⟩
    exact ⟨h1, h2, pb_among_f (fun ⟨i, hi, e⟩ => h3 i hi e)⟩
theorem pb_fn_y {n : Nat} {P : Nat → Nat} {q x : Nat} (h : pb_fr n P q x = true) : pb_fn n P q (x + 1) = pb_fn n P q x + 1 := by
  show pb_fn n P q x + (pb_fr n P q x).toNat = _
  rw [h]
  rfl
theorem pb_fn_n {n : Nat} {P : Nat → Nat} {q x : Nat} (h : ¬ pb_fr n P q x = true) : pb_fn n P q (x + 1) = pb_fn n P q x := by
  have e : pb_fr n P q x = false := by simpa using h
  show pb_fn n P q x + (pb_fr n P q x).toNat = _
  rw [e]
  rfl
theorem pb_fP_y {n : Nat} {P : Nat → Nat} {q x : Nat} (h : pb_fr n P q x = true) : pb_fP n P q (x + 1) = pb_up (pb_fP n P q x) (n + pb_fn n P q x) x := if_pos h
theorem pb_fP_n {n : Nat} {P : Nat → Nat} {q x : Nat} (h : ¬ pb_fr n P q x = true) : pb_fP n P q (x + 1) = pb_fP n P q x := if_neg h
theorem pb_fn_le {n : Nat} {P : Nat → Nat} {q : Nat} (x : Nat) : pb_fn n P q x ≤ x := by
  induction x with
  | zero => exact Nat.le_refl 0
  | succ x ih =>
    show pb_fn n P q x + (pb_fr n P q x).toNat ≤ _
    have : (pb_fr n P q x).toNat ≤ 1 := by cases pb_fr n P q x <;> decide
    omega
theorem pb_fn_mono {n : Nat} {P : Nat → Nat} {q : Nat} {x y : Nat} (h : x ≤ y) : pb_fn n P q x ≤ pb_fn n P q y := by
  induction h with
  | refl => exact Nat.le_refl _
  | @step y _ ih =>
    show _ ≤ pb_fn n P q y + (pb_fr n P q y).toNat
    omega
/-- behind q itself nothing comes -/
theorem pb_fr_hi {n : Nat} {P : Nat → Nat} {q x : Nat} (h : q < x) : ¬ pb_fr n P q x = true := by
  rw [pb_fr_i]
  rintro ⟨_, h2, _⟩
  have := Nat.and_le_right (n := x) (m := q)
  omega
theorem pb_fn_top {n : Nat} {P : Nat → Nat} {q x : Nat} (h : q + 1 ≤ x) : pb_fn n P q x = pb_fn n P q (q + 1) ∧ pb_fP n P q x = pb_fP n P q (q + 1) := by
  induction h with
  | refl => exact ⟨rfl, rfl⟩
  | @step x hx ih =>
    have hx2 : q + 1 ≤ x := hx
    rw [pb_fn_n (pb_fr_hi (by omega)), pb_fP_n (pb_fr_hi (by omega))]
    exact ih
/-- what is in it: the old ones, and wanting parts below x -/
theorem pb_fP_in {n : Nat} {P : Nat → Nat} {q : Nat} (x : Nat) : (∀ i, i < n → pb_fP n P q x i = P i) ∧ (∀ i, n ≤ i → i < n + pb_fn n P q x → pb_fP n P q x i < x ∧ pb_fr n P q (pb_fP n P q x i) = true) ∧ ∀ y, y < x → pb_fr n P q y = true → ∃ i, i < n + pb_fn n P q x ∧ pb_fP n P q x i = y := by
  induction x with
  | zero => exact ⟨fun i _ => rfl, fun i h1 h2 => by change i < n + 0 at h2; omega, fun y h => absurd h (Nat.not_lt_zero _)⟩
  | succ x ih =>
    obtain ⟨h1, h2, h3⟩ := ih
    by_cases h : pb_fr n P q x = true
    · rw [pb_fn_y h, pb_fP_y h]
      refine ⟨fun i hi => ?_, fun i hi hi2 => ?_, fun y hy hf => ?_⟩
      · rw [pb_up_n (by omega)]
        exact h1 i hi
      · rcases Nat.lt_or_ge i (n + pb_fn n P q x) with z | z
        · rw [pb_up_n (by omega)]
          have := h2 i hi z
          exact ⟨by omega, this.2⟩
        · have e : i = n + pb_fn n P q x := by omega
          rw [e, pb_up_s]
          exact ⟨by omega, h⟩
      · rcases Nat.lt_or_ge y x with z | z
        · obtain ⟨i, hi, hi2⟩ := h3 y z hf
          exact ⟨i, by omega, by rw [pb_up_n (by omega)]; exact hi2⟩
        · have e : y = x := by omega
          subst e
          exact ⟨n + pb_fn n P q y, by omega, pb_up_s _ _ _⟩
    · rw [pb_fn_n h, pb_fP_n h]
      refine ⟨h1, fun i hi hi2 => ?_, fun y hy hf => ?_⟩
      · have := h2 i hi hi2
        exact ⟨by omega, this.2⟩
      · rcases Nat.lt_or_ge y x with z | z
        · exact h3 y z hf
        · have e : y = x := by omega
          subst e
          exact absurd hf h
/-- is x wanting: in the filled ones as in the old ones -/
theorem pb_fP_new {n : Nat} {P : Nat → Nat} {q x : Nat} : (∀ i, i < n + pb_fn n P q x → pb_fP n P q x i ≠ x) ↔ ∀ i, i < n → P i ≠ x := by
  obtain ⟨h1, h2, _⟩ := pb_fP_in (n := n) (P := P) (q := q) x
  constructor
  · intro h i hi
    have := h i (by omega)
    rwa [h1 i hi] at this
  · intro h i hi e
    rcases Nat.lt_or_ge i n with z | z
    · rw [h1 i z] at e
      exact h i z e
    · have := (h2 i z hi).1
      omega
theorem pb_sub_pop : ∀ q, q < 64 → ∀ x, x < 64 → x &&& q = x → pb_pop x ≤ pb_pop q := by decide +kernel
theorem pb_fP_cx {n : Nat} {P : Nat → Nat} {q : Nat} (hC : pb_Cx n P) (hq : q < 64) (hp : pb_pop q ≤ 4) (x : Nat) (hx : n + pb_fn n P q x ≤ 26) : pb_Cx (n + pb_fn n P q x) (pb_fP n P q x) := by
  induction x with
  | zero => exact hC
  | succ x ih =>
    by_cases h : pb_fr n P q x = true
    · rw [pb_fn_y h] at hx ⊢
      rw [pb_fP_y h]
      obtain ⟨h1, h2, h3⟩ := pb_fr_i.mp h
      have hxq : x ≤ q := by rw [← h2]; exact Nat.and_le_right
      show pb_Cx ((n + pb_fn n P q x) + 1) _
      refine pb_cx_add (n := n + pb_fn n P q x) (ih (by omega)) (by omega) ⟨h1, by omega, ?_⟩ (pb_fP_new.mpr h3) (fun r hr => ?_)
      · have := pb_sub_pop q hq x (by omega) h2
        omega
      · have hr2 := pb_fc_lt hr
        have hr3 : r ≠ x := fun e => by have := pb_fc_pop hr; rw [e] at this; omega
        have hr4 : r &&& x = r := by
          unfold pb_fc at hr
          simp only [Bool.and_eq_true] at hr
          exact Nat.eq_of_beq_eq_true hr.1
        have hr5 : r &&& q = r := by rw [← hr4, Nat.and_assoc, h2]
        obtain ⟨g1, g2, g3⟩ := pb_fP_in (n := n) (P := P) (q := q) x
        by_cases hm : ∃ i, i < n ∧ P i = r
        · obtain ⟨i, hi, hi2⟩ := hm
          exact ⟨i, by omega, by rw [g1 i hi]; exact hi2⟩
        · exact g3 r (by omega) (pb_fr_i.mpr ⟨by omega, hr5, fun i hi e => hm ⟨i, hi, e⟩⟩)
    · rw [pb_fn_n h] at hx ⊢
      rw [pb_fP_n h]
      exact ih hx
def pb_FillS (n : Nat) (P : Nat → Nat) (x r : Int32) (n2 : Nat) (P2 : Nat → Nat) : Prop := (pb_okP x false ∧ r = -1 ∧ n = n2 ∧ P = P2) ∨ (∃ q, 1 ≤ q ∧ q < 64 ∧ pb_pop q ≤ 4 ∧ x = nI q ∧ ((26 < n + pb_fn n P q (q + 1) ∧ r = -2 ∧ n = n2 ∧ P = P2) ∨ (n + pb_fn n P q (q + 1) ≤ 26 ∧ r = nI (n + pb_fn n P q (q + 1)) ∧ n2 = n + pb_fn n P q (q + 1) ∧ P2 = pb_fP n P q (q + 1))))
theorem pb_FillS_ex {n : Nat} {P : Nat → Nat} (hC : pb_Cx n P) (x : Int32) : ∃ r n2 P2, pb_FillS n P x r n2 P2 ∧ pb_Cx n2 P2 := by
  obtain ⟨b, h⟩ := pb_okP_ex x
  cases b
  · exact ⟨_, _, _, Or.inl ⟨h, rfl, rfl, rfl⟩, hC⟩
  · rcases h with ⟨_, q, h1, h2, h3, h4⟩ | ⟨h, _⟩ | ⟨h, _⟩ | ⟨h, _⟩
    · rcases Nat.lt_or_ge 26 (n + pb_fn n P q (q + 1)) with z | z
      · exact ⟨_, _, _, Or.inr ⟨q, h1, h2, h3, h4, Or.inl ⟨z, rfl, rfl, rfl⟩⟩, hC⟩
      · exact ⟨_, _, _, Or.inr ⟨q, h1, h2, h3, h4, Or.inr ⟨z, rfl, rfl, rfl⟩⟩, pb_fP_cx hC h2 h3 _ z⟩
    · cases h
    · cases h
    · cases h
end
section
/-! PersistentBarsModel: the methods that only read -/
set_option maxHeartbeats 4000000 in
set_option maxRecDepth 100000 in
/-- how many points -/
theorem ct_X1_points (l : Launch) (D : va_G) (d : ClassId) (sg : Nat → Nat) (n : Nat) (P : Nat → Nat) (b0 b1 : Nat → Int32) (hC : pb_Cx n P) (hb0 : ∀ i, i < n → b0 i = nI (P i)) (q : Nat) (hq : q < 2 ^ 31) : Met l yX1_points (ws_ yX1_points cX1_points 4 (some .int)) (pb_ro 0) (va_Pc [.ref (sg 0), .int (nI q)] (pb_B D d (pb_mW sg d (nI n) b0 b1))) (pb_Q (nI (pb_pop q))) 0 0 pb_no := by
  refine pb_met RX1 (by decide) rfl (Nat.le_of_ble_eq_true rfl) rfl ?_
  intro p e s m below meth c ls C hnm hB hl
  obtain ⟨hx, hb, hml, hr, hown, hlk, hts⟩ := id C
  obtain ⟨hP, hK⟩ := hB
  have hl : lv_has ls 4 [(0, .ref (sg 0)), (1, .int (nI q))] := hl
  refine lv_iconst (v := nI 0) hx hb dX1_points_0 rfl ?_
  refine lv_istore_n (lv' := [(2, .int (nI 0)), (0, .ref (sg 0)), (1, .int (nI q))]) hx hb dX1_points_1 rfl hl (by decide) rfl (fun ls hl => ?_)
  refine lv_iconst (v := nI 0) hx hb dX1_points_2 rfl ?_
  refine lv_istore_n (lv' := [(3, .int (nI 0)), (2, .int (nI 0)), (0, .ref (sg 0)), (1, .int (nI q))]) hx hb dX1_points_3 rfl hl (by decide) rfl (fun ls hl => ?_)
  have loop4 : ∀ (k4 : Nat) (u : Nat) (ls : Array Slot), (6 < u + k4) → (u ≤ 6) → lv_has ls 4 [(0, .ref (sg 0)), (1, .int (nI q)), (2, .int (nI (pb_pt q u))), (3, .int (nI u))] → W p l e (pb_ro 0) s m ([.ref (sg 0), .int (nI q)] : List Value).toArray below meth c s.heap [] 0 0 (MQ below (pb_Q (nI (pb_pop q))) ([.ref (sg 0), .int (nI q)] : List Value).toArray s 0 0 pb_no) (F0 m 4 ls []) := by
    intro k4
    induction k4 with
    | zero =>
      intro u ls hk hu hl
      omega
    | succ k4 ih4 =>
      intro u ls hk hu hl
      refine lv_iload_n hx hb dX1_points_4 rfl (lv_at hl 3 rfl) ?_
      refine lv_bipush (v := nI 6) hx hb dX1_points_5 rfl ?_
      refine pb_ige (tgt := 24) hx hb dX1_points_7 (by decide) (by first | assumption | omega) (by first | assumption | omega) (fun c7 => ?_) (fun c7 => ?_)
      · refine lv_iload_n hx hb dX1_points_24 rfl (lv_at hl 2 rfl) ?_
        exact pb_iret C (by rw [show u = 6 by omega]; rfl) dX1_points_25
      · refine lv_iload_n hx hb dX1_points_10 rfl (lv_at hl 2 rfl) ?_
        refine lv_iload_n hx hb dX1_points_11 rfl (lv_at hl 1 rfl) ?_
        refine lv_iload_n hx hb dX1_points_12 rfl (lv_at hl 3 rfl) ?_
        refine lv_ishr hx hb dX1_points_13 ?_
        refine lv_iconst (v := nI 1) hx hb dX1_points_14 rfl ?_
        refine lv_iand hx hb dX1_points_15 ?_
        refine pb_tup (pb_bit (by first | assumption | omega) (by first | assumption | omega)) ?_
        refine lv_iadd hx hb dX1_points_16 ?_
        refine pb_top (nI (pb_pt q (u + 1))) (pb_ptS q u) ?_
        refine lv_istore_n (lv' := [(2, .int (nI (pb_pt q (u + 1)))), (0, .ref (sg 0)), (1, .int (nI q)), (3, .int (nI u))]) hx hb dX1_points_17 rfl hl (by decide) rfl (fun ls hl => ?_)
        refine lv_iinc (v := nI (u + 1)) (lv' := [(3, .int (nI (u + 1))), (2, .int (nI (pb_pt q (u + 1)))), (0, .ref (sg 0)), (1, .int (nI q))]) hx hb dX1_points_18 hl (k := 3) rfl (nI_1 _) (by decide) rfl (fun ls hl => ?_)
        refine lv_goto (tgt := 4) hx hb dX1_points_21 (by decide) ?_
        exact ih4 (u + 1) ls (by omega) (by omega) (lv_sub hl [2, 3, 1, 0] rfl)
  exact loop4 7 0 ls (by omega) (by omega) (lv_sub hl [2, 3, 1, 0] rfl)
set_option maxHeartbeats 4000000 in
set_option maxRecDepth 100000 in
/-- no piece -/
theorem ct_X1_badPiece (l : Launch) (D : va_G) (d : ClassId) (sg : Nat → Nat) (n : Nat) (P : Nat → Nat) (b0 b1 : Nat → Int32) (hC : pb_Cx n P) (hb0 : ∀ i, i < n → b0 i = nI (P i)) (x : Int32) (b : Bool) (hok : pb_okP x b) : Met l yX1_badPiece (ws_ yX1_badPiece cX1_badPiece 2 (some .boolean)) (pb_ro 1) (va_Pc [.ref (sg 0), .int x] (pb_B D d (pb_mW sg d (nI n) b0 b1))) (pb_Q (pb_z (!b))) 0 0 pb_no := by
  refine pb_met RX1 (by decide) rfl (Nat.le_of_ble_eq_true rfl) rfl ?_
  intro p e s m below meth c ls C hnm hB hl
  obtain ⟨hx, hb, hml, hr, hown, hlk, hts⟩ := id C
  obtain ⟨hP, hK⟩ := hB
  have hl : lv_has ls 2 [(0, .ref (sg 0)), (1, .int x)] := hl
  rcases hok with ⟨rfl, q, hq1, hq2, hq3, rfl⟩ | ⟨rfl, hx1⟩ | ⟨rfl, hx0, hx1⟩ | ⟨rfl, q, hq1, hq2, hq3, rfl⟩
  · refine lv_iload_n hx hb dX1_badPiece_0 rfl (lv_at hl 1 rfl) ?_
    refine lv_iconst (v := nI 1) hx hb dX1_badPiece_1 rfl ?_
    refine pb_ilt (tgt := 20) hx hb dX1_badPiece_2 (by decide) (by first | assumption | omega) (by first | assumption | omega) (fun c2 => absurd c2 (by omega)) (fun c2 => ?_)
    refine lv_iload_n hx hb dX1_badPiece_5 rfl (lv_at hl 1 rfl) ?_
    refine lv_bipush (v := nI 63) hx hb dX1_badPiece_6 rfl ?_
    refine pb_igt (tgt := 20) hx hb dX1_badPiece_8 (by decide) (by first | assumption | omega) (by first | assumption | omega) (fun c8 => absurd c8 (by omega)) (fun c8 => ?_)
    refine lv_aload_n hx hb dX1_badPiece_11 rfl (lv_at hl 0 rfl) ?_
    refine lv_iload_n hx hb dX1_badPiece_12 rfl (lv_at hl 1 rfl) ?_
    refine pb_afterQ (pb_runV (rC := (RX1, TX1, 3)) (ci := 1) (As := [.int (nI q)]) (rest := []) C (ct_X1_points l D d sg n P b0 b1 hC hb0 q (by omega)) gw_X1_X1_points hd_X1_points ⟨rfl, rfl, Nat.le_of_ble_eq_true rfl, Nat.le_of_ble_eq_true rfl⟩ ⟨Nat.zero_le _, Nat.zero_le _⟩ hK hP rfl rfl hl.1 rfl (Nat.le_of_ble_eq_true rfl) dX1_badPiece_13) ?_
    refine lv_iconst (v := nI 4) hx hb dX1_badPiece_16 rfl ?_
    refine pb_ile (tgt := 24) hx hb dX1_badPiece_17 (by decide) (by have := pb_pop_le q; omega) (by omega) (fun c17 => ?_) (fun c17 => absurd c17 (by omega))
    refine lv_iconst (v := nI 0) hx hb dX1_badPiece_24 rfl ?_
    exact pb_zret C (rfl) dX1_badPiece_25
  · refine lv_iload_n hx hb dX1_badPiece_0 rfl (lv_at hl 1 rfl) ?_
    refine lv_iconst (v := nI 1) hx hb dX1_badPiece_1 rfl ?_
    refine lv_icmp_lt (tgt := 20) hx hb dX1_badPiece_2 (by decide) (fun c2 => ?_) (fun c2 => absurd hx1 c2)
    refine lv_iconst (v := nI 1) hx hb dX1_badPiece_20 rfl ?_
    refine lv_goto (tgt := 25) hx hb dX1_badPiece_21 (by decide) ?_
    exact pb_zret C (rfl) dX1_badPiece_25
  · refine lv_iload_n hx hb dX1_badPiece_0 rfl (lv_at hl 1 rfl) ?_
    refine lv_iconst (v := nI 1) hx hb dX1_badPiece_1 rfl ?_
    refine lv_icmp_lt (tgt := 20) hx hb dX1_badPiece_2 (by decide) (fun c2 => absurd c2 hx0) (fun c2 => ?_)
    refine lv_iload_n hx hb dX1_badPiece_5 rfl (lv_at hl 1 rfl) ?_
    refine lv_bipush (v := nI 63) hx hb dX1_badPiece_6 rfl ?_
    refine lv_icmp_gt (tgt := 20) hx hb dX1_badPiece_8 (by decide) (fun c8 => ?_) (fun c8 => absurd hx1 c8)
    refine lv_iconst (v := nI 1) hx hb dX1_badPiece_20 rfl ?_
    refine lv_goto (tgt := 25) hx hb dX1_badPiece_21 (by decide) ?_
    exact pb_zret C (rfl) dX1_badPiece_25
  · refine lv_iload_n hx hb dX1_badPiece_0 rfl (lv_at hl 1 rfl) ?_
    refine lv_iconst (v := nI 1) hx hb dX1_badPiece_1 rfl ?_
    refine pb_ilt (tgt := 20) hx hb dX1_badPiece_2 (by decide) (by first | assumption | omega) (by first | assumption | omega) (fun c2 => absurd c2 (by omega)) (fun c2 => ?_)
    refine lv_iload_n hx hb dX1_badPiece_5 rfl (lv_at hl 1 rfl) ?_
    refine lv_bipush (v := nI 63) hx hb dX1_badPiece_6 rfl ?_
    refine pb_igt (tgt := 20) hx hb dX1_badPiece_8 (by decide) (by first | assumption | omega) (by first | assumption | omega) (fun c8 => absurd c8 (by omega)) (fun c8 => ?_)
    refine lv_aload_n hx hb dX1_badPiece_11 rfl (lv_at hl 0 rfl) ?_
    refine lv_iload_n hx hb dX1_badPiece_12 rfl (lv_at hl 1 rfl) ?_
    refine pb_afterQ (pb_runV (rC := (RX1, TX1, 3)) (ci := 1) (As := [.int (nI q)]) (rest := []) C (ct_X1_points l D d sg n P b0 b1 hC hb0 q (by omega)) gw_X1_X1_points hd_X1_points ⟨rfl, rfl, Nat.le_of_ble_eq_true rfl, Nat.le_of_ble_eq_true rfl⟩ ⟨Nat.zero_le _, Nat.zero_le _⟩ hK hP rfl rfl hl.1 rfl (Nat.le_of_ble_eq_true rfl) dX1_badPiece_13) ?_
    refine lv_iconst (v := nI 4) hx hb dX1_badPiece_16 rfl ?_
    refine pb_ile (tgt := 24) hx hb dX1_badPiece_17 (by decide) (by have := pb_pop_le q; omega) (by omega) (fun c17 => absurd c17 (by omega)) (fun c17 => ?_)
    refine lv_iconst (v := nI 1) hx hb dX1_badPiece_20 rfl ?_
    refine lv_goto (tgt := 25) hx hb dX1_badPiece_21 (by decide) ?_
    exact pb_zret C (rfl) dX1_badPiece_25
set_option maxHeartbeats 4000000 in
set_option maxRecDepth 100000 in
/-- the place of q, or -1 -/
theorem ct_X1_find (l : Launch) (D : va_G) (d : ClassId) (sg : Nat → Nat) (n : Nat) (P : Nat → Nat) (b0 b1 : Nat → Int32) (hC : pb_Cx n P) (hb0 : ∀ i, i < n → b0 i = nI (P i)) (q : Nat) (hq : q < 64) (v : Int32) (hv : pb_At n P q (-1) v) : Met l yX1_find (ws_ yX1_find cX1_find 3 (some .int)) (pb_ro 0) (va_Pc [.ref (sg 0), .int (nI q)] (pb_B D d (pb_mW sg d (nI n) b0 b1))) (pb_Q v) 0 0 pb_no := by
  refine pb_met RX1 (by decide) rfl (Nat.le_of_ble_eq_true rfl) rfl ?_
  intro p e s m below meth c ls C hnm hB hl
  obtain ⟨hx, hb, hml, hr, hown, hlk, hts⟩ := id C
  obtain ⟨hP, hK⟩ := hB
  have hl : lv_has ls 3 [(0, .ref (sg 0)), (1, .int (nI q))] := hl
  refine lv_iconst (v := nI 0) hx hb dX1_find_0 rfl ?_
  refine lv_istore_n (lv' := [(2, .int (nI 0)), (0, .ref (sg 0)), (1, .int (nI q))]) hx hb dX1_find_1 rfl hl (by decide) rfl (fun ls hl => ?_)
  have loop2 : ∀ (k2 : Nat) (i : Nat) (ls : Array Slot), (n < i + k2) → (i ≤ n) → (∀ j, j < i → P j ≠ q) → lv_has ls 3 [(0, .ref (sg 0)), (1, .int (nI q)), (2, .int (nI i))] → W p l e (pb_ro 0) s m ([.ref (sg 0), .int (nI q)] : List Value).toArray below meth c s.heap [] 0 0 (MQ below (pb_Q v) ([.ref (sg 0), .int (nI q)] : List Value).toArray s 0 0 pb_no) (F0 m 2 ls []) := by
    intro k2
    induction k2 with
    | zero =>
      intro i ls hk hi hno hl
      omega
    | succ k2 ih2 =>
      intro i ls hk hi hno hl
      have hn26 := hC.1
      refine lv_iload_n hx hb dX1_find_2 rfl (lv_at hl 2 rfl) ?_
      refine lv_aload_n hx hb dX1_find_3 rfl (lv_at hl 0 rfl) ?_
      refine pb_gM0 C hK hP dX1_find_4 ?_
      refine pb_ige (tgt := 34) hx hb dX1_find_7 (by decide) (by first | assumption | omega) (by first | assumption | omega) (fun c7 => ?_) (fun c7 => ?_)
      · refine lv_iconst (v := (-1)) hx hb dX1_find_34 (by decide) ?_
        exact pb_iret C (by rcases hv with ⟨i0, h1, h2, h3⟩ | ⟨h1, h2⟩; exact absurd h2 (hno i0 (by omega)); exact h2.symm) dX1_find_35
      · refine lv_iload_n hx hb dX1_find_10 rfl (lv_at hl 2 rfl) ?_
        refine lv_bipush (v := nI 26) hx hb dX1_find_11 rfl ?_
        refine pb_ige (tgt := 34) hx hb dX1_find_13 (by decide) (by first | assumption | omega) (by first | assumption | omega) (fun c13 => absurd c13 (by omega)) (fun c13 => ?_)
        have hPi := pb_cx_pop hC (i := i) (by omega)
        refine lv_aload_n hx hb dX1_find_16 rfl (lv_at hl 0 rfl) ?_
        refine pb_gM1 C hK hP dX1_find_17 ?_
        refine lv_iload_n hx hb dX1_find_20 rfl (lv_at hl 2 rfl) ?_
        refine pb_ald (nI (P i)) C hK hP 1 rfl (by omega) (by decide) (hb0 i (by omega)) dX1_find_21 ?_
        refine lv_iload_n hx hb dX1_find_22 rfl (lv_at hl 1 rfl) ?_
        refine pb_ine (tgt := 28) hx hb dX1_find_23 (by decide) (by first | assumption | omega) (by first | assumption | omega) (fun c23 => ?_) (fun c23 => ?_)
        · refine lv_iinc (v := nI (i + 1)) (lv' := [(2, .int (nI (i + 1))), (0, .ref (sg 0)), (1, .int (nI q))]) hx hb dX1_find_28 hl (k := 2) rfl (nI_1 _) (by decide) rfl (fun ls hl => ?_)
          refine lv_goto (tgt := 2) hx hb dX1_find_31 (by decide) ?_
          exact ih2 (i + 1) ls (by omega) (by omega) (lt_s hno c23) (lv_sub hl [1, 2, 0] rfl)
        · refine lv_iload_n hx hb dX1_find_26 rfl (lv_at hl 2 rfl) ?_
          exact pb_iret C (by rcases hv with ⟨i0, h1, h2, h3⟩ | ⟨h1, h2⟩; rw [h3, hC.2.2.1 i0 i h1 (by omega) (by omega)]; exact absurd c23 (h1 i (by omega))) dX1_find_27
  exact loop2 (n + 1) 0 ls (by omega) (by omega) (fun j h => absurd h (Nat.not_lt_zero _)) (lv_sub hl [1, 2, 0] rfl)
set_option maxHeartbeats 4000000 in
set_option maxRecDepth 100000 in
theorem ct_X1_size (l : Launch) (D : va_G) (d : ClassId) (sg : Nat → Nat) (n : Nat) (P : Nat → Nat) (b0 b1 : Nat → Int32) (hC : pb_Cx n P) (hb0 : ∀ i, i < n → b0 i = nI (P i))  : Met l yX1_size (ws_ yX1_size cX1_size 1 (some .int)) (pb_ro 0) (va_Pc [.ref (sg 0)] (pb_B D d (pb_mW sg d (nI n) b0 b1))) (pb_Q (nI n)) 0 0 pb_no := by
  refine pb_met RX1 (by decide) rfl (Nat.le_of_ble_eq_true rfl) rfl ?_
  intro p e s m below meth c ls C hnm hB hl
  obtain ⟨hx, hb, hml, hr, hown, hlk, hts⟩ := id C
  obtain ⟨hP, hK⟩ := hB
  have hl : lv_has ls 1 [(0, .ref (sg 0))] := hl
  refine lv_aload_n hx hb dX1_size_0 rfl (lv_at hl 0 rfl) ?_
  refine pb_gM0 C hK hP dX1_size_1 ?_
  exact pb_iret C (rfl) dX1_size_4
set_option maxHeartbeats 4000000 in
set_option maxRecDepth 100000 in
theorem ct_X1_dimension (l : Launch) (D : va_G) (d : ClassId) (sg : Nat → Nat) (n : Nat) (P : Nat → Nat) (b0 b1 : Nat → Int32) (hC : pb_Cx n P) (hb0 : ∀ i, i < n → b0 i = nI (P i)) (i : Nat) (hi : i < n) : Met l yX1_dimension (ws_ yX1_dimension cX1_dimension 2 (some .int)) (pb_ro 1) (va_Pc [.ref (sg 0), .int (nI i)] (pb_B D d (pb_mW sg d (nI n) b0 b1))) (pb_Q (nI (pb_pop (P i) - 1))) 0 0 pb_no := by
  refine pb_met RX1 (by decide) rfl (Nat.le_of_ble_eq_true rfl) rfl ?_
  intro p e s m below meth c ls C hnm hB hl
  obtain ⟨hx, hb, hml, hr, hown, hlk, hts⟩ := id C
  obtain ⟨hP, hK⟩ := hB
  have hl : lv_has ls 2 [(0, .ref (sg 0)), (1, .int (nI i))] := hl
  have hPi := pb_cx_pop hC hi
  refine lv_aload_n hx hb dX1_dimension_0 rfl (lv_at hl 0 rfl) ?_
  refine lv_aload_n hx hb dX1_dimension_1 rfl (lv_at hl 0 rfl) ?_
  refine pb_gM1 C hK hP dX1_dimension_2 ?_
  refine lv_iload_n hx hb dX1_dimension_5 rfl (lv_at hl 1 rfl) ?_
  refine pb_ald (nI (P i)) C hK hP 1 rfl (by have := hC.1; omega) (by decide) (hb0 i hi) dX1_dimension_6 ?_
  refine pb_afterQ (pb_runV (rC := (RX1, TX1, 3)) (ci := 1) (As := [.int (nI (P i))]) (rest := []) C (ct_X1_points l D d sg n P b0 b1 hC hb0 (P i) (by omega)) gw_X1_X1_points hd_X1_points ⟨rfl, rfl, Nat.le_of_ble_eq_true rfl, Nat.le_of_ble_eq_true rfl⟩ ⟨Nat.zero_le _, Nat.zero_le _⟩ hK hP rfl rfl hl.1 rfl (Nat.le_of_ble_eq_true rfl) dX1_dimension_7) ?_
  refine lv_iconst (v := nI 1) hx hb dX1_dimension_10 rfl ?_
  refine lv_isub hx hb dX1_dimension_11 ?_
  refine pb_top (nI (pb_pop (P i) - 1)) (pk_sub (by omega)) ?_
  exact pb_iret C (rfl) dX1_dimension_12
set_option maxHeartbeats 4000000 in
set_option maxRecDepth 100000 in
theorem ct_X1_bad (l : Launch) (D : va_G) (d : ClassId) (sg : Nat → Nat) (n : Nat) (P : Nat → Nat) (b0 b1 : Nat → Int32) (hC : pb_Cx n P) (hb0 : ∀ i, i < n → b0 i = nI (P i)) (x : Int32) (b : Bool) (hok : pb_okI n x b) : Met l yX1_bad (ws_ yX1_bad cX1_bad 2 (some .boolean)) (pb_ro 0) (va_Pc [.ref (sg 0), .int x] (pb_B D d (pb_mW sg d (nI n) b0 b1))) (pb_Q (pb_z (!b))) 0 0 pb_no := by
  refine pb_met RX1 (by decide) rfl (Nat.le_of_ble_eq_true rfl) rfl ?_
  intro p e s m below meth c ls C hnm hB hl
  obtain ⟨hx, hb, hml, hr, hown, hlk, hts⟩ := id C
  obtain ⟨hP, hK⟩ := hB
  have hl : lv_has ls 2 [(0, .ref (sg 0)), (1, .int x)] := hl
  have hn26 := hC.1
  rcases hok with ⟨rfl, i, hi, rfl⟩ | ⟨rfl, hx1⟩ | ⟨rfl, i, hi, hi2, rfl⟩
  · refine lv_iload_n hx hb dX1_bad_0 rfl (lv_at hl 1 rfl) ?_
    refine pb_clt (tgt := 18) hx hb dX1_bad_1 (by decide) (by first | assumption | omega) ?_
    refine lv_iload_n hx hb dX1_bad_4 rfl (lv_at hl 1 rfl) ?_
    refine lv_aload_n hx hb dX1_bad_5 rfl (lv_at hl 0 rfl) ?_
    refine pb_gM0 C hK hP dX1_bad_6 ?_
    refine pb_ige (tgt := 18) hx hb dX1_bad_9 (by decide) (by first | assumption | omega) (by first | assumption | omega) (fun c9 => absurd c9 (by omega)) (fun c9 => ?_)
    refine lv_iload_n hx hb dX1_bad_12 rfl (lv_at hl 1 rfl) ?_
    refine lv_bipush (v := nI 25) hx hb dX1_bad_13 rfl ?_
    refine pb_ile (tgt := 22) hx hb dX1_bad_15 (by decide) (by first | assumption | omega) (by first | assumption | omega) (fun c15 => ?_) (fun c15 => absurd c15 (by omega))
    refine lv_iconst (v := nI 0) hx hb dX1_bad_22 rfl ?_
    exact pb_zret C (rfl) dX1_bad_23
  · refine lv_iload_n hx hb dX1_bad_0 rfl (lv_at hl 1 rfl) ?_
    refine lv_if_lt (tgt := 18) hx hb dX1_bad_1 (by decide) (fun c1 => ?_) (fun c1 => absurd hx1 c1)
    refine lv_iconst (v := nI 1) hx hb dX1_bad_18 rfl ?_
    refine lv_goto (tgt := 23) hx hb dX1_bad_19 (by decide) ?_
    exact pb_zret C (rfl) dX1_bad_23
  · refine lv_iload_n hx hb dX1_bad_0 rfl (lv_at hl 1 rfl) ?_
    refine pb_clt (tgt := 18) hx hb dX1_bad_1 (by decide) (by first | assumption | omega) ?_
    refine lv_iload_n hx hb dX1_bad_4 rfl (lv_at hl 1 rfl) ?_
    refine lv_aload_n hx hb dX1_bad_5 rfl (lv_at hl 0 rfl) ?_
    refine pb_gM0 C hK hP dX1_bad_6 ?_
    refine pb_ige (tgt := 18) hx hb dX1_bad_9 (by decide) (by first | assumption | omega) (by first | assumption | omega) (fun c9 => ?_) (fun c9 => absurd c9 (by omega))
    refine lv_iconst (v := nI 1) hx hb dX1_bad_18 rfl ?_
    refine lv_goto (tgt := 23) hx hb dX1_bad_19 (by decide) ?_
    exact pb_zret C (rfl) dX1_bad_23
set_option maxHeartbeats 4000000 in
set_option maxRecDepth 100000 in
theorem ct_X1_badTime (l : Launch) (D : va_G) (d : ClassId) (sg : Nat → Nat) (n : Nat) (P : Nat → Nat) (b0 b1 : Nat → Int32) (hC : pb_Cx n P) (hb0 : ∀ i, i < n → b0 i = nI (P i)) (x : Int32) (b : Bool) (hok : pb_okI (n + 1) x b) : Met l yX1_badTime (ws_ yX1_badTime cX1_badTime 2 (some .boolean)) (pb_ro 0) (va_Pc [.ref (sg 0), .int x] (pb_B D d (pb_mW sg d (nI n) b0 b1))) (pb_Q (pb_z (!b))) 0 0 pb_no := by
  refine pb_met RX1 (by decide) rfl (Nat.le_of_ble_eq_true rfl) rfl ?_
  intro p e s m below meth c ls C hnm hB hl
  obtain ⟨hx, hb, hml, hr, hown, hlk, hts⟩ := id C
  obtain ⟨hP, hK⟩ := hB
  have hl : lv_has ls 2 [(0, .ref (sg 0)), (1, .int x)] := hl
  have hn26 := hC.1
  rcases hok with ⟨rfl, i, hi, rfl⟩ | ⟨rfl, hx1⟩ | ⟨rfl, i, hi, hi2, rfl⟩
  · refine lv_iload_n hx hb dX1_badTime_0 rfl (lv_at hl 1 rfl) ?_
    refine pb_clt (tgt := 12) hx hb dX1_badTime_1 (by decide) (by first | assumption | omega) ?_
    refine lv_iload_n hx hb dX1_badTime_4 rfl (lv_at hl 1 rfl) ?_
    refine lv_aload_n hx hb dX1_badTime_5 rfl (lv_at hl 0 rfl) ?_
    refine pb_gM0 C hK hP dX1_badTime_6 ?_
    refine pb_ile (tgt := 16) hx hb dX1_badTime_9 (by decide) (by first | assumption | omega) (by first | assumption | omega) (fun c9 => ?_) (fun c9 => absurd c9 (by omega))
    refine lv_iconst (v := nI 0) hx hb dX1_badTime_16 rfl ?_
    exact pb_zret C (rfl) dX1_badTime_17
  · refine lv_iload_n hx hb dX1_badTime_0 rfl (lv_at hl 1 rfl) ?_
    refine lv_if_lt (tgt := 12) hx hb dX1_badTime_1 (by decide) (fun c1 => ?_) (fun c1 => absurd hx1 c1)
    refine lv_iconst (v := nI 1) hx hb dX1_badTime_12 rfl ?_
    refine lv_goto (tgt := 17) hx hb dX1_badTime_13 (by decide) ?_
    exact pb_zret C (rfl) dX1_badTime_17
  · refine lv_iload_n hx hb dX1_badTime_0 rfl (lv_at hl 1 rfl) ?_
    refine pb_clt (tgt := 12) hx hb dX1_badTime_1 (by decide) (by first | assumption | omega) ?_
    refine lv_iload_n hx hb dX1_badTime_4 rfl (lv_at hl 1 rfl) ?_
    refine lv_aload_n hx hb dX1_badTime_5 rfl (lv_at hl 0 rfl) ?_
    refine pb_gM0 C hK hP dX1_badTime_6 ?_
    refine pb_ile (tgt := 16) hx hb dX1_badTime_9 (by decide) (by first | assumption | omega) (by first | assumption | omega) (fun c9 => absurd c9 (by omega)) (fun c9 => ?_)
    refine lv_iconst (v := nI 1) hx hb dX1_badTime_12 rfl ?_
    refine lv_goto (tgt := 17) hx hb dX1_badTime_13 (by decide) ?_
    exact pb_zret C (rfl) dX1_badTime_17
set_option maxHeartbeats 4000000 in
set_option maxRecDepth 100000 in
theorem ct_X1_badDimension (l : Launch) (D : va_G) (d : ClassId) (sg : Nat → Nat) (n : Nat) (P : Nat → Nat) (b0 b1 : Nat → Int32) (hC : pb_Cx n P) (hb0 : ∀ i, i < n → b0 i = nI (P i)) (x : Int32) (b : Bool) (hok : pb_okI 4 x b) : Met l yX1_badDimension (ws_ yX1_badDimension cX1_badDimension 2 (some .boolean)) (pb_ro 0) (va_Pc [.ref (sg 0), .int x] (pb_B D d (pb_mW sg d (nI n) b0 b1))) (pb_Q (pb_z (!b))) 0 0 pb_no := by
  refine pb_met RX1 (by decide) rfl (Nat.le_of_ble_eq_true rfl) rfl ?_
  intro p e s m below meth c ls C hnm hB hl
  obtain ⟨hx, hb, hml, hr, hown, hlk, hts⟩ := id C
  obtain ⟨hP, hK⟩ := hB
  have hl : lv_has ls 2 [(0, .ref (sg 0)), (1, .int x)] := hl
  have hn26 := hC.1
  rcases hok with ⟨rfl, i, hi, rfl⟩ | ⟨rfl, hx1⟩ | ⟨rfl, i, hi, hi2, rfl⟩
  · refine lv_iload_n hx hb dX1_badDimension_0 rfl (lv_at hl 1 rfl) ?_
    refine pb_clt (tgt := 9) hx hb dX1_badDimension_1 (by decide) (by first | assumption | omega) ?_
    refine lv_iload_n hx hb dX1_badDimension_4 rfl (lv_at hl 1 rfl) ?_
    refine lv_iconst (v := nI 3) hx hb dX1_badDimension_5 rfl ?_
    refine pb_ile (tgt := 13) hx hb dX1_badDimension_6 (by decide) (by first | assumption | omega) (by first | assumption | omega) (fun c6 => ?_) (fun c6 => absurd c6 (by omega))
    refine lv_iconst (v := nI 0) hx hb dX1_badDimension_13 rfl ?_
    exact pb_zret C (rfl) dX1_badDimension_14
  · refine lv_iload_n hx hb dX1_badDimension_0 rfl (lv_at hl 1 rfl) ?_
    refine lv_if_lt (tgt := 9) hx hb dX1_badDimension_1 (by decide) (fun c1 => ?_) (fun c1 => absurd hx1 c1)
    refine lv_iconst (v := nI 1) hx hb dX1_badDimension_9 rfl ?_
    refine lv_goto (tgt := 14) hx hb dX1_badDimension_10 (by decide) ?_
    exact pb_zret C (rfl) dX1_badDimension_14
  · refine lv_iload_n hx hb dX1_badDimension_0 rfl (lv_at hl 1 rfl) ?_
    refine pb_clt (tgt := 9) hx hb dX1_badDimension_1 (by decide) (by first | assumption | omega) ?_
    refine lv_iload_n hx hb dX1_badDimension_4 rfl (lv_at hl 1 rfl) ?_
    refine lv_iconst (v := nI 3) hx hb dX1_badDimension_5 rfl ?_
    refine pb_ile (tgt := 13) hx hb dX1_badDimension_6 (by decide) (by first | assumption | omega) (by first | assumption | omega) (fun c6 => absurd c6 (by omega)) (fun c6 => ?_)
    refine lv_iconst (v := nI 1) hx hb dX1_badDimension_9 rfl ?_
    refine lv_goto (tgt := 14) hx hb dX1_badDimension_10 (by decide) ?_
    exact pb_zret C (rfl) dX1_badDimension_14
set_option maxHeartbeats 4000000 in
set_option maxRecDepth 100000 in
theorem ct_X1_piece (l : Launch) (D : va_G) (d : ClassId) (sg : Nat → Nat) (n : Nat) (P : Nat → Nat) (b0 b1 : Nat → Int32) (hC : pb_Cx n P) (hb0 : ∀ i, i < n → b0 i = nI (P i)) (x r : Int32) (hr9 : pb_PieceS n P x r) : Met l yX1_piece (ws_ yX1_piece cX1_piece 2 (some .int)) (pb_ro 1) (va_Pc [.ref (sg 0), .int x] (pb_B D d (pb_mW sg d (nI n) b0 b1))) (pb_Q r) 0 0 pb_no := by
  refine pb_met RX1 (by decide) rfl (Nat.le_of_ble_eq_true rfl) rfl ?_
  intro p e s m below meth c ls C hnm hB hl
  obtain ⟨hx, hb, hml, hr, hown, hlk, hts⟩ := id C
  obtain ⟨hP, hK⟩ := hB
  have hl : lv_has ls 2 [(0, .ref (sg 0)), (1, .int x)] := hl
  have hn26 := hC.1
  rcases hr9 with ⟨i, hi, rfl, rfl⟩ | ⟨hx1, rfl⟩
  · refine lv_aload_n hx hb dX1_piece_0 rfl (lv_at hl 0 rfl) ?_
    refine lv_iload_n hx hb dX1_piece_1 rfl (lv_at hl 1 rfl) ?_
    refine pb_afterQ (pb_runV (rC := (RX1, TX1, 3)) (ci := 1) (As := [.int (nI i)]) (rest := []) C (ct_X1_bad l D d sg n P b0 b1 hC hb0 (nI i) true (Or.inl ⟨rfl, i, hi, rfl⟩)) gw_X1_X1_bad hd_X1_bad ⟨rfl, rfl, Nat.le_of_ble_eq_true rfl, Nat.le_of_ble_eq_true rfl⟩ ⟨Nat.zero_le _, Nat.zero_le _⟩ hK hP rfl rfl hl.1 rfl (Nat.le_of_ble_eq_true rfl) dX1_piece_2) ?_
    refine pb_zeq (tgt := 12) hx hb dX1_piece_5 (by decide) (fun c5 => ?_) (fun c5 => absurd c5 (by decide))
    refine lv_aload_n hx hb dX1_piece_12 rfl (lv_at hl 0 rfl) ?_
    refine pb_gM1 C hK hP dX1_piece_13 ?_
    refine lv_iload_n hx hb dX1_piece_16 rfl (lv_at hl 1 rfl) ?_
    refine pb_ald (nI (P i)) C hK hP 1 rfl (by omega) (by decide) (hb0 i hi) dX1_piece_17 ?_
    exact pb_iret C (rfl) dX1_piece_18
  · refine lv_aload_n hx hb dX1_piece_0 rfl (lv_at hl 0 rfl) ?_
    refine lv_iload_n hx hb dX1_piece_1 rfl (lv_at hl 1 rfl) ?_
    refine pb_afterQ (pb_runV (rC := (RX1, TX1, 3)) (ci := 1) (As := [.int x]) (rest := []) C (ct_X1_bad l D d sg n P b0 b1 hC hb0 x false hx1) gw_X1_X1_bad hd_X1_bad ⟨rfl, rfl, Nat.le_of_ble_eq_true rfl, Nat.le_of_ble_eq_true rfl⟩ ⟨Nat.zero_le _, Nat.zero_le _⟩ hK hP rfl rfl hl.1 rfl (Nat.le_of_ble_eq_true rfl) dX1_piece_2) ?_
    refine pb_zeq (tgt := 12) hx hb dX1_piece_5 (by decide) (fun c5 => absurd c5 (by decide)) (fun c5 => ?_)
    refine lv_iconst (v := (-1)) hx hb dX1_piece_8 (by decide) ?_
    refine lv_goto (tgt := 18) hx hb dX1_piece_9 (by decide) ?_
    exact pb_iret C (rfl) dX1_piece_18
set_option maxHeartbeats 4000000 in
set_option maxRecDepth 100000 in
theorem ct_X1_tally (l : Launch) (D : va_G) (d : ClassId) (sg : Nat → Nat) (n : Nat) (P : Nat → Nat) (b0 b1 : Nat → Int32) (hC : pb_Cx n P) (hb0 : ∀ i, i < n → b0 i = nI (P i)) (t k : Nat) (ht : t ≤ n) (hkk : k < 2 ^ 30) : Met l yX1_tally (ws_ yX1_tally cX1_tally 5 (some .int)) (pb_ro 2) (va_Pc [.ref (sg 0), .int (nI t), .int (nI k)] (pb_B D d (pb_mW sg d (nI n) b0 b1))) (pb_Q (nI (pb_tal P t (k + 1)))) 0 0 pb_no := by
  refine pb_met RX1 (by decide) rfl (Nat.le_of_ble_eq_true rfl) rfl ?_
  intro p e s m below meth c ls C hnm hB hl
  obtain ⟨hx, hb, hml, hr, hown, hlk, hts⟩ := id C
  obtain ⟨hP, hK⟩ := hB
  have hl : lv_has ls 5 [(0, .ref (sg 0)), (1, .int (nI t)), (2, .int (nI k))] := hl
  have hn26 := hC.1
  refine lv_iconst (v := nI 0) hx hb dX1_tally_0 rfl ?_
  refine lv_istore_n (lv' := [(3, .int (nI 0)), (0, .ref (sg 0)), (1, .int (nI t)), (2, .int (nI k))]) hx hb dX1_tally_1 rfl hl (by decide) rfl (fun ls hl => ?_)
  refine lv_iconst (v := nI 0) hx hb dX1_tally_2 rfl ?_
  refine lv_istore (lv' := [(4, .int (nI 0)), (3, .int (nI 0)), (0, .ref (sg 0)), (1, .int (nI t)), (2, .int (nI k))]) hx hb dX1_tally_3 hl (by decide) rfl (fun ls hl => ?_)
  have loop5 : ∀ (k5 : Nat) (i : Nat) (ls : Array Slot), (t < i + k5) → (i ≤ t) → lv_has ls 5 [(0, .ref (sg 0)), (1, .int (nI t)), (2, .int (nI k)), (3, .int (nI (pb_tal P i (k + 1)))), (4, .int (nI i))] → W p l e (pb_ro 2) s m ([.ref (sg 0), .int (nI t), .int (nI k)] : List Value).toArray below meth c s.heap [] 0 0 (MQ below (pb_Q (nI (pb_tal P t (k + 1)))) ([.ref (sg 0), .int (nI t), .int (nI k)] : List Value).toArray s 0 0 pb_no) (F0 m 5 ls []) := by
    intro k5
    induction k5 with
    | zero =>
      intro i ls hk hi hl
      omega
    | succ k5 ih5 =>
      intro i ls hk hi hl
      refine lv_iload hx hb dX1_tally_5 (lv_at hl 4 rfl) ?_
      refine lv_iload_n hx hb dX1_tally_7 rfl (lv_at hl 1 rfl) ?_
      refine pb_ige (tgt := 37) hx hb dX1_tally_8 (by decide) (by first | assumption | omega) (by first | assumption | omega) (fun c8 => ?_) (fun c8 => ?_)
      · refine lv_iload_n hx hb dX1_tally_37 rfl (lv_at hl 3 rfl) ?_
        exact pb_iret C (by rw [show i = t by omega]) dX1_tally_38
      · refine lv_iload hx hb dX1_tally_11 (lv_at hl 4 rfl) ?_
        refine lv_bipush (v := nI 26) hx hb dX1_tally_13 rfl ?_
        refine pb_ige (tgt := 37) hx hb dX1_tally_15 (by decide) (by first | assumption | omega) (by first | assumption | omega) (fun c15 => absurd c15 (by omega)) (fun c15 => ?_)
        have hPi := pb_cx_pop hC (i := i) (by omega)
        refine lv_aload_n hx hb dX1_tally_18 rfl (lv_at hl 0 rfl) ?_
        refine lv_iload hx hb dX1_tally_19 (lv_at hl 4 rfl) ?_
        refine pb_afterQ (pb_runV (rC := (RX1, TX1, 3)) (ci := 1) (As := [.int (nI i)]) (rest := []) C (ct_X1_dimension l D d sg n P b0 b1 hC hb0 i (by omega)) gw_X1_X1_dimension hd_X1_dimension ⟨rfl, rfl, Nat.le_of_ble_eq_true rfl, Nat.le_of_ble_eq_true rfl⟩ ⟨Nat.zero_le _, Nat.zero_le _⟩ hK hP rfl rfl hl.1 rfl (Nat.le_of_ble_eq_true rfl) dX1_tally_21) ?_
        refine lv_iload_n hx hb dX1_tally_24 rfl (lv_at hl 2 rfl) ?_
        refine pb_ine (tgt := 31) hx hb dX1_tally_25 (by decide) (by first | assumption | omega) (by first | assumption | omega) (fun c25 => ?_) (fun c25 => ?_)
        · have hl : lv_has ls 5 [(0, .ref (sg 0)), (1, .int (nI t)), (2, .int (nI k)), (3, .int (nI (pb_tal P (i + 1) (k + 1)))), (4, .int (nI i))] := by have e9 : nI (pb_tal P i (k + 1)) = nI (pb_tal P (i + 1) (k + 1)) := (by rw [pb_tal_n (show ¬ pb_pop (P i) = k + 1 by omega)]); rw [← e9]; exact hl
          refine lv_iinc (v := nI (i + 1)) (lv' := [(4, .int (nI (i + 1))), (0, .ref (sg 0)), (1, .int (nI t)), (2, .int (nI k)), (3, .int (nI (pb_tal P (i + 1) (k + 1))))]) hx hb dX1_tally_31 hl (k := 4) rfl (nI_1 _) (by decide) rfl (fun ls hl => ?_)
          refine lv_goto (tgt := 5) hx hb dX1_tally_34 (by decide) ?_
          exact ih5 (i + 1) ls (by omega) (by omega) (lv_sub hl [1, 2, 3, 4, 0] rfl)
        · refine lv_iinc (v := nI (pb_tal P (i + 1) (k + 1))) (lv' := [(3, .int (nI (pb_tal P (i + 1) (k + 1)))), (0, .ref (sg 0)), (1, .int (nI t)), (2, .int (nI k)), (4, .int (nI i))]) hx hb dX1_tally_28 hl (k := 3) rfl (by rw [pb_tal_y (show pb_pop (P i) = k + 1 by omega)]; exact nI_1 _) (by decide) rfl (fun ls hl => ?_)
          refine lv_iinc (v := nI (i + 1)) (lv' := [(4, .int (nI (i + 1))), (3, .int (nI (pb_tal P (i + 1) (k + 1)))), (0, .ref (sg 0)), (1, .int (nI t)), (2, .int (nI k))]) hx hb dX1_tally_31 hl (k := 4) rfl (nI_1 _) (by decide) rfl (fun ls hl => ?_)
          refine lv_goto (tgt := 5) hx hb dX1_tally_34 (by decide) ?_
          exact ih5 (i + 1) ls (by omega) (by omega) (lv_sub hl [2, 3, 4, 1, 0] rfl)
  exact loop5 (t + 1) 0 ls (by omega) (by omega) (lv_sub hl [2, 3, 4, 1, 0] rfl)
set_option maxHeartbeats 4000000 in
set_option maxRecDepth 100000 in
theorem ct_X1_pieces (l : Launch) (D : va_G) (d : ClassId) (sg : Nat → Nat) (n : Nat) (P : Nat → Nat) (b0 b1 : Nat → Int32) (hC : pb_Cx n P) (hb0 : ∀ i, i < n → b0 i = nI (P i)) (t k r : Int32) (hr9 : pb_PiecesS n P t k r) : Met l yX1_pieces (ws_ yX1_pieces cX1_pieces 3 (some .int)) (pb_ro 3) (va_Pc [.ref (sg 0), .int t, .int k] (pb_B D d (pb_mW sg d (nI n) b0 b1))) (pb_Q r) 0 0 pb_no := by
  refine pb_met RX1 (by decide) rfl (Nat.le_of_ble_eq_true rfl) rfl ?_
  intro p e s m below meth c ls C hnm hB hl
  obtain ⟨hx, hb, hml, hr, hown, hlk, hts⟩ := id C
  obtain ⟨hP, hK⟩ := hB
  have hl : lv_has ls 3 [(0, .ref (sg 0)), (1, .int t), (2, .int k)] := hl
  have hn26 := hC.1
  rcases hr9 with ⟨ht, rfl⟩ | ⟨i, hi, rfl, hk, rfl⟩ | ⟨i, j, hi, rfl, hj, rfl, rfl⟩
  · refine lv_aload_n hx hb dX1_pieces_0 rfl (lv_at hl 0 rfl) ?_
    refine lv_iload_n hx hb dX1_pieces_1 rfl (lv_at hl 1 rfl) ?_
    refine pb_afterQ (pb_runV (rC := (RX1, TX1, 3)) (ci := 1) (As := [.int t]) (rest := []) C (ct_X1_badTime l D d sg n P b0 b1 hC hb0 t false ht) gw_X1_X1_badTime hd_X1_badTime ⟨rfl, rfl, Nat.le_of_ble_eq_true rfl, Nat.le_of_ble_eq_true rfl⟩ ⟨Nat.zero_le _, Nat.zero_le _⟩ hK hP rfl rfl hl.1 rfl (Nat.le_of_ble_eq_true rfl) dX1_pieces_2) ?_
    refine pb_zeq (tgt := 10) hx hb dX1_pieces_5 (by decide) (fun c5 => absurd c5 (by decide)) (fun c5 => ?_)
    refine lv_iconst (v := (-1)) hx hb dX1_pieces_8 (by decide) ?_
    exact pb_iret C (rfl) dX1_pieces_9
  · refine lv_aload_n hx hb dX1_pieces_0 rfl (lv_at hl 0 rfl) ?_
    refine lv_iload_n hx hb dX1_pieces_1 rfl (lv_at hl 1 rfl) ?_
    refine pb_afterQ (pb_runV (rC := (RX1, TX1, 3)) (ci := 1) (As := [.int (nI i)]) (rest := []) C (ct_X1_badTime l D d sg n P b0 b1 hC hb0 (nI i) true (Or.inl ⟨rfl, i, by omega, rfl⟩)) gw_X1_X1_badTime hd_X1_badTime ⟨rfl, rfl, Nat.le_of_ble_eq_true rfl, Nat.le_of_ble_eq_true rfl⟩ ⟨Nat.zero_le _, Nat.zero_le _⟩ hK hP rfl rfl hl.1 rfl (Nat.le_of_ble_eq_true rfl) dX1_pieces_2) ?_
    refine pb_zeq (tgt := 10) hx hb dX1_pieces_5 (by decide) (fun c5 => ?_) (fun c5 => absurd c5 (by decide))
    refine lv_aload_n hx hb dX1_pieces_10 rfl (lv_at hl 0 rfl) ?_
    refine lv_iload_n hx hb dX1_pieces_11 rfl (lv_at hl 2 rfl) ?_
    refine pb_afterQ (pb_runV (rC := (RX1, TX1, 3)) (ci := 1) (As := [.int k]) (rest := []) C (ct_X1_badDimension l D d sg n P b0 b1 hC hb0 k false hk) gw_X1_X1_badDimension hd_X1_badDimension ⟨rfl, rfl, Nat.le_of_ble_eq_true rfl, Nat.le_of_ble_eq_true rfl⟩ ⟨Nat.zero_le _, Nat.zero_le _⟩ hK hP rfl rfl hl.1 rfl (Nat.le_of_ble_eq_true rfl) dX1_pieces_12) ?_
    refine pb_zeq (tgt := 23) hx hb dX1_pieces_15 (by decide) (fun c15 => absurd c15 (by decide)) (fun c15 => ?_)
    refine lv_bipush (v := (-2)) hx hb dX1_pieces_18 (by decide) ?_
    refine lv_goto (tgt := 29) hx hb dX1_pieces_20 (by decide) ?_
    exact pb_iret C (rfl) dX1_pieces_29
  · refine lv_aload_n hx hb dX1_pieces_0 rfl (lv_at hl 0 rfl) ?_
    refine lv_iload_n hx hb dX1_pieces_1 rfl (lv_at hl 1 rfl) ?_
    refine pb_afterQ (pb_runV (rC := (RX1, TX1, 3)) (ci := 1) (As := [.int (nI i)]) (rest := []) C (ct_X1_badTime l D d sg n P b0 b1 hC hb0 (nI i) true (Or.inl ⟨rfl, i, by omega, rfl⟩)) gw_X1_X1_badTime hd_X1_badTime ⟨rfl, rfl, Nat.le_of_ble_eq_true rfl, Nat.le_of_ble_eq_true rfl⟩ ⟨Nat.zero_le _, Nat.zero_le _⟩ hK hP rfl rfl hl.1 rfl (Nat.le_of_ble_eq_true rfl) dX1_pieces_2) ?_
    refine pb_zeq (tgt := 10) hx hb dX1_pieces_5 (by decide) (fun c5 => ?_) (fun c5 => absurd c5 (by decide))
    refine lv_aload_n hx hb dX1_pieces_10 rfl (lv_at hl 0 rfl) ?_
    refine lv_iload_n hx hb dX1_pieces_11 rfl (lv_at hl 2 rfl) ?_
    refine pb_afterQ (pb_runV (rC := (RX1, TX1, 3)) (ci := 1) (As := [.int (nI j)]) (rest := []) C (ct_X1_badDimension l D d sg n P b0 b1 hC hb0 (nI j) true (Or.inl ⟨rfl, j, hj, rfl⟩)) gw_X1_X1_badDimension hd_X1_badDimension ⟨rfl, rfl, Nat.le_of_ble_eq_true rfl, Nat.le_of_ble_eq_true rfl⟩ ⟨Nat.zero_le _, Nat.zero_le _⟩ hK hP rfl rfl hl.1 rfl (Nat.le_of_ble_eq_true rfl) dX1_pieces_12) ?_
    refine pb_zeq (tgt := 23) hx hb dX1_pieces_15 (by decide) (fun c15 => ?_) (fun c15 => absurd c15 (by decide))
    refine lv_aload_n hx hb dX1_pieces_23 rfl (lv_at hl 0 rfl) ?_
    refine lv_iload_n hx hb dX1_pieces_24 rfl (lv_at hl 1 rfl) ?_
    refine lv_iload_n hx hb dX1_pieces_25 rfl (lv_at hl 2 rfl) ?_
    refine pb_afterQ (pb_runV (rC := (RX1, TX1, 3)) (ci := 1) (As := [.int (nI i), .int (nI j)]) (rest := []) C (ct_X1_tally l D d sg n P b0 b1 hC hb0 i j hi (by omega)) gw_X1_X1_tally hd_X1_tally ⟨rfl, rfl, Nat.le_of_ble_eq_true rfl, Nat.le_of_ble_eq_true rfl⟩ ⟨Nat.zero_le _, Nat.zero_le _⟩ hK hP rfl rfl hl.1 rfl (Nat.le_of_ble_eq_true rfl) dX1_pieces_26) ?_
    exact pb_iret C (rfl) dX1_pieces_29
set_option maxHeartbeats 4000000 in
set_option maxRecDepth 100000 in
theorem ct_X1_euler (l : Launch) (D : va_G) (d : ClassId) (sg : Nat → Nat) (n : Nat) (P : Nat → Nat) (b0 b1 : Nat → Int32) (hC : pb_Cx n P) (hb0 : ∀ i, i < n → b0 i = nI (P i)) (t r : Int32) (hr9 : pb_EulerS n P t r) : Met l yX1_euler (ws_ yX1_euler cX1_euler 2 (some .int)) (pb_ro 3) (va_Pc [.ref (sg 0), .int t] (pb_B D d (pb_mW sg d (nI n) b0 b1))) (pb_Q r) 0 0 pb_no := by
  refine pb_met RX1 (by decide) rfl (Nat.le_of_ble_eq_true rfl) rfl ?_
  intro p e s m below meth c ls C hnm hB hl
  obtain ⟨hx, hb, hml, hr, hown, hlk, hts⟩ := id C
  obtain ⟨hP, hK⟩ := hB
  have hl : lv_has ls 2 [(0, .ref (sg 0)), (1, .int t)] := hl
  have hn26 := hC.1
  rcases hr9 with ⟨ht, rfl⟩ | ⟨i, hi, rfl, rfl⟩
  · refine lv_aload_n hx hb dX1_euler_0 rfl (lv_at hl 0 rfl) ?_
    refine lv_iload_n hx hb dX1_euler_1 rfl (lv_at hl 1 rfl) ?_
    refine pb_afterQ (pb_runV (rC := (RX1, TX1, 3)) (ci := 1) (As := [.int t]) (rest := []) C (ct_X1_badTime l D d sg n P b0 b1 hC hb0 t false ht) gw_X1_X1_badTime hd_X1_badTime ⟨rfl, rfl, Nat.le_of_ble_eq_true rfl, Nat.le_of_ble_eq_true rfl⟩ ⟨Nat.zero_le _, Nat.zero_le _⟩ hK hP rfl rfl hl.1 rfl (Nat.le_of_ble_eq_true rfl) dX1_euler_2) ?_
    refine pb_zeq (tgt := 12) hx hb dX1_euler_5 (by decide) (fun c5 => absurd c5 (by decide)) (fun c5 => ?_)
    refine lv_sipush (v := (-1000)) hx hb dX1_euler_8 (by decide) ?_
    exact pb_iret C (rfl) dX1_euler_11
  · refine lv_aload_n hx hb dX1_euler_0 rfl (lv_at hl 0 rfl) ?_
    refine lv_iload_n hx hb dX1_euler_1 rfl (lv_at hl 1 rfl) ?_
    refine pb_afterQ (pb_runV (rC := (RX1, TX1, 3)) (ci := 1) (As := [.int (nI i)]) (rest := []) C (ct_X1_badTime l D d sg n P b0 b1 hC hb0 (nI i) true (Or.inl ⟨rfl, i, by omega, rfl⟩)) gw_X1_X1_badTime hd_X1_badTime ⟨rfl, rfl, Nat.le_of_ble_eq_true rfl, Nat.le_of_ble_eq_true rfl⟩ ⟨Nat.zero_le _, Nat.zero_le _⟩ hK hP rfl rfl hl.1 rfl (Nat.le_of_ble_eq_true rfl) dX1_euler_2) ?_
    refine pb_zeq (tgt := 12) hx hb dX1_euler_5 (by decide) (fun c5 => ?_) (fun c5 => absurd c5 (by decide))
    refine lv_aload_n hx hb dX1_euler_12 rfl (lv_at hl 0 rfl) ?_
    refine lv_iload_n hx hb dX1_euler_13 rfl (lv_at hl 1 rfl) ?_
    refine lv_iconst (v := nI 0) hx hb dX1_euler_14 rfl ?_
    refine pb_afterQ (pb_runV (rC := (RX1, TX1, 3)) (ci := 1) (As := [.int (nI i), .int (nI 0)]) (rest := []) C (ct_X1_tally l D d sg n P b0 b1 hC hb0 i 0 hi (by decide)) gw_X1_X1_tally hd_X1_tally ⟨rfl, rfl, Nat.le_of_ble_eq_true rfl, Nat.le_of_ble_eq_true rfl⟩ ⟨Nat.zero_le _, Nat.zero_le _⟩ hK hP rfl rfl hl.1 rfl (Nat.le_of_ble_eq_true rfl) dX1_euler_15) ?_
    refine lv_aload_n hx hb dX1_euler_18 rfl (lv_at hl 0 rfl) ?_
    refine lv_iload_n hx hb dX1_euler_19 rfl (lv_at hl 1 rfl) ?_
    refine lv_iconst (v := nI 1) hx hb dX1_euler_20 rfl ?_
    refine pb_afterQ (pb_runV (rC := (RX1, TX1, 3)) (ci := 1) (As := [.int (nI i), .int (nI 1)]) (rest := [.int (nI (pb_tal P i (0 + 1)))]) C (ct_X1_tally l D d sg n P b0 b1 hC hb0 i 1 hi (by decide)) gw_X1_X1_tally hd_X1_tally ⟨rfl, rfl, Nat.le_of_ble_eq_true rfl, Nat.le_of_ble_eq_true rfl⟩ ⟨Nat.zero_le _, Nat.zero_le _⟩ hK hP rfl rfl hl.1 rfl (Nat.le_of_ble_eq_true rfl) dX1_euler_21) ?_
    refine lv_isub hx hb dX1_euler_24 ?_
    refine lv_aload_n hx hb dX1_euler_25 rfl (lv_at hl 0 rfl) ?_
    refine lv_iload_n hx hb dX1_euler_26 rfl (lv_at hl 1 rfl) ?_
    refine lv_iconst (v := nI 2) hx hb dX1_euler_27 rfl ?_
    refine pb_afterQ (pb_runV (rC := (RX1, TX1, 3)) (ci := 1) (As := [.int (nI i), .int (nI 2)]) (rest := [.int ((nI (pb_tal P i (0 + 1))) - (nI (pb_tal P i (1 + 1))))]) C (ct_X1_tally l D d sg n P b0 b1 hC hb0 i 2 hi (by decide)) gw_X1_X1_tally hd_X1_tally ⟨rfl, rfl, Nat.le_of_ble_eq_true rfl, Nat.le_of_ble_eq_true rfl⟩ ⟨Nat.zero_le _, Nat.zero_le _⟩ hK hP rfl rfl hl.1 rfl (Nat.le_of_ble_eq_true rfl) dX1_euler_28) ?_
    refine lv_iadd hx hb dX1_euler_31 ?_
    refine lv_aload_n hx hb dX1_euler_32 rfl (lv_at hl 0 rfl) ?_
    refine lv_iload_n hx hb dX1_euler_33 rfl (lv_at hl 1 rfl) ?_
    refine lv_iconst (v := nI 3) hx hb dX1_euler_34 rfl ?_
    refine pb_afterQ (pb_runV (rC := (RX1, TX1, 3)) (ci := 1) (As := [.int (nI i), .int (nI 3)]) (rest := [.int (((nI (pb_tal P i (0 + 1))) - (nI (pb_tal P i (1 + 1)))) + (nI (pb_tal P i (2 + 1))))]) C (ct_X1_tally l D d sg n P b0 b1 hC hb0 i 3 hi (by decide)) gw_X1_X1_tally hd_X1_tally ⟨rfl, rfl, Nat.le_of_ble_eq_true rfl, Nat.le_of_ble_eq_true rfl⟩ ⟨Nat.zero_le _, Nat.zero_le _⟩ hK hP rfl rfl hl.1 rfl (Nat.le_of_ble_eq_true rfl) dX1_euler_35) ?_
    refine lv_isub hx hb dX1_euler_38 ?_
    exact pb_iret C (rfl) dX1_euler_39
end
section
/-! PersistentBarsModel: the methods that only read, second half -/
set_option maxHeartbeats 4000000 in
set_option maxRecDepth 100000 in
theorem ct_X1_sidesThere (l : Launch) (D : va_G) (d : ClassId) (sg : Nat → Nat) (n : Nat) (P : Nat → Nat) (b0 b1 : Nat → Int32) (hC : pb_Cx n P) (hb0 : ∀ i, i < n → b0 i = nI (P i)) (q : Nat) (hq : 1 ≤ q ∧ q < 64) (b : Bool) (hok : pb_okS n P q b) : Met l yX1_sidesThere (ws_ yX1_sidesThere cX1_sidesThere 3 (some .boolean)) (pb_ro 1) (va_Pc [.ref (sg 0), .int (nI q)] (pb_B D d (pb_mW sg d (nI n) b0 b1))) (pb_Q (pb_z b)) 0 0 pb_no := by
  refine pb_met RX1 (by decide) rfl (Nat.le_of_ble_eq_true rfl) rfl ?_
  intro p e s m below meth c ls C hnm hB hl
  obtain ⟨hx, hb, hml, hr, hown, hlk, hts⟩ := id C
  obtain ⟨hP, hK⟩ := hB
  have hl : lv_has ls 3 [(0, .ref (sg 0)), (1, .int (nI q))] := hl
  have hn26 := hC.1
  have hpl := pb_pop_le q
  refine lv_aload_n hx hb dX1_sidesThere_0 rfl (lv_at hl 0 rfl) ?_
  refine lv_iload_n hx hb dX1_sidesThere_1 rfl (lv_at hl 1 rfl) ?_
  refine pb_afterQ (pb_runV (rC := (RX1, TX1, 3)) (ci := 1) (As := [.int (nI q)]) (rest := []) C (ct_X1_points l D d sg n P b0 b1 hC hb0 q (by omega)) gw_X1_X1_points hd_X1_points ⟨rfl, rfl, Nat.le_of_ble_eq_true rfl, Nat.le_of_ble_eq_true rfl⟩ ⟨Nat.zero_le _, Nat.zero_le _⟩ hK hP rfl rfl hl.1 rfl (Nat.le_of_ble_eq_true rfl) dX1_sidesThere_2) ?_
  refine lv_iconst (v := nI 1) hx hb dX1_sidesThere_5 rfl ?_
  refine pb_ine (tgt := 11) hx hb dX1_sidesThere_6 (by decide) (by omega) (by omega) (fun c6 => ?_) (fun c6 => ?_)
  · refine lv_iconst (v := nI 0) hx hb dX1_sidesThere_11 rfl ?_
    refine lv_istore_n (lv' := [(2, .int (nI 0)), (0, .ref (sg 0)), (1, .int (nI q))]) hx hb dX1_sidesThere_12 rfl hl (by decide) rfl (fun ls hl => ?_)
    have loop13 : ∀ (k13 : Nat) (u : Nat) (ls : Array Slot), (6 < u + k13) → (u ≤ 6) → (∀ u2, u2 < u → q.testBit u2 = true → ∃ i, i < n ∧ P i = pb_rm q u2) → lv_has ls 3 [(0, .ref (sg 0)), (1, .int (nI q)), (2, .int (nI u))] → W p l e (pb_ro 1) s m ([.ref (sg 0), .int (nI q)] : List Value).toArray below meth c s.heap [] 0 0 (MQ below (pb_Q (pb_z b)) ([.ref (sg 0), .int (nI q)] : List Value).toArray s 0 0 pb_no) (F0 m 13 ls []) := by
      intro k13
      induction k13 with
      | zero =>
        intro u ls hk hu hall hl
        omega
      | succ k13 ih13 =>
        intro u ls hk hu hall hl
        refine lv_iload_n hx hb dX1_sidesThere_13 rfl (lv_at hl 2 rfl) ?_
        refine lv_bipush (v := nI 6) hx hb dX1_sidesThere_14 rfl ?_
        refine pb_ige (tgt := 50) hx hb dX1_sidesThere_16 (by decide) (by first | assumption | omega) (by first | assumption | omega) (fun c16 => ?_) (fun c16 => ?_)
        · refine lv_iconst (v := nI 1) hx hb dX1_sidesThere_50 rfl ?_
          exact pb_zret C (by rcases hok with ⟨rfl, h⟩ | ⟨rfl, h⟩; rfl; exact absurd (pb_Has_of hq.2 (fun u2 h1 h2 _ => hall u2 (by omega) h2)) h) dX1_sidesThere_51
        · refine lv_iload_n hx hb dX1_sidesThere_19 rfl (lv_at hl 1 rfl) ?_
          refine lv_iload_n hx hb dX1_sidesThere_20 rfl (lv_at hl 2 rfl) ?_
          refine lv_ishr hx hb dX1_sidesThere_21 ?_
          refine lv_iconst (v := nI 1) hx hb dX1_sidesThere_22 rfl ?_
          refine lv_iand hx hb dX1_sidesThere_23 ?_
          refine pb_tup (pb_bit (by first | assumption | omega) (by first | assumption | omega)) ?_
          refine lv_iconst (v := nI 1) hx hb dX1_sidesThere_24 rfl ?_
          refine pb_z1ne (tgt := 44) hx hb dX1_sidesThere_25 (by decide) (fun c25 => ?_) (fun c25 => ?_)
          · refine lv_iinc (v := nI (u + 1)) (lv' := [(2, .int (nI (u + 1))), (0, .ref (sg 0)), (1, .int (nI q))]) hx hb dX1_sidesThere_44 hl (k := 2) rfl (nI_1 _) (by decide) rfl (fun ls hl => ?_)
            refine lv_goto (tgt := 13) hx hb dX1_sidesThere_47 (by decide) ?_
            exact ih13 (u + 1) ls (by omega) (by omega) (lt_s hall (fun h => by rw [c25] at h; cases h)) (lv_sub hl [1, 2, 0] rfl)
          · refine lv_aload_n hx hb dX1_sidesThere_28 rfl (lv_at hl 0 rfl) ?_
            refine lv_iload_n hx hb dX1_sidesThere_29 rfl (lv_at hl 1 rfl) ?_
            refine lv_iconst (v := nI 1) hx hb dX1_sidesThere_30 rfl ?_
            refine lv_iload_n hx hb dX1_sidesThere_31 rfl (lv_at hl 2 rfl) ?_
            refine lv_ishl hx hb dX1_sidesThere_32 ?_
            refine pb_tup (pb_shl1 (by omega)) ?_
            refine lv_iconst (v := (-1)) hx hb dX1_sidesThere_33 (by decide) ?_
            refine lv_ixor hx hb dX1_sidesThere_34 ?_
            refine lv_iand hx hb dX1_sidesThere_35 ?_
            refine pb_top (nI (pb_rm q u)) (pb_side q hq.2 u (by omega)) ?_
            obtain ⟨v, hv⟩ := pb_At_ex n P (pb_rm q u) (-1)
            refine pb_afterQ (pb_runV (rC := (RX1, TX1, 3)) (ci := 1) (As := [.int (nI (pb_rm q u))]) (rest := []) C (ct_X1_find l D d sg n P b0 b1 hC hb0 (pb_rm q u) (pb_rm_lt q hq.2 u (by omega)) v hv) gw_X1_X1_find hd_X1_find ⟨rfl, rfl, Nat.le_of_ble_eq_true rfl, Nat.le_of_ble_eq_true rfl⟩ ⟨Nat.zero_le _, Nat.zero_le _⟩ hK hP rfl rfl hl.1 rfl (Nat.le_of_ble_eq_true rfl) dX1_sidesThere_36) ?_
            rcases hv with ⟨i0, hi0, hi1, rfl⟩ | ⟨hno, rfl⟩
            · refine pb_cge (tgt := 44) hx hb dX1_sidesThere_39 (by decide) (by first | assumption | omega) ?_
              refine lv_iinc (v := nI (u + 1)) (lv' := [(2, .int (nI (u + 1))), (0, .ref (sg 0)), (1, .int (nI q))]) hx hb dX1_sidesThere_44 hl (k := 2) rfl (nI_1 _) (by decide) rfl (fun ls hl => ?_)
              refine lv_goto (tgt := 13) hx hb dX1_sidesThere_47 (by decide) ?_
              exact ih13 (u + 1) ls (by omega) (by omega) (lt_s hall (fun _ => ⟨i0, hi0, hi1⟩)) (lv_sub hl [1, 2, 0] rfl)
            · refine pb_cgeN (tgt := 44) hx hb dX1_sidesThere_39 (by decide) (by decide) ?_
              refine lv_iconst (v := nI 0) hx hb dX1_sidesThere_42 rfl ?_
              exact pb_zret C (by rcases hok with ⟨rfl, h⟩ | ⟨rfl, h⟩; obtain ⟨i, h1, h2⟩ := h _ (pb_rm_fc q hq.2 u (by omega) c25 c6); exact absurd h2 (hno i h1); rfl) dX1_sidesThere_43
    exact loop13 7 0 ls (by omega) (by omega) (fun j h => absurd h (Nat.not_lt_zero _)) (lv_sub hl [1, 2, 0] rfl)
  · refine lv_iconst (v := nI 1) hx hb dX1_sidesThere_9 rfl ?_
    exact pb_zret C (by rcases hok with ⟨rfl, _⟩ | ⟨rfl, h⟩; rfl; exact absurd (fun r hr => by rw [pb_fc_one hq.2 c6] at hr; cases hr) h) dX1_sidesThere_10
set_option maxHeartbeats 4000000 in
set_option maxRecDepth 100000 in
/-- the sides of piece i -/
theorem ct_X1_sides (l : Launch) (D : va_G) (d : ClassId) (sg : Nat → Nat) (n : Nat) (P : Nat → Nat) (b0 b1 : Nat → Int32) (hC : pb_Cx n P) (hb0 : ∀ i, i < n → b0 i = nI (P i)) (i : Nat) (hi : i < n) : Met l yX1_sides (ws_ yX1_sides cX1_sides 4 (some .int)) (pb_ro 2) (va_Pc [.ref (sg 0), .int (nI i)] (pb_B D d (pb_mW sg d (nI n) b0 b1))) (pb_Q (nI (pb_col P i))) 0 0 pb_no := by
  refine pb_met RX1 (by decide) rfl (Nat.le_of_ble_eq_true rfl) rfl ?_
  intro p e s m below meth c ls C hnm hB hl
  obtain ⟨hx, hb, hml, hr, hown, hlk, hts⟩ := id C
  obtain ⟨hP, hK⟩ := hB
  have hl : lv_has ls 4 [(0, .ref (sg 0)), (1, .int (nI i))] := hl
  have hn26 := hC.1
  have hPi := pb_cx_pop hC hi
  refine lv_aload_n hx hb dX1_sides_0 rfl (lv_at hl 0 rfl) ?_
  refine lv_iload_n hx hb dX1_sides_1 rfl (lv_at hl 1 rfl) ?_
  refine pb_afterQ (pb_runV (rC := (RX1, TX1, 3)) (ci := 1) (As := [.int (nI i)]) (rest := []) C (ct_X1_dimension l D d sg n P b0 b1 hC hb0 i hi) gw_X1_X1_dimension hd_X1_dimension ⟨rfl, rfl, Nat.le_of_ble_eq_true rfl, Nat.le_of_ble_eq_true rfl⟩ ⟨Nat.zero_le _, Nat.zero_le _⟩ hK hP rfl rfl hl.1 rfl (Nat.le_of_ble_eq_true rfl) dX1_sides_2) ?_
  refine pb_cne (tgt := 10) hx hb dX1_sides_5 (by decide) (by first | assumption | omega) (fun c5 => ?_) (fun c5 => ?_)
  · refine lv_iconst (v := nI 0) hx hb dX1_sides_10 rfl ?_
    refine lv_istore_n (lv' := [(2, .int (nI 0)), (0, .ref (sg 0)), (1, .int (nI i))]) hx hb dX1_sides_11 rfl hl (by decide) rfl (fun ls hl => ?_)
    refine lv_iconst (v := nI 0) hx hb dX1_sides_12 rfl ?_
    refine lv_istore_n (lv' := [(3, .int (nI 0)), (2, .int (nI 0)), (0, .ref (sg 0)), (1, .int (nI i))]) hx hb dX1_sides_13 rfl hl (by decide) rfl (fun ls hl => ?_)
    have loop14 : ∀ (k14 : Nat) (j : Nat) (ls : Array Slot), (n < j + k14) → (j ≤ n) → lv_has ls 4 [(0, .ref (sg 0)), (1, .int (nI i)), (2, .int (nI (pb_orb (fun x => pb_fc (P x) (P i)) j))), (3, .int (nI j))] → W p l e (pb_ro 2) s m ([.ref (sg 0), .int (nI i)] : List Value).toArray below meth c s.heap [] 0 0 (MQ below (pb_Q (nI (pb_col P i))) ([.ref (sg 0), .int (nI i)] : List Value).toArray s 0 0 pb_no) (F0 m 14 ls []) := by
      intro k14
      induction k14 with
      | zero =>
        intro j ls hk hj hl
        omega
      | succ k14 ih14 =>
        intro j ls hk hj hl
        refine lv_iload_n hx hb dX1_sides_14 rfl (lv_at hl 3 rfl) ?_
        refine lv_aload_n hx hb dX1_sides_15 rfl (lv_at hl 0 rfl) ?_
        refine pb_gM0 C hK hP dX1_sides_16 ?_
        refine pb_ige (tgt := 77) hx hb dX1_sides_19 (by decide) (by first | assumption | omega) (by first | assumption | omega) (fun c19 => ?_) (fun c19 => ?_)
        · refine lv_iload_n hx hb dX1_sides_77 rfl (lv_at hl 2 rfl) ?_
          exact pb_iret C (by rw [show j = n by omega, pb_col_up hC hi]) dX1_sides_78
        · refine lv_iload_n hx hb dX1_sides_22 rfl (lv_at hl 3 rfl) ?_
          refine lv_bipush (v := nI 26) hx hb dX1_sides_23 rfl ?_
          refine pb_ige (tgt := 77) hx hb dX1_sides_25 (by decide) (by first | assumption | omega) (by first | assumption | omega) (fun c25 => absurd c25 (by omega)) (fun c25 => ?_)
          have hPj := pb_cx_pop hC (i := j) (by omega)
          refine lv_aload_n hx hb dX1_sides_28 rfl (lv_at hl 0 rfl) ?_
          refine lv_iload_n hx hb dX1_sides_29 rfl (lv_at hl 3 rfl) ?_
          refine pb_afterQ (pb_runV (rC := (RX1, TX1, 3)) (ci := 1) (As := [.int (nI j)]) (rest := []) C (ct_X1_dimension l D d sg n P b0 b1 hC hb0 j (by omega)) gw_X1_X1_dimension hd_X1_dimension ⟨rfl, rfl, Nat.le_of_ble_eq_true rfl, Nat.le_of_ble_eq_true rfl⟩ ⟨Nat.zero_le _, Nat.zero_le _⟩ hK hP rfl rfl hl.1 rfl (Nat.le_of_ble_eq_true rfl) dX1_sides_30) ?_
          refine lv_aload_n hx hb dX1_sides_33 rfl (lv_at hl 0 rfl) ?_
          refine lv_iload_n hx hb dX1_sides_34 rfl (lv_at hl 1 rfl) ?_
          refine pb_afterQ (pb_runV (rC := (RX1, TX1, 3)) (ci := 1) (As := [.int (nI i)]) (rest := [.int (nI (pb_pop (P j) - 1))]) C (ct_X1_dimension l D d sg n P b0 b1 hC hb0 i hi) gw_X1_X1_dimension hd_X1_dimension ⟨rfl, rfl, Nat.le_of_ble_eq_true rfl, Nat.le_of_ble_eq_true rfl⟩ ⟨Nat.zero_le _, Nat.zero_le _⟩ hK hP rfl rfl hl.1 rfl (Nat.le_of_ble_eq_true rfl) dX1_sides_35) ?_
          refine lv_iconst (v := nI 1) hx hb dX1_sides_38 rfl ?_
          refine lv_isub hx hb dX1_sides_39 ?_
          refine pb_top (nI (pb_pop (P i) - 1 - 1)) (pk_sub (by omega)) ?_
          refine pb_ine (tgt := 71) hx hb dX1_sides_40 (by decide) (by first | assumption | omega) (by first | assumption | omega) (fun c40 => ?_) (fun c40 => ?_)
          · have hl : lv_has ls 4 [(0, .ref (sg 0)), (1, .int (nI i)), (2, .int (nI (pb_orb (fun x => pb_fc (P x) (P i)) (j + 1)))), (3, .int (nI j))] := by have e9 : nI (pb_orb (fun x => pb_fc (P x) (P i)) j) = nI (pb_orb (fun x => pb_fc (P x) (P i)) (j + 1)) := (by rw [pb_orb_n (f := fun x => pb_fc (P x) (P i)) (j := j) (pb_fc_n2 (by omega))]); rw [← e9]; exact hl
            refine lv_iinc (v := nI (j + 1)) (lv' := [(3, .int (nI (j + 1))), (0, .ref (sg 0)), (1, .int (nI i)), (2, .int (nI (pb_orb (fun x => pb_fc (P x) (P i)) (j + 1))))]) hx hb dX1_sides_71 hl (k := 3) rfl (nI_1 _) (by decide) rfl (fun ls hl => ?_)
            refine lv_goto (tgt := 14) hx hb dX1_sides_74 (by decide) ?_
            exact ih14 (j + 1) ls (by omega) (by omega) (lv_sub hl [1, 2, 3, 0] rfl)
          · refine lv_aload_n hx hb dX1_sides_43 rfl (lv_at hl 0 rfl) ?_
            refine pb_gM1 C hK hP dX1_sides_44 ?_
            refine lv_iload_n hx hb dX1_sides_47 rfl (lv_at hl 3 rfl) ?_
            refine pb_ald (nI (P j)) C hK hP 1 rfl (by omega) (by decide) (hb0 j (by omega)) dX1_sides_48 ?_
            refine lv_aload_n hx hb dX1_sides_49 rfl (lv_at hl 0 rfl) ?_
            refine pb_gM1 C hK hP dX1_sides_50 ?_
            refine lv_iload_n hx hb dX1_sides_53 rfl (lv_at hl 1 rfl) ?_
            refine pb_ald (nI (P i)) C hK hP 1 rfl (by omega) (by decide) (hb0 i hi) dX1_sides_54 ?_
            refine lv_iand hx hb dX1_sides_55 ?_
            refine pb_tup (nx_and _ _) ?_
            refine lv_aload_n hx hb dX1_sides_56 rfl (lv_at hl 0 rfl) ?_
            refine pb_gM1 C hK hP dX1_sides_57 ?_
            refine lv_iload_n hx hb dX1_sides_60 rfl (lv_at hl 3 rfl) ?_
            refine pb_ald (nI (P j)) C hK hP 1 rfl (by omega) (by decide) (hb0 j (by omega)) dX1_sides_61 ?_
            refine pb_ine (tgt := 71) hx hb dX1_sides_62 (by decide) (by have := Nat.and_le_left (n := P j) (m := P i); omega) (by omega) (fun c62 => ?_) (fun c62 => ?_)
            · have hl : lv_has ls 4 [(0, .ref (sg 0)), (1, .int (nI i)), (2, .int (nI (pb_orb (fun x => pb_fc (P x) (P i)) (j + 1)))), (3, .int (nI j))] := by have e9 : nI (pb_orb (fun x => pb_fc (P x) (P i)) j) = nI (pb_orb (fun x => pb_fc (P x) (P i)) (j + 1)) := (by rw [pb_orb_n (f := fun x => pb_fc (P x) (P i)) (j := j) (pb_fc_n1 c62)]); rw [← e9]; exact hl
              refine lv_iinc (v := nI (j + 1)) (lv' := [(3, .int (nI (j + 1))), (0, .ref (sg 0)), (1, .int (nI i)), (2, .int (nI (pb_orb (fun x => pb_fc (P x) (P i)) (j + 1))))]) hx hb dX1_sides_71 hl (k := 3) rfl (nI_1 _) (by decide) rfl (fun ls hl => ?_)
              refine lv_goto (tgt := 14) hx hb dX1_sides_74 (by decide) ?_
              exact ih14 (j + 1) ls (by omega) (by omega) (lv_sub hl [1, 2, 3, 0] rfl)
            · refine lv_iload_n hx hb dX1_sides_65 rfl (lv_at hl 2 rfl) ?_
              refine lv_iconst (v := nI 1) hx hb dX1_sides_66 rfl ?_
              refine lv_iload_n hx hb dX1_sides_67 rfl (lv_at hl 3 rfl) ?_
              refine lv_ishl hx hb dX1_sides_68 ?_
              refine pb_tup (pb_shl1 (by omega)) ?_
              refine lv_ior hx hb dX1_sides_69 ?_
              refine pb_top (nI (pb_orb (fun x => pb_fc (P x) (P i)) (j + 1))) (pb_orb_y (pb_fc_i hPj.1 c62 (by omega))) ?_
              refine lv_istore_n (lv' := [(2, .int (nI (pb_orb (fun x => pb_fc (P x) (P i)) (j + 1)))), (0, .ref (sg 0)), (1, .int (nI i)), (3, .int (nI j))]) hx hb dX1_sides_70 rfl hl (by decide) rfl (fun ls hl => ?_)
              refine lv_iinc (v := nI (j + 1)) (lv' := [(3, .int (nI (j + 1))), (2, .int (nI (pb_orb (fun x => pb_fc (P x) (P i)) (j + 1)))), (0, .ref (sg 0)), (1, .int (nI i))]) hx hb dX1_sides_71 hl (k := 3) rfl (nI_1 _) (by decide) rfl (fun ls hl => ?_)
              refine lv_goto (tgt := 14) hx hb dX1_sides_74 (by decide) ?_
              exact ih14 (j + 1) ls (by omega) (by omega) (lv_sub hl [2, 3, 1, 0] rfl)
    exact loop14 (n + 1) 0 ls (by omega) (by omega) (lv_sub hl [2, 3, 1, 0] rfl)
  · refine lv_iconst (v := nI 0) hx hb dX1_sides_8 rfl ?_
    exact pb_iret C (by rw [pb_col_v hC hi (by omega)]) dX1_sides_9
set_option maxHeartbeats 4000000 in
set_option maxRecDepth 100000 in
/-- the border of a chain -/
theorem ct_X1_edge (l : Launch) (D : va_G) (d : ClassId) (sg : Nat → Nat) (n : Nat) (P : Nat → Nat) (b0 b1 : Nat → Int32) (hC : pb_Cx n P) (hb0 : ∀ i, i < n → b0 i = nI (P i)) (ch : Nat) (hch : ch < 2 ^ n) : Met l yX1_edge (ws_ yX1_edge cX1_edge 4 (some .int)) (pb_ro 3) (va_Pc [.ref (sg 0), .int (nI ch)] (pb_B D d (pb_mW sg d (nI n) b0 b1))) (pb_Q (nI (pb_bd P n ch))) 0 0 pb_no := by
  refine pb_met RX1 (by decide) rfl (Nat.le_of_ble_eq_true rfl) rfl ?_
  intro p e s m below meth c ls C hnm hB hl
  obtain ⟨hx, hb, hml, hr, hown, hlk, hts⟩ := id C
  obtain ⟨hP, hK⟩ := hB
  have hl : lv_has ls 4 [(0, .ref (sg 0)), (1, .int (nI ch))] := hl
  have hn26 := hC.1
  have hch2 : ch < 2 ^ 31 := Nat.lt_of_lt_of_le hch (Nat.pow_le_pow_right (by decide) (by omega))
  refine lv_iconst (v := nI 0) hx hb dX1_edge_0 rfl ?_
  refine lv_istore_n (lv' := [(2, .int (nI 0)), (0, .ref (sg 0)), (1, .int (nI ch))]) hx hb dX1_edge_1 rfl hl (by decide) rfl (fun ls hl => ?_)
  refine lv_iconst (v := nI 0) hx hb dX1_edge_2 rfl ?_
  refine lv_istore_n (lv' := [(3, .int (nI 0)), (2, .int (nI 0)), (0, .ref (sg 0)), (1, .int (nI ch))]) hx hb dX1_edge_3 rfl hl (by decide) rfl (fun ls hl => ?_)
  have loop4 : ∀ (k4 : Nat) (i : Nat) (ls : Array Slot), (n < i + k4) → (i ≤ n) → lv_has ls 4 [(0, .ref (sg 0)), (1, .int (nI ch)), (2, .int (nI (pb_cb (pb_col P) (fun j => ch.testBit j) i))), (3, .int (nI i))] → W p l e (pb_ro 3) s m ([.ref (sg 0), .int (nI ch)] : List Value).toArray below meth c s.heap [] 0 0 (MQ below (pb_Q (nI (pb_bd P n ch))) ([.ref (sg 0), .int (nI ch)] : List Value).toArray s 0 0 pb_no) (F0 m 4 ls []) := by
    intro k4
    induction k4 with
    | zero =>
      intro i ls hk hi hl
      omega
    | succ k4 ih4 =>
      intro i ls hk hi hl
      refine lv_iload_n hx hb dX1_edge_4 rfl (lv_at hl 3 rfl) ?_
      refine lv_aload_n hx hb dX1_edge_5 rfl (lv_at hl 0 rfl) ?_
      refine pb_gM0 C hK hP dX1_edge_6 ?_
      refine pb_ige (tgt := 35) hx hb dX1_edge_9 (by decide) (by first | assumption | omega) (by first | assumption | omega) (fun c9 => ?_) (fun c9 => ?_)
      · refine lv_iload_n hx hb dX1_edge_35 rfl (lv_at hl 2 rfl) ?_
        exact pb_iret C (by rw [show i = n by omega]; rfl) dX1_edge_36
      · refine lv_iload_n hx hb dX1_edge_12 rfl (lv_at hl 1 rfl) ?_
        refine lv_iload_n hx hb dX1_edge_13 rfl (lv_at hl 3 rfl) ?_
        refine lv_ishr hx hb dX1_edge_14 ?_
        refine lv_iconst (v := nI 1) hx hb dX1_edge_15 rfl ?_
        refine lv_iand hx hb dX1_edge_16 ?_
        refine pb_tup (pb_bit (by first | assumption | omega) (by first | assumption | omega)) ?_
        refine lv_iconst (v := nI 1) hx hb dX1_edge_17 rfl ?_
        refine pb_z1ne (tgt := 29) hx hb dX1_edge_18 (by decide) (fun c18 => ?_) (fun c18 => ?_)
        · have hl : lv_has ls 4 [(0, .ref (sg 0)), (1, .int (nI ch)), (2, .int (nI (pb_cb (pb_col P) (fun j => ch.testBit j) (i + 1)))), (3, .int (nI i))] := by have e9 : nI (pb_cb (pb_col P) (fun j => ch.testBit j) i) = nI (pb_cb (pb_col P) (fun j => ch.testBit j) (i + 1)) := (by rw [pb_cb_n (c := fun j => ch.testBit j) c18]); rw [← e9]; exact hl
          refine lv_iinc (v := nI (i + 1)) (lv' := [(3, .int (nI (i + 1))), (0, .ref (sg 0)), (1, .int (nI ch)), (2, .int (nI (pb_cb (pb_col P) (fun j => ch.testBit j) (i + 1))))]) hx hb dX1_edge_29 hl (k := 3) rfl (nI_1 _) (by decide) rfl (fun ls hl => ?_)
          refine lv_goto (tgt := 4) hx hb dX1_edge_32 (by decide) ?_
          exact ih4 (i + 1) ls (by omega) (by omega) (lv_sub hl [1, 2, 3, 0] rfl)
        · refine lv_iload_n hx hb dX1_edge_21 rfl (lv_at hl 2 rfl) ?_
          refine lv_aload_n hx hb dX1_edge_22 rfl (lv_at hl 0 rfl) ?_
          refine lv_iload_n hx hb dX1_edge_23 rfl (lv_at hl 3 rfl) ?_
          refine pb_afterQ (pb_runV (rC := (RX1, TX1, 3)) (ci := 1) (As := [.int (nI i)]) (rest := [.int (nI (pb_cb (pb_col P) (fun j => ch.testBit j) i))]) C (ct_X1_sides l D d sg n P b0 b1 hC hb0 i (by omega)) gw_X1_X1_sides hd_X1_sides ⟨rfl, rfl, Nat.le_of_ble_eq_true rfl, Nat.le_of_ble_eq_true rfl⟩ ⟨Nat.zero_le _, Nat.zero_le _⟩ hK hP rfl rfl hl.1 rfl (Nat.le_of_ble_eq_true rfl) dX1_edge_24) ?_
          refine lv_ixor hx hb dX1_edge_27 ?_
          refine pb_top (nI (pb_cb (pb_col P) (fun j => ch.testBit j) (i + 1))) (pb_cb_y (c := fun j => ch.testBit j) c18) ?_
          refine lv_istore_n (lv' := [(2, .int (nI (pb_cb (pb_col P) (fun j => ch.testBit j) (i + 1)))), (0, .ref (sg 0)), (1, .int (nI ch)), (3, .int (nI i))]) hx hb dX1_edge_28 rfl hl (by decide) rfl (fun ls hl => ?_)
          refine lv_iinc (v := nI (i + 1)) (lv' := [(3, .int (nI (i + 1))), (2, .int (nI (pb_cb (pb_col P) (fun j => ch.testBit j) (i + 1)))), (0, .ref (sg 0)), (1, .int (nI ch))]) hx hb dX1_edge_29 hl (k := 3) rfl (nI_1 _) (by decide) rfl (fun ls hl => ?_)
          refine lv_goto (tgt := 4) hx hb dX1_edge_32 (by decide) ?_
          exact ih4 (i + 1) ls (by omega) (by omega) (lv_sub hl [2, 3, 1, 0] rfl)
  exact loop4 (n + 1) 0 ls (by omega) (by omega) (lv_sub hl [2, 3, 1, 0] rfl)
theorem pb_cd_none {n ch : Nat} {P : Nat → Nat} {v : Int32} (hv : pb_ChD P ch v) (hch : ch < 2 ^ n) (h : ∀ j, j < n → ch.testBit j = false) : -1 = v := by
  have e : ch = 0 := by
    apply Nat.eq_of_testBit_eq
    intro j
    rw [Nat.zero_testBit]
    rcases Nat.lt_or_ge j n with q | q
    · exact h j q
    · cases hj : ch.testBit j
      · rfl
      · have := pb_ch_lt hch hj
        omega
  rcases hv with ⟨_, rfl⟩ | ⟨k, hne, _⟩ | ⟨h2, _⟩
  · rfl
  · exact absurd e hne
  · exact absurd (fun j hj => by rw [e, Nat.zero_testBit] at hj; cases hj) (h2 0)
theorem pb_cd_one {n ch k j0 : Nat} {P : Nat → Nat} {v : Int32} (hv : pb_ChD P ch v) (hch : ch < 2 ^ n) (hj0 : ch.testBit j0 = true) (h : ∀ j, j < n → ch.testBit j = true → pb_pop (P j) = k + 1) : nI k = v := by
  have hH : pb_Hm P ch (k + 1) := fun j hj => h j (pb_ch_lt hch hj) hj
  rcases hv with ⟨e, rfl⟩ | ⟨k2, hne, h2, rfl⟩ | ⟨h2, _⟩
  · rw [e, Nat.zero_testBit] at hj0
    cases hj0
  · have e1 := hH j0 hj0
    have e2 := h2 j0 hj0
    rw [show k = k2 by omega]
  · exact absurd hH (h2 (k + 1))
theorem pb_cd_mix {i ch k j0 : Nat} {P : Nat → Nat} {v : Int32} (hv : pb_ChD P ch v) (hj0 : ch.testBit j0 = true) (hi : ch.testBit i = true) (h : ∀ j, j < i → ch.testBit j = true → pb_pop (P j) = k + 1) (hne : j0 < i ∧ pb_pop (P i) ≠ k + 1) : -2 = v := by
  rcases hv with ⟨e, rfl⟩ | ⟨k2, _, h2, rfl⟩ | ⟨h2, rfl⟩
  · rw [e, Nat.zero_testBit] at hj0
    cases hj0
  · have e1 := h2 j0 hj0
    have e2 := h2 i hi
    have e3 := h j0 hne.1 hj0
    omega
  · rfl
set_option maxHeartbeats 4000000 in
set_option maxRecDepth 100000 in
theorem ct_X1_chainDimension (l : Launch) (D : va_G) (d : ClassId) (sg : Nat → Nat) (n : Nat) (P : Nat → Nat) (b0 b1 : Nat → Int32) (hC : pb_Cx n P) (hb0 : ∀ i, i < n → b0 i = nI (P i)) (ch : Nat) (hch : ch < 2 ^ n) (v : Int32) (hv : pb_ChD P ch v) : Met l yX1_chainDimension (ws_ yX1_chainDimension cX1_chainDimension 4 (some .int)) (pb_ro 2) (va_Pc [.ref (sg 0), .int (nI ch)] (pb_B D d (pb_mW sg d (nI n) b0 b1))) (pb_Q v) 0 0 pb_no := by
  refine pb_met RX1 (by decide) rfl (Nat.le_of_ble_eq_true rfl) rfl ?_
  intro p e s m below meth c ls C hnm hB hl
  obtain ⟨hx, hb, hml, hr, hown, hlk, hts⟩ := id C
  obtain ⟨hP, hK⟩ := hB
  have hl : lv_has ls 4 [(0, .ref (sg 0)), (1, .int (nI ch))] := hl
  have hn26 := hC.1
  have hch2 : ch < 2 ^ 31 := Nat.lt_of_lt_of_le hch (Nat.pow_le_pow_right (by decide) (by omega))
  refine lv_iconst (v := (-1)) hx hb dX1_chainDimension_0 (by decide) ?_
  refine lv_istore_n (lv' := [(2, .int (-1)), (0, .ref (sg 0)), (1, .int (nI ch))]) hx hb dX1_chainDimension_1 rfl hl (by decide) rfl (fun ls hl => ?_)
  refine lv_iconst (v := nI 0) hx hb dX1_chainDimension_2 rfl ?_
  refine lv_istore_n (lv' := [(3, .int (nI 0)), (2, .int (-1)), (0, .ref (sg 0)), (1, .int (nI ch))]) hx hb dX1_chainDimension_3 rfl hl (by decide) rfl (fun ls hl => ?_)
  have loop4 : ∀ (k4 : Nat) (i : Nat) (kv : Int32) (ls : Array Slot), (n < i + k4) → (i ≤ n) → ((kv = -1 ∧ ∀ j, j < i → ch.testBit j = false) ∨ ∃ k, k < 2 ^ 30 ∧ kv = nI k ∧ ∃ j0, ch.testBit j0 = true ∧ j0 < i ∧ ∀ j, j < i → ch.testBit j = true → pb_pop (P j) = k + 1) → lv_has ls 4 [(0, .ref (sg 0)), (1, .int (nI ch)), (2, .int kv), (3, .int (nI i))] → W p l e (pb_ro 2) s m ([.ref (sg 0), .int (nI ch)] : List Value).toArray below meth c s.heap [] 0 0 (MQ below (pb_Q v) ([.ref (sg 0), .int (nI ch)] : List Value).toArray s 0 0 pb_no) (F0 m 4 ls []) := by
    intro k4
    induction k4 with
    | zero =>
      intro i kv ls hk hi hkv hl
      omega
    | succ k4 ih4 =>
      intro i kv ls hk hi hkv hl
      rcases hkv with ⟨rfl, hno⟩ | ⟨k, hk4, rfl, j0, hj0, hj1, hall⟩
      · refine lv_iload_n hx hb dX1_chainDimension_4 rfl (lv_at hl 3 rfl) ?_
        refine lv_aload_n hx hb dX1_chainDimension_5 rfl (lv_at hl 0 rfl) ?_
        refine pb_gM0 C hK hP dX1_chainDimension_6 ?_
        refine pb_ige (tgt := 55) hx hb dX1_chainDimension_9 (by decide) (by first | assumption | omega) (by first | assumption | omega) (fun c9 => ?_) (fun c9 => ?_)
        · refine lv_iload_n hx hb dX1_chainDimension_55 rfl (lv_at hl 2 rfl) ?_
          exact pb_iret C (pb_cd_none hv hch (fun j h => hno j (by omega))) dX1_chainDimension_56
        · refine lv_iload_n hx hb dX1_chainDimension_12 rfl (lv_at hl 3 rfl) ?_
          refine lv_bipush (v := nI 26) hx hb dX1_chainDimension_13 rfl ?_
          refine pb_ige (tgt := 55) hx hb dX1_chainDimension_15 (by decide) (by first | assumption | omega) (by first | assumption | omega) (fun c15 => absurd c15 (by omega)) (fun c15 => ?_)
          have hPi := pb_cx_pop hC (i := i) (by omega)
          refine lv_iload_n hx hb dX1_chainDimension_18 rfl (lv_at hl 1 rfl) ?_
          refine lv_iload_n hx hb dX1_chainDimension_19 rfl (lv_at hl 3 rfl) ?_
          refine lv_ishr hx hb dX1_chainDimension_20 ?_
          refine lv_iconst (v := nI 1) hx hb dX1_chainDimension_21 rfl ?_
          refine lv_iand hx hb dX1_chainDimension_22 ?_
          refine pb_tup (pb_bit (by first | assumption | omega) (by first | assumption | omega)) ?_
          refine lv_iconst (v := nI 1) hx hb dX1_chainDimension_23 rfl ?_
          refine pb_z1ne (tgt := 49) hx hb dX1_chainDimension_24 (by decide) (fun c24 => ?_) (fun c24 => ?_)
          · refine lv_iinc (v := nI (i + 1)) (lv' := [(3, .int (nI (i + 1))), (0, .ref (sg 0)), (1, .int (nI ch)), (2, .int (-1))]) hx hb dX1_chainDimension_49 hl (k := 3) rfl (nI_1 _) (by decide) rfl (fun ls hl => ?_)
            refine lv_goto (tgt := 4) hx hb dX1_chainDimension_52 (by decide) ?_
            exact ih4 (i + 1) (-1) ls (by omega) (by omega) (Or.inl ⟨rfl, lt_s hno c24⟩) (lv_sub hl [1, 2, 3, 0] rfl)
          · refine lv_iload_n hx hb dX1_chainDimension_27 rfl (lv_at hl 2 rfl) ?_
            refine pb_cltN (tgt := 43) hx hb dX1_chainDimension_28 (by decide) (by decide) ?_
            refine lv_aload_n hx hb dX1_chainDimension_43 rfl (lv_at hl 0 rfl) ?_
            refine lv_iload_n hx hb dX1_chainDimension_44 rfl (lv_at hl 3 rfl) ?_
            refine pb_afterQ (pb_runV (rC := (RX1, TX1, 3)) (ci := 1) (As := [.int (nI i)]) (rest := []) C (ct_X1_dimension l D d sg n P b0 b1 hC hb0 i (by omega)) gw_X1_X1_dimension hd_X1_dimension ⟨rfl, rfl, Nat.le_of_ble_eq_true rfl, Nat.le_of_ble_eq_true rfl⟩ ⟨Nat.zero_le _, Nat.zero_le _⟩ hK hP rfl rfl hl.1 rfl (Nat.le_of_ble_eq_true rfl) dX1_chainDimension_45) ?_
            refine lv_istore_n (lv' := [(2, .int (nI (pb_pop (P i) - 1))), (0, .ref (sg 0)), (1, .int (nI ch)), (3, .int (nI i))]) hx hb dX1_chainDimension_48 rfl hl (by decide) rfl (fun ls hl => ?_)
            refine lv_iinc (v := nI (i + 1)) (lv' := [(3, .int (nI (i + 1))), (2, .int (nI (pb_pop (P i) - 1))), (0, .ref (sg 0)), (1, .int (nI ch))]) hx hb dX1_chainDimension_49 hl (k := 3) rfl (nI_1 _) (by decide) rfl (fun ls hl => ?_)
            refine lv_goto (tgt := 4) hx hb dX1_chainDimension_52 (by decide) ?_
            exact ih4 (i + 1) (nI (pb_pop (P i) - 1)) ls (by omega) (by omega) (Or.inr ⟨pb_pop (P i) - 1, by omega, rfl, i, c24, by omega, lt_s (fun j h h2 => by rw [hno j h] at h2; cases h2) (fun _ => by omega)⟩) (lv_sub hl [2, 3, 1, 0] rfl)
      · refine lv_iload_n hx hb dX1_chainDimension_4 rfl (lv_at hl 3 rfl) ?_
        refine lv_aload_n hx hb dX1_chainDimension_5 rfl (lv_at hl 0 rfl) ?_
        refine pb_gM0 C hK hP dX1_chainDimension_6 ?_
        refine pb_ige (tgt := 55) hx hb dX1_chainDimension_9 (by decide) (by first | assumption | omega) (by first | assumption | omega) (fun c9 => ?_) (fun c9 => ?_)
        · refine lv_iload_n hx hb dX1_chainDimension_55 rfl (lv_at hl 2 rfl) ?_
          exact pb_iret C (pb_cd_one hv hch hj0 (fun j h => hall j (by omega))) dX1_chainDimension_56
        · refine lv_iload_n hx hb dX1_chainDimension_12 rfl (lv_at hl 3 rfl) ?_
          refine lv_bipush (v := nI 26) hx hb dX1_chainDimension_13 rfl ?_
          refine pb_ige (tgt := 55) hx hb dX1_chainDimension_15 (by decide) (by first | assumption | omega) (by first | assumption | omega) (fun c15 => absurd c15 (by omega)) (fun c15 => ?_)
          have hPi := pb_cx_pop hC (i := i) (by omega)
          refine lv_iload_n hx hb dX1_chainDimension_18 rfl (lv_at hl 1 rfl) ?_
          refine lv_iload_n hx hb dX1_chainDimension_19 rfl (lv_at hl 3 rfl) ?_
          refine lv_ishr hx hb dX1_chainDimension_20 ?_
          refine lv_iconst (v := nI 1) hx hb dX1_chainDimension_21 rfl ?_
          refine lv_iand hx hb dX1_chainDimension_22 ?_
          refine pb_tup (pb_bit (by first | assumption | omega) (by first | assumption | omega)) ?_
          refine lv_iconst (v := nI 1) hx hb dX1_chainDimension_23 rfl ?_
          refine pb_z1ne (tgt := 49) hx hb dX1_chainDimension_24 (by decide) (fun c24 => ?_) (fun c24 => ?_)
          · refine lv_iinc (v := nI (i + 1)) (lv' := [(3, .int (nI (i + 1))), (0, .ref (sg 0)), (1, .int (nI ch)), (2, .int (nI k))]) hx hb dX1_chainDimension_49 hl (k := 3) rfl (nI_1 _) (by decide) rfl (fun ls hl => ?_)
            refine lv_goto (tgt := 4) hx hb dX1_chainDimension_52 (by decide) ?_
            exact ih4 (i + 1) (nI k) ls (by omega) (by omega) (Or.inr ⟨k, hk4, rfl, j0, hj0, by omega, lt_s hall (fun h => by rw [c24] at h; cases h)⟩) (lv_sub hl [1, 2, 3, 0] rfl)
          · refine lv_iload_n hx hb dX1_chainDimension_27 rfl (lv_at hl 2 rfl) ?_
            refine pb_clt (tgt := 43) hx hb dX1_chainDimension_28 (by decide) (by first | assumption | omega) ?_
            refine lv_aload_n hx hb dX1_chainDimension_31 rfl (lv_at hl 0 rfl) ?_
            refine lv_iload_n hx hb dX1_chainDimension_32 rfl (lv_at hl 3 rfl) ?_
            refine pb_afterQ (pb_runV (rC := (RX1, TX1, 3)) (ci := 1) (As := [.int (nI i)]) (rest := []) C (ct_X1_dimension l D d sg n P b0 b1 hC hb0 i (by omega)) gw_X1_X1_dimension hd_X1_dimension ⟨rfl, rfl, Nat.le_of_ble_eq_true rfl, Nat.le_of_ble_eq_true rfl⟩ ⟨Nat.zero_le _, Nat.zero_le _⟩ hK hP rfl rfl hl.1 rfl (Nat.le_of_ble_eq_true rfl) dX1_chainDimension_33) ?_
            refine lv_iload_n hx hb dX1_chainDimension_36 rfl (lv_at hl 2 rfl) ?_
            refine pb_ieq (tgt := 43) hx hb dX1_chainDimension_37 (by decide) (by first | assumption | omega) (by first | assumption | omega) (fun c37 => ?_) (fun c37 => ?_)
            · refine lv_aload_n hx hb dX1_chainDimension_43 rfl (lv_at hl 0 rfl) ?_
              refine lv_iload_n hx hb dX1_chainDimension_44 rfl (lv_at hl 3 rfl) ?_
              refine pb_afterQ (pb_runV (rC := (RX1, TX1, 3)) (ci := 1) (As := [.int (nI i)]) (rest := []) C (ct_X1_dimension l D d sg n P b0 b1 hC hb0 i (by omega)) gw_X1_X1_dimension hd_X1_dimension ⟨rfl, rfl, Nat.le_of_ble_eq_true rfl, Nat.le_of_ble_eq_true rfl⟩ ⟨Nat.zero_le _, Nat.zero_le _⟩ hK hP rfl rfl hl.1 rfl (Nat.le_of_ble_eq_true rfl) dX1_chainDimension_45) ?_
              refine lv_istore_n (lv' := [(2, .int (nI (pb_pop (P i) - 1))), (0, .ref (sg 0)), (1, .int (nI ch)), (3, .int (nI i))]) hx hb dX1_chainDimension_48 rfl hl (by decide) rfl (fun ls hl => ?_)
              refine lv_iinc (v := nI (i + 1)) (lv' := [(3, .int (nI (i + 1))), (2, .int (nI (pb_pop (P i) - 1))), (0, .ref (sg 0)), (1, .int (nI ch))]) hx hb dX1_chainDimension_49 hl (k := 3) rfl (nI_1 _) (by decide) rfl (fun ls hl => ?_)
              refine lv_goto (tgt := 4) hx hb dX1_chainDimension_52 (by decide) ?_
              exact ih4 (i + 1) (nI (pb_pop (P i) - 1)) ls (by omega) (by omega) (Or.inr ⟨pb_pop (P i) - 1, by omega, rfl, j0, hj0, by omega, lt_s (fun j h h2 => by have := hall j h h2; omega) (fun _ => by omega)⟩) (lv_sub hl [2, 3, 1, 0] rfl)
            · refine lv_bipush (v := (-2)) hx hb dX1_chainDimension_40 (by decide) ?_
              exact pb_iret C (pb_cd_mix hv hj0 c24 hall (by omega)) dX1_chainDimension_42
  exact loop4 (n + 1) 0 (-1) ls (by omega) (by omega) (Or.inl ⟨rfl, fun j h => absurd h (Nat.not_lt_zero _)⟩) (lv_sub hl [2, 3, 1, 0] rfl)
theorem pb_cd_ev {ch : Nat} {P : Nat → Nat} {v : Int32} (hv : pb_ChD P ch v) (he : pb_okE P ch true) : ¬ v = -2 := by
  rcases hv with ⟨e, rfl⟩ | ⟨k2, hne, h2, rfl⟩ | ⟨h2, rfl⟩
  · decide
  · rcases he with ⟨_, k, h3, h4, h5⟩ | ⟨h, _⟩
    · obtain ⟨j, hj⟩ := Nat.exists_testBit_of_ne_zero hne
      have e1 := h2 j hj
      have e2 := h5 j hj
      exact pb_n_ne2 (by omega)
    · cases h
  · rcases he with ⟨_, k, h3, h4, h5⟩ | ⟨h, _⟩
    · exact absurd h5 (h2 k)
    · cases h
theorem pb_cd_odd {ch : Nat} {P : Nat → Nat} {v : Int32} (hv : pb_ChD P ch v) (he : pb_okE P ch false) : v = -2 := by
  have hno : ∀ k, ¬ pb_Hm P ch k := by
    rcases he with ⟨h, _⟩ | ⟨_, h⟩
    · cases h
    · exact h
  rcases hv with ⟨e, rfl⟩ | ⟨k2, _, h2, rfl⟩ | ⟨h2, rfl⟩
  · exact absurd (fun j hj => by rw [e, Nat.zero_testBit] at hj; cases hj) (hno 0)
  · exact absurd h2 (hno _)
  · rfl
set_option maxHeartbeats 4000000 in
set_option maxRecDepth 100000 in
theorem ct_X1_border (l : Launch) (D : va_G) (d : ClassId) (sg : Nat → Nat) (n : Nat) (P : Nat → Nat) (b0 b1 : Nat → Int32) (hC : pb_Cx n P) (hb0 : ∀ i, i < n → b0 i = nI (P i)) (x r : Int32) (hr9 : pb_BorderS n P x r) : Met l yX1_border (ws_ yX1_border cX1_border 2 (some .int)) (pb_ro 4) (va_Pc [.ref (sg 0), .int x] (pb_B D d (pb_mW sg d (nI n) b0 b1))) (pb_Q r) 0 0 pb_no := by
  refine pb_met RX1 (by decide) rfl (Nat.le_of_ble_eq_true rfl) rfl ?_
  intro p e s m below meth c ls C hnm hB hl
  obtain ⟨hx, hb, hml, hr, hown, hlk, hts⟩ := id C
  obtain ⟨hP, hK⟩ := hB
  have hl : lv_has ls 2 [(0, .ref (sg 0)), (1, .int x)] := hl
  have hn26 := hC.1
  have h2n : 2 ^ n < 2 ^ 31 := Nat.pow_lt_pow_right (by decide) (by omega)
  rcases hr9 with ⟨hxb | ⟨_, hx1⟩ | ⟨_, i, hi, hi2, rfl⟩, rfl⟩ | ⟨ch, hch, rfl, hev, rfl⟩ | ⟨ch, hch, rfl, hev, rfl⟩
  · exact absurd hxb.1 (by decide)
  · refine lv_iload_n hx hb dX1_border_0 rfl (lv_at hl 1 rfl) ?_
    refine lv_if_lt (tgt := 14) hx hb dX1_border_1 (by decide) (fun c1 => ?_) (fun c1 => absurd hx1 c1)
    refine lv_iconst (v := (-1)) hx hb dX1_border_14 (by decide) ?_
    exact pb_iret C (rfl) dX1_border_15
  · refine lv_iload_n hx hb dX1_border_0 rfl (lv_at hl 1 rfl) ?_
    refine pb_clt (tgt := 14) hx hb dX1_border_1 (by decide) (by first | assumption | omega) ?_
    refine lv_iload_n hx hb dX1_border_4 rfl (lv_at hl 1 rfl) ?_
    refine lv_iconst (v := nI 1) hx hb dX1_border_5 rfl ?_
    refine lv_aload_n hx hb dX1_border_6 rfl (lv_at hl 0 rfl) ?_
    refine pb_gM0 C hK hP dX1_border_7 ?_
    refine lv_ishl hx hb dX1_border_10 ?_
    refine pb_tup (pb_shl1 (by omega)) ?_
    refine pb_ilt (tgt := 16) hx hb dX1_border_11 (by decide) (by first | assumption | omega) (by first | assumption | omega) (fun c11 => absurd c11 (by omega)) (fun c11 => ?_)
    refine lv_iconst (v := (-1)) hx hb dX1_border_14 (by decide) ?_
    exact pb_iret C (rfl) dX1_border_15
  · obtain ⟨v, hv⟩ := pb_ChD_ex hC hch
    refine lv_iload_n hx hb dX1_border_0 rfl (lv_at hl 1 rfl) ?_
    refine pb_clt (tgt := 14) hx hb dX1_border_1 (by decide) (by first | assumption | omega) ?_
    refine lv_iload_n hx hb dX1_border_4 rfl (lv_at hl 1 rfl) ?_
    refine lv_iconst (v := nI 1) hx hb dX1_border_5 rfl ?_
    refine lv_aload_n hx hb dX1_border_6 rfl (lv_at hl 0 rfl) ?_
    refine pb_gM0 C hK hP dX1_border_7 ?_
    refine lv_ishl hx hb dX1_border_10 ?_
    refine pb_tup (pb_shl1 (by omega)) ?_
    refine pb_ilt (tgt := 16) hx hb dX1_border_11 (by decide) (by first | assumption | omega) (by first | assumption | omega) (fun c11 => ?_) (fun c11 => absurd c11 (by omega))
    refine lv_aload_n hx hb dX1_border_16 rfl (lv_at hl 0 rfl) ?_
    refine lv_iload_n hx hb dX1_border_17 rfl (lv_at hl 1 rfl) ?_
    refine pb_afterQ (pb_runV (rC := (RX1, TX1, 3)) (ci := 1) (As := [.int (nI ch)]) (rest := []) C (ct_X1_chainDimension l D d sg n P b0 b1 hC hb0 ch hch v hv) gw_X1_X1_chainDimension hd_X1_chainDimension ⟨rfl, rfl, Nat.le_of_ble_eq_true rfl, Nat.le_of_ble_eq_true rfl⟩ ⟨Nat.zero_le _, Nat.zero_le _⟩ hK hP rfl rfl hl.1 rfl (Nat.le_of_ble_eq_true rfl) dX1_border_18) ?_
    refine lv_bipush (v := (-2)) hx hb dX1_border_21 (by decide) ?_
    refine lv_icmp_ne (tgt := 31) hx hb dX1_border_23 (by decide) (fun c23 => absurd (pb_cd_odd hv hev) c23) (fun c23 => ?_)
    refine lv_bipush (v := (-2)) hx hb dX1_border_26 (by decide) ?_
    refine lv_goto (tgt := 36) hx hb dX1_border_28 (by decide) ?_
    exact pb_iret C (rfl) dX1_border_36
  · obtain ⟨v, hv⟩ := pb_ChD_ex hC hch
    refine lv_iload_n hx hb dX1_border_0 rfl (lv_at hl 1 rfl) ?_
    refine pb_clt (tgt := 14) hx hb dX1_border_1 (by decide) (by first | assumption | omega) ?_
    refine lv_iload_n hx hb dX1_border_4 rfl (lv_at hl 1 rfl) ?_
    refine lv_iconst (v := nI 1) hx hb dX1_border_5 rfl ?_
    refine lv_aload_n hx hb dX1_border_6 rfl (lv_at hl 0 rfl) ?_
    refine pb_gM0 C hK hP dX1_border_7 ?_
    refine lv_ishl hx hb dX1_border_10 ?_
    refine pb_tup (pb_shl1 (by omega)) ?_
    refine pb_ilt (tgt := 16) hx hb dX1_border_11 (by decide) (by first | assumption | omega) (by first | assumption | omega) (fun c11 => ?_) (fun c11 => absurd c11 (by omega))
    refine lv_aload_n hx hb dX1_border_16 rfl (lv_at hl 0 rfl) ?_
    refine lv_iload_n hx hb dX1_border_17 rfl (lv_at hl 1 rfl) ?_
    refine pb_afterQ (pb_runV (rC := (RX1, TX1, 3)) (ci := 1) (As := [.int (nI ch)]) (rest := []) C (ct_X1_chainDimension l D d sg n P b0 b1 hC hb0 ch hch v hv) gw_X1_X1_chainDimension hd_X1_chainDimension ⟨rfl, rfl, Nat.le_of_ble_eq_true rfl, Nat.le_of_ble_eq_true rfl⟩ ⟨Nat.zero_le _, Nat.zero_le _⟩ hK hP rfl rfl hl.1 rfl (Nat.le_of_ble_eq_true rfl) dX1_border_18) ?_
    refine lv_bipush (v := (-2)) hx hb dX1_border_21 (by decide) ?_
    refine lv_icmp_ne (tgt := 31) hx hb dX1_border_23 (by decide) (fun c23 => ?_) (fun c23 => absurd c23 (pb_cd_ev hv hev))
    refine lv_aload_n hx hb dX1_border_31 rfl (lv_at hl 0 rfl) ?_
    refine lv_iload_n hx hb dX1_border_32 rfl (lv_at hl 1 rfl) ?_
    refine pb_afterQ (pb_runV (rC := (RX1, TX1, 3)) (ci := 1) (As := [.int (nI ch)]) (rest := []) C (ct_X1_edge l D d sg n P b0 b1 hC hb0 ch hch) gw_X1_X1_edge hd_X1_edge ⟨rfl, rfl, Nat.le_of_ble_eq_true rfl, Nat.le_of_ble_eq_true rfl⟩ ⟨Nat.zero_le _, Nat.zero_le _⟩ hK hP rfl rfl hl.1 rfl (Nat.le_of_ble_eq_true rfl) dX1_border_33) ?_
    exact pb_iret C (rfl) dX1_border_36
end
section
/-! PersistentBarsModel: ranks, and what rests on them -/
/-- an answer of the model; its column array may have changed -/
def pb_mP (D : va_G) (d : ClassId) (sg : Nat → Nat) (n : Nat) (b0 : Nat → Int32) (v : Int32) : Int32 → Heap → Prop := fun r H => r = v ∧ ∃ b1, va_P D pb_cl (pb_mW sg d (nI n) b0 b1) H
/-- the rows that a rank leaves in the column array -/
def pb_mR (D : va_G) (d : ClassId) (sg : Nat → Nat) (n : Nat) (b0 : Nat → Int32) (V : Nat → Nat) (t : Nat) : Int32 → Heap → Prop := fun r H => r = nI (pb_rk V t) ∧ ∃ b1, va_P D pb_cl (pb_mW sg d (nI n) b0 b1) H ∧ ∃ G, (∀ i, i < pb_rk V t → b1 i = nI (G i)) ∧ (∀ i, i < pb_rk V t → G i < 2 ^ 26) ∧ pb_GR G (pb_rk V t) V t
theorem pb_tb_ne {c x : Nat} (h : c &&& 2 ^ x ≠ 0) : c.testBit x = true := by
  cases e : c.testBit x
  · exact absurd ((pb_and2 c x).mpr e) h
  · rfl
set_option maxHeartbeats 4000000 in
set_option maxRecDepth 100000 in
/-- the rank of the borders of pieces of k + 1 points before t, of which only the places from f on count -/
theorem ct_X1_rank (l : Launch) (D : va_G) (d : ClassId) (sg : Nat → Nat) (n : Nat) (P : Nat → Nat) (b0 b1 : Nat → Int32) (hn : pb_Nd sg 3) (hC : pb_Cx n P) (hb0 : ∀ i, i < n → b0 i = nI (P i)) (t k f : Nat) (ht : t ≤ n) (hkk : k < 5) (hf : f ≤ 26) : Met l yX1_rank (ws_ yX1_rank cX1_rank 9 (some .int)) (pb_ro 3) (va_Pc [.ref (sg 0), .int (nI t), .int (nI k), .int (nI f)] (pb_B D d (pb_mW sg d (nI n) b0 b1))) (pb_Qm (pb_A sg 3) (pb_mR D d sg n b0 (fun b => pb_mk f (pb_V P (k + 1) b)) t)) 0 0 (pb_A sg 3) := by
  refine pb_met RX1 (by decide) rfl (Nat.le_of_ble_eq_true rfl) rfl ?_
  intro p e s m below meth c ls C hnm hB hl
  obtain ⟨hx, hb, hml, hr, hown, hlk, hts⟩ := id C
  obtain ⟨hP, hK⟩ := hB
  have hl : lv_has ls 9 [(0, .ref (sg 0)), (1, .int (nI t)), (2, .int (nI k)), (3, .int (nI f))] := hl
  have hS : va_S (pb_A sg 3) s.heap s.heap [] := va_S.rf
  have hn26 := hC.1
  refine lv_iconst (v := nI 0) hx hb dX1_rank_0 rfl ?_
  refine lv_istore (lv' := [(4, .int (nI 0)), (0, .ref (sg 0)), (1, .int (nI t)), (2, .int (nI k)), (3, .int (nI f))]) hx hb dX1_rank_1 hl (by decide) rfl (fun ls hl => ?_)
  refine lv_iconst (v := nI 0) hx hb dX1_rank_3 rfl ?_
  refine lv_istore (lv' := [(5, .int (nI 0)), (4, .int (nI 0)), (0, .ref (sg 0)), (1, .int (nI t)), (2, .int (nI k)), (3, .int (nI f))]) hx hb dX1_rank_4 hl (by decide) rfl (fun ls hl => ?_)
  have loop6 : ∀ (k6 : Nat) (i : Nat) (rows : Nat) (G : Nat → Nat) (b1 : Nat → Int32) (ls : Array Slot) (H : Heap) (locs : List Loc), (t < i + k6) → (i ≤ t) → (pb_GR G rows (fun b => pb_mk f (pb_V P (k + 1) b)) i) → (∀ r, r < rows → b1 r = nI (G r)) → (∀ r, r < rows → G r < 2 ^ 26) → va_P D pb_cl (pb_mW sg d (nI n) b0 b1) H → va_S (pb_A sg 3) s.heap H locs → lv_has ls 9 [(0, .ref (sg 0)), (1, .int (nI t)), (2, .int (nI k)), (3, .int (nI f)), (4, .int (nI rows)), (5, .int (nI i))] → W p l e (pb_ro 3) s m ([.ref (sg 0), .int (nI t), .int (nI k), .int (nI f)] : List Value).toArray below meth c H locs 0 0 (MQ below (pb_Qm (pb_A sg 3) (pb_mR D d sg n b0 (fun b => pb_mk f (pb_V P (k + 1) b)) t)) ([.ref (sg 0), .int (nI t), .int (nI k), .int (nI f)] : List Value).toArray s 0 0 (pb_A sg 3)) (F0 m 6 ls []) := by
    intro k6
    induction k6 with
    | zero =>
      intro i rows G b1 ls H locs hk hi hGR hG1 hG2 hP hS hl
      omega
    | succ k6 ih6 =>
      intro i rows G b1 ls H locs hk hi hGR hG1 hG2 hP hS hl
      have hrk := hGR.2.2
      have hrl := pb_rk_le (fun b => pb_mk f (pb_V P (k + 1) b)) i
      refine lv_iload hx hb dX1_rank_6 (lv_at hl 5 rfl) ?_
      refine lv_iload_n hx hb dX1_rank_8 rfl (lv_at hl 1 rfl) ?_
      refine pb_ige (tgt := 118) hx hb dX1_rank_9 (by decide) (by first | assumption | omega) (by first | assumption | omega) (fun c9 => ?_) (fun c9 => ?_)
      · refine lv_iload hx hb dX1_rank_118 (lv_at hl 4 rfl) ?_
        exact pb_miret C hS (by have e1 : i = t := (by omega); rw [e1] at hrk hGR; rw [hrk] at hG1 hG2 hGR ⊢; exact ⟨rfl, _, hP, G, hG1, hG2, hGR⟩) dX1_rank_120
      · refine lv_iload hx hb dX1_rank_12 (lv_at hl 5 rfl) ?_
        refine lv_bipush (v := nI 26) hx hb dX1_rank_14 rfl ?_
        refine pb_ige (tgt := 118) hx hb dX1_rank_16 (by decide) (by first | assumption | omega) (by first | assumption | omega) (fun c16 => absurd c16 (by omega)) (fun c16 => ?_)
        have hPi := pb_cx_pop hC (i := i) (by omega)
        refine lv_aload_n hx hb dX1_rank_19 rfl (lv_at hl 0 rfl) ?_
        refine lv_iload hx hb dX1_rank_20 (lv_at hl 5 rfl) ?_
        refine pb_afterQ (pb_runV (rC := (RX1, TX1, 3)) (ci := 1) (As := [.int (nI i)]) (rest := []) C (ct_X1_dimension l D d sg n P b0 b1 hC hb0 i (by omega)) gw_X1_X1_dimension hd_X1_dimension ⟨rfl, rfl, Nat.le_of_ble_eq_true rfl, Nat.le_of_ble_eq_true rfl⟩ ⟨Nat.zero_le _, Nat.zero_le _⟩ hK hP rfl rfl hl.1 rfl (Nat.le_of_ble_eq_true rfl) dX1_rank_22) ?_
        refine lv_iload_n hx hb dX1_rank_25 rfl (lv_at hl 2 rfl) ?_
        refine pb_ine (tgt := 112) hx hb dX1_rank_26 (by decide) (by first | assumption | omega) (by first | assumption | omega) (fun c26 => ?_) (fun c26 => ?_)
        · refine lv_iinc (v := nI (i + 1)) (lv' := [(5, .int (nI (i + 1))), (0, .ref (sg 0)), (1, .int (nI t)), (2, .int (nI k)), (3, .int (nI f)), (4, .int (nI rows))]) hx hb dX1_rank_112 hl (k := 5) rfl (nI_1 _) (by decide) rfl (fun ls hl => ?_)
          refine lv_goto (tgt := 6) hx hb dX1_rank_115 (by decide) ?_
          exact ih6 (i + 1) rows G b1 ls _ _ (by omega) (by omega) (pb_gr_skip hGR (by show pb_mk f (pb_V P (k + 1) i) = 0; rw [pb_V_n (show ¬ pb_pop (P i) = k + 1 by omega), pb_mk_0])) hG1 hG2 hP hS (lv_sub hl [1, 2, 3, 4, 5, 0] rfl)
        · have hVi : pb_mk f (pb_V P (k + 1) i) = pb_mk f (pb_col P i) := by rw [pb_V_y (show pb_pop (P i) = k + 1 by omega)]
          have hcl : pb_col P i < 2 ^ 26 := pb_p26 (pb_col_lt P i) (by omega)
          have hmk : pb_mk f (pb_col P i) < 2 ^ 26 := pb_mk_lt hcl
          refine lv_aload_n hx hb dX1_rank_29 rfl (lv_at hl 0 rfl) ?_
          refine lv_iload hx hb dX1_rank_30 (lv_at hl 5 rfl) ?_
          refine pb_afterQ (pb_runV (rC := (RX1, TX1, 3)) (ci := 1) (As := [.int (nI i)]) (rest := []) C (ct_X1_sides l D d sg n P b0 b1 hC hb0 i (by omega)) gw_X1_X1_sides hd_X1_sides ⟨rfl, rfl, Nat.le_of_ble_eq_true rfl, Nat.le_of_ble_eq_true rfl⟩ ⟨Nat.zero_le _, Nat.zero_le _⟩ hK hP rfl rfl hl.1 rfl (Nat.le_of_ble_eq_true rfl) dX1_rank_32) ?_
          refine lv_iload_n hx hb dX1_rank_35 rfl (lv_at hl 3 rfl) ?_
          refine lv_ishr hx hb dX1_rank_36 ?_
          refine pb_top (nI (pb_col P i >>> f)) (pb_shr (by omega) (by omega)) ?_
          refine lv_iload_n hx hb dX1_rank_37 rfl (lv_at hl 3 rfl) ?_
          refine lv_ishl hx hb dX1_rank_38 ?_
          refine pb_top (nI (pb_mk f (pb_col P i))) (pb_shl (Nat.lt_trans hmk (by decide)) (by omega)) ?_
          refine lv_istore (lv' := [(6, .int (nI (pb_mk f (pb_col P i)))), (0, .ref (sg 0)), (1, .int (nI t)), (2, .int (nI k)), (3, .int (nI f)), (4, .int (nI rows)), (5, .int (nI i))]) hx hb dX1_rank_39 hl (by decide) rfl (fun ls hl => ?_)
          refine lv_iconst (v := nI 0) hx hb dX1_rank_41 rfl ?_
          refine lv_istore (lv' := [(7, .int (nI 0)), (6, .int (nI (pb_mk f (pb_col P i)))), (0, .ref (sg 0)), (1, .int (nI t)), (2, .int (nI k)), (3, .int (nI f)), (4, .int (nI rows)), (5, .int (nI i))]) hx hb dX1_rank_42 hl (by decide) rfl (fun ls hl => ?_)
          have loop44 : ∀ (k44 : Nat) (r : Nat) (cv : Nat) (ls : Array Slot), (rows < r + k44) → (r ≤ rows) → (pb_Rd G (pb_mk f (pb_col P i)) r cv) → (cv < 2 ^ 26) → lv_has ls 9 [(0, .ref (sg 0)), (1, .int (nI t)), (2, .int (nI k)), (3, .int (nI f)), (4, .int (nI rows)), (5, .int (nI i)), (6, .int (nI cv)), (7, .int (nI r))] → W p l e (pb_ro 3) s m ([.ref (sg 0), .int (nI t), .int (nI k), .int (nI f)] : List Value).toArray below meth c H locs 0 0 (MQ below (pb_Qm (pb_A sg 3) (pb_mR D d sg n b0 (fun b => pb_mk f (pb_V P (k + 1) b)) t)) ([.ref (sg 0), .int (nI t), .int (nI k), .int (nI f)] : List Value).toArray s 0 0 (pb_A sg 3)) (F0 m 44 ls []) := by
            intro k44
            induction k44 with
            | zero =>
              intro r cv ls hk2 hr2 hRd hcv hl
              omega
            | succ k44 ih44 =>
              intro r cv ls hk2 hr2 hRd hcv hl
              refine lv_iload hx hb dX1_rank_44 (lv_at hl 7 rfl) ?_
              refine lv_iload hx hb dX1_rank_46 (lv_at hl 4 rfl) ?_
              refine pb_ige (tgt := 95) hx hb dX1_rank_48 (by decide) (by first | assumption | omega) (by first | assumption | omega) (fun c48 => ?_) (fun c48 => ?_)
              · refine lv_iload hx hb dX1_rank_95 (lv_at hl 6 rfl) ?_
                refine pb_ceq (tgt := 112) hx hb dX1_rank_97 (by decide) (by omega) (fun c97 => ?_) (fun c97 => ?_)
                · have er : r = rows := by omega
                  rw [er] at hRd
                  refine lv_iinc (v := nI (i + 1)) (lv' := [(5, .int (nI (i + 1))), (0, .ref (sg 0)), (1, .int (nI t)), (2, .int (nI k)), (3, .int (nI f)), (4, .int (nI rows)), (6, .int (nI cv)), (7, .int (nI r))]) hx hb dX1_rank_112 hl (k := 5) rfl (nI_1 _) (by decide) rfl (fun ls hl => ?_)
                  refine lv_goto (tgt := 6) hx hb dX1_rank_115 (by decide) ?_
                  exact ih6 (i + 1) rows G b1 ls _ _ (by omega) (by omega) (pb_gr_in hGR (by show pb_Sp G rows (pb_mk f (pb_V P (k + 1) i)); rw [hVi]; exact (pb_rd_end hGR.1 hRd).mp c97)) hG1 hG2 hP hS (lv_sub hl [1, 2, 3, 4, 5, 0] rfl)
                · have er : r = rows := by omega
                  rw [er] at hRd
                  refine lv_aload_n hx hb dX1_rank_100 rfl (lv_at hl 0 rfl) ?_
                  refine pb_gM2 C hK hP dX1_rank_101 ?_
                  refine lv_iload hx hb dX1_rank_104 (lv_at hl 4 rfl) ?_
                  refine lv_iload hx hb dX1_rank_106 (lv_at hl 6 rfl) ?_
                  refine pb_ast C hK hP (pb_Dof hn rfl) hS 2 rfl (by omega) (by decide) dX1_rank_108 (fun H locs hP hS => ?_)
                  have hP : va_P D pb_cl (pb_mW sg d (nI n) b0 (upd b1 rows (nI cv))) H := hP
                  refine lv_iinc (v := nI (rows + 1)) (lv' := [(4, .int (nI (rows + 1))), (0, .ref (sg 0)), (1, .int (nI t)), (2, .int (nI k)), (3, .int (nI f)), (5, .int (nI i)), (6, .int (nI cv)), (7, .int (nI r))]) hx hb dX1_rank_109 hl (k := 4) rfl (nI_1 _) (by decide) rfl (fun ls hl => ?_)
                  refine lv_iinc (v := nI (i + 1)) (lv' := [(5, .int (nI (i + 1))), (4, .int (nI (rows + 1))), (0, .ref (sg 0)), (1, .int (nI t)), (2, .int (nI k)), (3, .int (nI f)), (6, .int (nI cv)), (7, .int (nI r))]) hx hb dX1_rank_112 hl (k := 5) rfl (nI_1 _) (by decide) rfl (fun ls hl => ?_)
                  refine lv_goto (tgt := 6) hx hb dX1_rank_115 (by decide) ?_
                  exact ih6 (i + 1) (rows + 1) (pb_up G rows cv) (upd b1 rows (nI cv)) ls _ _ (by omega) (by omega) (pb_gr_push hGR (by show pb_Rd G (pb_mk f (pb_V P (k + 1) i)) rows cv; rw [hVi]; exact hRd) c97) (fun a ha => by rcases Nat.lt_or_ge a rows with q | q; rw [pb_up_n (by omega), pk_un (by omega)]; exact hG1 a q; rw [show a = rows by omega, pb_up_s, pk_us]) (fun a ha => by rcases Nat.lt_or_ge a rows with q | q; rw [pb_up_n (by omega)]; exact hG2 a q; rw [show a = rows by omega, pb_up_s]; exact hcv) hP hS (lv_sub hl [2, 3, 4, 5, 1, 0] rfl)
              · obtain ⟨x, hxl⟩ := pb_low_ex (hGR.1.1 r c48)
                have hx26 := pb_low_lt hxl (hG2 r c48)
                refine lv_aload_n hx hb dX1_rank_51 rfl (lv_at hl 0 rfl) ?_
                refine pb_gM2 C hK hP dX1_rank_52 ?_
                refine lv_iload hx hb dX1_rank_55 (lv_at hl 7 rfl) ?_
                refine pb_ald (nI (G r)) C hK hP 2 rfl (by omega) (by decide) (hG1 r c48) dX1_rank_57 ?_
                refine lv_aload_n hx hb dX1_rank_58 rfl (lv_at hl 0 rfl) ?_
                refine pb_gM2 C hK hP dX1_rank_59 ?_
                refine lv_iload hx hb dX1_rank_62 (lv_at hl 7 rfl) ?_
                refine pb_ald (nI (G r)) C hK hP 2 rfl (by omega) (by decide) (hG1 r c48) dX1_rank_64 ?_
                refine lv_ineg hx hb dX1_rank_65 ?_
                refine lv_iand hx hb dX1_rank_66 ?_
                refine pb_top (nI (2 ^ x)) (pb_lowb (by omega) hxl) ?_
                refine lv_istore (lv' := [(8, .int (nI (2 ^ x))), (0, .ref (sg 0)), (1, .int (nI t)), (2, .int (nI k)), (3, .int (nI f)), (4, .int (nI rows)), (5, .int (nI i)), (6, .int (nI cv)), (7, .int (nI r))]) hx hb dX1_rank_67 hl (by decide) rfl (fun ls hl => ?_)
                refine lv_iload hx hb dX1_rank_69 (lv_at hl 7 rfl) ?_
                refine lv_iload hx hb dX1_rank_71 (lv_at hl 0 rfl) ?_
                refine lv_iand hx hb dX1_rank_73 ?_
                refine pb_tup (nx_and _ _) ?_
                refine pb_ceq (tgt := 89) hx hb dX1_rank_74 (by decide) (pb_and2_lt cv (by omega)) (fun c74 => ?_) (fun c74 => ?_)
                · refine lv_iinc (v := nI (r + 1)) (lv' := [(7, .int (nI (r + 1))), (8, .int (nI (2 ^ x))), (0, .ref (sg 0)), (1, .int (nI t)), (2, .int (nI k)), (3, .int (nI f)), (4, .int (nI rows)), (5, .int (nI i)), (6, .int (nI cv))]) hx hb dX1_rank_89 hl (k := 8) rfl (nI_1 _) (by decide) rfl (fun ls hl => ?_)
                  refine lv_goto (tgt := 44) hx hb dX1_rank_92 (by decide) ?_
                  exact ih44 (r + 1) cv ls (by omega) (by omega) (pb_rd_no hGR.1 c48 hRd hxl ((pb_and2 _ _).mp c74)) hcv (lv_sub hl [2, 3, 4, 5, 6, 7, 8, 0] rfl)
                · refine lv_iload hx hb dX1_rank_77 (lv_at hl 7 rfl) ?_
                  refine lv_aload_n hx hb dX1_rank_79 rfl (lv_at hl 1 rfl) ?_
                  refine pb_gM2 C hK hP dX1_rank_80 ?_
                  refine lv_iload hx hb dX1_rank_83 (lv_at hl 8 rfl) ?_
                  refine pb_ald (nI (G r)) C hK hP 2 rfl (by omega) (by decide) (hG1 r c48) dX1_rank_85 ?_
                  refine lv_ixor hx hb dX1_rank_86 ?_
                  refine pb_tup (nx_xor _ _) ?_
                  refine lv_istore (lv' := [(6, .int (nI (cv ^^^ (G r)))), (8, .int (nI (2 ^ x))), (0, .ref (sg 0)), (1, .int (nI t)), (2, .int (nI k)), (3, .int (nI f)), (4, .int (nI rows)), (5, .int (nI i)), (7, .int (nI r))]) hx hb dX1_rank_87 hl (by decide) rfl (fun ls hl => ?_)
                  refine lv_iinc (v := nI (r + 1)) (lv' := [(7, .int (nI (r + 1))), (6, .int (nI (cv ^^^ (G r)))), (8, .int (nI (2 ^ x))), (0, .ref (sg 0)), (1, .int (nI t)), (2, .int (nI k)), (3, .int (nI f)), (4, .int (nI rows)), (5, .int (nI i))]) hx hb dX1_rank_89 hl (k := 8) rfl (nI_1 _) (by decide) rfl (fun ls hl => ?_)
                  refine lv_goto (tgt := 44) hx hb dX1_rank_92 (by decide) ?_
                  exact ih44 (r + 1) (cv ^^^ G r) ls (by omega) (by omega) (pb_rd_yes hGR.1 c48 hRd hxl (pb_tb_ne c74)) (Nat.xor_lt_two_pow hcv (hG2 r c48)) (lv_sub hl [3, 4, 5, 6, 7, 8, 1, 0] rfl)
          exact loop44 (rows + 1) 0 (pb_mk f (pb_col P i)) ls (by omega) (by omega) (pb_rd_0 _ _) hmk (lv_sub hl [2, 3, 4, 5, 6, 7, 1, 0] rfl)
  exact loop6 (t + 1) 0 0 (fun _ => 0) b1 ls _ _ (by omega) (by omega) (pb_gr_0 _ _) (fun r h => absurd h (Nat.not_lt_zero _)) (fun r h => absurd h (Nat.not_lt_zero _)) hP hS (lv_sub hl [2, 3, 4, 5, 1, 0] rfl)
end
section
/-! PersistentBarsModel: holes and partners -/
theorem pb_mk0V (V : Nat → Nat) : (fun b => pb_mk 0 (V b)) = V := funext fun b => pb_mk_z (V b)
set_option maxHeartbeats 4000000 in
set_option maxRecDepth 100000 in
theorem ct_X1_last (l : Launch) (D : va_G) (d : ClassId) (sg : Nat → Nat) (n : Nat) (P : Nat → Nat) (b0 b1 : Nat → Int32) (hn : pb_Nd sg 3) (hC : pb_Cx n P) (hb0 : ∀ i, i < n → b0 i = nI (P i)) (R lo : Nat → Nat) (hSol : pb_Sol n P R lo) (i j k : Nat) (hij : i ≤ j) (hj : j ≤ n) (hkk : k < 4) : Met l yX1_last (ws_ yX1_last cX1_last 6 (some .int)) (pb_ro 4) (va_Pc [.ref (sg 0), .int (nI i), .int (nI j), .int (nI k)] (pb_B D d (pb_mW sg d (nI n) b0 b1))) (pb_Qm (pb_A sg 3) (pb_mP D d sg n b0 (nI (pb_Lm P R lo i j (k + 1))))) 0 0 (pb_A sg 3) := by
  refine pb_met RX1 (by decide) rfl (Nat.le_of_ble_eq_true rfl) rfl ?_
  intro p e s m below meth c ls C hnm hB hl
  obtain ⟨hx, hb, hml, hr, hown, hlk, hts⟩ := id C
  obtain ⟨hP, hK⟩ := hB
  have hl : lv_has ls 6 [(0, .ref (sg 0)), (1, .int (nI i)), (2, .int (nI j)), (3, .int (nI k))] := hl
  have hS : va_S (pb_A sg 3) s.heap s.heap [] := va_S.rf
  have hn26 := hC.1
  refine lv_aload_n hx hb dX1_last_0 rfl (lv_at hl 0 rfl) ?_
  refine lv_iload_n hx hb dX1_last_1 rfl (lv_at hl 1 rfl) ?_
  refine lv_iload_n hx hb dX1_last_2 rfl (lv_at hl 3 rfl) ?_
  refine pb_afterQ (pb_runV (rC := (RX1, TX1, 3)) (ci := 1) (As := [.int (nI i), .int (nI k)]) (rest := []) C (ct_X1_tally l D d sg n P b0 b1 hC hb0 i k (by omega) (by omega)) gw_X1_X1_tally hd_X1_tally ⟨rfl, rfl, Nat.le_of_ble_eq_true rfl, Nat.le_of_ble_eq_true rfl⟩ ⟨Nat.zero_le _, Nat.zero_le _⟩ hK hP rfl rfl hl.1 rfl (Nat.le_of_ble_eq_true rfl) dX1_last_3) ?_
  refine lv_aload_n hx hb dX1_last_6 rfl (lv_at hl 0 rfl) ?_
  refine lv_iload_n hx hb dX1_last_7 rfl (lv_at hl 1 rfl) ?_
  refine lv_iload_n hx hb dX1_last_8 rfl (lv_at hl 3 rfl) ?_
  refine lv_iconst (v := nI 0) hx hb dX1_last_9 rfl ?_
  refine pb_afterM (pb_runV (rC := (RX1, TX1, 3)) (ci := 1) (As := [.int (nI i), .int (nI k), .int (nI 0)]) (rest := [.int (nI (pb_tal P i (k + 1)))]) C (ct_X1_rank l D d sg n P b0 b1 hn hC hb0 i k 0 (by omega) (by omega) (by omega)) gw_X1_X1_rank hd_X1_rank ⟨rfl, rfl, Nat.le_of_ble_eq_true rfl, Nat.le_of_ble_eq_true rfl⟩ ⟨Nat.zero_le _, Nat.zero_le _⟩ hK hP rfl rfl hl.1 rfl (Nat.le_of_ble_eq_true rfl) dX1_last_10) hS (fun _ z => z) (fun r H locs hq hfr hS => ?_)
  obtain ⟨rfl, b1, hP, -⟩ := hq
  refine lv_isub hx hb dX1_last_13 ?_
  refine lv_istore (lv' := [(4, .int ((nI (pb_tal P i (k + 1))) - (nI (pb_rk (fun b => pb_mk 0 (pb_V P (k + 1) b)) i)))), (0, .ref (sg 0)), (1, .int (nI i)), (2, .int (nI j)), (3, .int (nI k))]) hx hb dX1_last_14 hl (by decide) rfl (fun ls hl => ?_)
  refine lv_aload_n hx hb dX1_last_16 rfl (lv_at hl 1 rfl) ?_
  refine lv_iload_n hx hb dX1_last_17 rfl (lv_at hl 3 rfl) ?_
  refine lv_iload_n hx hb dX1_last_18 rfl (lv_at hl 4 rfl) ?_
  refine lv_iconst (v := nI 1) hx hb dX1_last_19 rfl ?_
  refine lv_iadd hx hb dX1_last_20 ?_
  refine pb_tup (nI_add _ _) ?_
  refine lv_iconst (v := nI 0) hx hb dX1_last_21 rfl ?_
  refine pb_afterM (pb_runV (rC := (RX1, TX1, 3)) (ci := 1) (As := [.int (nI j), .int (nI (k + 1)), .int (nI 0)]) (rest := []) C (ct_X1_rank l D d sg n P b0 b1 hn hC hb0 j (k + 1) 0 (by omega) (by omega) (by omega)) gw_X1_X1_rank hd_X1_rank ⟨rfl, rfl, Nat.le_of_ble_eq_true rfl, Nat.le_of_ble_eq_true rfl⟩ ⟨Nat.zero_le _, Nat.zero_le _⟩ hK hP rfl rfl hl.1 rfl (Nat.le_of_ble_eq_true rfl) dX1_last_22) hS (fun _ z => z) (fun r H locs hq hfr hS => ?_)
  obtain ⟨rfl, b1, hP, -⟩ := hq
  refine lv_aload_n hx hb dX1_last_25 rfl (lv_at hl 1 rfl) ?_
  refine lv_iload_n hx hb dX1_last_26 rfl (lv_at hl 3 rfl) ?_
  refine lv_iload_n hx hb dX1_last_27 rfl (lv_at hl 4 rfl) ?_
  refine lv_iconst (v := nI 1) hx hb dX1_last_28 rfl ?_
  refine lv_iadd hx hb dX1_last_29 ?_
  refine pb_tup (nI_add _ _) ?_
  refine lv_iload_n hx hb dX1_last_30 rfl (lv_at hl 2 rfl) ?_
  refine pb_afterM (pb_runV (rC := (RX1, TX1, 3)) (ci := 1) (As := [.int (nI j), .int (nI (k + 1)), .int (nI i)]) (rest := [.int (nI (pb_rk (fun b => pb_mk 0 (pb_V P (k + 1 + 1) b)) j))]) C (ct_X1_rank l D d sg n P b0 b1 hn hC hb0 j (k + 1) i (by omega) (by omega) (by omega)) gw_X1_X1_rank hd_X1_rank ⟨rfl, rfl, Nat.le_of_ble_eq_true rfl, Nat.le_of_ble_eq_true rfl⟩ ⟨Nat.zero_le _, Nat.zero_le _⟩ hK hP rfl rfl hl.1 rfl (Nat.le_of_ble_eq_true rfl) dX1_last_31) hS (fun _ z => z) (fun r H locs hq hfr hS => ?_)
  obtain ⟨rfl, b1, hP, -⟩ := hq
  refine lv_isub hx hb dX1_last_34 ?_
  refine lv_istore (lv' := [(5, .int ((nI (pb_rk (fun b => pb_mk 0 (pb_V P (k + 1 + 1) b)) j)) - (nI (pb_rk (fun b => pb_mk i (pb_V P (k + 1 + 1) b)) j)))), (4, .int ((nI (pb_tal P i (k + 1))) - (nI (pb_rk (fun b => pb_mk 0 (pb_V P (k + 1) b)) i)))), (0, .ref (sg 0)), (1, .int (nI i)), (2, .int (nI j)), (3, .int (nI k))]) hx hb dX1_last_35 hl (by decide) rfl (fun ls hl => ?_)
  refine lv_iload hx hb dX1_last_37 (lv_at hl 1 rfl) ?_
  refine lv_iload hx hb dX1_last_39 (lv_at hl 0 rfl) ?_
  refine lv_isub hx hb dX1_last_41 ?_
  exact pb_miret C hS ⟨(by rw [pb_mk0V, pb_mk0V]; exact pb_four (pb_last hC hSol (k + 1) hij hj)), _, hP⟩ dX1_last_42
set_option maxHeartbeats 4000000 in
set_option maxRecDepth 100000 in
theorem ct_X1_opening (l : Launch) (D : va_G) (d : ClassId) (sg : Nat → Nat) (n : Nat) (P : Nat → Nat) (b0 b1 : Nat → Int32) (hn : pb_Nd sg 3) (hC : pb_Cx n P) (hb0 : ∀ i, i < n → b0 i = nI (P i)) (R lo : Nat → Nat) (hSol : pb_Sol n P R lo) (i : Nat) (hi : i < n) : Met l yX1_opening (ws_ yX1_opening cX1_opening 3 (some .boolean)) (pb_ro 5) (va_Pc [.ref (sg 0), .int (nI i)] (pb_B D d (pb_mW sg d (nI n) b0 b1))) (pb_Qm (pb_A sg 3) (pb_mP D d sg n b0 (pb_z (decide (R i = 0))))) 0 0 (pb_A sg 3) := by
  refine pb_met RX1 (by decide) rfl (Nat.le_of_ble_eq_true rfl) rfl ?_
  intro p e s m below meth c ls C hnm hB hl
  obtain ⟨hx, hb, hml, hr, hown, hlk, hts⟩ := id C
  obtain ⟨hP, hK⟩ := hB
  have hl : lv_has ls 3 [(0, .ref (sg 0)), (1, .int (nI i))] := hl
  have hS : va_S (pb_A sg 3) s.heap s.heap [] := va_S.rf
  have hn26 := hC.1
  have hPi := pb_cx_pop hC hi
  refine lv_aload_n hx hb dX1_opening_0 rfl (lv_at hl 0 rfl) ?_
  refine lv_iload_n hx hb dX1_opening_1 rfl (lv_at hl 1 rfl) ?_
  refine pb_afterQ (pb_runV (rC := (RX1, TX1, 3)) (ci := 1) (As := [.int (nI i)]) (rest := []) C (ct_X1_dimension l D d sg n P b0 b1 hC hb0 i hi) gw_X1_X1_dimension hd_X1_dimension ⟨rfl, rfl, Nat.le_of_ble_eq_true rfl, Nat.le_of_ble_eq_true rfl⟩ ⟨Nat.zero_le _, Nat.zero_le _⟩ hK hP rfl rfl hl.1 rfl (Nat.le_of_ble_eq_true rfl) dX1_opening_2) ?_
  refine lv_istore_n (lv' := [(2, .int (nI (pb_pop (P i) - 1))), (0, .ref (sg 0)), (1, .int (nI i))]) hx hb dX1_opening_5 rfl hl (by decide) rfl (fun ls hl => ?_)
  refine lv_aload_n hx hb dX1_opening_6 rfl (lv_at hl 1 rfl) ?_
  refine lv_iload_n hx hb dX1_opening_7 rfl (lv_at hl 2 rfl) ?_
  refine lv_iconst (v := nI 1) hx hb dX1_opening_8 rfl ?_
  refine lv_iadd hx hb dX1_opening_9 ?_
  refine pb_tup (nI_add _ _) ?_
  refine lv_iload_n hx hb dX1_opening_10 rfl (lv_at hl 2 rfl) ?_
  refine lv_iconst (v := nI 1) hx hb dX1_opening_11 rfl ?_
  refine lv_iadd hx hb dX1_opening_12 ?_
  refine pb_tup (nI_add _ _) ?_
  refine lv_iload_n hx hb dX1_opening_13 rfl (lv_at hl 0 rfl) ?_
  refine pb_afterM (pb_runV (rC := (RX1, TX1, 3)) (ci := 1) (As := [.int (nI (i + 1)), .int (nI (i + 1)), .int (nI (pb_pop (P i) - 1))]) (rest := []) C (ct_X1_last l D d sg n P b0 b1 hn hC hb0 R lo hSol (i + 1) (i + 1) (pb_pop (P i) - 1) (by omega) (by omega) (by omega)) gw_X1_X1_last hd_X1_last ⟨rfl, rfl, Nat.le_of_ble_eq_true rfl, Nat.le_of_ble_eq_true rfl⟩ ⟨Nat.zero_le _, Nat.zero_le _⟩ hK hP rfl rfl hl.1 rfl (Nat.le_of_ble_eq_true rfl) dX1_opening_14) hS (fun _ z => z) (fun r H locs hq hfr hS => ?_)
  obtain ⟨rfl, b1, hP⟩ := hq
  refine lv_aload_n hx hb dX1_opening_17 rfl (lv_at hl 1 rfl) ?_
  refine lv_iload_n hx hb dX1_opening_18 rfl (lv_at hl 2 rfl) ?_
  refine lv_iload_n hx hb dX1_opening_19 rfl (lv_at hl 2 rfl) ?_
  refine lv_iload_n hx hb dX1_opening_20 rfl (lv_at hl 0 rfl) ?_
  refine pb_afterM (pb_runV (rC := (RX1, TX1, 3)) (ci := 1) (As := [.int (nI i), .int (nI i), .int (nI (pb_pop (P i) - 1))]) (rest := [.int (nI (pb_Lm P R lo (i + 1) (i + 1) (pb_pop (P i) - 1 + 1)))]) C (ct_X1_last l D d sg n P b0 b1 hn hC hb0 R lo hSol (i) (i) (pb_pop (P i) - 1) (by omega) (by omega) (by omega)) gw_X1_X1_last hd_X1_last ⟨rfl, rfl, Nat.le_of_ble_eq_true rfl, Nat.le_of_ble_eq_true rfl⟩ ⟨Nat.zero_le _, Nat.zero_le _⟩ hK hP rfl rfl hl.1 rfl (Nat.le_of_ble_eq_true rfl) dX1_opening_21) hS (fun _ z => z) (fun r H locs hq hfr hS => ?_)
  obtain ⟨rfl, b1, hP⟩ := hq
  refine pb_ile (tgt := 31) hx hb dX1_opening_24 (by decide) (by have := pb_Lm_le P R lo (i + 1) (i + 1) (pb_pop (P i) - 1 + 1); omega) (by have := pb_Lm_le P R lo i i (pb_pop (P i) - 1 + 1); omega) (fun c24 => ?_) (fun c24 => ?_)
  · rw [show pb_pop (P i) - 1 + 1 = pb_pop (P i) by omega, pb_open hSol hi] at c24
    have hR : ¬ R i = 0 := fun z => by rw [pb_b1 z] at c24; omega
    refine lv_iconst (v := nI 0) hx hb dX1_opening_31 rfl ?_
    exact pb_mzret (false) C hS rfl ⟨(by simp [hR]; rfl), _, hP⟩ dX1_opening_32
  · rw [show pb_pop (P i) - 1 + 1 = pb_pop (P i) by omega, pb_open hSol hi] at c24
    have hR : R i = 0 := Classical.byContradiction fun z => by rw [pb_b0 z] at c24; omega
    refine lv_iconst (v := nI 1) hx hb dX1_opening_27 rfl ?_
    refine lv_goto (tgt := 32) hx hb dX1_opening_28 (by decide) ?_
    exact pb_mzret (true) C hS rfl ⟨(by simp [hR]; rfl), _, hP⟩ dX1_opening_32
set_option maxHeartbeats 4000000 in
set_option maxRecDepth 100000 in
theorem ct_X1_partners (l : Launch) (D : va_G) (d : ClassId) (sg : Nat → Nat) (n : Nat) (P : Nat → Nat) (b0 b1 : Nat → Int32) (hn : pb_Nd sg 3) (hC : pb_Cx n P) (hb0 : ∀ i, i < n → b0 i = nI (P i)) (R lo : Nat → Nat) (hSol : pb_Sol n P R lo) (i j : Nat) (hij : i < j) (hj : j < n) : Met l yX1_partners (ws_ yX1_partners cX1_partners 4 (some .boolean)) (pb_ro 5) (va_Pc [.ref (sg 0), .int (nI i), .int (nI j)] (pb_B D d (pb_mW sg d (nI n) b0 b1))) (pb_Qm (pb_A sg 3) (pb_mP D d sg n b0 (pb_z (decide (R j ≠ 0 ∧ lo j = i))))) 0 0 (pb_A sg 3) := by
  refine pb_met RX1 (by decide) rfl (Nat.le_of_ble_eq_true rfl) rfl ?_
  intro p e s m below meth c ls C hnm hB hl
  obtain ⟨hx, hb, hml, hr, hown, hlk, hts⟩ := id C
  obtain ⟨hP, hK⟩ := hB
  have hl : lv_has ls 4 [(0, .ref (sg 0)), (1, .int (nI i)), (2, .int (nI j))] := hl
  have hS : va_S (pb_A sg 3) s.heap s.heap [] := va_S.rf
  have hn26 := hC.1
  have hPi := pb_cx_pop hC (show i < n by omega)
  have hPj := pb_cx_pop hC hj
  obtain ⟨x, y, hA, hB, hx1, hy1, hxy⟩ := pb_pair hC hSol hij hj
  rw [show pb_pop (P i) = pb_pop (P i) - 1 + 1 by omega] at hA hB
  refine lv_aload_n hx hb dX1_partners_0 rfl (lv_at hl 0 rfl) ?_
  refine lv_iload_n hx hb dX1_partners_1 rfl (lv_at hl 1 rfl) ?_
  refine pb_afterQ (pb_runV (rC := (RX1, TX1, 3)) (ci := 1) (As := [.int (nI i)]) (rest := []) C (ct_X1_dimension l D d sg n P b0 b1 hC hb0 i (by omega)) gw_X1_X1_dimension hd_X1_dimension ⟨rfl, rfl, Nat.le_of_ble_eq_true rfl, Nat.le_of_ble_eq_true rfl⟩ ⟨Nat.zero_le _, Nat.zero_le _⟩ hK hP rfl rfl hl.1 rfl (Nat.le_of_ble_eq_true rfl) dX1_partners_2) ?_
  refine lv_istore_n (lv' := [(3, .int (nI (pb_pop (P i) - 1))), (0, .ref (sg 0)), (1, .int (nI i)), (2, .int (nI j))]) hx hb dX1_partners_5 rfl hl (by decide) rfl (fun ls hl => ?_)
  refine lv_aload_n hx hb dX1_partners_6 rfl (lv_at hl 1 rfl) ?_
  refine lv_iload_n hx hb dX1_partners_7 rfl (lv_at hl 3 rfl) ?_
  refine pb_afterQ (pb_runV (rC := (RX1, TX1, 3)) (ci := 1) (As := [.int (nI j)]) (rest := []) C (ct_X1_dimension l D d sg n P b0 b1 hC hb0 j hj) gw_X1_X1_dimension hd_X1_dimension ⟨rfl, rfl, Nat.le_of_ble_eq_true rfl, Nat.le_of_ble_eq_true rfl⟩ ⟨Nat.zero_le _, Nat.zero_le _⟩ hK hP rfl rfl hl.1 rfl (Nat.le_of_ble_eq_true rfl) dX1_partners_8) ?_
  refine lv_iload_n hx hb dX1_partners_11 rfl (lv_at hl 0 rfl) ?_
  refine lv_iconst (v := nI 1) hx hb dX1_partners_12 rfl ?_
  refine lv_iadd hx hb dX1_partners_13 ?_
  refine pb_tup (nI_add _ _) ?_
  refine pb_ieq (tgt := 19) hx hb dX1_partners_14 (by decide) (by first | assumption | omega) (by first | assumption | omega) (fun c14 => ?_) (fun c14 => ?_)
  · refine lv_aload_n hx hb dX1_partners_19 rfl (lv_at hl 1 rfl) ?_
    refine lv_iload_n hx hb dX1_partners_20 rfl (lv_at hl 2 rfl) ?_
    refine lv_iconst (v := nI 1) hx hb dX1_partners_21 rfl ?_
    refine lv_iadd hx hb dX1_partners_22 ?_
    refine pb_tup (nI_add _ _) ?_
    refine lv_iload_n hx hb dX1_partners_23 rfl (lv_at hl 3 rfl) ?_
    refine lv_iload_n hx hb dX1_partners_24 rfl (lv_at hl 0 rfl) ?_
    refine pb_afterM (pb_runV (rC := (RX1, TX1, 3)) (ci := 1) (As := [.int (nI (i + 1)), .int (nI j), .int (nI (pb_pop (P i) - 1))]) (rest := []) C (ct_X1_last l D d sg n P b0 b1 hn hC hb0 R lo hSol (i + 1) (j) (pb_pop (P i) - 1) (by omega) (by omega) (by omega)) gw_X1_X1_last hd_X1_last ⟨rfl, rfl, Nat.le_of_ble_eq_true rfl, Nat.le_of_ble_eq_true rfl⟩ ⟨Nat.zero_le _, Nat.zero_le _⟩ hK hP rfl rfl hl.1 rfl (Nat.le_of_ble_eq_true rfl) dX1_partners_25) hS (fun _ z => z) (fun r H locs hq hfr hS => ?_)
    obtain ⟨rfl, b1, hP⟩ := hq
    refine lv_aload_n hx hb dX1_partners_28 rfl (lv_at hl 1 rfl) ?_
    refine lv_iload_n hx hb dX1_partners_29 rfl (lv_at hl 2 rfl) ?_
    refine lv_iconst (v := nI 1) hx hb dX1_partners_30 rfl ?_
    refine lv_iadd hx hb dX1_partners_31 ?_
    refine pb_tup (nI_add _ _) ?_
    refine lv_iload_n hx hb dX1_partners_32 rfl (lv_at hl 3 rfl) ?_
    refine lv_iconst (v := nI 1) hx hb dX1_partners_33 rfl ?_
    refine lv_iadd hx hb dX1_partners_34 ?_
    refine pb_tup (nI_add _ _) ?_
    refine lv_iload_n hx hb dX1_partners_35 rfl (lv_at hl 0 rfl) ?_
    refine pb_afterM (pb_runV (rC := (RX1, TX1, 3)) (ci := 1) (As := [.int (nI (i + 1)), .int (nI (j + 1)), .int (nI (pb_pop (P i) - 1))]) (rest := [.int (nI (pb_Lm P R lo (i + 1) (j) (pb_pop (P i) - 1 + 1)))]) C (ct_X1_last l D d sg n P b0 b1 hn hC hb0 R lo hSol (i + 1) (j + 1) (pb_pop (P i) - 1) (by omega) (by omega) (by omega)) gw_X1_X1_last hd_X1_last ⟨rfl, rfl, Nat.le_of_ble_eq_true rfl, Nat.le_of_ble_eq_true rfl⟩ ⟨Nat.zero_le _, Nat.zero_le _⟩ hK hP rfl rfl hl.1 rfl (Nat.le_of_ble_eq_true rfl) dX1_partners_36) hS (fun _ z => z) (fun r H locs hq hfr hS => ?_)
    obtain ⟨rfl, b1, hP⟩ := hq
    refine lv_isub hx hb dX1_partners_39 ?_
    refine lv_aload_n hx hb dX1_partners_40 rfl (lv_at hl 1 rfl) ?_
    refine lv_iload_n hx hb dX1_partners_41 rfl (lv_at hl 2 rfl) ?_
    refine lv_iload_n hx hb dX1_partners_42 rfl (lv_at hl 3 rfl) ?_
    refine lv_iload_n hx hb dX1_partners_43 rfl (lv_at hl 0 rfl) ?_
    refine pb_afterM (pb_runV (rC := (RX1, TX1, 3)) (ci := 1) (As := [.int (nI i), .int (nI j), .int (nI (pb_pop (P i) - 1))]) (rest := [.int ((nI (pb_Lm P R lo (i + 1) (j) (pb_pop (P i) - 1 + 1))) - (nI (pb_Lm P R lo (i + 1) (j + 1) (pb_pop (P i) - 1 + 1))))]) C (ct_X1_last l D d sg n P b0 b1 hn hC hb0 R lo hSol (i) (j) (pb_pop (P i) - 1) (by omega) (by omega) (by omega)) gw_X1_X1_last hd_X1_last ⟨rfl, rfl, Nat.le_of_ble_eq_true rfl, Nat.le_of_ble_eq_true rfl⟩ ⟨Nat.zero_le _, Nat.zero_le _⟩ hK hP rfl rfl hl.1 rfl (Nat.le_of_ble_eq_true rfl) dX1_partners_44) hS (fun _ z => z) (fun r H locs hq hfr hS => ?_)
    obtain ⟨rfl, b1, hP⟩ := hq
    refine lv_isub hx hb dX1_partners_47 ?_
    refine lv_aload_n hx hb dX1_partners_48 rfl (lv_at hl 1 rfl) ?_
    refine lv_iload_n hx hb dX1_partners_49 rfl (lv_at hl 2 rfl) ?_
    refine lv_iload_n hx hb dX1_partners_50 rfl (lv_at hl 3 rfl) ?_
    refine lv_iconst (v := nI 1) hx hb dX1_partners_51 rfl ?_
    refine lv_iadd hx hb dX1_partners_52 ?_
    refine pb_tup (nI_add _ _) ?_
    refine lv_iload_n hx hb dX1_partners_53 rfl (lv_at hl 0 rfl) ?_
    refine pb_afterM (pb_runV (rC := (RX1, TX1, 3)) (ci := 1) (As := [.int (nI i), .int (nI (j + 1)), .int (nI (pb_pop (P i) - 1))]) (rest := [.int (((nI (pb_Lm P R lo (i + 1) (j) (pb_pop (P i) - 1 + 1))) - (nI (pb_Lm P R lo (i + 1) (j + 1) (pb_pop (P i) - 1 + 1)))) - (nI (pb_Lm P R lo (i) (j) (pb_pop (P i) - 1 + 1))))]) C (ct_X1_last l D d sg n P b0 b1 hn hC hb0 R lo hSol (i) (j + 1) (pb_pop (P i) - 1) (by omega) (by omega) (by omega)) gw_X1_X1_last hd_X1_last ⟨rfl, rfl, Nat.le_of_ble_eq_true rfl, Nat.le_of_ble_eq_true rfl⟩ ⟨Nat.zero_le _, Nat.zero_le _⟩ hK hP rfl rfl hl.1 rfl (Nat.le_of_ble_eq_true rfl) dX1_partners_54) hS (fun _ z => z) (fun r H locs hq hfr hS => ?_)
    obtain ⟨rfl, b1, hP⟩ := hq
    refine lv_iadd hx hb dX1_partners_57 ?_
    refine lv_iconst (v := nI 1) hx hb dX1_partners_58 rfl ?_
    refine lv_icmp_ne (tgt := 66) hx hb dX1_partners_59 (by decide) (fun c59 => ?_) (fun c59 => ?_)
    · rw [hA, hB, pb_mu hx1 hy1, hxy] at c59
      refine lv_iconst (v := nI 0) hx hb dX1_partners_66 rfl ?_
      exact pb_mzret (false) C hS rfl ⟨(by rw [decide_eq_false c59]; rfl), _, hP⟩ dX1_partners_67
    · rw [hA, hB, pb_mu hx1 hy1, hxy] at c59
      refine lv_iconst (v := nI 1) hx hb dX1_partners_62 rfl ?_
      refine lv_goto (tgt := 67) hx hb dX1_partners_63 (by decide) ?_
      exact pb_mzret (true) C hS rfl ⟨(by rw [decide_eq_true c59]; rfl), _, hP⟩ dX1_partners_67
  · have hno : ¬ (R j ≠ 0 ∧ lo j = i) := fun z => by have := (pb_lo_lt hSol hj z.1).2; rw [z.2] at this; omega
    refine lv_iconst (v := nI 0) hx hb dX1_partners_17 rfl ?_
    exact pb_mzret (false) C hS rfl ⟨(by rw [decide_eq_false hno]; rfl), _, hP⟩ dX1_partners_18
theorem pb_mate_none {n : Nat} {P R lo : Nat → Nat} {i : Nat} (hC : pb_Cx n P) (hSol : pb_Sol n P R lo) (hi : i < n) (h : (R i = 0 ∧ ∀ j2, j2 < n → ¬ (R j2 ≠ 0 ∧ lo j2 = i)) ∨ (¬ R i = 0 ∧ ∀ j2, j2 < n → lo i ≠ j2)) : -2 = pb_pv n R lo i := by
  rcases h with ⟨h1, h2⟩ | ⟨h1, h2⟩
  · rw [pb_pv_z h1]
    rcases pb_cv_c (n := n) (R := R) (lo := lo) i with ⟨_, h3⟩ | ⟨b, h3, h4, h5, _⟩
    · exact h3.symm
    · exact absurd ⟨h4, h5⟩ (h2 b h3)
  · have := (pb_lo_lt hSol hi h1).1
    exact absurd rfl (h2 (lo i) (by omega))
set_option maxHeartbeats 4000000 in
set_option maxRecDepth 100000 in
theorem ct_X1_mate (l : Launch) (D : va_G) (d : ClassId) (sg : Nat → Nat) (n : Nat) (P : Nat → Nat) (b0 b1 : Nat → Int32) (hn : pb_Nd sg 3) (hC : pb_Cx n P) (hb0 : ∀ i, i < n → b0 i = nI (P i)) (R lo : Nat → Nat) (hSol : pb_Sol n P R lo) (i : Nat) (hi : i < n) : Met l yX1_mate (ws_ yX1_mate cX1_mate 4 (some .int)) (pb_ro 6) (va_Pc [.ref (sg 0), .int (nI i)] (pb_B D d (pb_mW sg d (nI n) b0 b1))) (pb_Qm (pb_A sg 3) (pb_mP D d sg n b0 (pb_pv n R lo i))) 0 0 (pb_A sg 3) := by
  refine pb_met RX1 (by decide) rfl (Nat.le_of_ble_eq_true rfl) rfl ?_
  intro p e s m below meth c ls C hnm hB hl
  obtain ⟨hx, hb, hml, hr, hown, hlk, hts⟩ := id C
  obtain ⟨hP, hK⟩ := hB
  have hl : lv_has ls 4 [(0, .ref (sg 0)), (1, .int (nI i))] := hl
  have hS : va_S (pb_A sg 3) s.heap s.heap [] := va_S.rf
  have hn26 := hC.1
  refine lv_aload_n hx hb dX1_mate_0 rfl (lv_at hl 0 rfl) ?_
  refine lv_iload_n hx hb dX1_mate_1 rfl (lv_at hl 1 rfl) ?_
  refine pb_afterM (pb_runV (rC := (RX1, TX1, 3)) (ci := 1) (As := [.int (nI i)]) (rest := []) C (ct_X1_opening l D d sg n P b0 b1 hn hC hb0 R lo hSol i hi) gw_X1_X1_opening hd_X1_opening ⟨rfl, rfl, Nat.le_of_ble_eq_true rfl, Nat.le_of_ble_eq_true rfl⟩ ⟨Nat.zero_le _, Nat.zero_le _⟩ hK hP rfl rfl hl.1 rfl (Nat.le_of_ble_eq_true rfl) dX1_mate_2) hS (fun _ z => z) (fun r H locs hq hfr hS => ?_)
  obtain ⟨rfl, b1, hP⟩ := hq
  refine lv_istore_n (lv' := [(2, .int (pb_z (decide (R i = 0)))), (0, .ref (sg 0)), (1, .int (nI i))]) hx hb dX1_mate_5 rfl hl (by decide) rfl (fun ls hl => ?_)
  refine lv_iconst (v := nI 0) hx hb dX1_mate_6 rfl ?_
  refine lv_istore_n (lv' := [(3, .int (nI 0)), (2, .int (pb_z (decide (R i = 0)))), (0, .ref (sg 0)), (1, .int (nI i))]) hx hb dX1_mate_7 rfl hl (by decide) rfl (fun ls hl => ?_)
  have loop8 : ∀ (k8 : Nat) (j : Nat) (b1 : Nat → Int32) (ls : Array Slot) (H : Heap) (locs : List Loc), (n < j + k8) → (j ≤ n) → ((R i = 0 ∧ ∀ j2, j2 < j → ¬ (R j2 ≠ 0 ∧ lo j2 = i)) ∨ (¬ R i = 0 ∧ ∀ j2, j2 < j → lo i ≠ j2)) → va_P D pb_cl (pb_mW sg d (nI n) b0 b1) H → va_S (pb_A sg 3) s.heap H locs → lv_has ls 4 [(0, .ref (sg 0)), (1, .int (nI i)), (2, .int (pb_z (decide (R i = 0)))), (3, .int (nI j))] → W p l e (pb_ro 6) s m ([.ref (sg 0), .int (nI i)] : List Value).toArray below meth c H locs 0 0 (MQ below (pb_Qm (pb_A sg 3) (pb_mP D d sg n b0 (pb_pv n R lo i))) ([.ref (sg 0), .int (nI i)] : List Value).toArray s 0 0 (pb_A sg 3)) (F0 m 8 ls []) := by
    intro k8
    induction k8 with
    | zero =>
      intro j b1 ls H locs hk hj hno0 hP hS hl
      omega
    | succ k8 ih8 =>
      intro j b1 ls H locs hk hj hno0 hP hS hl
      refine lv_iload_n hx hb dX1_mate_8 rfl (lv_at hl 3 rfl) ?_
      refine lv_aload_n hx hb dX1_mate_9 rfl (lv_at hl 0 rfl) ?_
      refine pb_gM0 C hK hP dX1_mate_10 ?_
      refine pb_ige (tgt := 78) hx hb dX1_mate_13 (by decide) (by first | assumption | omega) (by first | assumption | omega) (fun c13 => ?_) (fun c13 => ?_)
      · refine lv_bipush (v := (-2)) hx hb dX1_mate_78 (by decide) ?_
        exact pb_miret C hS ⟨(by rw [show j = n by omega] at hno0; exact pb_mate_none hC hSol hi hno0), _, hP⟩ dX1_mate_80
      · refine lv_iload_n hx hb dX1_mate_16 rfl (lv_at hl 2 rfl) ?_
        refine pb_zeq (tgt := 44) hx hb dX1_mate_17 (by decide) (fun c17 => ?_) (fun c17 => ?_)
        · have c17 := of_decide_eq_false c17
          have hno2 : ∀ j2, j2 < j → lo i ≠ j2 := by rcases hno0 with ⟨q, _⟩ | ⟨_, q⟩; exact absurd q c17; exact q
          refine lv_iload_n hx hb dX1_mate_44 rfl (lv_at hl 2 rfl) ?_
          refine pb_zne (tgt := 72) hx hb dX1_mate_45 (by decide) (fun c45 => absurd (of_decide_eq_true c45) c17) (fun c45 => ?_)
          refine lv_iload_n hx hb dX1_mate_48 rfl (lv_at hl 3 rfl) ?_
          refine lv_iload_n hx hb dX1_mate_49 rfl (lv_at hl 1 rfl) ?_
          refine pb_ige (tgt := 72) hx hb dX1_mate_50 (by decide) (by first | assumption | omega) (by first | assumption | omega) (fun c50 => ?_) (fun c50 => ?_)
          · refine lv_iinc (v := nI (j + 1)) (lv' := [(3, .int (nI (j + 1))), (0, .ref (sg 0)), (1, .int (nI i)), (2, .int (pb_z (decide (R i = 0))))]) hx hb dX1_mate_72 hl (k := 3) rfl (nI_1 _) (by decide) rfl (fun ls hl => ?_)
            refine lv_goto (tgt := 8) hx hb dX1_mate_75 (by decide) ?_
            exact ih8 (j + 1) b1 ls _ _ (by omega) (by omega) (Or.inr ⟨c17, (lt_s hno2 (fun z => by have := (pb_lo_lt hSol hi c17).1; omega))⟩) hP hS (lv_sub hl [1, 2, 3, 0] rfl)
          · refine lv_aload_n hx hb dX1_mate_53 rfl (lv_at hl 0 rfl) ?_
            refine lv_iload_n hx hb dX1_mate_54 rfl (lv_at hl 3 rfl) ?_
            refine pb_afterM (pb_runV (rC := (RX1, TX1, 3)) (ci := 1) (As := [.int (nI j)]) (rest := []) C (ct_X1_opening l D d sg n P b0 b1 hn hC hb0 R lo hSol j (by omega)) gw_X1_X1_opening hd_X1_opening ⟨rfl, rfl, Nat.le_of_ble_eq_true rfl, Nat.le_of_ble_eq_true rfl⟩ ⟨Nat.zero_le _, Nat.zero_le _⟩ hK hP rfl rfl hl.1 rfl (Nat.le_of_ble_eq_true rfl) dX1_mate_55) hS (fun _ z => z) (fun r H locs hq hfr hS => ?_)
            obtain ⟨rfl, b1, hP⟩ := hq
            refine pb_zeq (tgt := 72) hx hb dX1_mate_58 (by decide) (fun c58 => ?_) (fun c58 => ?_)
            · have c58 := of_decide_eq_false c58
              refine lv_iinc (v := nI (j + 1)) (lv' := [(3, .int (nI (j + 1))), (0, .ref (sg 0)), (1, .int (nI i)), (2, .int (pb_z (decide (R i = 0))))]) hx hb dX1_mate_72 hl (k := 3) rfl (nI_1 _) (by decide) rfl (fun ls hl => ?_)
              refine lv_goto (tgt := 8) hx hb dX1_mate_75 (by decide) ?_
              exact ih8 (j + 1) b1 ls _ _ (by omega) (by omega) (Or.inr ⟨c17, (lt_s hno2 (fun z => c58 (by rw [← z]; exact pb_lo_zero hC hSol hi c17)))⟩) hP hS (lv_sub hl [1, 2, 3, 0] rfl)
            · have c58 := of_decide_eq_true c58
              refine lv_aload_n hx hb dX1_mate_61 rfl (lv_at hl 0 rfl) ?_
              refine lv_iload_n hx hb dX1_mate_62 rfl (lv_at hl 3 rfl) ?_
              refine lv_iload_n hx hb dX1_mate_63 rfl (lv_at hl 1 rfl) ?_
              refine pb_afterM (pb_runV (rC := (RX1, TX1, 3)) (ci := 1) (As := [.int (nI j), .int (nI i)]) (rest := []) C (ct_X1_partners l D d sg n P b0 b1 hn hC hb0 R lo hSol j i (by omega) (by omega)) gw_X1_X1_partners hd_X1_partners ⟨rfl, rfl, Nat.le_of_ble_eq_true rfl, Nat.le_of_ble_eq_true rfl⟩ ⟨Nat.zero_le _, Nat.zero_le _⟩ hK hP rfl rfl hl.1 rfl (Nat.le_of_ble_eq_true rfl) dX1_mate_64) hS (fun _ z => z) (fun r H locs hq hfr hS => ?_)
              obtain ⟨rfl, b1, hP⟩ := hq
              refine pb_zeq (tgt := 72) hx hb dX1_mate_67 (by decide) (fun c67 => ?_) (fun c67 => ?_)
              · have c67 := of_decide_eq_false c67
                refine lv_iinc (v := nI (j + 1)) (lv' := [(3, .int (nI (j + 1))), (0, .ref (sg 0)), (1, .int (nI i)), (2, .int (pb_z (decide (R i = 0))))]) hx hb dX1_mate_72 hl (k := 3) rfl (nI_1 _) (by decide) rfl (fun ls hl => ?_)
                refine lv_goto (tgt := 8) hx hb dX1_mate_75 (by decide) ?_
                exact ih8 (j + 1) b1 ls _ _ (by omega) (by omega) (Or.inr ⟨c17, (lt_s hno2 (fun z => c67 ⟨c17, z⟩))⟩) hP hS (lv_sub hl [1, 2, 3, 0] rfl)
              · have c67 := of_decide_eq_true c67
                refine lv_iload_n hx hb dX1_mate_70 rfl (lv_at hl 3 rfl) ?_
                exact pb_miret C hS ⟨(by rw [pb_pv_n c17, c67.2]), _, hP⟩ dX1_mate_71
        · have c17 := of_decide_eq_true c17
          have hno : ∀ j2, j2 < j → ¬ (R j2 ≠ 0 ∧ lo j2 = i) := by rcases hno0 with ⟨_, q⟩ | ⟨q, _⟩; exact q; exact absurd c17 q
          refine lv_iload_n hx hb dX1_mate_20 rfl (lv_at hl 3 rfl) ?_
          refine lv_iload_n hx hb dX1_mate_21 rfl (lv_at hl 1 rfl) ?_
          refine pb_ile (tgt := 44) hx hb dX1_mate_22 (by decide) (by first | assumption | omega) (by first | assumption | omega) (fun c22 => ?_) (fun c22 => ?_)
          · refine lv_iload_n hx hb dX1_mate_44 rfl (lv_at hl 2 rfl) ?_
            refine pb_zne (tgt := 72) hx hb dX1_mate_45 (by decide) (fun c45 => ?_) (fun c45 => absurd c17 (of_decide_eq_false c45))
            refine lv_iinc (v := nI (j + 1)) (lv' := [(3, .int (nI (j + 1))), (0, .ref (sg 0)), (1, .int (nI i)), (2, .int (pb_z (decide (R i = 0))))]) hx hb dX1_mate_72 hl (k := 3) rfl (nI_1 _) (by decide) rfl (fun ls hl => ?_)
            refine lv_goto (tgt := 8) hx hb dX1_mate_75 (by decide) ?_
            exact ih8 (j + 1) b1 ls _ _ (by omega) (by omega) (Or.inl ⟨c17, (lt_s hno (fun z => by have := (pb_lo_lt hSol (show j < n by omega) z.1).1; omega))⟩) hP hS (lv_sub hl [1, 2, 3, 0] rfl)
          · refine lv_aload_n hx hb dX1_mate_25 rfl (lv_at hl 0 rfl) ?_
            refine lv_iload_n hx hb dX1_mate_26 rfl (lv_at hl 3 rfl) ?_
            refine pb_afterM (pb_runV (rC := (RX1, TX1, 3)) (ci := 1) (As := [.int (nI j)]) (rest := []) C (ct_X1_opening l D d sg n P b0 b1 hn hC hb0 R lo hSol j (by omega)) gw_X1_X1_opening hd_X1_opening ⟨rfl, rfl, Nat.le_of_ble_eq_true rfl, Nat.le_of_ble_eq_true rfl⟩ ⟨Nat.zero_le _, Nat.zero_le _⟩ hK hP rfl rfl hl.1 rfl (Nat.le_of_ble_eq_true rfl) dX1_mate_27) hS (fun _ z => z) (fun r H locs hq hfr hS => ?_)
            obtain ⟨rfl, b1, hP⟩ := hq
            refine pb_zne (tgt := 44) hx hb dX1_mate_30 (by decide) (fun c30 => ?_) (fun c30 => ?_)
            · have c30 := of_decide_eq_true c30
              refine lv_iload_n hx hb dX1_mate_44 rfl (lv_at hl 2 rfl) ?_
              refine pb_zne (tgt := 72) hx hb dX1_mate_45 (by decide) (fun c45 => ?_) (fun c45 => absurd c17 (of_decide_eq_false c45))
              refine lv_iinc (v := nI (j + 1)) (lv' := [(3, .int (nI (j + 1))), (0, .ref (sg 0)), (1, .int (nI i)), (2, .int (pb_z (decide (R i = 0))))]) hx hb dX1_mate_72 hl (k := 3) rfl (nI_1 _) (by decide) rfl (fun ls hl => ?_)
              refine lv_goto (tgt := 8) hx hb dX1_mate_75 (by decide) ?_
              exact ih8 (j + 1) b1 ls _ _ (by omega) (by omega) (Or.inl ⟨c17, (lt_s hno (fun z => z.1 c30))⟩) hP hS (lv_sub hl [1, 2, 3, 0] rfl)
            · have c30 := of_decide_eq_false c30
              refine lv_aload_n hx hb dX1_mate_33 rfl (lv_at hl 0 rfl) ?_
              refine lv_iload_n hx hb dX1_mate_34 rfl (lv_at hl 1 rfl) ?_
              refine lv_iload_n hx hb dX1_mate_35 rfl (lv_at hl 3 rfl) ?_
              refine pb_afterM (pb_runV (rC := (RX1, TX1, 3)) (ci := 1) (As := [.int (nI i), .int (nI j)]) (rest := []) C (ct_X1_partners l D d sg n P b0 b1 hn hC hb0 R lo hSol i j (by omega) (by omega)) gw_X1_X1_partners hd_X1_partners ⟨rfl, rfl, Nat.le_of_ble_eq_true rfl, Nat.le_of_ble_eq_true rfl⟩ ⟨Nat.zero_le _, Nat.zero_le _⟩ hK hP rfl rfl hl.1 rfl (Nat.le_of_ble_eq_true rfl) dX1_mate_36) hS (fun _ z => z) (fun r H locs hq hfr hS => ?_)
              obtain ⟨rfl, b1, hP⟩ := hq
              refine pb_zeq (tgt := 44) hx hb dX1_mate_39 (by decide) (fun c39 => ?_) (fun c39 => ?_)
              · have c39 := of_decide_eq_false c39
                refine lv_iload_n hx hb dX1_mate_44 rfl (lv_at hl 2 rfl) ?_
                refine pb_zne (tgt := 72) hx hb dX1_mate_45 (by decide) (fun c45 => ?_) (fun c45 => absurd c17 (of_decide_eq_false c45))
                refine lv_iinc (v := nI (j + 1)) (lv' := [(3, .int (nI (j + 1))), (0, .ref (sg 0)), (1, .int (nI i)), (2, .int (pb_z (decide (R i = 0))))]) hx hb dX1_mate_72 hl (k := 3) rfl (nI_1 _) (by decide) rfl (fun ls hl => ?_)
                refine lv_goto (tgt := 8) hx hb dX1_mate_75 (by decide) ?_
                exact ih8 (j + 1) b1 ls _ _ (by omega) (by omega) (Or.inl ⟨c17, (lt_s hno c39)⟩) hP hS (lv_sub hl [1, 2, 3, 0] rfl)
              · have c39 := of_decide_eq_true c39
                refine lv_iload_n hx hb dX1_mate_42 rfl (lv_at hl 3 rfl) ?_
                exact pb_miret C hS ⟨(by rw [pb_pv_z c17]; rcases pb_cv_c (n := n) (R := R) (lo := lo) i with ⟨h1, _⟩ | ⟨b, h1, h2, h3, h4, h5⟩; exact absurd c39.2 (pb_cf_z h1 j (by omega) c39.1); rw [h5, hSol.2.2 b j h1 (by omega) h2 c39.1 (by omega)]), _, hP⟩ dX1_mate_43
  exact loop8 (n + 1) 0 b1 ls _ _ (by omega) (by omega) (by by_cases z : R i = 0; exact Or.inl ⟨z, fun j2 h => absurd h (Nat.not_lt_zero _)⟩; exact Or.inr ⟨z, fun j2 h => absurd h (Nat.not_lt_zero _)⟩) hP hS (lv_sub hl [2, 3, 1, 0] rfl)
end
section
/-! PersistentBarsModel: the public queries that rest on ranks -/
set_option maxHeartbeats 4000000 in
set_option maxRecDepth 100000 in
theorem ct_X1_holes (l : Launch) (D : va_G) (d : ClassId) (sg : Nat → Nat) (n : Nat) (P : Nat → Nat) (b0 b1 : Nat → Int32) (hn : pb_Nd sg 3) (hC : pb_Cx n P) (hb0 : ∀ i, i < n → b0 i = nI (P i)) (R lo : Nat → Nat) (hSol : pb_Sol n P R lo) (t k r : Int32) (hr9 : pb_HolesS n P R lo t k r) : Met l yX1_holes (ws_ yX1_holes cX1_holes 3 (some .int)) (pb_ro 5) (va_Pc [.ref (sg 0), .int t, .int k] (pb_B D d (pb_mW sg d (nI n) b0 b1))) (pb_Qm (pb_A sg 3) (pb_mP D d sg n b0 r)) 0 0 (pb_A sg 3) := by
  refine pb_met RX1 (by decide) rfl (Nat.le_of_ble_eq_true rfl) rfl ?_
  intro p e s m below meth c ls C hnm hB hl
  obtain ⟨hx, hb, hml, hr, hown, hlk, hts⟩ := id C
  obtain ⟨hP, hK⟩ := hB
  have hl : lv_has ls 3 [(0, .ref (sg 0)), (1, .int t), (2, .int k)] := hl
  have hS : va_S (pb_A sg 3) s.heap s.heap [] := va_S.rf
  have hn26 := hC.1
  rcases hr9 with ⟨ht, rfl⟩ | ⟨i, hi, rfl, hk, rfl⟩ | ⟨i, j, hi, rfl, hj, rfl, rfl⟩
  · refine lv_aload_n hx hb dX1_holes_0 rfl (lv_at hl 0 rfl) ?_
    refine lv_iload_n hx hb dX1_holes_1 rfl (lv_at hl 1 rfl) ?_
    refine pb_afterQ (pb_runV (rC := (RX1, TX1, 3)) (ci := 1) (As := [.int t]) (rest := []) C (ct_X1_badTime l D d sg n P b0 b1 hC hb0 t false ht) gw_X1_X1_badTime hd_X1_badTime ⟨rfl, rfl, Nat.le_of_ble_eq_true rfl, Nat.le_of_ble_eq_true rfl⟩ ⟨Nat.zero_le _, Nat.zero_le _⟩ hK hP rfl rfl hl.1 rfl (Nat.le_of_ble_eq_true rfl) dX1_holes_2) ?_
    refine pb_zeq (tgt := 10) hx hb dX1_holes_5 (by decide) (fun c5 => absurd c5 (by decide)) (fun c5 => ?_)
    refine lv_iconst (v := (-1)) hx hb dX1_holes_8 (by decide) ?_
    exact pb_miret C hS ⟨rfl, _, hP⟩ dX1_holes_9
  · refine lv_aload_n hx hb dX1_holes_0 rfl (lv_at hl 0 rfl) ?_
    refine lv_iload_n hx hb dX1_holes_1 rfl (lv_at hl 1 rfl) ?_
    refine pb_afterQ (pb_runV (rC := (RX1, TX1, 3)) (ci := 1) (As := [.int (nI i)]) (rest := []) C (ct_X1_badTime l D d sg n P b0 b1 hC hb0 (nI i) true (Or.inl ⟨rfl, i, by omega, rfl⟩)) gw_X1_X1_badTime hd_X1_badTime ⟨rfl, rfl, Nat.le_of_ble_eq_true rfl, Nat.le_of_ble_eq_true rfl⟩ ⟨Nat.zero_le _, Nat.zero_le _⟩ hK hP rfl rfl hl.1 rfl (Nat.le_of_ble_eq_true rfl) dX1_holes_2) ?_
    refine pb_zeq (tgt := 10) hx hb dX1_holes_5 (by decide) (fun c5 => ?_) (fun c5 => absurd c5 (by decide))
    refine lv_aload_n hx hb dX1_holes_10 rfl (lv_at hl 0 rfl) ?_
    refine lv_iload_n hx hb dX1_holes_11 rfl (lv_at hl 2 rfl) ?_
    refine pb_afterQ (pb_runV (rC := (RX1, TX1, 3)) (ci := 1) (As := [.int k]) (rest := []) C (ct_X1_badDimension l D d sg n P b0 b1 hC hb0 k false hk) gw_X1_X1_badDimension hd_X1_badDimension ⟨rfl, rfl, Nat.le_of_ble_eq_true rfl, Nat.le_of_ble_eq_true rfl⟩ ⟨Nat.zero_le _, Nat.zero_le _⟩ hK hP rfl rfl hl.1 rfl (Nat.le_of_ble_eq_true rfl) dX1_holes_12) ?_
    refine pb_zeq (tgt := 23) hx hb dX1_holes_15 (by decide) (fun c15 => absurd c15 (by decide)) (fun c15 => ?_)
    refine lv_bipush (v := (-2)) hx hb dX1_holes_18 (by decide) ?_
    refine lv_goto (tgt := 30) hx hb dX1_holes_20 (by decide) ?_
    exact pb_miret C hS ⟨rfl, _, hP⟩ dX1_holes_30
  · refine lv_aload_n hx hb dX1_holes_0 rfl (lv_at hl 0 rfl) ?_
    refine lv_iload_n hx hb dX1_holes_1 rfl (lv_at hl 1 rfl) ?_
    refine pb_afterQ (pb_runV (rC := (RX1, TX1, 3)) (ci := 1) (As := [.int (nI i)]) (rest := []) C (ct_X1_badTime l D d sg n P b0 b1 hC hb0 (nI i) true (Or.inl ⟨rfl, i, by omega, rfl⟩)) gw_X1_X1_badTime hd_X1_badTime ⟨rfl, rfl, Nat.le_of_ble_eq_true rfl, Nat.le_of_ble_eq_true rfl⟩ ⟨Nat.zero_le _, Nat.zero_le _⟩ hK hP rfl rfl hl.1 rfl (Nat.le_of_ble_eq_true rfl) dX1_holes_2) ?_
    refine pb_zeq (tgt := 10) hx hb dX1_holes_5 (by decide) (fun c5 => ?_) (fun c5 => absurd c5 (by decide))
    refine lv_aload_n hx hb dX1_holes_10 rfl (lv_at hl 0 rfl) ?_
    refine lv_iload_n hx hb dX1_holes_11 rfl (lv_at hl 2 rfl) ?_
    refine pb_afterQ (pb_runV (rC := (RX1, TX1, 3)) (ci := 1) (As := [.int (nI j)]) (rest := []) C (ct_X1_badDimension l D d sg n P b0 b1 hC hb0 (nI j) true (Or.inl ⟨rfl, j, hj, rfl⟩)) gw_X1_X1_badDimension hd_X1_badDimension ⟨rfl, rfl, Nat.le_of_ble_eq_true rfl, Nat.le_of_ble_eq_true rfl⟩ ⟨Nat.zero_le _, Nat.zero_le _⟩ hK hP rfl rfl hl.1 rfl (Nat.le_of_ble_eq_true rfl) dX1_holes_12) ?_
    refine pb_zeq (tgt := 23) hx hb dX1_holes_15 (by decide) (fun c15 => ?_) (fun c15 => absurd c15 (by decide))
    refine lv_aload_n hx hb dX1_holes_23 rfl (lv_at hl 0 rfl) ?_
    refine lv_iload_n hx hb dX1_holes_24 rfl (lv_at hl 1 rfl) ?_
    refine lv_iload_n hx hb dX1_holes_25 rfl (lv_at hl 1 rfl) ?_
    refine lv_iload_n hx hb dX1_holes_26 rfl (lv_at hl 2 rfl) ?_
    refine pb_afterM (pb_runV (rC := (RX1, TX1, 3)) (ci := 1) (As := [.int (nI i), .int (nI i), .int (nI j)]) (rest := []) C (ct_X1_last l D d sg n P b0 b1 hn hC hb0 R lo hSol i i j (by omega) (by omega) (by omega)) gw_X1_X1_last hd_X1_last ⟨rfl, rfl, Nat.le_of_ble_eq_true rfl, Nat.le_of_ble_eq_true rfl⟩ ⟨Nat.zero_le _, Nat.zero_le _⟩ hK hP rfl rfl hl.1 rfl (Nat.le_of_ble_eq_true rfl) dX1_holes_27) hS (fun _ z => z) (fun r H locs hq hfr hS => ?_)
    obtain ⟨rfl, b1, hP⟩ := hq
    exact pb_miret C hS ⟨rfl, _, hP⟩ dX1_holes_30
set_option maxHeartbeats 4000000 in
set_option maxRecDepth 100000 in
theorem ct_X1_lasting (l : Launch) (D : va_G) (d : ClassId) (sg : Nat → Nat) (n : Nat) (P : Nat → Nat) (b0 b1 : Nat → Int32) (hn : pb_Nd sg 3) (hC : pb_Cx n P) (hb0 : ∀ i, i < n → b0 i = nI (P i)) (R lo : Nat → Nat) (hSol : pb_Sol n P R lo) (x y k r : Int32) (hr9 : pb_LastingS n P R lo x y k r) : Met l yX1_lasting (ws_ yX1_lasting cX1_lasting 4 (some .int)) (pb_ro 5) (va_Pc [.ref (sg 0), .int x, .int y, .int k] (pb_B D d (pb_mW sg d (nI n) b0 b1))) (pb_Qm (pb_A sg 3) (pb_mP D d sg n b0 r)) 0 0 (pb_A sg 3) := by
  refine pb_met RX1 (by decide) rfl (Nat.le_of_ble_eq_true rfl) rfl ?_
  intro p e s m below meth c ls C hnm hB hl
  obtain ⟨hx, hb, hml, hr, hown, hlk, hts⟩ := id C
  obtain ⟨hP, hK⟩ := hB
  have hl : lv_has ls 4 [(0, .ref (sg 0)), (1, .int x), (2, .int y), (3, .int k)] := hl
  have hS : va_S (pb_A sg 3) s.heap s.heap [] := va_S.rf
  have hn26 := hC.1
  rcases hr9 with ⟨hbad, rfl⟩ | ⟨i, j, hij, hj, rfl, rfl, hk, rfl⟩ | ⟨i, j, a, hij, hj, rfl, rfl, ha, rfl, rfl⟩
  · rcases hbad with hx0 | ⟨a, ha, rfl, hy⟩ | ⟨a, b, ha, hb9, rfl, rfl, hab⟩
    · refine lv_aload_n hx hb dX1_lasting_0 rfl (lv_at hl 0 rfl) ?_
      refine lv_iload_n hx hb dX1_lasting_1 rfl (lv_at hl 1 rfl) ?_
      refine pb_afterQ (pb_runV (rC := (RX1, TX1, 3)) (ci := 1) (As := [.int x]) (rest := []) C (ct_X1_badTime l D d sg n P b0 b1 hC hb0 x false (Or.inr (Or.inl ⟨rfl, hx0⟩))) gw_X1_X1_badTime hd_X1_badTime ⟨rfl, rfl, Nat.le_of_ble_eq_true rfl, Nat.le_of_ble_eq_true rfl⟩ ⟨Nat.zero_le _, Nat.zero_le _⟩ hK hP rfl rfl hl.1 rfl (Nat.le_of_ble_eq_true rfl) dX1_lasting_2) ?_
      refine pb_zne (tgt := 21) hx hb dX1_lasting_5 (by decide) (fun c5 => ?_) (fun c5 => absurd c5 (by decide))
      refine lv_iconst (v := (-1)) hx hb dX1_lasting_21 (by decide) ?_
      exact pb_miret C hS ⟨rfl, _, hP⟩ dX1_lasting_22
    · rcases Nat.lt_or_ge n a with ha2 | ha2
      · refine lv_aload_n hx hb dX1_lasting_0 rfl (lv_at hl 0 rfl) ?_
        refine lv_iload_n hx hb dX1_lasting_1 rfl (lv_at hl 1 rfl) ?_
        refine pb_afterQ (pb_runV (rC := (RX1, TX1, 3)) (ci := 1) (As := [.int (nI a)]) (rest := []) C (ct_X1_badTime l D d sg n P b0 b1 hC hb0 (nI a) false (Or.inr (Or.inr ⟨rfl, a, by omega, ha, rfl⟩))) gw_X1_X1_badTime hd_X1_badTime ⟨rfl, rfl, Nat.le_of_ble_eq_true rfl, Nat.le_of_ble_eq_true rfl⟩ ⟨Nat.zero_le _, Nat.zero_le _⟩ hK hP rfl rfl hl.1 rfl (Nat.le_of_ble_eq_true rfl) dX1_lasting_2) ?_
        refine pb_zne (tgt := 21) hx hb dX1_lasting_5 (by decide) (fun c5 => ?_) (fun c5 => absurd c5 (by decide))
        refine lv_iconst (v := (-1)) hx hb dX1_lasting_21 (by decide) ?_
        exact pb_miret C hS ⟨rfl, _, hP⟩ dX1_lasting_22
      · refine lv_aload_n hx hb dX1_lasting_0 rfl (lv_at hl 0 rfl) ?_
        refine lv_iload_n hx hb dX1_lasting_1 rfl (lv_at hl 1 rfl) ?_
        refine pb_afterQ (pb_runV (rC := (RX1, TX1, 3)) (ci := 1) (As := [.int (nI a)]) (rest := []) C (ct_X1_badTime l D d sg n P b0 b1 hC hb0 (nI a) true (Or.inl ⟨rfl, a, by omega, rfl⟩)) gw_X1_X1_badTime hd_X1_badTime ⟨rfl, rfl, Nat.le_of_ble_eq_true rfl, Nat.le_of_ble_eq_true rfl⟩ ⟨Nat.zero_le _, Nat.zero_le _⟩ hK hP rfl rfl hl.1 rfl (Nat.le_of_ble_eq_true rfl) dX1_lasting_2) ?_
        refine pb_zne (tgt := 21) hx hb dX1_lasting_5 (by decide) (fun c5 => absurd c5 (by decide)) (fun c5 => ?_)
        refine lv_aload_n hx hb dX1_lasting_8 rfl (lv_at hl 0 rfl) ?_
        refine lv_iload_n hx hb dX1_lasting_9 rfl (lv_at hl 2 rfl) ?_
        refine pb_afterQ (pb_runV (rC := (RX1, TX1, 3)) (ci := 1) (As := [.int y]) (rest := []) C (ct_X1_badTime l D d sg n P b0 b1 hC hb0 y false (Or.inr (Or.inl ⟨rfl, hy⟩))) gw_X1_X1_badTime hd_X1_badTime ⟨rfl, rfl, Nat.le_of_ble_eq_true rfl, Nat.le_of_ble_eq_true rfl⟩ ⟨Nat.zero_le _, Nat.zero_le _⟩ hK hP rfl rfl hl.1 rfl (Nat.le_of_ble_eq_true rfl) dX1_lasting_10) ?_
        refine pb_zne (tgt := 21) hx hb dX1_lasting_13 (by decide) (fun c13 => ?_) (fun c13 => absurd c13 (by decide))
        refine lv_iconst (v := (-1)) hx hb dX1_lasting_21 (by decide) ?_
        exact pb_miret C hS ⟨rfl, _, hP⟩ dX1_lasting_22
    · rcases Nat.lt_or_ge n a with ha2 | ha2
      · refine lv_aload_n hx hb dX1_lasting_0 rfl (lv_at hl 0 rfl) ?_
        refine lv_iload_n hx hb dX1_lasting_1 rfl (lv_at hl 1 rfl) ?_
        refine pb_afterQ (pb_runV (rC := (RX1, TX1, 3)) (ci := 1) (As := [.int (nI a)]) (rest := []) C (ct_X1_badTime l D d sg n P b0 b1 hC hb0 (nI a) false (Or.inr (Or.inr ⟨rfl, a, by omega, ha, rfl⟩))) gw_X1_X1_badTime hd_X1_badTime ⟨rfl, rfl, Nat.le_of_ble_eq_true rfl, Nat.le_of_ble_eq_true rfl⟩ ⟨Nat.zero_le _, Nat.zero_le _⟩ hK hP rfl rfl hl.1 rfl (Nat.le_of_ble_eq_true rfl) dX1_lasting_2) ?_
        refine pb_zne (tgt := 21) hx hb dX1_lasting_5 (by decide) (fun c5 => ?_) (fun c5 => absurd c5 (by decide))
        refine lv_iconst (v := (-1)) hx hb dX1_lasting_21 (by decide) ?_
        exact pb_miret C hS ⟨rfl, _, hP⟩ dX1_lasting_22
      · rcases Nat.lt_or_ge n b with hb2 | hb2
        · refine lv_aload_n hx hb dX1_lasting_0 rfl (lv_at hl 0 rfl) ?_
          refine lv_iload_n hx hb dX1_lasting_1 rfl (lv_at hl 1 rfl) ?_
          refine pb_afterQ (pb_runV (rC := (RX1, TX1, 3)) (ci := 1) (As := [.int (nI a)]) (rest := []) C (ct_X1_badTime l D d sg n P b0 b1 hC hb0 (nI a) true (Or.inl ⟨rfl, a, by omega, rfl⟩)) gw_X1_X1_badTime hd_X1_badTime ⟨rfl, rfl, Nat.le_of_ble_eq_true rfl, Nat.le_of_ble_eq_true rfl⟩ ⟨Nat.zero_le _, Nat.zero_le _⟩ hK hP rfl rfl hl.1 rfl (Nat.le_of_ble_eq_true rfl) dX1_lasting_2) ?_
          refine pb_zne (tgt := 21) hx hb dX1_lasting_5 (by decide) (fun c5 => absurd c5 (by decide)) (fun c5 => ?_)
          refine lv_aload_n hx hb dX1_lasting_8 rfl (lv_at hl 0 rfl) ?_
          refine lv_iload_n hx hb dX1_lasting_9 rfl (lv_at hl 2 rfl) ?_
          refine pb_afterQ (pb_runV (rC := (RX1, TX1, 3)) (ci := 1) (As := [.int (nI b)]) (rest := []) C (ct_X1_badTime l D d sg n P b0 b1 hC hb0 (nI b) false (Or.inr (Or.inr ⟨rfl, b, by omega, hb9, rfl⟩))) gw_X1_X1_badTime hd_X1_badTime ⟨rfl, rfl, Nat.le_of_ble_eq_true rfl, Nat.le_of_ble_eq_true rfl⟩ ⟨Nat.zero_le _, Nat.zero_le _⟩ hK hP rfl rfl hl.1 rfl (Nat.le_of_ble_eq_true rfl) dX1_lasting_10) ?_
          refine pb_zne (tgt := 21) hx hb dX1_lasting_13 (by decide) (fun c13 => ?_) (fun c13 => absurd c13 (by decide))
          refine lv_iconst (v := (-1)) hx hb dX1_lasting_21 (by decide) ?_
          exact pb_miret C hS ⟨rfl, _, hP⟩ dX1_lasting_22
        · refine lv_aload_n hx hb dX1_lasting_0 rfl (lv_at hl 0 rfl) ?_
          refine lv_iload_n hx hb dX1_lasting_1 rfl (lv_at hl 1 rfl) ?_
          refine pb_afterQ (pb_runV (rC := (RX1, TX1, 3)) (ci := 1) (As := [.int (nI a)]) (rest := []) C (ct_X1_badTime l D d sg n P b0 b1 hC hb0 (nI a) true (Or.inl ⟨rfl, a, by omega, rfl⟩)) gw_X1_X1_badTime hd_X1_badTime ⟨rfl, rfl, Nat.le_of_ble_eq_true rfl, Nat.le_of_ble_eq_true rfl⟩ ⟨Nat.zero_le _, Nat.zero_le _⟩ hK hP rfl rfl hl.1 rfl (Nat.le_of_ble_eq_true rfl) dX1_lasting_2) ?_
          refine pb_zne (tgt := 21) hx hb dX1_lasting_5 (by decide) (fun c5 => absurd c5 (by decide)) (fun c5 => ?_)
          refine lv_aload_n hx hb dX1_lasting_8 rfl (lv_at hl 0 rfl) ?_
          refine lv_iload_n hx hb dX1_lasting_9 rfl (lv_at hl 2 rfl) ?_
          refine pb_afterQ (pb_runV (rC := (RX1, TX1, 3)) (ci := 1) (As := [.int (nI b)]) (rest := []) C (ct_X1_badTime l D d sg n P b0 b1 hC hb0 (nI b) true (Or.inl ⟨rfl, b, by omega, rfl⟩)) gw_X1_X1_badTime hd_X1_badTime ⟨rfl, rfl, Nat.le_of_ble_eq_true rfl, Nat.le_of_ble_eq_true rfl⟩ ⟨Nat.zero_le _, Nat.zero_le _⟩ hK hP rfl rfl hl.1 rfl (Nat.le_of_ble_eq_true rfl) dX1_lasting_10) ?_
          refine pb_zne (tgt := 21) hx hb dX1_lasting_13 (by decide) (fun c13 => absurd c13 (by decide)) (fun c13 => ?_)
          refine lv_iload_n hx hb dX1_lasting_16 rfl (lv_at hl 1 rfl) ?_
          refine lv_iload_n hx hb dX1_lasting_17 rfl (lv_at hl 2 rfl) ?_
          refine pb_ile (tgt := 23) hx hb dX1_lasting_18 (by decide) (by first | assumption | omega) (by first | assumption | omega) (fun c18 => absurd c18 (by omega)) (fun c18 => ?_)
          refine lv_iconst (v := (-1)) hx hb dX1_lasting_21 (by decide) ?_
          exact pb_miret C hS ⟨rfl, _, hP⟩ dX1_lasting_22
  · refine lv_aload_n hx hb dX1_lasting_0 rfl (lv_at hl 0 rfl) ?_
    refine lv_iload_n hx hb dX1_lasting_1 rfl (lv_at hl 1 rfl) ?_
    refine pb_afterQ (pb_runV (rC := (RX1, TX1, 3)) (ci := 1) (As := [.int (nI i)]) (rest := []) C (ct_X1_badTime l D d sg n P b0 b1 hC hb0 (nI i) true (Or.inl ⟨rfl, i, by omega, rfl⟩)) gw_X1_X1_badTime hd_X1_badTime ⟨rfl, rfl, Nat.le_of_ble_eq_true rfl, Nat.le_of_ble_eq_true rfl⟩ ⟨Nat.zero_le _, Nat.zero_le _⟩ hK hP rfl rfl hl.1 rfl (Nat.le_of_ble_eq_true rfl) dX1_lasting_2) ?_
    refine pb_zne (tgt := 21) hx hb dX1_lasting_5 (by decide) (fun c5 => absurd c5 (by decide)) (fun c5 => ?_)
    refine lv_aload_n hx hb dX1_lasting_8 rfl (lv_at hl 0 rfl) ?_
    refine lv_iload_n hx hb dX1_lasting_9 rfl (lv_at hl 2 rfl) ?_
    refine pb_afterQ (pb_runV (rC := (RX1, TX1, 3)) (ci := 1) (As := [.int (nI j)]) (rest := []) C (ct_X1_badTime l D d sg n P b0 b1 hC hb0 (nI j) true (Or.inl ⟨rfl, j, by omega, rfl⟩)) gw_X1_X1_badTime hd_X1_badTime ⟨rfl, rfl, Nat.le_of_ble_eq_true rfl, Nat.le_of_ble_eq_true rfl⟩ ⟨Nat.zero_le _, Nat.zero_le _⟩ hK hP rfl rfl hl.1 rfl (Nat.le_of_ble_eq_true rfl) dX1_lasting_10) ?_
    refine pb_zne (tgt := 21) hx hb dX1_lasting_13 (by decide) (fun c13 => absurd c13 (by decide)) (fun c13 => ?_)
    refine lv_iload_n hx hb dX1_lasting_16 rfl (lv_at hl 1 rfl) ?_
    refine lv_iload_n hx hb dX1_lasting_17 rfl (lv_at hl 2 rfl) ?_
    refine pb_ile (tgt := 23) hx hb dX1_lasting_18 (by decide) (by first | assumption | omega) (by first | assumption | omega) (fun c18 => ?_) (fun c18 => absurd c18 (by omega))
    refine lv_aload_n hx hb dX1_lasting_23 rfl (lv_at hl 0 rfl) ?_
    refine lv_iload_n hx hb dX1_lasting_24 rfl (lv_at hl 3 rfl) ?_
    refine pb_afterQ (pb_runV (rC := (RX1, TX1, 3)) (ci := 1) (As := [.int k]) (rest := []) C (ct_X1_badDimension l D d sg n P b0 b1 hC hb0 k false hk) gw_X1_X1_badDimension hd_X1_badDimension ⟨rfl, rfl, Nat.le_of_ble_eq_true rfl, Nat.le_of_ble_eq_true rfl⟩ ⟨Nat.zero_le _, Nat.zero_le _⟩ hK hP rfl rfl hl.1 rfl (Nat.le_of_ble_eq_true rfl) dX1_lasting_25) ?_
    refine pb_zeq (tgt := 36) hx hb dX1_lasting_28 (by decide) (fun c28 => absurd c28 (by decide)) (fun c28 => ?_)
    refine lv_bipush (v := (-2)) hx hb dX1_lasting_31 (by decide) ?_
    refine lv_goto (tgt := 43) hx hb dX1_lasting_33 (by decide) ?_
    exact pb_miret C hS ⟨rfl, _, hP⟩ dX1_lasting_43
  · refine lv_aload_n hx hb dX1_lasting_0 rfl (lv_at hl 0 rfl) ?_
    refine lv_iload_n hx hb dX1_lasting_1 rfl (lv_at hl 1 rfl) ?_
    refine pb_afterQ (pb_runV (rC := (RX1, TX1, 3)) (ci := 1) (As := [.int (nI i)]) (rest := []) C (ct_X1_badTime l D d sg n P b0 b1 hC hb0 (nI i) true (Or.inl ⟨rfl, i, by omega, rfl⟩)) gw_X1_X1_badTime hd_X1_badTime ⟨rfl, rfl, Nat.le_of_ble_eq_true rfl, Nat.le_of_ble_eq_true rfl⟩ ⟨Nat.zero_le _, Nat.zero_le _⟩ hK hP rfl rfl hl.1 rfl (Nat.le_of_ble_eq_true rfl) dX1_lasting_2) ?_
    refine pb_zne (tgt := 21) hx hb dX1_lasting_5 (by decide) (fun c5 => absurd c5 (by decide)) (fun c5 => ?_)
    refine lv_aload_n hx hb dX1_lasting_8 rfl (lv_at hl 0 rfl) ?_
    refine lv_iload_n hx hb dX1_lasting_9 rfl (lv_at hl 2 rfl) ?_
    refine pb_afterQ (pb_runV (rC := (RX1, TX1, 3)) (ci := 1) (As := [.int (nI j)]) (rest := []) C (ct_X1_badTime l D d sg n P b0 b1 hC hb0 (nI j) true (Or.inl ⟨rfl, j, by omega, rfl⟩)) gw_X1_X1_badTime hd_X1_badTime ⟨rfl, rfl, Nat.le_of_ble_eq_true rfl, Nat.le_of_ble_eq_true rfl⟩ ⟨Nat.zero_le _, Nat.zero_le _⟩ hK hP rfl rfl hl.1 rfl (Nat.le_of_ble_eq_true rfl) dX1_lasting_10) ?_
    refine pb_zne (tgt := 21) hx hb dX1_lasting_13 (by decide) (fun c13 => absurd c13 (by decide)) (fun c13 => ?_)
    refine lv_iload_n hx hb dX1_lasting_16 rfl (lv_at hl 1 rfl) ?_
    refine lv_iload_n hx hb dX1_lasting_17 rfl (lv_at hl 2 rfl) ?_
    refine pb_ile (tgt := 23) hx hb dX1_lasting_18 (by decide) (by first | assumption | omega) (by first | assumption | omega) (fun c18 => ?_) (fun c18 => absurd c18 (by omega))
    refine lv_aload_n hx hb dX1_lasting_23 rfl (lv_at hl 0 rfl) ?_
    refine lv_iload_n hx hb dX1_lasting_24 rfl (lv_at hl 3 rfl) ?_
    refine pb_afterQ (pb_runV (rC := (RX1, TX1, 3)) (ci := 1) (As := [.int (nI a)]) (rest := []) C (ct_X1_badDimension l D d sg n P b0 b1 hC hb0 (nI a) true (Or.inl ⟨rfl, a, ha, rfl⟩)) gw_X1_X1_badDimension hd_X1_badDimension ⟨rfl, rfl, Nat.le_of_ble_eq_true rfl, Nat.le_of_ble_eq_true rfl⟩ ⟨Nat.zero_le _, Nat.zero_le _⟩ hK hP rfl rfl hl.1 rfl (Nat.le_of_ble_eq_true rfl) dX1_lasting_25) ?_
    refine pb_zeq (tgt := 36) hx hb dX1_lasting_28 (by decide) (fun c28 => ?_) (fun c28 => absurd c28 (by decide))
    refine lv_aload_n hx hb dX1_lasting_36 rfl (lv_at hl 0 rfl) ?_
    refine lv_iload_n hx hb dX1_lasting_37 rfl (lv_at hl 1 rfl) ?_
    refine lv_iload_n hx hb dX1_lasting_38 rfl (lv_at hl 2 rfl) ?_
    refine lv_iload_n hx hb dX1_lasting_39 rfl (lv_at hl 3 rfl) ?_
    refine pb_afterM (pb_runV (rC := (RX1, TX1, 3)) (ci := 1) (As := [.int (nI i), .int (nI j), .int (nI a)]) (rest := []) C (ct_X1_last l D d sg n P b0 b1 hn hC hb0 R lo hSol i j a (by omega) (by omega) (by omega)) gw_X1_X1_last hd_X1_last ⟨rfl, rfl, Nat.le_of_ble_eq_true rfl, Nat.le_of_ble_eq_true rfl⟩ ⟨Nat.zero_le _, Nat.zero_le _⟩ hK hP rfl rfl hl.1 rfl (Nat.le_of_ble_eq_true rfl) dX1_lasting_40) hS (fun _ z => z) (fun r H locs hq hfr hS => ?_)
    obtain ⟨rfl, b1, hP⟩ := hq
    exact pb_miret C hS ⟨rfl, _, hP⟩ dX1_lasting_43
set_option maxHeartbeats 4000000 in
set_option maxRecDepth 100000 in
theorem ct_X1_opens (l : Launch) (D : va_G) (d : ClassId) (sg : Nat → Nat) (n : Nat) (P : Nat → Nat) (b0 b1 : Nat → Int32) (hn : pb_Nd sg 3) (hC : pb_Cx n P) (hb0 : ∀ i, i < n → b0 i = nI (P i)) (R lo : Nat → Nat) (hSol : pb_Sol n P R lo) (x r : Int32) (hr9 : pb_OpensS n R x r) : Met l yX1_opens (ws_ yX1_opens cX1_opens 2 (some .int)) (pb_ro 6) (va_Pc [.ref (sg 0), .int x] (pb_B D d (pb_mW sg d (nI n) b0 b1))) (pb_Qm (pb_A sg 3) (pb_mP D d sg n b0 r)) 0 0 (pb_A sg 3) := by
  refine pb_met RX1 (by decide) rfl (Nat.le_of_ble_eq_true rfl) rfl ?_
  intro p e s m below meth c ls C hnm hB hl
  obtain ⟨hx, hb, hml, hr, hown, hlk, hts⟩ := id C
  obtain ⟨hP, hK⟩ := hB
  have hl : lv_has ls 2 [(0, .ref (sg 0)), (1, .int x)] := hl
  have hS : va_S (pb_A sg 3) s.heap s.heap [] := va_S.rf
  have hn26 := hC.1
  rcases hr9 with ⟨hx1, rfl⟩ | ⟨i, hi, rfl, rfl⟩
  · refine lv_aload_n hx hb dX1_opens_0 rfl (lv_at hl 0 rfl) ?_
    refine lv_iload_n hx hb dX1_opens_1 rfl (lv_at hl 1 rfl) ?_
    refine pb_afterQ (pb_runV (rC := (RX1, TX1, 3)) (ci := 1) (As := [.int x]) (rest := []) C (ct_X1_bad l D d sg n P b0 b1 hC hb0 x false hx1) gw_X1_X1_bad hd_X1_bad ⟨rfl, rfl, Nat.le_of_ble_eq_true rfl, Nat.le_of_ble_eq_true rfl⟩ ⟨Nat.zero_le _, Nat.zero_le _⟩ hK hP rfl rfl hl.1 rfl (Nat.le_of_ble_eq_true rfl) dX1_opens_2) ?_
    refine pb_zeq (tgt := 10) hx hb dX1_opens_5 (by decide) (fun c5 => absurd c5 (by decide)) (fun c5 => ?_)
    refine lv_iconst (v := (-1)) hx hb dX1_opens_8 (by decide) ?_
    exact pb_miret C hS ⟨rfl, _, hP⟩ dX1_opens_9
  · refine lv_aload_n hx hb dX1_opens_0 rfl (lv_at hl 0 rfl) ?_
    refine lv_iload_n hx hb dX1_opens_1 rfl (lv_at hl 1 rfl) ?_
    refine pb_afterQ (pb_runV (rC := (RX1, TX1, 3)) (ci := 1) (As := [.int (nI i)]) (rest := []) C (ct_X1_bad l D d sg n P b0 b1 hC hb0 (nI i) true (Or.inl ⟨rfl, i, hi, rfl⟩)) gw_X1_X1_bad hd_X1_bad ⟨rfl, rfl, Nat.le_of_ble_eq_true rfl, Nat.le_of_ble_eq_true rfl⟩ ⟨Nat.zero_le _, Nat.zero_le _⟩ hK hP rfl rfl hl.1 rfl (Nat.le_of_ble_eq_true rfl) dX1_opens_2) ?_
    refine pb_zeq (tgt := 10) hx hb dX1_opens_5 (by decide) (fun c5 => ?_) (fun c5 => absurd c5 (by decide))
    refine lv_aload_n hx hb dX1_opens_10 rfl (lv_at hl 0 rfl) ?_
    refine lv_iload_n hx hb dX1_opens_11 rfl (lv_at hl 1 rfl) ?_
    refine pb_afterM (pb_runV (rC := (RX1, TX1, 3)) (ci := 1) (As := [.int (nI i)]) (rest := []) C (ct_X1_opening l D d sg n P b0 b1 hn hC hb0 R lo hSol i hi) gw_X1_X1_opening hd_X1_opening ⟨rfl, rfl, Nat.le_of_ble_eq_true rfl, Nat.le_of_ble_eq_true rfl⟩ ⟨Nat.zero_le _, Nat.zero_le _⟩ hK hP rfl rfl hl.1 rfl (Nat.le_of_ble_eq_true rfl) dX1_opens_12) hS (fun _ z => z) (fun r H locs hq hfr hS => ?_)
    obtain ⟨rfl, b1, hP⟩ := hq
    refine pb_zeq (tgt := 22) hx hb dX1_opens_15 (by decide) (fun c15 => ?_) (fun c15 => ?_)
    · refine lv_iconst (v := nI 0) hx hb dX1_opens_22 rfl ?_
      exact pb_miret C hS ⟨(by rw [c15]; rfl), _, hP⟩ dX1_opens_23
    · refine lv_iconst (v := nI 1) hx hb dX1_opens_18 rfl ?_
      refine lv_goto (tgt := 23) hx hb dX1_opens_19 (by decide) ?_
      exact pb_miret C hS ⟨(by rw [c15]; rfl), _, hP⟩ dX1_opens_23
set_option maxHeartbeats 4000000 in
set_option maxRecDepth 100000 in
theorem ct_X1_partner (l : Launch) (D : va_G) (d : ClassId) (sg : Nat → Nat) (n : Nat) (P : Nat → Nat) (b0 b1 : Nat → Int32) (hn : pb_Nd sg 3) (hC : pb_Cx n P) (hb0 : ∀ i, i < n → b0 i = nI (P i)) (R lo : Nat → Nat) (hSol : pb_Sol n P R lo) (x r : Int32) (hr9 : pb_PartnerS n R lo x r) : Met l yX1_partner (ws_ yX1_partner cX1_partner 2 (some .int)) (pb_ro 7) (va_Pc [.ref (sg 0), .int x] (pb_B D d (pb_mW sg d (nI n) b0 b1))) (pb_Qm (pb_A sg 3) (pb_mP D d sg n b0 r)) 0 0 (pb_A sg 3) := by
  refine pb_met RX1 (by decide) rfl (Nat.le_of_ble_eq_true rfl) rfl ?_
  intro p e s m below meth c ls C hnm hB hl
  obtain ⟨hx, hb, hml, hr, hown, hlk, hts⟩ := id C
  obtain ⟨hP, hK⟩ := hB
  have hl : lv_has ls 2 [(0, .ref (sg 0)), (1, .int x)] := hl
  have hS : va_S (pb_A sg 3) s.heap s.heap [] := va_S.rf
  have hn26 := hC.1
  rcases hr9 with ⟨hx1, rfl⟩ | ⟨i, hi, rfl, rfl⟩
  · refine lv_aload_n hx hb dX1_partner_0 rfl (lv_at hl 0 rfl) ?_
    refine lv_iload_n hx hb dX1_partner_1 rfl (lv_at hl 1 rfl) ?_
    refine pb_afterQ (pb_runV (rC := (RX1, TX1, 3)) (ci := 1) (As := [.int x]) (rest := []) C (ct_X1_bad l D d sg n P b0 b1 hC hb0 x false hx1) gw_X1_X1_bad hd_X1_bad ⟨rfl, rfl, Nat.le_of_ble_eq_true rfl, Nat.le_of_ble_eq_true rfl⟩ ⟨Nat.zero_le _, Nat.zero_le _⟩ hK hP rfl rfl hl.1 rfl (Nat.le_of_ble_eq_true rfl) dX1_partner_2) ?_
    refine pb_zeq (tgt := 12) hx hb dX1_partner_5 (by decide) (fun c5 => absurd c5 (by decide)) (fun c5 => ?_)
    refine lv_iconst (v := (-1)) hx hb dX1_partner_8 (by decide) ?_
    refine lv_goto (tgt := 17) hx hb dX1_partner_9 (by decide) ?_
    exact pb_miret C hS ⟨rfl, _, hP⟩ dX1_partner_17
  · refine lv_aload_n hx hb dX1_partner_0 rfl (lv_at hl 0 rfl) ?_
    refine lv_iload_n hx hb dX1_partner_1 rfl (lv_at hl 1 rfl) ?_
    refine pb_afterQ (pb_runV (rC := (RX1, TX1, 3)) (ci := 1) (As := [.int (nI i)]) (rest := []) C (ct_X1_bad l D d sg n P b0 b1 hC hb0 (nI i) true (Or.inl ⟨rfl, i, hi, rfl⟩)) gw_X1_X1_bad hd_X1_bad ⟨rfl, rfl, Nat.le_of_ble_eq_true rfl, Nat.le_of_ble_eq_true rfl⟩ ⟨Nat.zero_le _, Nat.zero_le _⟩ hK hP rfl rfl hl.1 rfl (Nat.le_of_ble_eq_true rfl) dX1_partner_2) ?_
    refine pb_zeq (tgt := 12) hx hb dX1_partner_5 (by decide) (fun c5 => ?_) (fun c5 => absurd c5 (by decide))
    refine lv_aload_n hx hb dX1_partner_12 rfl (lv_at hl 0 rfl) ?_
    refine lv_iload_n hx hb dX1_partner_13 rfl (lv_at hl 1 rfl) ?_
    refine pb_afterM (pb_runV (rC := (RX1, TX1, 3)) (ci := 1) (As := [.int (nI i)]) (rest := []) C (ct_X1_mate l D d sg n P b0 b1 hn hC hb0 R lo hSol i hi) gw_X1_X1_mate hd_X1_mate ⟨rfl, rfl, Nat.le_of_ble_eq_true rfl, Nat.le_of_ble_eq_true rfl⟩ ⟨Nat.zero_le _, Nat.zero_le _⟩ hK hP rfl rfl hl.1 rfl (Nat.le_of_ble_eq_true rfl) dX1_partner_14) hS (fun _ z => z) (fun r H locs hq hfr hS => ?_)
    obtain ⟨rfl, b1, hP⟩ := hq
    exact pb_miret C hS ⟨rfl, _, hP⟩ dX1_partner_17
set_option maxHeartbeats 4000000 in
set_option maxRecDepth 100000 in
theorem ct_X1_forever (l : Launch) (D : va_G) (d : ClassId) (sg : Nat → Nat) (n : Nat) (P : Nat → Nat) (b0 b1 : Nat → Int32) (hn : pb_Nd sg 3) (hC : pb_Cx n P) (hb0 : ∀ i, i < n → b0 i = nI (P i)) (R lo : Nat → Nat) (hSol : pb_Sol n P R lo) (k r : Int32) (hr9 : pb_ForeverS n P R lo k r) : Met l yX1_forever (ws_ yX1_forever cX1_forever 4 (some .int)) (pb_ro 7) (va_Pc [.ref (sg 0), .int k] (pb_B D d (pb_mW sg d (nI n) b0 b1))) (pb_Qm (pb_A sg 3) (pb_mP D d sg n b0 r)) 0 0 (pb_A sg 3) := by
  refine pb_met RX1 (by decide) rfl (Nat.le_of_ble_eq_true rfl) rfl ?_
  intro p e s m below meth c ls C hnm hB hl
  obtain ⟨hx, hb, hml, hr, hown, hlk, hts⟩ := id C
  obtain ⟨hP, hK⟩ := hB
  have hl : lv_has ls 4 [(0, .ref (sg 0)), (1, .int k)] := hl
  have hS : va_S (pb_A sg 3) s.heap s.heap [] := va_S.rf
  have hn26 := hC.1
  rcases hr9 with ⟨hk, rfl⟩ | ⟨a, ha, rfl, rfl⟩
  · refine lv_aload_n hx hb dX1_forever_0 rfl (lv_at hl 0 rfl) ?_
    refine lv_iload_n hx hb dX1_forever_1 rfl (lv_at hl 1 rfl) ?_
    refine pb_afterQ (pb_runV (rC := (RX1, TX1, 3)) (ci := 1) (As := [.int k]) (rest := []) C (ct_X1_badDimension l D d sg n P b0 b1 hC hb0 k false hk) gw_X1_X1_badDimension hd_X1_badDimension ⟨rfl, rfl, Nat.le_of_ble_eq_true rfl, Nat.le_of_ble_eq_true rfl⟩ ⟨Nat.zero_le _, Nat.zero_le _⟩ hK hP rfl rfl hl.1 rfl (Nat.le_of_ble_eq_true rfl) dX1_forever_2) ?_
    refine pb_zeq (tgt := 10) hx hb dX1_forever_5 (by decide) (fun c5 => absurd c5 (by decide)) (fun c5 => ?_)
    refine lv_iconst (v := (-1)) hx hb dX1_forever_8 (by decide) ?_
    exact pb_miret C hS ⟨rfl, _, hP⟩ dX1_forever_9
  · refine lv_aload_n hx hb dX1_forever_0 rfl (lv_at hl 0 rfl) ?_
    refine lv_iload_n hx hb dX1_forever_1 rfl (lv_at hl 1 rfl) ?_
    refine pb_afterQ (pb_runV (rC := (RX1, TX1, 3)) (ci := 1) (As := [.int (nI a)]) (rest := []) C (ct_X1_badDimension l D d sg n P b0 b1 hC hb0 (nI a) true (Or.inl ⟨rfl, a, ha, rfl⟩)) gw_X1_X1_badDimension hd_X1_badDimension ⟨rfl, rfl, Nat.le_of_ble_eq_true rfl, Nat.le_of_ble_eq_true rfl⟩ ⟨Nat.zero_le _, Nat.zero_le _⟩ hK hP rfl rfl hl.1 rfl (Nat.le_of_ble_eq_true rfl) dX1_forever_2) ?_
    refine pb_zeq (tgt := 10) hx hb dX1_forever_5 (by decide) (fun c5 => ?_) (fun c5 => absurd c5 (by decide))
    refine lv_iconst (v := nI 0) hx hb dX1_forever_10 rfl ?_
    refine lv_istore_n (lv' := [(2, .int (nI 0)), (0, .ref (sg 0)), (1, .int (nI a))]) hx hb dX1_forever_11 rfl hl (by decide) rfl (fun ls hl => ?_)
    refine lv_iconst (v := nI 0) hx hb dX1_forever_12 rfl ?_
    refine lv_istore_n (lv' := [(3, .int (nI 0)), (2, .int (nI 0)), (0, .ref (sg 0)), (1, .int (nI a))]) hx hb dX1_forever_13 rfl hl (by decide) rfl (fun ls hl => ?_)
    have loop14 : ∀ (k14 : Nat) (i : Nat) (b1 : Nat → Int32) (ls : Array Slot) (H : Heap) (locs : List Loc), (n < i + k14) → (i ≤ n) → va_P D pb_cl (pb_mW sg d (nI n) b0 b1) H → va_S (pb_A sg 3) s.heap H locs → lv_has ls 4 [(0, .ref (sg 0)), (1, .int (nI a)), (2, .int (nI (pb_Lm P R lo i n (a + 1)))), (3, .int (nI i))] → W p l e (pb_ro 7) s m ([.ref (sg 0), .int (nI a)] : List Value).toArray below meth c H locs 0 0 (MQ below (pb_Qm (pb_A sg 3) (pb_mP D d sg n b0 (nI (pb_Lm P R lo n n (a + 1))))) ([.ref (sg 0), .int (nI a)] : List Value).toArray s 0 0 (pb_A sg 3)) (F0 m 14 ls []) := by
      intro k14
      induction k14 with
      | zero =>
        intro i b1 ls H locs hk hi hP hS hl
        omega
      | succ k14 ih14 =>
        intro i b1 ls H locs hk hi hP hS hl
        refine lv_iload_n hx hb dX1_forever_14 rfl (lv_at hl 3 rfl) ?_
        refine lv_aload_n hx hb dX1_forever_15 rfl (lv_at hl 0 rfl) ?_
        refine pb_gM0 C hK hP dX1_forever_16 ?_
        refine pb_ige (tgt := 56) hx hb dX1_forever_19 (by decide) (by first | assumption | omega) (by first | assumption | omega) (fun c19 => ?_) (fun c19 => ?_)
        · refine lv_iload_n hx hb dX1_forever_56 rfl (lv_at hl 2 rfl) ?_
          exact pb_miret C hS ⟨(by rw [show i = n by omega]), _, hP⟩ dX1_forever_57
        · have hPi := pb_cx_pop hC (i := i) (by omega)
          refine lv_aload_n hx hb dX1_forever_22 rfl (lv_at hl 0 rfl) ?_
          refine lv_iload_n hx hb dX1_forever_23 rfl (lv_at hl 3 rfl) ?_
          refine pb_afterQ (pb_runV (rC := (RX1, TX1, 3)) (ci := 1) (As := [.int (nI i)]) (rest := []) C (ct_X1_dimension l D d sg n P b0 b1 hC hb0 i (by omega)) gw_X1_X1_dimension hd_X1_dimension ⟨rfl, rfl, Nat.le_of_ble_eq_true rfl, Nat.le_of_ble_eq_true rfl⟩ ⟨Nat.zero_le _, Nat.zero_le _⟩ hK hP rfl rfl hl.1 rfl (Nat.le_of_ble_eq_true rfl) dX1_forever_24) ?_
          refine lv_iload_n hx hb dX1_forever_27 rfl (lv_at hl 1 rfl) ?_
          refine pb_ine (tgt := 50) hx hb dX1_forever_28 (by decide) (by first | assumption | omega) (by first | assumption | omega) (fun c28 => ?_) (fun c28 => ?_)
          · have hl : lv_has ls 4 [(0, .ref (sg 0)), (1, .int (nI a)), (2, .int (nI (pb_Lm P R lo (i + 1) n (a + 1)))), (3, .int (nI i))] := by have e9 : nI (pb_Lm P R lo i n (a + 1)) = nI (pb_Lm P R lo (i + 1) n (a + 1)) := (by rw [pb_Lm_n (fun z => by omega)]); rw [← e9]; exact hl
            refine lv_iinc (v := nI (i + 1)) (lv' := [(3, .int (nI (i + 1))), (0, .ref (sg 0)), (1, .int (nI a)), (2, .int (nI (pb_Lm P R lo (i + 1) n (a + 1))))]) hx hb dX1_forever_50 hl (k := 3) rfl (nI_1 _) (by decide) rfl (fun ls hl => ?_)
            refine lv_goto (tgt := 14) hx hb dX1_forever_53 (by decide) ?_
            exact ih14 (i + 1) b1 ls _ _ (by omega) (by omega) hP hS (lv_sub hl [1, 2, 3, 0] rfl)
          · refine lv_aload_n hx hb dX1_forever_31 rfl (lv_at hl 0 rfl) ?_
            refine lv_iload_n hx hb dX1_forever_32 rfl (lv_at hl 3 rfl) ?_
            refine pb_afterM (pb_runV (rC := (RX1, TX1, 3)) (ci := 1) (As := [.int (nI i)]) (rest := []) C (ct_X1_opening l D d sg n P b0 b1 hn hC hb0 R lo hSol i (by omega)) gw_X1_X1_opening hd_X1_opening ⟨rfl, rfl, Nat.le_of_ble_eq_true rfl, Nat.le_of_ble_eq_true rfl⟩ ⟨Nat.zero_le _, Nat.zero_le _⟩ hK hP rfl rfl hl.1 rfl (Nat.le_of_ble_eq_true rfl) dX1_forever_33) hS (fun _ z => z) (fun r H locs hq hfr hS => ?_)
            obtain ⟨rfl, b1, hP⟩ := hq
            refine pb_zeq (tgt := 50) hx hb dX1_forever_36 (by decide) (fun c36 => ?_) (fun c36 => ?_)
            · have c36 := of_decide_eq_false c36
              have hl : lv_has ls 4 [(0, .ref (sg 0)), (1, .int (nI a)), (2, .int (nI (pb_Lm P R lo (i + 1) n (a + 1)))), (3, .int (nI i))] := by have e9 : nI (pb_Lm P R lo i n (a + 1)) = nI (pb_Lm P R lo (i + 1) n (a + 1)) := (by rw [pb_Lm_n (fun z => c36 z.2.1)]); rw [← e9]; exact hl
              refine lv_iinc (v := nI (i + 1)) (lv' := [(3, .int (nI (i + 1))), (0, .ref (sg 0)), (1, .int (nI a)), (2, .int (nI (pb_Lm P R lo (i + 1) n (a + 1))))]) hx hb dX1_forever_50 hl (k := 3) rfl (nI_1 _) (by decide) rfl (fun ls hl => ?_)
              refine lv_goto (tgt := 14) hx hb dX1_forever_53 (by decide) ?_
              exact ih14 (i + 1) b1 ls _ _ (by omega) (by omega) hP hS (lv_sub hl [1, 2, 3, 0] rfl)
            · have c36 := of_decide_eq_true c36
              refine lv_aload_n hx hb dX1_forever_39 rfl (lv_at hl 0 rfl) ?_
              refine lv_iload_n hx hb dX1_forever_40 rfl (lv_at hl 3 rfl) ?_
              refine pb_afterM (pb_runV (rC := (RX1, TX1, 3)) (ci := 1) (As := [.int (nI i)]) (rest := []) C (ct_X1_mate l D d sg n P b0 b1 hn hC hb0 R lo hSol i (by omega)) gw_X1_X1_mate hd_X1_mate ⟨rfl, rfl, Nat.le_of_ble_eq_true rfl, Nat.le_of_ble_eq_true rfl⟩ ⟨Nat.zero_le _, Nat.zero_le _⟩ hK hP rfl rfl hl.1 rfl (Nat.le_of_ble_eq_true rfl) dX1_forever_41) hS (fun _ z => z) (fun r H locs hq hfr hS => ?_)
              obtain ⟨rfl, b1, hP⟩ := hq
              refine pb_top (pb_cv n R lo i) (pb_pv_z c36) ?_
              rcases pb_cv_c (n := n) (R := R) (lo := lo) i with ⟨hcf, hcv⟩ | ⟨b9, hb1, hb2, hb3, hb4, hcv⟩
              · refine pb_top ((-2)) hcv ?_
                refine pb_cgeN (tgt := 50) hx hb dX1_forever_44 (by decide) (by decide) ?_
                refine lv_iinc (v := nI (pb_Lm P R lo (i + 1) n (a + 1))) (lv' := [(2, .int (nI (pb_Lm P R lo (i + 1) n (a + 1)))), (0, .ref (sg 0)), (1, .int (nI a)), (3, .int (nI i))]) hx hb dX1_forever_47 hl (k := 2) rfl (by rw [pb_Lm_y ⟨by omega, c36, fun z => pb_cf_ex.mp z hcf⟩]; exact nI_1 _) (by decide) rfl (fun ls hl => ?_)
                refine lv_iinc (v := nI (i + 1)) (lv' := [(3, .int (nI (i + 1))), (2, .int (nI (pb_Lm P R lo (i + 1) n (a + 1)))), (0, .ref (sg 0)), (1, .int (nI a))]) hx hb dX1_forever_50 hl (k := 3) rfl (nI_1 _) (by decide) rfl (fun ls hl => ?_)
                refine lv_goto (tgt := 14) hx hb dX1_forever_53 (by decide) ?_
                exact ih14 (i + 1) b1 ls _ _ (by omega) (by omega) hP hS (lv_sub hl [2, 3, 1, 0] rfl)
              · refine pb_top (nI b9) hcv ?_
                refine pb_cge (tgt := 50) hx hb dX1_forever_44 (by decide) (by first | assumption | omega) ?_
                have hl : lv_has ls 4 [(0, .ref (sg 0)), (1, .int (nI a)), (2, .int (nI (pb_Lm P R lo (i + 1) n (a + 1)))), (3, .int (nI i))] := by have e9 : nI (pb_Lm P R lo i n (a + 1)) = nI (pb_Lm P R lo (i + 1) n (a + 1)) := (by rw [pb_Lm_n (fun z => z.2.2 ⟨b9, hb1, hb2, hb3⟩)]); rw [← e9]; exact hl
                refine lv_iinc (v := nI (i + 1)) (lv' := [(3, .int (nI (i + 1))), (0, .ref (sg 0)), (1, .int (nI a)), (2, .int (nI (pb_Lm P R lo (i + 1) n (a + 1))))]) hx hb dX1_forever_50 hl (k := 3) rfl (nI_1 _) (by decide) rfl (fun ls hl => ?_)
                refine lv_goto (tgt := 14) hx hb dX1_forever_53 (by decide) ?_
                exact ih14 (i + 1) b1 ls _ _ (by omega) (by omega) hP hS (lv_sub hl [1, 2, 3, 0] rfl)
    exact loop14 (n + 1) 0 b1 ls _ _ (by omega) (by omega) hP hS (lv_sub hl [2, 3, 1, 0] rfl)
theorem pb_neg_le {i a : Nat} (hi : i < 2 ^ 30) (ha : a < 2 ^ 31) : (-2) - nI i ≤ nI a := by
  have h1 : (-2 : Int32) - nI i = -(nI (i + 2)) := by
    rw [← nI_add]
    have : nI 2 = 2 := rfl
    rw [this]
    grind
  rw [h1, Int32.le_iff_toInt_le, sb_negT (by omega), nI_toInt ha]
  omega
set_option maxHeartbeats 4000000 in
set_option maxRecDepth 100000 in
theorem ct_X1_longest (l : Launch) (D : va_G) (d : ClassId) (sg : Nat → Nat) (n : Nat) (P : Nat → Nat) (b0 b1 : Nat → Int32) (hn : pb_Nd sg 3) (hC : pb_Cx n P) (hb0 : ∀ i, i < n → b0 i = nI (P i)) (R lo : Nat → Nat) (hSol : pb_Sol n P R lo) (k r : Int32) (hr9 : pb_LongestS n P R lo k r) : Met l yX1_longest (ws_ yX1_longest cX1_longest 5 (some .int)) (pb_ro 7) (va_Pc [.ref (sg 0), .int k] (pb_B D d (pb_mW sg d (nI n) b0 b1))) (pb_Qm (pb_A sg 3) (pb_mP D d sg n b0 r)) 0 0 (pb_A sg 3) := by
  refine pb_met RX1 (by decide) rfl (Nat.le_of_ble_eq_true rfl) rfl ?_
  intro p e s m below meth c ls C hnm hB hl
  obtain ⟨hx, hb, hml, hr, hown, hlk, hts⟩ := id C
  obtain ⟨hP, hK⟩ := hB
  have hl : lv_has ls 5 [(0, .ref (sg 0)), (1, .int k)] := hl
  have hS : va_S (pb_A sg 3) s.heap s.heap [] := va_S.rf
  have hn26 := hC.1
  rcases hr9 with ⟨hk, rfl⟩ | ⟨a, ha, rfl, rfl⟩
  · refine lv_aload_n hx hb dX1_longest_0 rfl (lv_at hl 0 rfl) ?_
    refine lv_iload_n hx hb dX1_longest_1 rfl (lv_at hl 1 rfl) ?_
    refine pb_afterQ (pb_runV (rC := (RX1, TX1, 3)) (ci := 1) (As := [.int k]) (rest := []) C (ct_X1_badDimension l D d sg n P b0 b1 hC hb0 k false hk) gw_X1_X1_badDimension hd_X1_badDimension ⟨rfl, rfl, Nat.le_of_ble_eq_true rfl, Nat.le_of_ble_eq_true rfl⟩ ⟨Nat.zero_le _, Nat.zero_le _⟩ hK hP rfl rfl hl.1 rfl (Nat.le_of_ble_eq_true rfl) dX1_longest_2) ?_
    refine pb_zeq (tgt := 10) hx hb dX1_longest_5 (by decide) (fun c5 => absurd c5 (by decide)) (fun c5 => ?_)
    refine lv_iconst (v := (-1)) hx hb dX1_longest_8 (by decide) ?_
    exact pb_miret C hS ⟨rfl, _, hP⟩ dX1_longest_9
  · refine lv_aload_n hx hb dX1_longest_0 rfl (lv_at hl 0 rfl) ?_
    refine lv_iload_n hx hb dX1_longest_1 rfl (lv_at hl 1 rfl) ?_
    refine pb_afterQ (pb_runV (rC := (RX1, TX1, 3)) (ci := 1) (As := [.int (nI a)]) (rest := []) C (ct_X1_badDimension l D d sg n P b0 b1 hC hb0 (nI a) true (Or.inl ⟨rfl, a, ha, rfl⟩)) gw_X1_X1_badDimension hd_X1_badDimension ⟨rfl, rfl, Nat.le_of_ble_eq_true rfl, Nat.le_of_ble_eq_true rfl⟩ ⟨Nat.zero_le _, Nat.zero_le _⟩ hK hP rfl rfl hl.1 rfl (Nat.le_of_ble_eq_true rfl) dX1_longest_2) ?_
    refine pb_zeq (tgt := 10) hx hb dX1_longest_5 (by decide) (fun c5 => ?_) (fun c5 => absurd c5 (by decide))
    refine lv_iconst (v := nI 0) hx hb dX1_longest_10 rfl ?_
    refine lv_istore_n (lv' := [(2, .int (nI 0)), (0, .ref (sg 0)), (1, .int (nI a))]) hx hb dX1_longest_11 rfl hl (by decide) rfl (fun ls hl => ?_)
    refine lv_iconst (v := nI 0) hx hb dX1_longest_12 rfl ?_
    refine lv_istore_n (lv' := [(3, .int (nI 0)), (2, .int (nI 0)), (0, .ref (sg 0)), (1, .int (nI a))]) hx hb dX1_longest_13 rfl hl (by decide) rfl (fun ls hl => ?_)
    have loop14 : ∀ (k14 : Nat) (i : Nat) (b1 : Nat → Int32) (ls : Array Slot) (H : Heap) (locs : List Loc), (n < i + k14) → (i ≤ n) → va_P D pb_cl (pb_mW sg d (nI n) b0 b1) H → va_S (pb_A sg 3) s.heap H locs → lv_has ls 5 [(0, .ref (sg 0)), (1, .int (nI a)), (2, .int (nI (pb_mx n P R lo (a + 1) i))), (3, .int (nI i))] → W p l e (pb_ro 7) s m ([.ref (sg 0), .int (nI a)] : List Value).toArray below meth c H locs 0 0 (MQ below (pb_Qm (pb_A sg 3) (pb_mP D d sg n b0 (nI (pb_mx n P R lo (a + 1) n)))) ([.ref (sg 0), .int (nI a)] : List Value).toArray s 0 0 (pb_A sg 3)) (F0 m 14 ls []) := by
      intro k14
      induction k14 with
      | zero =>
        intro i b1 ls H locs hk hi hP hS hl
        omega
      | succ k14 ih14 =>
        intro i b1 ls H locs hk hi hP hS hl
        refine lv_iload_n hx hb dX1_longest_14 rfl (lv_at hl 3 rfl) ?_
        refine lv_aload_n hx hb dX1_longest_15 rfl (lv_at hl 0 rfl) ?_
        refine pb_gM0 C hK hP dX1_longest_16 ?_
        refine pb_ige (tgt := 70) hx hb dX1_longest_19 (by decide) (by first | assumption | omega) (by first | assumption | omega) (fun c19 => ?_) (fun c19 => ?_)
        · refine lv_iload_n hx hb dX1_longest_70 rfl (lv_at hl 2 rfl) ?_
          exact pb_miret C hS ⟨(by rw [show i = n by omega]), _, hP⟩ dX1_longest_71
        · have hPi := pb_cx_pop hC (i := i) (by omega)
          have hmx := pb_mx_le (n := n) (P := P) (R := R) (lo := lo) (k := a + 1) i
          refine lv_aload_n hx hb dX1_longest_22 rfl (lv_at hl 0 rfl) ?_
          refine lv_iload_n hx hb dX1_longest_23 rfl (lv_at hl 3 rfl) ?_
          refine pb_afterQ (pb_runV (rC := (RX1, TX1, 3)) (ci := 1) (As := [.int (nI i)]) (rest := []) C (ct_X1_dimension l D d sg n P b0 b1 hC hb0 i (by omega)) gw_X1_X1_dimension hd_X1_dimension ⟨rfl, rfl, Nat.le_of_ble_eq_true rfl, Nat.le_of_ble_eq_true rfl⟩ ⟨Nat.zero_le _, Nat.zero_le _⟩ hK hP rfl rfl hl.1 rfl (Nat.le_of_ble_eq_true rfl) dX1_longest_24) ?_
          refine lv_iload_n hx hb dX1_longest_27 rfl (lv_at hl 1 rfl) ?_
          refine pb_ine (tgt := 47) hx hb dX1_longest_28 (by decide) (by first | assumption | omega) (by first | assumption | omega) (fun c28 => ?_) (fun c28 => ?_)
          · refine lv_bipush (v := (-2)) hx hb dX1_longest_47 (by decide) ?_
            refine lv_istore (lv' := [(4, .int (-2)), (0, .ref (sg 0)), (1, .int (nI a)), (2, .int (nI (pb_mx n P R lo (a + 1) i))), (3, .int (nI i))]) hx hb dX1_longest_49 hl (by decide) rfl (fun ls hl => ?_)
            refine lv_iload hx hb dX1_longest_51 (lv_at hl 0 rfl) ?_
            refine lv_iload_n hx hb dX1_longest_53 rfl (lv_at hl 4 rfl) ?_
            refine lv_isub hx hb dX1_longest_54 ?_
            refine lv_iload_n hx hb dX1_longest_55 rfl (lv_at hl 3 rfl) ?_
            refine lv_icmp_le (tgt := 64) hx hb dX1_longest_56 (by decide) (fun c56 => ?_) (fun c56 => absurd (pb_neg_le (by omega) (by omega)) c56)
            have hl : lv_has ls 5 [(4, .int (-2)), (0, .ref (sg 0)), (1, .int (nI a)), (2, .int (nI (pb_mx n P R lo (a + 1) (i + 1)))), (3, .int (nI i))] := by have e9 : nI (pb_mx n P R lo (a + 1) i) = nI (pb_mx n P R lo (a + 1) (i + 1)) := (by rw [pb_mx_n (fun z => by omega)]); rw [← e9]; exact hl
            refine lv_iinc (v := nI (i + 1)) (lv' := [(3, .int (nI (i + 1))), (4, .int (-2)), (0, .ref (sg 0)), (1, .int (nI a)), (2, .int (nI (pb_mx n P R lo (a + 1) (i + 1))))]) hx hb dX1_longest_64 hl (k := 4) rfl (nI_1 _) (by decide) rfl (fun ls hl => ?_)
            refine lv_goto (tgt := 14) hx hb dX1_longest_67 (by decide) ?_
            exact ih14 (i + 1) b1 ls _ _ (by omega) (by omega) hP hS (lv_sub hl [2, 3, 4, 0] rfl)
          · refine lv_aload_n hx hb dX1_longest_31 rfl (lv_at hl 0 rfl) ?_
            refine lv_iload_n hx hb dX1_longest_32 rfl (lv_at hl 3 rfl) ?_
            refine pb_afterM (pb_runV (rC := (RX1, TX1, 3)) (ci := 1) (As := [.int (nI i)]) (rest := []) C (ct_X1_opening l D d sg n P b0 b1 hn hC hb0 R lo hSol i (by omega)) gw_X1_X1_opening hd_X1_opening ⟨rfl, rfl, Nat.le_of_ble_eq_true rfl, Nat.le_of_ble_eq_true rfl⟩ ⟨Nat.zero_le _, Nat.zero_le _⟩ hK hP rfl rfl hl.1 rfl (Nat.le_of_ble_eq_true rfl) dX1_longest_33) hS (fun _ z => z) (fun r H locs hq hfr hS => ?_)
            obtain ⟨rfl, b1, hP⟩ := hq
            refine pb_zeq (tgt := 47) hx hb dX1_longest_36 (by decide) (fun c36 => ?_) (fun c36 => ?_)
            · have c36 := of_decide_eq_false c36
              refine lv_bipush (v := (-2)) hx hb dX1_longest_47 (by decide) ?_
              refine lv_istore (lv' := [(4, .int (-2)), (0, .ref (sg 0)), (1, .int (nI a)), (2, .int (nI (pb_mx n P R lo (a + 1) i))), (3, .int (nI i))]) hx hb dX1_longest_49 hl (by decide) rfl (fun ls hl => ?_)
              refine lv_iload hx hb dX1_longest_51 (lv_at hl 0 rfl) ?_
              refine lv_iload_n hx hb dX1_longest_53 rfl (lv_at hl 4 rfl) ?_
              refine lv_isub hx hb dX1_longest_54 ?_
              refine lv_iload_n hx hb dX1_longest_55 rfl (lv_at hl 3 rfl) ?_
              refine lv_icmp_le (tgt := 64) hx hb dX1_longest_56 (by decide) (fun c56 => ?_) (fun c56 => absurd (pb_neg_le (by omega) (by omega)) c56)
              have hl : lv_has ls 5 [(4, .int (-2)), (0, .ref (sg 0)), (1, .int (nI a)), (2, .int (nI (pb_mx n P R lo (a + 1) (i + 1)))), (3, .int (nI i))] := by have e9 : nI (pb_mx n P R lo (a + 1) i) = nI (pb_mx n P R lo (a + 1) (i + 1)) := (by rw [pb_mx_n (fun z => c36 z.2.1)]); rw [← e9]; exact hl
              refine lv_iinc (v := nI (i + 1)) (lv' := [(3, .int (nI (i + 1))), (4, .int (-2)), (0, .ref (sg 0)), (1, .int (nI a)), (2, .int (nI (pb_mx n P R lo (a + 1) (i + 1))))]) hx hb dX1_longest_64 hl (k := 4) rfl (nI_1 _) (by decide) rfl (fun ls hl => ?_)
              refine lv_goto (tgt := 14) hx hb dX1_longest_67 (by decide) ?_
              exact ih14 (i + 1) b1 ls _ _ (by omega) (by omega) hP hS (lv_sub hl [2, 3, 4, 0] rfl)
            · have c36 := of_decide_eq_true c36
              refine lv_aload_n hx hb dX1_longest_39 rfl (lv_at hl 0 rfl) ?_
              refine lv_iload_n hx hb dX1_longest_40 rfl (lv_at hl 3 rfl) ?_
              refine pb_afterM (pb_runV (rC := (RX1, TX1, 3)) (ci := 1) (As := [.int (nI i)]) (rest := []) C (ct_X1_mate l D d sg n P b0 b1 hn hC hb0 R lo hSol i (by omega)) gw_X1_X1_mate hd_X1_mate ⟨rfl, rfl, Nat.le_of_ble_eq_true rfl, Nat.le_of_ble_eq_true rfl⟩ ⟨Nat.zero_le _, Nat.zero_le _⟩ hK hP rfl rfl hl.1 rfl (Nat.le_of_ble_eq_true rfl) dX1_longest_41) hS (fun _ z => z) (fun r H locs hq hfr hS => ?_)
              obtain ⟨rfl, b1, hP⟩ := hq
              refine pb_top (pb_cv n R lo i) (pb_pv_z c36) ?_
              rcases pb_cv_c (n := n) (R := R) (lo := lo) i with ⟨hcf, hcv⟩ | ⟨b9, hb1, hb2, hb3, hb4, hcv⟩
              · refine pb_top ((-2)) hcv ?_
                refine lv_goto (tgt := 49) hx hb dX1_longest_44 (by decide) ?_
                refine lv_istore (lv' := [(4, .int (-2)), (0, .ref (sg 0)), (1, .int (nI a)), (2, .int (nI (pb_mx n P R lo (a + 1) i))), (3, .int (nI i))]) hx hb dX1_longest_49 hl (by decide) rfl (fun ls hl => ?_)
                refine lv_iload hx hb dX1_longest_51 (lv_at hl 0 rfl) ?_
                refine lv_iload_n hx hb dX1_longest_53 rfl (lv_at hl 4 rfl) ?_
                refine lv_isub hx hb dX1_longest_54 ?_
                refine lv_iload_n hx hb dX1_longest_55 rfl (lv_at hl 3 rfl) ?_
                refine lv_icmp_le (tgt := 64) hx hb dX1_longest_56 (by decide) (fun c56 => ?_) (fun c56 => absurd (pb_neg_le (by omega) (by omega)) c56)
                have hl : lv_has ls 5 [(4, .int (-2)), (0, .ref (sg 0)), (1, .int (nI a)), (2, .int (nI (pb_mx n P R lo (a + 1) (i + 1)))), (3, .int (nI i))] := by have e9 : nI (pb_mx n P R lo (a + 1) i) = nI (pb_mx n P R lo (a + 1) (i + 1)) := (by rw [pb_mx_n (fun z => by rw [hcf] at z; omega)]); rw [← e9]; exact hl
                refine lv_iinc (v := nI (i + 1)) (lv' := [(3, .int (nI (i + 1))), (4, .int (-2)), (0, .ref (sg 0)), (1, .int (nI a)), (2, .int (nI (pb_mx n P R lo (a + 1) (i + 1))))]) hx hb dX1_longest_64 hl (k := 4) rfl (nI_1 _) (by decide) rfl (fun ls hl => ?_)
                refine lv_goto (tgt := 14) hx hb dX1_longest_67 (by decide) ?_
                exact ih14 (i + 1) b1 ls _ _ (by omega) (by omega) hP hS (lv_sub hl [2, 3, 4, 0] rfl)
              · have hlt := (pb_lo_lt hSol hb1 hb2).1
                refine pb_top (nI b9) hcv ?_
                refine lv_goto (tgt := 49) hx hb dX1_longest_44 (by decide) ?_
                refine lv_istore (lv' := [(4, .int (nI b9)), (0, .ref (sg 0)), (1, .int (nI a)), (2, .int (nI (pb_mx n P R lo (a + 1) i))), (3, .int (nI i))]) hx hb dX1_longest_49 hl (by decide) rfl (fun ls hl => ?_)
                refine lv_iload hx hb dX1_longest_51 (lv_at hl 0 rfl) ?_
                refine lv_iload_n hx hb dX1_longest_53 rfl (lv_at hl 4 rfl) ?_
                refine lv_isub hx hb dX1_longest_54 ?_
                refine pb_top (nI (b9 - i)) (pk_sub (by omega)) ?_
                refine lv_iload_n hx hb dX1_longest_55 rfl (lv_at hl 3 rfl) ?_
                refine pb_ile (tgt := 64) hx hb dX1_longest_56 (by decide) (by omega) (by omega) (fun c56 => ?_) (fun c56 => ?_)
                · have hl : lv_has ls 5 [(4, .int (nI b9)), (0, .ref (sg 0)), (1, .int (nI a)), (2, .int (nI (pb_mx n P R lo (a + 1) (i + 1)))), (3, .int (nI i))] := by have e9 : nI (pb_mx n P R lo (a + 1) i) = nI (pb_mx n P R lo (a + 1) (i + 1)) := (by rw [pb_mx_n (fun z => by rw [hb4] at z; omega)]); rw [← e9]; exact hl
                  refine lv_iinc (v := nI (i + 1)) (lv' := [(3, .int (nI (i + 1))), (4, .int (nI b9)), (0, .ref (sg 0)), (1, .int (nI a)), (2, .int (nI (pb_mx n P R lo (a + 1) (i + 1))))]) hx hb dX1_longest_64 hl (k := 4) rfl (nI_1 _) (by decide) rfl (fun ls hl => ?_)
                  refine lv_goto (tgt := 14) hx hb dX1_longest_67 (by decide) ?_
                  exact ih14 (i + 1) b1 ls _ _ (by omega) (by omega) hP hS (lv_sub hl [2, 3, 4, 0] rfl)
                · refine lv_iload hx hb dX1_longest_59 (lv_at hl 0 rfl) ?_
                  refine lv_iload_n hx hb dX1_longest_61 rfl (lv_at hl 4 rfl) ?_
                  refine lv_isub hx hb dX1_longest_62 ?_
                  refine pb_top (nI (b9 - i)) (pk_sub (by omega)) ?_
                  refine lv_istore_n (lv' := [(2, .int (nI (b9 - i))), (4, .int (nI b9)), (0, .ref (sg 0)), (1, .int (nI a)), (3, .int (nI i))]) hx hb dX1_longest_63 rfl hl (by decide) rfl (fun ls hl => ?_)
                  have hl : lv_has ls 5 [(2, .int (nI (pb_mx n P R lo (a + 1) (i + 1)))), (4, .int (nI b9)), (0, .ref (sg 0)), (1, .int (nI a)), (3, .int (nI i))] := by have e9 : nI (b9 - i) = nI (pb_mx n P R lo (a + 1) (i + 1)) := (by rw [pb_mx_y (by omega) c36 (by rw [hb4]; omega), hb4]; rfl); rw [← e9]; exact hl
                  refine lv_iinc (v := nI (i + 1)) (lv' := [(3, .int (nI (i + 1))), (2, .int (nI (pb_mx n P R lo (a + 1) (i + 1)))), (4, .int (nI b9)), (0, .ref (sg 0)), (1, .int (nI a))]) hx hb dX1_longest_64 hl (k := 4) rfl (nI_1 _) (by decide) rfl (fun ls hl => ?_)
                  refine lv_goto (tgt := 14) hx hb dX1_longest_67 (by decide) ?_
                  exact ih14 (i + 1) b1 ls _ _ (by omega) (by omega) hP hS (lv_sub hl [3, 4, 1, 0] rfl)
    exact loop14 (n + 1) 0 b1 ls _ _ (by omega) (by omega) hP hS (lv_sub hl [2, 3, 1, 0] rfl)
set_option maxHeartbeats 4000000 in
set_option maxRecDepth 100000 in
theorem ct_X1_bounds (l : Launch) (D : va_G) (d : ClassId) (sg : Nat → Nat) (n : Nat) (P : Nat → Nat) (b0 b1 : Nat → Int32) (hn : pb_Nd sg 3) (hC : pb_Cx n P) (hb0 : ∀ i, i < n → b0 i = nI (P i)) (R lo : Nat → Nat) (hSol : pb_Sol n P R lo) (x r : Int32) (hr9 : pb_BoundsS n P R x r) : Met l yX1_bounds (ws_ yX1_bounds cX1_bounds 7 (some .int)) (pb_ro 4) (va_Pc [.ref (sg 0), .int x] (pb_B D d (pb_mW sg d (nI n) b0 b1))) (pb_Qm (pb_A sg 3) (pb_mP D d sg n b0 r)) 0 0 (pb_A sg 3) := by
  refine pb_met RX1 (by decide) rfl (Nat.le_of_ble_eq_true rfl) rfl ?_
  intro p e s m below meth c ls C hnm hB hl
  obtain ⟨hx, hb, hml, hr, hown, hlk, hts⟩ := id C
  obtain ⟨hP, hK⟩ := hB
  have hl : lv_has ls 7 [(0, .ref (sg 0)), (1, .int x)] := hl
  have hS : va_S (pb_A sg 3) s.heap s.heap [] := va_S.rf
  have hn26 := hC.1
  have h2n : 2 ^ n < 2 ^ 31 := Nat.pow_lt_pow_right (by decide) (by omega)
  rcases hr9 with ⟨hxb | ⟨_, hx1⟩ | ⟨_, i, hi, hi2, rfl⟩, rfl⟩ | ⟨ch, hch, rfl, hev, rfl⟩ | ⟨ch, hch, rfl, hev, hbd, rfl⟩ | ⟨ch, b, hch, rfl, hev, hbd, hbb, rfl⟩
  · exact absurd hxb.1 (by decide)
  · refine lv_iload_n hx hb dX1_bounds_0 rfl (lv_at hl 1 rfl) ?_
    refine lv_if_lt (tgt := 14) hx hb dX1_bounds_1 (by decide) (fun c1 => ?_) (fun c1 => absurd hx1 c1)
    refine lv_iconst (v := (-1)) hx hb dX1_bounds_14 (by decide) ?_
    exact pb_miret C hS ⟨rfl, _, hP⟩ dX1_bounds_15
  · refine lv_iload_n hx hb dX1_bounds_0 rfl (lv_at hl 1 rfl) ?_
    refine pb_clt (tgt := 14) hx hb dX1_bounds_1 (by decide) (by first | assumption | omega) ?_
    refine lv_iload_n hx hb dX1_bounds_4 rfl (lv_at hl 1 rfl) ?_
    refine lv_iconst (v := nI 1) hx hb dX1_bounds_5 rfl ?_
    refine lv_aload_n hx hb dX1_bounds_6 rfl (lv_at hl 0 rfl) ?_
    refine pb_gM0 C hK hP dX1_bounds_7 ?_
    refine lv_ishl hx hb dX1_bounds_10 ?_
    refine pb_tup (pb_shl1 (by omega)) ?_
    refine pb_ilt (tgt := 16) hx hb dX1_bounds_11 (by decide) (by first | assumption | omega) (by first | assumption | omega) (fun c11 => absurd c11 (by omega)) (fun c11 => ?_)
    refine lv_iconst (v := (-1)) hx hb dX1_bounds_14 (by decide) ?_
    exact pb_miret C hS ⟨rfl, _, hP⟩ dX1_bounds_15
  · obtain ⟨v, hv⟩ := pb_ChD_ex hC hch
    have hbl : pb_bd P n ch < 2 ^ 26 := pb_bd_lt P _ (Nat.le_trans (Nat.le_refl n) hn26) n (Nat.le_refl n)
    refine lv_iload_n hx hb dX1_bounds_0 rfl (lv_at hl 1 rfl) ?_
    refine pb_clt (tgt := 14) hx hb dX1_bounds_1 (by decide) (by first | assumption | omega) ?_
    refine lv_iload_n hx hb dX1_bounds_4 rfl (lv_at hl 1 rfl) ?_
    refine lv_iconst (v := nI 1) hx hb dX1_bounds_5 rfl ?_
    refine lv_aload_n hx hb dX1_bounds_6 rfl (lv_at hl 0 rfl) ?_
    refine pb_gM0 C hK hP dX1_bounds_7 ?_
    refine lv_ishl hx hb dX1_bounds_10 ?_
    refine pb_tup (pb_shl1 (by omega)) ?_
    refine pb_ilt (tgt := 16) hx hb dX1_bounds_11 (by decide) (by first | assumption | omega) (by first | assumption | omega) (fun c11 => ?_) (fun c11 => absurd c11 (by omega))
    refine lv_aload_n hx hb dX1_bounds_16 rfl (lv_at hl 0 rfl) ?_
    refine lv_iload_n hx hb dX1_bounds_17 rfl (lv_at hl 1 rfl) ?_
    refine pb_afterQ (pb_runV (rC := (RX1, TX1, 3)) (ci := 1) (As := [.int (nI ch)]) (rest := []) C (ct_X1_chainDimension l D d sg n P b0 b1 hC hb0 ch hch v hv) gw_X1_X1_chainDimension hd_X1_chainDimension ⟨rfl, rfl, Nat.le_of_ble_eq_true rfl, Nat.le_of_ble_eq_true rfl⟩ ⟨Nat.zero_le _, Nat.zero_le _⟩ hK hP rfl rfl hl.1 rfl (Nat.le_of_ble_eq_true rfl) dX1_bounds_18) ?_
    refine lv_istore_n (lv' := [(2, .int v), (0, .ref (sg 0)), (1, .int (nI ch))]) hx hb dX1_bounds_21 rfl hl (by decide) rfl (fun ls hl => ?_)
    refine lv_iload_n hx hb dX1_bounds_22 rfl (lv_at hl 0 rfl) ?_
    refine lv_bipush (v := (-2)) hx hb dX1_bounds_23 (by decide) ?_
    refine lv_icmp_ne (tgt := 31) hx hb dX1_bounds_25 (by decide) (fun c25 => absurd (pb_cd_odd hv hev) c25) (fun c25 => ?_)
    refine lv_bipush (v := (-2)) hx hb dX1_bounds_28 (by decide) ?_
    exact pb_miret C hS ⟨rfl, _, hP⟩ dX1_bounds_30
  · obtain ⟨v, hv⟩ := pb_ChD_ex hC hch
    have hbl : pb_bd P n ch < 2 ^ 26 := pb_bd_lt P _ (Nat.le_trans (Nat.le_refl n) hn26) n (Nat.le_refl n)
    refine lv_iload_n hx hb dX1_bounds_0 rfl (lv_at hl 1 rfl) ?_
    refine pb_clt (tgt := 14) hx hb dX1_bounds_1 (by decide) (by first | assumption | omega) ?_
    refine lv_iload_n hx hb dX1_bounds_4 rfl (lv_at hl 1 rfl) ?_
    refine lv_iconst (v := nI 1) hx hb dX1_bounds_5 rfl ?_
    refine lv_aload_n hx hb dX1_bounds_6 rfl (lv_at hl 0 rfl) ?_
    refine pb_gM0 C hK hP dX1_bounds_7 ?_
    refine lv_ishl hx hb dX1_bounds_10 ?_
    refine pb_tup (pb_shl1 (by omega)) ?_
    refine pb_ilt (tgt := 16) hx hb dX1_bounds_11 (by decide) (by first | assumption | omega) (by first | assumption | omega) (fun c11 => ?_) (fun c11 => absurd c11 (by omega))
    refine lv_aload_n hx hb dX1_bounds_16 rfl (lv_at hl 0 rfl) ?_
    refine lv_iload_n hx hb dX1_bounds_17 rfl (lv_at hl 1 rfl) ?_
    refine pb_afterQ (pb_runV (rC := (RX1, TX1, 3)) (ci := 1) (As := [.int (nI ch)]) (rest := []) C (ct_X1_chainDimension l D d sg n P b0 b1 hC hb0 ch hch v hv) gw_X1_X1_chainDimension hd_X1_chainDimension ⟨rfl, rfl, Nat.le_of_ble_eq_true rfl, Nat.le_of_ble_eq_true rfl⟩ ⟨Nat.zero_le _, Nat.zero_le _⟩ hK hP rfl rfl hl.1 rfl (Nat.le_of_ble_eq_true rfl) dX1_bounds_18) ?_
    refine lv_istore_n (lv' := [(2, .int v), (0, .ref (sg 0)), (1, .int (nI ch))]) hx hb dX1_bounds_21 rfl hl (by decide) rfl (fun ls hl => ?_)
    refine lv_iload_n hx hb dX1_bounds_22 rfl (lv_at hl 0 rfl) ?_
    refine lv_bipush (v := (-2)) hx hb dX1_bounds_23 (by decide) ?_
    refine lv_icmp_ne (tgt := 31) hx hb dX1_bounds_25 (by decide) (fun c25 => ?_) (fun c25 => absurd c25 (pb_cd_ev hv hev))
    refine lv_aload_n hx hb dX1_bounds_31 rfl (lv_at hl 1 rfl) ?_
    refine lv_iload_n hx hb dX1_bounds_32 rfl (lv_at hl 2 rfl) ?_
    refine pb_afterQ (pb_runV (rC := (RX1, TX1, 3)) (ci := 1) (As := [.int (nI ch)]) (rest := []) C (ct_X1_edge l D d sg n P b0 b1 hC hb0 ch hch) gw_X1_X1_edge hd_X1_edge ⟨rfl, rfl, Nat.le_of_ble_eq_true rfl, Nat.le_of_ble_eq_true rfl⟩ ⟨Nat.zero_le _, Nat.zero_le _⟩ hK hP rfl rfl hl.1 rfl (Nat.le_of_ble_eq_true rfl) dX1_bounds_33) ?_
    refine pb_ceq (tgt := 41) hx hb dX1_bounds_36 (by decide) (by first | assumption | omega) (fun c36 => absurd c36 hbd) (fun c36 => ?_)
    refine lv_iconst (v := nI 2) hx hb dX1_bounds_39 rfl ?_
    exact pb_miret C hS ⟨rfl, _, hP⟩ dX1_bounds_40
  · obtain ⟨v, hv⟩ := pb_ChD_ex hC hch
    have hbl : pb_bd P n ch < 2 ^ 26 := pb_bd_lt P _ (Nat.le_trans (Nat.le_refl n) hn26) n (Nat.le_refl n)
    refine lv_iload_n hx hb dX1_bounds_0 rfl (lv_at hl 1 rfl) ?_
    refine pb_clt (tgt := 14) hx hb dX1_bounds_1 (by decide) (by first | assumption | omega) ?_
    refine lv_iload_n hx hb dX1_bounds_4 rfl (lv_at hl 1 rfl) ?_
    refine lv_iconst (v := nI 1) hx hb dX1_bounds_5 rfl ?_
    refine lv_aload_n hx hb dX1_bounds_6 rfl (lv_at hl 0 rfl) ?_
    refine pb_gM0 C hK hP dX1_bounds_7 ?_
    refine lv_ishl hx hb dX1_bounds_10 ?_
    refine pb_tup (pb_shl1 (by omega)) ?_
    refine pb_ilt (tgt := 16) hx hb dX1_bounds_11 (by decide) (by first | assumption | omega) (by first | assumption | omega) (fun c11 => ?_) (fun c11 => absurd c11 (by omega))
    refine lv_aload_n hx hb dX1_bounds_16 rfl (lv_at hl 0 rfl) ?_
    refine lv_iload_n hx hb dX1_bounds_17 rfl (lv_at hl 1 rfl) ?_
    refine pb_afterQ (pb_runV (rC := (RX1, TX1, 3)) (ci := 1) (As := [.int (nI ch)]) (rest := []) C (ct_X1_chainDimension l D d sg n P b0 b1 hC hb0 ch hch v hv) gw_X1_X1_chainDimension hd_X1_chainDimension ⟨rfl, rfl, Nat.le_of_ble_eq_true rfl, Nat.le_of_ble_eq_true rfl⟩ ⟨Nat.zero_le _, Nat.zero_le _⟩ hK hP rfl rfl hl.1 rfl (Nat.le_of_ble_eq_true rfl) dX1_bounds_18) ?_
    refine lv_istore_n (lv' := [(2, .int v), (0, .ref (sg 0)), (1, .int (nI ch))]) hx hb dX1_bounds_21 rfl hl (by decide) rfl (fun ls hl => ?_)
    refine lv_iload_n hx hb dX1_bounds_22 rfl (lv_at hl 0 rfl) ?_
    refine lv_bipush (v := (-2)) hx hb dX1_bounds_23 (by decide) ?_
    refine lv_icmp_ne (tgt := 31) hx hb dX1_bounds_25 (by decide) (fun c25 => ?_) (fun c25 => absurd c25 (pb_cd_ev hv hev))
    refine lv_aload_n hx hb dX1_bounds_31 rfl (lv_at hl 1 rfl) ?_
    refine lv_iload_n hx hb dX1_bounds_32 rfl (lv_at hl 2 rfl) ?_
    refine pb_afterQ (pb_runV (rC := (RX1, TX1, 3)) (ci := 1) (As := [.int (nI ch)]) (rest := []) C (ct_X1_edge l D d sg n P b0 b1 hC hb0 ch hch) gw_X1_X1_edge hd_X1_edge ⟨rfl, rfl, Nat.le_of_ble_eq_true rfl, Nat.le_of_ble_eq_true rfl⟩ ⟨Nat.zero_le _, Nat.zero_le _⟩ hK hP rfl rfl hl.1 rfl (Nat.le_of_ble_eq_true rfl) dX1_bounds_33) ?_
    refine pb_ceq (tgt := 41) hx hb dX1_bounds_36 (by decide) (by first | assumption | omega) (fun c36 => ?_) (fun c36 => absurd hbd c36)
    rcases hv with ⟨hz, rfl⟩ | ⟨k, hne, hH, rfl⟩ | ⟨hno, _⟩
    · refine lv_aload_n hx hb dX1_bounds_41 rfl (lv_at hl 1 rfl) ?_
      refine lv_aload_n hx hb dX1_bounds_42 rfl (lv_at hl 1 rfl) ?_
      refine pb_gM0 C hK hP dX1_bounds_43 ?_
      refine lv_iload_n hx hb dX1_bounds_46 rfl (lv_at hl 0 rfl) ?_
      refine lv_iconst (v := nI 1) hx hb dX1_bounds_47 rfl ?_
      refine lv_iadd hx hb dX1_bounds_48 ?_
      refine pb_top (nI 0) (by decide) ?_
      refine lv_iconst (v := nI 0) hx hb dX1_bounds_49 rfl ?_
      refine pb_afterM (pb_runV (rC := (RX1, TX1, 3)) (ci := 1) (As := [.int (nI n), .int (nI 0), .int (nI 0)]) (rest := []) C (ct_X1_rank l D d sg n P b0 b1 hn hC hb0 n 0 0 (Nat.le_refl n) (by omega) (by omega)) gw_X1_X1_rank hd_X1_rank ⟨rfl, rfl, Nat.le_of_ble_eq_true rfl, Nat.le_of_ble_eq_true rfl⟩ ⟨Nat.zero_le _, Nat.zero_le _⟩ hK hP rfl rfl hl.1 rfl (Nat.le_of_ble_eq_true rfl) dX1_bounds_50) hS (fun _ z => z) (fun r H locs hq hfr hS => ?_)
      obtain ⟨rfl, b1, hP, G, hG1, hG2, hGR⟩ := hq
      have hrl := pb_rk_le (fun b => pb_mk 0 (pb_V P (0 + 1) b)) n
      generalize pb_rk (fun b => pb_mk 0 (pb_V P (0 + 1) b)) n = rows at hG1 hG2 hGR hrl ⊢
      refine lv_istore_n (lv' := [(3, .int (nI rows)), (2, .int (-1)), (0, .ref (sg 0)), (1, .int (nI ch))]) hx hb dX1_bounds_53 rfl hl (by decide) rfl (fun ls hl => ?_)
      refine lv_iload_n hx hb dX1_bounds_54 rfl (lv_at hl 3 rfl) ?_
      refine lv_istore (lv' := [(4, .int (nI ch)), (3, .int (nI rows)), (2, .int (-1)), (0, .ref (sg 0)), (1, .int (nI ch))]) hx hb dX1_bounds_55 hl (by decide) rfl (fun ls hl => ?_)
      refine lv_iconst (v := nI 0) hx hb dX1_bounds_57 rfl ?_
      refine lv_istore (lv' := [(5, .int (nI 0)), (4, .int (nI ch)), (3, .int (nI rows)), (2, .int (-1)), (0, .ref (sg 0)), (1, .int (nI ch))]) hx hb dX1_bounds_58 hl (by decide) rfl (fun ls hl => ?_)
      have hcz : rows = rows → ch = 0 := fun _ => hz
      refine lv_iload hx hb dX1_bounds_60 (lv_at hl 0 rfl) ?_
      refine lv_iload_n hx hb dX1_bounds_62 rfl (lv_at hl 2 rfl) ?_
      refine pb_ige (tgt := 121) hx hb dX1_bounds_63 (by decide) (by omega) (by omega) (fun c63 => ?_) (fun c63 => ?_)
      · refine lv_iload hx hb dX1_bounds_121 (lv_at hl 1 rfl) ?_
        refine pb_cne (tgt := 130) hx hb dX1_bounds_123 (by decide) (by omega) (fun c123 => ?_) (fun c123 => ?_)
        · refine lv_iconst (v := nI 0) hx hb dX1_bounds_130 rfl ?_
          exact absurd (hcz rfl) c123
        · refine lv_iconst (v := nI 1) hx hb dX1_bounds_126 rfl ?_
          refine lv_goto (tgt := 131) hx hb dX1_bounds_127 (by decide) ?_
          exact pb_miret C hS ⟨(by have hb1 : b = true := hbb.mpr (by rw [hz]; exact pb_sp0); rw [hb1]; rfl), _, hP⟩ dX1_bounds_131
      · refine lv_iload_n hx hb dX1_bounds_66 rfl (lv_at hl 3 rfl) ?_
        refine pb_cltN (tgt := 121) hx hb dX1_bounds_67 (by decide) (by decide) ?_
        refine lv_iload hx hb dX1_bounds_121 (lv_at hl 1 rfl) ?_
        refine pb_cne (tgt := 130) hx hb dX1_bounds_123 (by decide) (by omega) (fun c123 => ?_) (fun c123 => ?_)
        · refine lv_iconst (v := nI 0) hx hb dX1_bounds_130 rfl ?_
          exact absurd (hcz rfl) c123
        · refine lv_iconst (v := nI 1) hx hb dX1_bounds_126 rfl ?_
          refine lv_goto (tgt := 131) hx hb dX1_bounds_127 (by decide) ?_
          exact pb_miret C hS ⟨(by have hb1 : b = true := hbb.mpr (by rw [hz]; exact pb_sp0); rw [hb1]; rfl), _, hP⟩ dX1_bounds_131
    · refine lv_aload_n hx hb dX1_bounds_41 rfl (lv_at hl 1 rfl) ?_
      refine lv_aload_n hx hb dX1_bounds_42 rfl (lv_at hl 1 rfl) ?_
      refine pb_gM0 C hK hP dX1_bounds_43 ?_
      refine lv_iload_n hx hb dX1_bounds_46 rfl (lv_at hl 0 rfl) ?_
      refine lv_iconst (v := nI 1) hx hb dX1_bounds_47 rfl ?_
      refine lv_iadd hx hb dX1_bounds_48 ?_
      refine pb_top (nI (k + 1)) (nI_add _ _) ?_
      refine lv_iconst (v := nI 0) hx hb dX1_bounds_49 rfl ?_
      have hk3 : k < 4 := by obtain ⟨j, hj⟩ := Nat.exists_testBit_of_ne_zero hne; have h8 := pb_cx_pop hC (pb_ch_lt hch hj); have h9 := hH j hj; omega
      refine pb_afterM (pb_runV (rC := (RX1, TX1, 3)) (ci := 1) (As := [.int (nI n), .int (nI (k + 1)), .int (nI 0)]) (rest := []) C (ct_X1_rank l D d sg n P b0 b1 hn hC hb0 n (k + 1) 0 (Nat.le_refl n) (by omega) (by omega)) gw_X1_X1_rank hd_X1_rank ⟨rfl, rfl, Nat.le_of_ble_eq_true rfl, Nat.le_of_ble_eq_true rfl⟩ ⟨Nat.zero_le _, Nat.zero_le _⟩ hK hP rfl rfl hl.1 rfl (Nat.le_of_ble_eq_true rfl) dX1_bounds_50) hS (fun _ z => z) (fun r H locs hq hfr hS => ?_)
      obtain ⟨rfl, b1, hP, G, hG1, hG2, hGR⟩ := hq
      have hrl := pb_rk_le (fun b => pb_mk 0 (pb_V P (k + 1 + 1) b)) n
      generalize pb_rk (fun b => pb_mk 0 (pb_V P (k + 1 + 1) b)) n = rows at hG1 hG2 hGR hrl ⊢
      refine lv_istore_n (lv' := [(3, .int (nI rows)), (2, .int (nI k)), (0, .ref (sg 0)), (1, .int (nI ch))]) hx hb dX1_bounds_53 rfl hl (by decide) rfl (fun ls hl => ?_)
      refine lv_iload_n hx hb dX1_bounds_54 rfl (lv_at hl 3 rfl) ?_
      refine lv_istore (lv' := [(4, .int (nI ch)), (3, .int (nI rows)), (2, .int (nI k)), (0, .ref (sg 0)), (1, .int (nI ch))]) hx hb dX1_bounds_55 hl (by decide) rfl (fun ls hl => ?_)
      refine lv_iconst (v := nI 0) hx hb dX1_bounds_57 rfl ?_
      refine lv_istore (lv' := [(5, .int (nI 0)), (4, .int (nI ch)), (3, .int (nI rows)), (2, .int (nI k)), (0, .ref (sg 0)), (1, .int (nI ch))]) hx hb dX1_bounds_58 hl (by decide) rfl (fun ls hl => ?_)
      have loop60 : ∀ (k60 : Nat) (r : Nat) (cv : Nat) (ls : Array Slot), (rows < r + k60) → (r ≤ rows) → (pb_Rd G ch r cv) → (cv < 2 ^ 26) → lv_has ls 7 [(0, .ref (sg 0)), (1, .int (nI ch)), (2, .int (nI k)), (3, .int (nI rows)), (4, .int (nI cv)), (5, .int (nI r))] → W p l e (pb_ro 4) s m ([.ref (sg 0), .int (nI ch)] : List Value).toArray below meth c H locs 0 0 (MQ below (pb_Qm (pb_A sg 3) (pb_mP D d sg n b0 (pb_z b))) ([.ref (sg 0), .int (nI ch)] : List Value).toArray s 0 0 (pb_A sg 3)) (F0 m 60 ls []) := by
        intro k60
        induction k60 with
        | zero =>
          intro r cv ls hk2 hr2 hRd hcv hl
          omega
        | succ k60 ih60 =>
          intro r cv ls hk2 hr2 hRd hcv hl
          refine lv_iload hx hb dX1_bounds_60 (lv_at hl 5 rfl) ?_
          refine lv_iload_n hx hb dX1_bounds_62 rfl (lv_at hl 3 rfl) ?_
          refine pb_ige (tgt := 121) hx hb dX1_bounds_63 (by decide) (by first | assumption | omega) (by first | assumption | omega) (fun c63 => ?_) (fun c63 => ?_)
          · refine lv_iload hx hb dX1_bounds_121 (lv_at hl 4 rfl) ?_
            refine pb_cne (tgt := 130) hx hb dX1_bounds_123 (by decide) (by omega) (fun c123 => ?_) (fun c123 => ?_)
            · refine lv_iconst (v := nI 0) hx hb dX1_bounds_130 rfl ?_
              exact pb_miret C hS ⟨(by have er : r = rows := (by omega); rw [er] at hRd; have hin := (pb_rd_end hGR.1 hRd).trans (hGR.2.1 ch); rw [pb_mk0V] at hin; have hiff := (hin.trans ((pb_bnd hSol (fun j hj => ⟨pb_ch_lt hch hj, hH j hj⟩)).symm)).trans hbb.symm; cases b; rfl; exact absurd (hiff.mpr rfl) c123), _, hP⟩ dX1_bounds_131
            · refine lv_iconst (v := nI 1) hx hb dX1_bounds_126 rfl ?_
              refine lv_goto (tgt := 131) hx hb dX1_bounds_127 (by decide) ?_
              exact pb_miret C hS ⟨(by have er : r = rows := (by omega); rw [er] at hRd; have hin := (pb_rd_end hGR.1 hRd).trans (hGR.2.1 ch); rw [pb_mk0V] at hin; have hiff := (hin.trans ((pb_bnd hSol (fun j hj => ⟨pb_ch_lt hch hj, hH j hj⟩)).symm)).trans hbb.symm; rw [hiff.mp c123]; rfl), _, hP⟩ dX1_bounds_131
          · refine lv_iload_n hx hb dX1_bounds_66 rfl (lv_at hl 2 rfl) ?_
            refine pb_clt (tgt := 121) hx hb dX1_bounds_67 (by decide) (by first | assumption | omega) ?_
            refine lv_iload hx hb dX1_bounds_70 (lv_at hl 5 rfl) ?_
            refine lv_bipush (v := nI 26) hx hb dX1_bounds_72 rfl ?_
            refine pb_ige (tgt := 121) hx hb dX1_bounds_74 (by decide) (by first | assumption | omega) (by first | assumption | omega) (fun c74 => absurd c74 (by omega)) (fun c74 => ?_)
            obtain ⟨x, hxl⟩ := pb_low_ex (hGR.1.1 r c63)
            have hx26 := pb_low_lt hxl (hG2 r c63)
            refine lv_aload_n hx hb dX1_bounds_77 rfl (lv_at hl 0 rfl) ?_
            refine pb_gM2 C hK hP dX1_bounds_78 ?_
            refine lv_iload hx hb dX1_bounds_81 (lv_at hl 5 rfl) ?_
            refine pb_ald (nI (G r)) C hK hP 2 rfl (by omega) (by decide) (hG1 r c63) dX1_bounds_83 ?_
            refine lv_aload_n hx hb dX1_bounds_84 rfl (lv_at hl 0 rfl) ?_
            refine pb_gM2 C hK hP dX1_bounds_85 ?_
            refine lv_iload hx hb dX1_bounds_88 (lv_at hl 5 rfl) ?_
            refine pb_ald (nI (G r)) C hK hP 2 rfl (by omega) (by decide) (hG1 r c63) dX1_bounds_90 ?_
            refine lv_ineg hx hb dX1_bounds_91 ?_
            refine lv_iand hx hb dX1_bounds_92 ?_
            refine pb_top (nI (2 ^ x)) (pb_lowb (by omega) hxl) ?_
            refine lv_istore (lv' := [(6, .int (nI (2 ^ x))), (0, .ref (sg 0)), (1, .int (nI ch)), (2, .int (nI k)), (3, .int (nI rows)), (4, .int (nI cv)), (5, .int (nI r))]) hx hb dX1_bounds_93 hl (by decide) rfl (fun ls hl => ?_)
            refine lv_iload hx hb dX1_bounds_95 (lv_at hl 5 rfl) ?_
            refine lv_iload hx hb dX1_bounds_97 (lv_at hl 0 rfl) ?_
            refine lv_iand hx hb dX1_bounds_99 ?_
            refine pb_tup (nx_and _ _) ?_
            refine pb_ceq (tgt := 115) hx hb dX1_bounds_100 (by decide) (pb_and2_lt cv (by omega)) (fun c100 => ?_) (fun c100 => ?_)
            · refine lv_iinc (v := nI (r + 1)) (lv' := [(5, .int (nI (r + 1))), (6, .int (nI (2 ^ x))), (0, .ref (sg 0)), (1, .int (nI ch)), (2, .int (nI k)), (3, .int (nI rows)), (4, .int (nI cv))]) hx hb dX1_bounds_115 hl (k := 6) rfl (nI_1 _) (by decide) rfl (fun ls hl => ?_)
              refine lv_goto (tgt := 60) hx hb dX1_bounds_118 (by decide) ?_
              exact ih60 (r + 1) cv ls (by omega) (by omega) (pb_rd_no hGR.1 c63 hRd hxl ((pb_and2 _ _).mp c100)) hcv (lv_sub hl [2, 3, 4, 5, 6, 0] rfl)
            · refine lv_iload hx hb dX1_bounds_103 (lv_at hl 5 rfl) ?_
              refine lv_aload_n hx hb dX1_bounds_105 rfl (lv_at hl 1 rfl) ?_
              refine pb_gM2 C hK hP dX1_bounds_106 ?_
              refine lv_iload hx hb dX1_bounds_109 (lv_at hl 6 rfl) ?_
              refine pb_ald (nI (G r)) C hK hP 2 rfl (by omega) (by decide) (hG1 r c63) dX1_bounds_111 ?_
              refine lv_ixor hx hb dX1_bounds_112 ?_
              refine pb_tup (nx_xor _ _) ?_
              refine lv_istore (lv' := [(4, .int (nI (cv ^^^ (G r)))), (6, .int (nI (2 ^ x))), (0, .ref (sg 0)), (1, .int (nI ch)), (2, .int (nI k)), (3, .int (nI rows)), (5, .int (nI r))]) hx hb dX1_bounds_113 hl (by decide) rfl (fun ls hl => ?_)
              refine lv_iinc (v := nI (r + 1)) (lv' := [(5, .int (nI (r + 1))), (4, .int (nI (cv ^^^ (G r)))), (6, .int (nI (2 ^ x))), (0, .ref (sg 0)), (1, .int (nI ch)), (2, .int (nI k)), (3, .int (nI rows))]) hx hb dX1_bounds_115 hl (k := 6) rfl (nI_1 _) (by decide) rfl (fun ls hl => ?_)
              refine lv_goto (tgt := 60) hx hb dX1_bounds_118 (by decide) ?_
              exact ih60 (r + 1) (cv ^^^ G r) ls (by omega) (by omega) (pb_rd_yes hGR.1 c63 hRd hxl (pb_tb_ne c100)) (Nat.xor_lt_two_pow hcv (hG2 r c63)) (lv_sub hl [3, 4, 5, 6, 1, 0] rfl)
      exact loop60 (rows + 1) 0 ch ls (by omega) (by omega) (pb_rd_0 _ _) (pb_p26 hch hn26) (lv_sub hl [4, 5, 3, 2, 1, 0] rfl)
    · rcases hev with ⟨_, k, h3, h4, h5⟩ | ⟨h, _⟩
      · exact absurd h5 (hno k)
      · cases h
end
section
/-! PersistentBarsModel: what changes the pieces -/
def pb_mPut (D : va_G) (d : ClassId) (sg : Nat → Nat) (n q : Nat) (b0 b1 : Nat → Int32) : Int32 → Heap → Prop := fun r H => (n < 26 ∧ r = nI n ∧ va_P D pb_cl (pb_mW sg d (nI (n + 1)) (upd b0 n (nI q)) b1) H) ∨ (n = 26 ∧ r = -4 ∧ va_P D pb_cl (pb_mW sg d (nI n) b0 b1) H)
/-- the model holds n2 pieces P2 -/
def pb_MH (D : va_G) (d : ClassId) (sg : Nat → Nat) (n2 : Nat) (P2 : Nat → Nat) (H : Heap) : Prop := ∃ b0 b1, va_P D pb_cl (pb_mW sg d (nI n2) b0 b1) H ∧ ∀ i, i < n2 → b0 i = nI (P2 i)
def pb_mH (D : va_G) (d : ClassId) (sg : Nat → Nat) (n2 : Nat) (P2 : Nat → Nat) (v : Int32) : Int32 → Heap → Prop := fun r H => r = v ∧ pb_MH D d sg n2 P2 H
theorem pb_upd_P {n q : Nat} {P : Nat → Nat} {b0 : Nat → Int32} (h : ∀ i, i < n → b0 i = nI (P i)) : ∀ i, i < n + 1 → upd b0 n (nI q) i = nI (pb_up P n q i) := by
  intro i hi
  rcases Nat.lt_or_ge i n with z | z
  · rw [pk_un (by omega), pb_up_n (by omega)]
    exact h i z
  · have e : i = n := by omega
    rw [e, pk_us, pb_up_s]
set_option maxHeartbeats 4000000 in
set_option maxRecDepth 100000 in
theorem ct_X1_put (l : Launch) (D : va_G) (d : ClassId) (sg : Nat → Nat) (n : Nat) (P : Nat → Nat) (b0 b1 : Nat → Int32) (hn : pb_Nd sg 3) (hC : pb_Cx n P) (hb0 : ∀ i, i < n → b0 i = nI (P i)) (q : Nat) : Met l yX1_put (ws_ yX1_put cX1_put 3 (some .int)) (pb_ro 0) (va_Pc [.ref (sg 0), .int (nI q)] (pb_B D d (pb_mW sg d (nI n) b0 b1))) (pb_Qm (pb_A sg 3) (pb_mPut D d sg n q b0 b1)) 0 0 (pb_A sg 3) := by
  refine pb_met RX1 (by decide) rfl (Nat.le_of_ble_eq_true rfl) rfl ?_
  intro p e s m below meth c ls C hnm hB hl
  obtain ⟨hx, hb, hml, hr, hown, hlk, hts⟩ := id C
  obtain ⟨hP, hK⟩ := hB
  have hl : lv_has ls 3 [(0, .ref (sg 0)), (1, .int (nI q))] := hl
  have hS : va_S (pb_A sg 3) s.heap s.heap [] := va_S.rf
  have hn26 := hC.1
  refine lv_aload_n hx hb dX1_put_0 rfl (lv_at hl 0 rfl) ?_
  refine pb_gM0 C hK hP dX1_put_1 ?_
  refine lv_istore_n (lv' := [(2, .int (nI n)), (0, .ref (sg 0)), (1, .int (nI q))]) hx hb dX1_put_4 rfl hl (by decide) rfl (fun ls hl => ?_)
  refine lv_iload_n hx hb dX1_put_5 rfl (lv_at hl 0 rfl) ?_
  refine lv_bipush (v := nI 25) hx hb dX1_put_6 rfl ?_
  refine pb_ile (tgt := 14) hx hb dX1_put_8 (by decide) (by first | assumption | omega) (by first | assumption | omega) (fun c8 => ?_) (fun c8 => ?_)
  · refine lv_aload_n hx hb dX1_put_14 rfl (lv_at hl 1 rfl) ?_
    refine pb_gM1 C hK hP dX1_put_15 ?_
    refine lv_iload_n hx hb dX1_put_18 rfl (lv_at hl 0 rfl) ?_
    refine lv_iload_n hx hb dX1_put_19 rfl (lv_at hl 2 rfl) ?_
    refine pb_ast C hK hP (pb_Dof hn rfl) hS 1 rfl (by omega) (by decide) dX1_put_20 (fun H locs hP hS => ?_)
    have hP : va_P D pb_cl (pb_mW sg d (nI n) (upd b0 n (nI q)) b1) H := hP
    refine lv_aload_n hx hb dX1_put_21 rfl (lv_at hl 1 rfl) ?_
    refine lv_iload_n hx hb dX1_put_22 rfl (lv_at hl 0 rfl) ?_
    refine lv_iconst (v := nI 1) hx hb dX1_put_23 rfl ?_
    refine lv_iadd hx hb dX1_put_24 ?_
    refine pb_tup (nI_add _ _) ?_
    refine pb_pM0 C hK hn hP hS dX1_put_25 (fun H locs hP hS => ?_)
    refine lv_iload_n hx hb dX1_put_28 rfl (lv_at hl 0 rfl) ?_
    exact pb_miret C hS (Or.inl ⟨by omega, rfl, hP⟩) dX1_put_29
  · refine lv_bipush (v := (-4)) hx hb dX1_put_11 (by decide) ?_
    exact pb_miret C hS (Or.inr ⟨by omega, rfl, hP⟩) dX1_put_13
set_option maxHeartbeats 4000000 in
set_option maxRecDepth 100000 in
theorem ct_X1_add (l : Launch) (D : va_G) (d : ClassId) (sg : Nat → Nat) (n : Nat) (P : Nat → Nat) (b0 b1 : Nat → Int32) (hn : pb_Nd sg 3) (hC : pb_Cx n P) (hb0 : ∀ i, i < n → b0 i = nI (P i)) (x r : Int32) (n2 : Nat) (P2 : Nat → Nat) (hr9 : pb_AddS n P x r n2 P2) : Met l yX1_add (ws_ yX1_add cX1_add 2 (some .int)) (pb_ro 2) (va_Pc [.ref (sg 0), .int x] (pb_B D d (pb_mW sg d (nI n) b0 b1))) (pb_Qm (pb_A sg 3) (pb_mH D d sg n2 P2 r)) 0 0 (pb_A sg 3) := by
  refine pb_met RX1 (by decide) rfl (Nat.le_of_ble_eq_true rfl) rfl ?_
  intro p e s m below meth c ls C hnm hB hl
  obtain ⟨hx, hb, hml, hr, hown, hlk, hts⟩ := id C
  obtain ⟨hP, hK⟩ := hB
  have hl : lv_has ls 2 [(0, .ref (sg 0)), (1, .int x)] := hl
  have hS : va_S (pb_A sg 3) s.heap s.heap [] := va_S.rf
  have hn26 := hC.1
  rcases hr9 with ⟨hx1, rfl, rfl, rfl⟩ | ⟨q, hq1, hq2, hq3, rfl, hr9⟩
  · refine lv_aload_n hx hb dX1_add_0 rfl (lv_at hl 0 rfl) ?_
    refine lv_iload_n hx hb dX1_add_1 rfl (lv_at hl 1 rfl) ?_
    refine pb_afterQ (pb_runV (rC := (RX1, TX1, 3)) (ci := 1) (As := [.int x]) (rest := []) C (ct_X1_badPiece l D d sg n P b0 b1 hC hb0 x false hx1) gw_X1_X1_badPiece hd_X1_badPiece ⟨rfl, rfl, Nat.le_of_ble_eq_true rfl, Nat.le_of_ble_eq_true rfl⟩ ⟨Nat.zero_le _, Nat.zero_le _⟩ hK hP rfl rfl hl.1 rfl (Nat.le_of_ble_eq_true rfl) dX1_add_2) ?_
    refine pb_zeq (tgt := 10) hx hb dX1_add_5 (by decide) (fun c5 => absurd c5 (by decide)) (fun c5 => ?_)
    refine lv_iconst (v := (-1)) hx hb dX1_add_8 (by decide) ?_
    exact pb_miret C hS ⟨rfl, _, _, hP, hb0⟩ dX1_add_9
  · have hok : pb_okP (nI q) true := Or.inl ⟨rfl, q, hq1, hq2, hq3, rfl⟩
    rcases hr9 with ⟨⟨i, hi, hi2⟩, rfl, rfl, rfl⟩ | ⟨hnew, hs, rfl, rfl, rfl⟩ | ⟨hnew, hs, h26, rfl, rfl, rfl⟩ | ⟨hnew, hs, h26, rfl, rfl, rfl⟩
    · refine lv_aload_n hx hb dX1_add_0 rfl (lv_at hl 0 rfl) ?_
      refine lv_iload_n hx hb dX1_add_1 rfl (lv_at hl 1 rfl) ?_
      refine pb_afterQ (pb_runV (rC := (RX1, TX1, 3)) (ci := 1) (As := [.int (nI q)]) (rest := []) C (ct_X1_badPiece l D d sg n P b0 b1 hC hb0 (nI q) true hok) gw_X1_X1_badPiece hd_X1_badPiece ⟨rfl, rfl, Nat.le_of_ble_eq_true rfl, Nat.le_of_ble_eq_true rfl⟩ ⟨Nat.zero_le _, Nat.zero_le _⟩ hK hP rfl rfl hl.1 rfl (Nat.le_of_ble_eq_true rfl) dX1_add_2) ?_
      refine pb_zeq (tgt := 10) hx hb dX1_add_5 (by decide) (fun c5 => ?_) (fun c5 => absurd c5 (by decide))
      refine lv_aload_n hx hb dX1_add_10 rfl (lv_at hl 0 rfl) ?_
      refine lv_iload_n hx hb dX1_add_11 rfl (lv_at hl 1 rfl) ?_
      refine pb_afterQ (pb_runV (rC := (RX1, TX1, 3)) (ci := 1) (As := [.int (nI q)]) (rest := []) C (ct_X1_find l D d sg n P b0 b1 hC hb0 q hq2 (nI i) (Or.inl ⟨i, hi, hi2, rfl⟩)) gw_X1_X1_find hd_X1_find ⟨rfl, rfl, Nat.le_of_ble_eq_true rfl, Nat.le_of_ble_eq_true rfl⟩ ⟨Nat.zero_le _, Nat.zero_le _⟩ hK hP rfl rfl hl.1 rfl (Nat.le_of_ble_eq_true rfl) dX1_add_12) ?_
      refine pb_clt (tgt := 21) hx hb dX1_add_15 (by decide) (by first | assumption | omega) ?_
      refine lv_bipush (v := (-2)) hx hb dX1_add_18 (by decide) ?_
      exact pb_miret C hS ⟨rfl, _, _, hP, hb0⟩ dX1_add_20
    · refine lv_aload_n hx hb dX1_add_0 rfl (lv_at hl 0 rfl) ?_
      refine lv_iload_n hx hb dX1_add_1 rfl (lv_at hl 1 rfl) ?_
      refine pb_afterQ (pb_runV (rC := (RX1, TX1, 3)) (ci := 1) (As := [.int (nI q)]) (rest := []) C (ct_X1_badPiece l D d sg n P b0 b1 hC hb0 (nI q) true hok) gw_X1_X1_badPiece hd_X1_badPiece ⟨rfl, rfl, Nat.le_of_ble_eq_true rfl, Nat.le_of_ble_eq_true rfl⟩ ⟨Nat.zero_le _, Nat.zero_le _⟩ hK hP rfl rfl hl.1 rfl (Nat.le_of_ble_eq_true rfl) dX1_add_2) ?_
      refine pb_zeq (tgt := 10) hx hb dX1_add_5 (by decide) (fun c5 => ?_) (fun c5 => absurd c5 (by decide))
      refine lv_aload_n hx hb dX1_add_10 rfl (lv_at hl 0 rfl) ?_
      refine lv_iload_n hx hb dX1_add_11 rfl (lv_at hl 1 rfl) ?_
      refine pb_afterQ (pb_runV (rC := (RX1, TX1, 3)) (ci := 1) (As := [.int (nI q)]) (rest := []) C (ct_X1_find l D d sg n P b0 b1 hC hb0 q hq2 (-1) (Or.inr ⟨hnew, rfl⟩)) gw_X1_X1_find hd_X1_find ⟨rfl, rfl, Nat.le_of_ble_eq_true rfl, Nat.le_of_ble_eq_true rfl⟩ ⟨Nat.zero_le _, Nat.zero_le _⟩ hK hP rfl rfl hl.1 rfl (Nat.le_of_ble_eq_true rfl) dX1_add_12) ?_
      refine pb_cltN (tgt := 21) hx hb dX1_add_15 (by decide) (by decide) ?_
      refine lv_aload_n hx hb dX1_add_21 rfl (lv_at hl 0 rfl) ?_
      refine lv_iload_n hx hb dX1_add_22 rfl (lv_at hl 1 rfl) ?_
      refine pb_afterQ (pb_runV (rC := (RX1, TX1, 3)) (ci := 1) (As := [.int (nI q)]) (rest := []) C (ct_X1_sidesThere l D d sg n P b0 b1 hC hb0 q ⟨hq1, hq2⟩ false (Or.inr ⟨rfl, hs⟩)) gw_X1_X1_sidesThere hd_X1_sidesThere ⟨rfl, rfl, Nat.le_of_ble_eq_true rfl, Nat.le_of_ble_eq_true rfl⟩ ⟨Nat.zero_le _, Nat.zero_le _⟩ hK hP rfl rfl hl.1 rfl (Nat.le_of_ble_eq_true rfl) dX1_add_23) ?_
      refine pb_zne (tgt := 32) hx hb dX1_add_26 (by decide) (fun c26 => absurd c26 (by decide)) (fun c26 => ?_)
      refine lv_bipush (v := (-3)) hx hb dX1_add_29 (by decide) ?_
      exact pb_miret C hS ⟨rfl, _, _, hP, hb0⟩ dX1_add_31
    · refine lv_aload_n hx hb dX1_add_0 rfl (lv_at hl 0 rfl) ?_
      refine lv_iload_n hx hb dX1_add_1 rfl (lv_at hl 1 rfl) ?_
      refine pb_afterQ (pb_runV (rC := (RX1, TX1, 3)) (ci := 1) (As := [.int (nI q)]) (rest := []) C (ct_X1_badPiece l D d sg n P b0 b1 hC hb0 (nI q) true hok) gw_X1_X1_badPiece hd_X1_badPiece ⟨rfl, rfl, Nat.le_of_ble_eq_true rfl, Nat.le_of_ble_eq_true rfl⟩ ⟨Nat.zero_le _, Nat.zero_le _⟩ hK hP rfl rfl hl.1 rfl (Nat.le_of_ble_eq_true rfl) dX1_add_2) ?_
      refine pb_zeq (tgt := 10) hx hb dX1_add_5 (by decide) (fun c5 => ?_) (fun c5 => absurd c5 (by decide))
      refine lv_aload_n hx hb dX1_add_10 rfl (lv_at hl 0 rfl) ?_
      refine lv_iload_n hx hb dX1_add_11 rfl (lv_at hl 1 rfl) ?_
      refine pb_afterQ (pb_runV (rC := (RX1, TX1, 3)) (ci := 1) (As := [.int (nI q)]) (rest := []) C (ct_X1_find l D d sg n P b0 b1 hC hb0 q hq2 (-1) (Or.inr ⟨hnew, rfl⟩)) gw_X1_X1_find hd_X1_find ⟨rfl, rfl, Nat.le_of_ble_eq_true rfl, Nat.le_of_ble_eq_true rfl⟩ ⟨Nat.zero_le _, Nat.zero_le _⟩ hK hP rfl rfl hl.1 rfl (Nat.le_of_ble_eq_true rfl) dX1_add_12) ?_
      refine pb_cltN (tgt := 21) hx hb dX1_add_15 (by decide) (by decide) ?_
      refine lv_aload_n hx hb dX1_add_21 rfl (lv_at hl 0 rfl) ?_
      refine lv_iload_n hx hb dX1_add_22 rfl (lv_at hl 1 rfl) ?_
      refine pb_afterQ (pb_runV (rC := (RX1, TX1, 3)) (ci := 1) (As := [.int (nI q)]) (rest := []) C (ct_X1_sidesThere l D d sg n P b0 b1 hC hb0 q ⟨hq1, hq2⟩ true (Or.inl ⟨rfl, hs⟩)) gw_X1_X1_sidesThere hd_X1_sidesThere ⟨rfl, rfl, Nat.le_of_ble_eq_true rfl, Nat.le_of_ble_eq_true rfl⟩ ⟨Nat.zero_le _, Nat.zero_le _⟩ hK hP rfl rfl hl.1 rfl (Nat.le_of_ble_eq_true rfl) dX1_add_23) ?_
      refine pb_zne (tgt := 32) hx hb dX1_add_26 (by decide) (fun c26 => ?_) (fun c26 => absurd c26 (by decide))
      refine lv_aload_n hx hb dX1_add_32 rfl (lv_at hl 0 rfl) ?_
      refine lv_iload_n hx hb dX1_add_33 rfl (lv_at hl 1 rfl) ?_
      refine pb_afterM (pb_runV (rC := (RX1, TX1, 3)) (ci := 1) (As := [.int (nI q)]) (rest := []) C (ct_X1_put l D d sg n P b0 b1 hn hC hb0 q) gw_X1_X1_put hd_X1_put ⟨rfl, rfl, Nat.le_of_ble_eq_true rfl, Nat.le_of_ble_eq_true rfl⟩ ⟨Nat.zero_le _, Nat.zero_le _⟩ hK hP rfl rfl hl.1 rfl (Nat.le_of_ble_eq_true rfl) dX1_add_34) hS (fun _ z => z) (fun r H locs hq hfr hS => ?_)
      rcases hq with ⟨hq9, rfl, hP⟩ | ⟨hq9, rfl, hP⟩
      · omega
      · exact pb_miret C hS ⟨rfl, _, _, hP, hb0⟩ dX1_add_37
    · refine lv_aload_n hx hb dX1_add_0 rfl (lv_at hl 0 rfl) ?_
      refine lv_iload_n hx hb dX1_add_1 rfl (lv_at hl 1 rfl) ?_
      refine pb_afterQ (pb_runV (rC := (RX1, TX1, 3)) (ci := 1) (As := [.int (nI q)]) (rest := []) C (ct_X1_badPiece l D d sg n P b0 b1 hC hb0 (nI q) true hok) gw_X1_X1_badPiece hd_X1_badPiece ⟨rfl, rfl, Nat.le_of_ble_eq_true rfl, Nat.le_of_ble_eq_true rfl⟩ ⟨Nat.zero_le _, Nat.zero_le _⟩ hK hP rfl rfl hl.1 rfl (Nat.le_of_ble_eq_true rfl) dX1_add_2) ?_
      refine pb_zeq (tgt := 10) hx hb dX1_add_5 (by decide) (fun c5 => ?_) (fun c5 => absurd c5 (by decide))
      refine lv_aload_n hx hb dX1_add_10 rfl (lv_at hl 0 rfl) ?_
      refine lv_iload_n hx hb dX1_add_11 rfl (lv_at hl 1 rfl) ?_
      refine pb_afterQ (pb_runV (rC := (RX1, TX1, 3)) (ci := 1) (As := [.int (nI q)]) (rest := []) C (ct_X1_find l D d sg n P b0 b1 hC hb0 q hq2 (-1) (Or.inr ⟨hnew, rfl⟩)) gw_X1_X1_find hd_X1_find ⟨rfl, rfl, Nat.le_of_ble_eq_true rfl, Nat.le_of_ble_eq_true rfl⟩ ⟨Nat.zero_le _, Nat.zero_le _⟩ hK hP rfl rfl hl.1 rfl (Nat.le_of_ble_eq_true rfl) dX1_add_12) ?_
      refine pb_cltN (tgt := 21) hx hb dX1_add_15 (by decide) (by decide) ?_
      refine lv_aload_n hx hb dX1_add_21 rfl (lv_at hl 0 rfl) ?_
      refine lv_iload_n hx hb dX1_add_22 rfl (lv_at hl 1 rfl) ?_
      refine pb_afterQ (pb_runV (rC := (RX1, TX1, 3)) (ci := 1) (As := [.int (nI q)]) (rest := []) C (ct_X1_sidesThere l D d sg n P b0 b1 hC hb0 q ⟨hq1, hq2⟩ true (Or.inl ⟨rfl, hs⟩)) gw_X1_X1_sidesThere hd_X1_sidesThere ⟨rfl, rfl, Nat.le_of_ble_eq_true rfl, Nat.le_of_ble_eq_true rfl⟩ ⟨Nat.zero_le _, Nat.zero_le _⟩ hK hP rfl rfl hl.1 rfl (Nat.le_of_ble_eq_true rfl) dX1_add_23) ?_
      refine pb_zne (tgt := 32) hx hb dX1_add_26 (by decide) (fun c26 => ?_) (fun c26 => absurd c26 (by decide))
      refine lv_aload_n hx hb dX1_add_32 rfl (lv_at hl 0 rfl) ?_
      refine lv_iload_n hx hb dX1_add_33 rfl (lv_at hl 1 rfl) ?_
      refine pb_afterM (pb_runV (rC := (RX1, TX1, 3)) (ci := 1) (As := [.int (nI q)]) (rest := []) C (ct_X1_put l D d sg n P b0 b1 hn hC hb0 q) gw_X1_X1_put hd_X1_put ⟨rfl, rfl, Nat.le_of_ble_eq_true rfl, Nat.le_of_ble_eq_true rfl⟩ ⟨Nat.zero_le _, Nat.zero_le _⟩ hK hP rfl rfl hl.1 rfl (Nat.le_of_ble_eq_true rfl) dX1_add_34) hS (fun _ z => z) (fun r H locs hq hfr hS => ?_)
      rcases hq with ⟨hq9, rfl, hP⟩ | ⟨hq9, rfl, hP⟩
      · exact pb_miret C hS ⟨rfl, _, _, hP, pb_upd_P hb0⟩ dX1_add_37
      · omega
set_option maxHeartbeats 4000000 in
set_option maxRecDepth 100000 in
theorem ct_X1_undo (l : Launch) (D : va_G) (d : ClassId) (sg : Nat → Nat) (n : Nat) (P : Nat → Nat) (b0 b1 : Nat → Int32) (hn : pb_Nd sg 3) (hC : pb_Cx n P) (hb0 : ∀ i, i < n → b0 i = nI (P i)) (r : Int32) (n2 : Nat) (hr9 : pb_UndoS n P r n2) : Met l yX1_undo (ws_ yX1_undo cX1_undo 1 (some .int)) (pb_ro 0) (va_Pc [.ref (sg 0)] (pb_B D d (pb_mW sg d (nI n) b0 b1))) (pb_Qm (pb_A sg 3) (pb_mH D d sg n2 P r)) 0 0 (pb_A sg 3) := by
  refine pb_met RX1 (by decide) rfl (Nat.le_of_ble_eq_true rfl) rfl ?_
  intro p e s m below meth c ls C hnm hB hl
  obtain ⟨hx, hb, hml, hr, hown, hlk, hts⟩ := id C
  obtain ⟨hP, hK⟩ := hB
  have hl : lv_has ls 1 [(0, .ref (sg 0))] := hl
  have hS : va_S (pb_A sg 3) s.heap s.heap [] := va_S.rf
  have hn26 := hC.1
  rcases hr9 with ⟨hz, rfl, rfl⟩ | ⟨hz, rfl, rfl⟩
  · refine lv_aload_n hx hb dX1_undo_0 rfl (lv_at hl 0 rfl) ?_
    refine pb_gM0 C hK hP dX1_undo_1 ?_
    refine pb_cne (tgt := 9) hx hb dX1_undo_4 (by decide) (by first | assumption | omega) (fun c4 => absurd hz c4) (fun c4 => ?_)
    refine lv_iconst (v := (-1)) hx hb dX1_undo_7 (by decide) ?_
    exact pb_miret C hS ⟨rfl, _, _, by rw [hz] at hP; exact hP, fun i h => absurd h (Nat.not_lt_zero _)⟩ dX1_undo_8
  · refine lv_aload_n hx hb dX1_undo_0 rfl (lv_at hl 0 rfl) ?_
    refine pb_gM0 C hK hP dX1_undo_1 ?_
    refine pb_cne (tgt := 9) hx hb dX1_undo_4 (by decide) (by first | assumption | omega) (fun c4 => ?_) (fun c4 => absurd c4 (by omega))
    refine lv_aload_n hx hb dX1_undo_9 rfl (lv_at hl 0 rfl) ?_
    refine lv_dup hx hb dX1_undo_10 rfl ?_
    refine pb_gM0 C hK hP dX1_undo_11 ?_
    refine lv_iconst (v := nI 1) hx hb dX1_undo_14 rfl ?_
    refine lv_isub hx hb dX1_undo_15 ?_
    refine pb_top (nI (n - 1)) (pk_sub (by omega)) ?_
    refine pb_pM0 C hK hn hP hS dX1_undo_16 (fun H locs hP hS => ?_)
    refine lv_aload_n hx hb dX1_undo_19 rfl (lv_at hl 0 rfl) ?_
    refine pb_gM1 C hK hP dX1_undo_20 ?_
    refine lv_aload_n hx hb dX1_undo_23 rfl (lv_at hl 0 rfl) ?_
    refine pb_gM0 C hK hP dX1_undo_24 ?_
    refine pb_ald (nI (P (n - 1))) C hK hP 1 rfl (by omega) (by decide) (hb0 (n - 1) (by omega)) dX1_undo_27 ?_
    exact pb_miret C hS ⟨rfl, _, _, hP, fun i h => hb0 i (by omega)⟩ dX1_undo_28
set_option maxHeartbeats 4000000 in
set_option maxRecDepth 100000 in
theorem ct_X1_fill (l : Launch) (D : va_G) (d : ClassId) (sg : Nat → Nat) (n : Nat) (P : Nat → Nat) (b0 b1 : Nat → Int32) (hn : pb_Nd sg 3) (hC : pb_Cx n P) (hb0 : ∀ i, i < n → b0 i = nI (P i)) (x r : Int32) (n2 : Nat) (P2 : Nat → Nat) (hr9 : pb_FillS n P x r n2 P2) : Met l yX1_fill (ws_ yX1_fill cX1_fill 4 (some .int)) (pb_ro 2) (va_Pc [.ref (sg 0), .int x] (pb_B D d (pb_mW sg d (nI n) b0 b1))) (pb_Qm (pb_A sg 3) (pb_mH D d sg n2 P2 r)) 0 0 (pb_A sg 3) := by
  refine pb_met RX1 (by decide) rfl (Nat.le_of_ble_eq_true rfl) rfl ?_
  intro p e s m below meth c ls C hnm hB hl
  obtain ⟨hx, hb, hml, hr, hown, hlk, hts⟩ := id C
  obtain ⟨hP, hK⟩ := hB
  have hl : lv_has ls 4 [(0, .ref (sg 0)), (1, .int x)] := hl
  have hS : va_S (pb_A sg 3) s.heap s.heap [] := va_S.rf
  have hn26 := hC.1
  rcases hr9 with ⟨hx1, rfl, rfl, rfl⟩ | ⟨q, hq1, hq2, hq3, rfl, hr9⟩
  · refine lv_aload_n hx hb dX1_fill_0 rfl (lv_at hl 0 rfl) ?_
    refine lv_iload_n hx hb dX1_fill_1 rfl (lv_at hl 1 rfl) ?_
    refine pb_afterQ (pb_runV (rC := (RX1, TX1, 3)) (ci := 1) (As := [.int x]) (rest := []) C (ct_X1_badPiece l D d sg n P b0 b1 hC hb0 x false hx1) gw_X1_X1_badPiece hd_X1_badPiece ⟨rfl, rfl, Nat.le_of_ble_eq_true rfl, Nat.le_of_ble_eq_true rfl⟩ ⟨Nat.zero_le _, Nat.zero_le _⟩ hK hP rfl rfl hl.1 rfl (Nat.le_of_ble_eq_true rfl) dX1_fill_2) ?_
    refine pb_zeq (tgt := 10) hx hb dX1_fill_5 (by decide) (fun c5 => absurd c5 (by decide)) (fun c5 => ?_)
    refine lv_iconst (v := (-1)) hx hb dX1_fill_8 (by decide) ?_
    exact pb_miret C hS ⟨rfl, _, _, hP, hb0⟩ dX1_fill_9
  · have hok : pb_okP (nI q) true := Or.inl ⟨rfl, q, hq1, hq2, hq3, rfl⟩
    have htop := pb_fn_top (n := n) (P := P) (q := q) (show q + 1 ≤ 64 by omega)
    have hf0 : ¬ pb_fr n P q 0 = true := fun z => absurd (pb_fr_i.mp z).1 (by decide)
    have hf1 : pb_fn n P q 1 = 0 := by rw [pb_fn_n hf0]; rfl
    have hbf1 : ∀ i, i < n + 0 → b0 i = nI (pb_fP n P q 1 i) := by rw [pb_fP_n hf0]; exact hb0
    refine lv_aload_n hx hb dX1_fill_0 rfl (lv_at hl 0 rfl) ?_
    refine lv_iload_n hx hb dX1_fill_1 rfl (lv_at hl 1 rfl) ?_
    refine pb_afterQ (pb_runV (rC := (RX1, TX1, 3)) (ci := 1) (As := [.int (nI q)]) (rest := []) C (ct_X1_badPiece l D d sg n P b0 b1 hC hb0 (nI q) true hok) gw_X1_X1_badPiece hd_X1_badPiece ⟨rfl, rfl, Nat.le_of_ble_eq_true rfl, Nat.le_of_ble_eq_true rfl⟩ ⟨Nat.zero_le _, Nat.zero_le _⟩ hK hP rfl rfl hl.1 rfl (Nat.le_of_ble_eq_true rfl) dX1_fill_2) ?_
    refine pb_zeq (tgt := 10) hx hb dX1_fill_5 (by decide) (fun c5 => ?_) (fun c5 => absurd c5 (by decide))
    refine lv_iconst (v := nI 0) hx hb dX1_fill_10 rfl ?_
    refine lv_istore_n (lv' := [(2, .int (nI 0)), (0, .ref (sg 0)), (1, .int (nI q))]) hx hb dX1_fill_11 rfl hl (by decide) rfl (fun ls hl => ?_)
    refine lv_iconst (v := nI 1) hx hb dX1_fill_12 rfl ?_
    refine lv_istore_n (lv' := [(3, .int (nI 1)), (2, .int (nI 0)), (0, .ref (sg 0)), (1, .int (nI q))]) hx hb dX1_fill_13 rfl hl (by decide) rfl (fun ls hl => ?_)
    have hl : lv_has ls 4 [(3, .int (nI 1)), (2, .int (nI (pb_fn n P q 1))), (0, .ref (sg 0)), (1, .int (nI q))] := by have e9 : nI 0 = nI (pb_fn n P q 1) := (by rw [hf1]); rw [← e9]; exact hl
    have loop14 : ∀ (k14 : Nat) (x : Nat) (ls : Array Slot), (64 < x + k14) → (1 ≤ x) → (x ≤ 64) → lv_has ls 4 [(0, .ref (sg 0)), (1, .int (nI q)), (2, .int (nI (pb_fn n P q x))), (3, .int (nI x))] → W p l e (pb_ro 2) s m ([.ref (sg 0), .int (nI q)] : List Value).toArray below meth c s.heap [] 0 0 (MQ below (pb_Qm (pb_A sg 3) (pb_mH D d sg n2 P2 r)) ([.ref (sg 0), .int (nI q)] : List Value).toArray s 0 0 (pb_A sg 3)) (F0 m 14 ls []) := by
      intro k14
      induction k14 with
      | zero =>
        intro x ls hk hx1 hx3 hl
        omega
      | succ k14 ih14 =>
        intro x ls hk hx1 hx3 hl
        have hfx := pb_fn_le (n := n) (P := P) (q := q) x
        refine lv_iload_n hx hb dX1_fill_14 rfl (lv_at hl 3 rfl) ?_
        refine lv_bipush (v := nI 64) hx hb dX1_fill_15 rfl ?_
        refine pb_ige (tgt := 44) hx hb dX1_fill_17 (by decide) (by first | assumption | omega) (by first | assumption | omega) (fun c17 => ?_) (fun c17 => ?_)
        · have ex : x = 64 := by omega
          have hl : lv_has ls 4 [(0, .ref (sg 0)), (1, .int (nI q)), (2, .int (nI (pb_fn n P q (q + 1)))), (3, .int (nI x))] := by have e9 : nI (pb_fn n P q x) = nI (pb_fn n P q (q + 1)) := (by rw [ex, htop.1]); rw [← e9]; exact hl
          have hfl := pb_fn_le (n := n) (P := P) (q := q) (q + 1)
          rcases hr9 with ⟨hbig, rfl, rfl, rfl⟩ | ⟨hfit, rfl, rfl, rfl⟩
          · refine lv_aload_n hx hb dX1_fill_44 rfl (lv_at hl 0 rfl) ?_
            refine pb_gM0 C hK hP dX1_fill_45 ?_
            refine lv_iload_n hx hb dX1_fill_48 rfl (lv_at hl 2 rfl) ?_
            refine lv_iadd hx hb dX1_fill_49 ?_
            refine pb_tup (nI_add _ _) ?_
            refine lv_bipush (v := nI 26) hx hb dX1_fill_50 rfl ?_
            refine pb_ile (tgt := 58) hx hb dX1_fill_52 (by decide) (by first | assumption | omega) (by first | assumption | omega) (fun c52 => absurd c52 (by omega)) (fun c52 => ?_)
            refine lv_bipush (v := (-2)) hx hb dX1_fill_55 (by decide) ?_
            exact pb_miret C hS ⟨rfl, _, _, hP, hb0⟩ dX1_fill_57
          · refine lv_aload_n hx hb dX1_fill_44 rfl (lv_at hl 0 rfl) ?_
            refine pb_gM0 C hK hP dX1_fill_45 ?_
            refine lv_iload_n hx hb dX1_fill_48 rfl (lv_at hl 2 rfl) ?_
            refine lv_iadd hx hb dX1_fill_49 ?_
            refine pb_tup (nI_add _ _) ?_
            refine lv_bipush (v := nI 26) hx hb dX1_fill_50 rfl ?_
            refine pb_ile (tgt := 58) hx hb dX1_fill_52 (by decide) (by first | assumption | omega) (by first | assumption | omega) (fun c52 => ?_) (fun c52 => absurd c52 (by omega))
            refine lv_iconst (v := nI 1) hx hb dX1_fill_58 rfl ?_
            refine lv_istore_n (lv' := [(3, .int (nI 1)), (0, .ref (sg 0)), (1, .int (nI q)), (2, .int (nI (pb_fn n P q (q + 1))))]) hx hb dX1_fill_59 rfl hl (by decide) rfl (fun ls hl => ?_)
            have hP : va_P D pb_cl (pb_mW sg d (nI (n + pb_fn n P q 1)) b0 b1) s.heap := by rw [hf1]; exact hP
            have loop60 : ∀ (k60 : Nat) (x : Nat) (b0 : Nat → Int32) (ls : Array Slot) (H : Heap) (locs : List Loc), (64 < x + k60) → (1 ≤ x) → (x ≤ 64) → (n + pb_fn n P q x ≤ 26) → (∀ i, i < n + pb_fn n P q x → b0 i = nI (pb_fP n P q x i)) → va_P D pb_cl (pb_mW sg d (nI (n + pb_fn n P q x)) b0 b1) H → va_S (pb_A sg 3) s.heap H locs → lv_has ls 4 [(0, .ref (sg 0)), (1, .int (nI q)), (3, .int (nI x))] → W p l e (pb_ro 2) s m ([.ref (sg 0), .int (nI q)] : List Value).toArray below meth c H locs 0 0 (MQ below (pb_Qm (pb_A sg 3) (pb_mH D d sg (n + pb_fn n P q (q + 1)) (pb_fP n P q (q + 1)) (nI (n + pb_fn n P q (q + 1))))) ([.ref (sg 0), .int (nI q)] : List Value).toArray s 0 0 (pb_A sg 3)) (F0 m 60 ls []) := by
              intro k60
              induction k60 with
              | zero =>
                intro x b0 ls H locs hk hx2 hx3 hle hbx hP hS hl
                omega
              | succ k60 ih60 =>
                intro x b0 ls H locs hk hx2 hx3 hle hbx hP hS hl
                have hCx := pb_fP_cx hC hq2 hq3 x hle
                refine lv_iload_n hx hb dX1_fill_60 rfl (lv_at hl 2 rfl) ?_
                refine lv_bipush (v := nI 64) hx hb dX1_fill_61 rfl ?_
                refine pb_ige (tgt := 93) hx hb dX1_fill_63 (by decide) (by first | assumption | omega) (by first | assumption | omega) (fun c63 => ?_) (fun c63 => ?_)
                · refine lv_aload_n hx hb dX1_fill_93 rfl (lv_at hl 0 rfl) ?_
                  refine pb_gM0 C hK hP dX1_fill_94 ?_
                  exact pb_miret C hS (by have ex : x = 64 := (by omega); subst ex; rw [htop.1] at hP hbx ⊢; rw [htop.2] at hbx; exact ⟨rfl, _, _, hP, hbx⟩) dX1_fill_97
                · refine lv_iload_n hx hb dX1_fill_66 rfl (lv_at hl 2 rfl) ?_
                  refine lv_iload_n hx hb dX1_fill_67 rfl (lv_at hl 1 rfl) ?_
                  refine lv_iand hx hb dX1_fill_68 ?_
                  refine pb_tup (nx_and _ _) ?_
                  refine lv_iload_n hx hb dX1_fill_69 rfl (lv_at hl 2 rfl) ?_
                  refine pb_ine (tgt := 87) hx hb dX1_fill_70 (by decide) (by have := Nat.and_le_left (n := x) (m := q); omega) (by omega) (fun c70 => ?_) (fun c70 => ?_)
                  · have hnf : ¬ pb_fr n P q x = true := fun z => c70 (pb_fr_i.mp z).2.1
                    refine lv_iinc (v := nI (x + 1)) (lv' := [(3, .int (nI (x + 1))), (0, .ref (sg 0)), (1, .int (nI q))]) hx hb dX1_fill_87 hl (k := 2) rfl (nI_1 _) (by decide) rfl (fun ls hl => ?_)
                    refine lv_goto (tgt := 60) hx hb dX1_fill_90 (by decide) ?_
                    rw [← pb_fn_n hnf] at hP
                    exact ih60 (x + 1) b0 ls _ _ (by omega) (by omega) (by omega) (by rw [pb_fn_n hnf]; exact hle) (by rw [pb_fn_n hnf, pb_fP_n hnf]; exact hbx) hP hS (lv_sub hl [1, 2, 0] rfl)
                  · refine lv_aload_n hx hb dX1_fill_73 rfl (lv_at hl 0 rfl) ?_
                    refine lv_iload_n hx hb dX1_fill_74 rfl (lv_at hl 2 rfl) ?_
                    obtain ⟨v, hv⟩ := pb_At_ex (n + pb_fn n P q x) (pb_fP n P q x) x (-1)
                    refine pb_afterQ (pb_runV (rC := (RX1, TX1, 3)) (ci := 1) (As := [.int (nI x)]) (rest := []) C (ct_X1_find l D d sg (n + pb_fn n P q x) (pb_fP n P q x) b0 b1 hCx hbx x (by omega) v hv) gw_X1_X1_find hd_X1_find ⟨rfl, rfl, Nat.le_of_ble_eq_true rfl, Nat.le_of_ble_eq_true rfl⟩ ⟨Nat.zero_le _, Nat.zero_le _⟩ hK hP rfl rfl hl.1 rfl (Nat.le_of_ble_eq_true rfl) dX1_fill_75) ?_
                    rcases hv with ⟨i0, hi0, hi1, rfl⟩ | ⟨hno, rfl⟩
                    · have hnf : ¬ pb_fr n P q x = true := fun z => pb_fP_new.mpr (pb_fr_i.mp z).2.2 i0 hi0 hi1
                      refine pb_cge (tgt := 87) hx hb dX1_fill_78 (by decide) (by first | assumption | omega) ?_
                      refine lv_iinc (v := nI (x + 1)) (lv' := [(3, .int (nI (x + 1))), (0, .ref (sg 0)), (1, .int (nI q))]) hx hb dX1_fill_87 hl (k := 2) rfl (nI_1 _) (by decide) rfl (fun ls hl => ?_)
                      refine lv_goto (tgt := 60) hx hb dX1_fill_90 (by decide) ?_
                      rw [← pb_fn_n hnf] at hP
                      exact ih60 (x + 1) b0 ls _ _ (by omega) (by omega) (by omega) (by rw [pb_fn_n hnf]; exact hle) (by rw [pb_fn_n hnf, pb_fP_n hnf]; exact hbx) hP hS (lv_sub hl [1, 2, 0] rfl)
                    · have hf : pb_fr n P q x = true := pb_fr_i.mpr ⟨hx2, c70, pb_fP_new.mp hno⟩
                      have hup : pb_fn n P q (x + 1) ≤ pb_fn n P q 64 := pb_fn_mono (by omega)
                      rw [pb_fn_y hf, htop.1] at hup
                      refine pb_cgeN (tgt := 87) hx hb dX1_fill_78 (by decide) (by decide) ?_
                      refine lv_aload_n hx hb dX1_fill_81 rfl (lv_at hl 0 rfl) ?_
                      refine lv_iload_n hx hb dX1_fill_82 rfl (lv_at hl 2 rfl) ?_
                      refine pb_afterM (pb_runV (rC := (RX1, TX1, 3)) (ci := 1) (As := [.int (nI x)]) (rest := []) C (ct_X1_put l D d sg (n + pb_fn n P q x) (pb_fP n P q x) b0 b1 hn hCx hbx x) gw_X1_X1_put hd_X1_put ⟨rfl, rfl, Nat.le_of_ble_eq_true rfl, Nat.le_of_ble_eq_true rfl⟩ ⟨Nat.zero_le _, Nat.zero_le _⟩ hK hP rfl rfl hl.1 rfl (Nat.le_of_ble_eq_true rfl) dX1_fill_83) hS (fun _ z => z) (fun r H locs hq hfr hS => ?_)
                      rcases hq with ⟨hq9, rfl, hP⟩ | ⟨hq9, rfl, hP⟩
                      · refine lv_pop hx hb dX1_fill_86 rfl ?_
                        refine lv_iinc (v := nI (x + 1)) (lv' := [(3, .int (nI (x + 1))), (0, .ref (sg 0)), (1, .int (nI q))]) hx hb dX1_fill_87 hl (k := 2) rfl (nI_1 _) (by decide) rfl (fun ls hl => ?_)
                        refine lv_goto (tgt := 60) hx hb dX1_fill_90 (by decide) ?_
                        have e8 : n + pb_fn n P q x + 1 = n + pb_fn n P q (x + 1) := by rw [pb_fn_y hf]; rfl
                        rw [e8] at hP
                        exact ih60 (x + 1) (upd b0 (n + pb_fn n P q x) (nI x)) ls _ _ (by omega) (by omega) (by omega) (by omega) (by rw [pb_fn_y hf, pb_fP_y hf]; exact pb_upd_P hbx) hP hS (lv_sub hl [1, 2, 0] rfl)
                      · omega
            exact loop60 64 1 b0 ls _ _ (by omega) (by omega) (by omega) (by rw [hf1]; exact hn26) (by rw [hf1]; exact hbf1) hP hS (lv_sub hl [1, 2, 0] rfl)
        · refine lv_iload_n hx hb dX1_fill_20 rfl (lv_at hl 3 rfl) ?_
          refine lv_iload_n hx hb dX1_fill_21 rfl (lv_at hl 1 rfl) ?_
          refine lv_iand hx hb dX1_fill_22 ?_
          refine pb_tup (nx_and _ _) ?_
          refine lv_iload_n hx hb dX1_fill_23 rfl (lv_at hl 3 rfl) ?_
          refine pb_ine (tgt := 38) hx hb dX1_fill_24 (by decide) (by have := Nat.and_le_left (n := x) (m := q); omega) (by omega) (fun c24 => ?_) (fun c24 => ?_)
          · have hnf : ¬ pb_fr n P q x = true := fun z => c24 (pb_fr_i.mp z).2.1
            have hl : lv_has ls 4 [(0, .ref (sg 0)), (1, .int (nI q)), (2, .int (nI (pb_fn n P q (x + 1)))), (3, .int (nI x))] := by have e9 : nI (pb_fn n P q x) = nI (pb_fn n P q (x + 1)) := (by rw [pb_fn_n hnf]); rw [← e9]; exact hl
            refine lv_iinc (v := nI (x + 1)) (lv' := [(3, .int (nI (x + 1))), (0, .ref (sg 0)), (1, .int (nI q)), (2, .int (nI (pb_fn n P q (x + 1))))]) hx hb dX1_fill_38 hl (k := 3) rfl (nI_1 _) (by decide) rfl (fun ls hl => ?_)
            refine lv_goto (tgt := 14) hx hb dX1_fill_41 (by decide) ?_
            exact ih14 (x + 1) ls (by omega) (by omega) (by omega) (lv_sub hl [1, 2, 3, 0] rfl)
          · refine lv_aload_n hx hb dX1_fill_27 rfl (lv_at hl 0 rfl) ?_
            refine lv_iload_n hx hb dX1_fill_28 rfl (lv_at hl 3 rfl) ?_
            obtain ⟨v, hv⟩ := pb_At_ex n P x (-1)
            refine pb_afterQ (pb_runV (rC := (RX1, TX1, 3)) (ci := 1) (As := [.int (nI x)]) (rest := []) C (ct_X1_find l D d sg n P b0 b1 hC hb0 x (by omega) v hv) gw_X1_X1_find hd_X1_find ⟨rfl, rfl, Nat.le_of_ble_eq_true rfl, Nat.le_of_ble_eq_true rfl⟩ ⟨Nat.zero_le _, Nat.zero_le _⟩ hK hP rfl rfl hl.1 rfl (Nat.le_of_ble_eq_true rfl) dX1_fill_29) ?_
            rcases hv with ⟨i0, hi0, hi1, rfl⟩ | ⟨hno, rfl⟩
            · have hnf : ¬ pb_fr n P q x = true := fun z => (pb_fr_i.mp z).2.2 i0 hi0 hi1
              refine pb_cge (tgt := 38) hx hb dX1_fill_32 (by decide) (by first | assumption | omega) ?_
              have hl : lv_has ls 4 [(0, .ref (sg 0)), (1, .int (nI q)), (2, .int (nI (pb_fn n P q (x + 1)))), (3, .int (nI x))] := by have e9 : nI (pb_fn n P q x) = nI (pb_fn n P q (x + 1)) := (by rw [pb_fn_n hnf]); rw [← e9]; exact hl
              refine lv_iinc (v := nI (x + 1)) (lv' := [(3, .int (nI (x + 1))), (0, .ref (sg 0)), (1, .int (nI q)), (2, .int (nI (pb_fn n P q (x + 1))))]) hx hb dX1_fill_38 hl (k := 3) rfl (nI_1 _) (by decide) rfl (fun ls hl => ?_)
              refine lv_goto (tgt := 14) hx hb dX1_fill_41 (by decide) ?_
              exact ih14 (x + 1) ls (by omega) (by omega) (by omega) (lv_sub hl [1, 2, 3, 0] rfl)
            · have hf : pb_fr n P q x = true := pb_fr_i.mpr ⟨hx1, c24, hno⟩
              refine pb_cgeN (tgt := 38) hx hb dX1_fill_32 (by decide) (by decide) ?_
              refine lv_iinc (v := nI (pb_fn n P q (x + 1))) (lv' := [(2, .int (nI (pb_fn n P q (x + 1)))), (0, .ref (sg 0)), (1, .int (nI q)), (3, .int (nI x))]) hx hb dX1_fill_35 hl (k := 2) rfl (by rw [pb_fn_y hf]; exact nI_1 _) (by decide) rfl (fun ls hl => ?_)
              refine lv_iinc (v := nI (x + 1)) (lv' := [(3, .int (nI (x + 1))), (2, .int (nI (pb_fn n P q (x + 1)))), (0, .ref (sg 0)), (1, .int (nI q))]) hx hb dX1_fill_38 hl (k := 3) rfl (nI_1 _) (by decide) rfl (fun ls hl => ?_)
              refine lv_goto (tgt := 14) hx hb dX1_fill_41 (by decide) ?_
              exact ih14 (x + 1) ls (by omega) (by omega) (by omega) (lv_sub hl [2, 3, 1, 0] rfl)
    exact loop14 64 1 ls (by omega) (by omega) (by omega) (lv_sub hl [2, 3, 1, 0] rfl)
end
section
/-! PersistentBars: the methods that only read -/
set_option maxHeartbeats 4000000 in
set_option maxRecDepth 100000 in
theorem ct_X0_points (l : Launch) (q : Nat) (hq : q < 2 ^ 31) : Met l yX0_points (ws_ yX0_points cX0_points 3 (some .int)) (pb_ro 0) (va_Pc [.int (nI q)] (fun _ => True)) (pb_Q (nI (pb_pop q))) 0 0 pb_no := by
  refine pb_met RX0 (by decide) rfl (Nat.le_of_ble_eq_true rfl) rfl ?_
  intro p e s m below meth c ls C hnm hB hl
  obtain ⟨hx, hb, hml, hr, hown, hlk, hts⟩ := id C
  have hl : lv_has ls 3 [(0, .int (nI q))] := hl
  refine lv_iconst (v := nI 0) hx hb dX0_points_0 rfl ?_
  refine lv_istore_n (lv' := [(1, .int (nI 0)), (0, .int (nI q))]) hx hb dX0_points_1 rfl hl (by decide) rfl (fun ls hl => ?_)
  refine lv_iconst (v := nI 0) hx hb dX0_points_2 rfl ?_
  refine lv_istore_n (lv' := [(2, .int (nI 0)), (1, .int (nI 0)), (0, .int (nI q))]) hx hb dX0_points_3 rfl hl (by decide) rfl (fun ls hl => ?_)
  have loop4 : ∀ (k4 : Nat) (u : Nat) (ls : Array Slot), (6 < u + k4) → (u ≤ 6) → lv_has ls 3 [(0, .int (nI q)), (1, .int (nI (pb_pt q u))), (2, .int (nI u))] → W p l e (pb_ro 0) s m ([.int (nI q)] : List Value).toArray below meth c s.heap [] 0 0 (MQ below (pb_Q (nI (pb_pop q))) ([.int (nI q)] : List Value).toArray s 0 0 pb_no) (F0 m 4 ls []) := by
    intro k4
    induction k4 with
    | zero =>
      intro u ls hk hu hl
      omega
    | succ k4 ih4 =>
      intro u ls hk hu hl
      refine lv_iload_n hx hb dX0_points_4 rfl (lv_at hl 2 rfl) ?_
      refine lv_bipush (v := nI 6) hx hb dX0_points_5 rfl ?_
      refine pb_ige (tgt := 24) hx hb dX0_points_7 (by decide) (by first | assumption | omega) (by first | assumption | omega) (fun c7 => ?_) (fun c7 => ?_)
      · refine lv_iload_n hx hb dX0_points_24 rfl (lv_at hl 1 rfl) ?_
        exact pb_iret C (by rw [show u = 6 by omega]; rfl) dX0_points_25
      · refine lv_iload_n hx hb dX0_points_10 rfl (lv_at hl 1 rfl) ?_
        refine lv_iload_n hx hb dX0_points_11 rfl (lv_at hl 0 rfl) ?_
        refine lv_iload_n hx hb dX0_points_12 rfl (lv_at hl 2 rfl) ?_
        refine lv_ishr hx hb dX0_points_13 ?_
        refine lv_iconst (v := nI 1) hx hb dX0_points_14 rfl ?_
        refine lv_iand hx hb dX0_points_15 ?_
        refine pb_tup (pb_bit (by first | assumption | omega) (by first | assumption | omega)) ?_
        refine lv_iadd hx hb dX0_points_16 ?_
        refine pb_top (nI (pb_pt q (u + 1))) (pb_ptS q u) ?_
        refine lv_istore_n (lv' := [(1, .int (nI (pb_pt q (u + 1)))), (0, .int (nI q)), (2, .int (nI u))]) hx hb dX0_points_17 rfl hl (by decide) rfl (fun ls hl => ?_)
        refine lv_iinc (v := nI (u + 1)) (lv' := [(2, .int (nI (u + 1))), (1, .int (nI (pb_pt q (u + 1)))), (0, .int (nI q))]) hx hb dX0_points_18 hl (k := 2) rfl (nI_1 _) (by decide) rfl (fun ls hl => ?_)
        refine lv_goto (tgt := 4) hx hb dX0_points_21 (by decide) ?_
        exact ih4 (u + 1) ls (by omega) (by omega) (lv_sub hl [2, 1, 0] rfl)
  exact loop4 7 0 ls (by omega) (by omega) (lv_sub hl [2, 1, 0] rfl)
set_option maxHeartbeats 4000000 in
set_option maxRecDepth 100000 in
theorem ct_X0_isPiece (l : Launch) (x : Int32) (b : Bool) (hok : pb_okP x b) : Met l yX0_isPiece (ws_ yX0_isPiece cX0_isPiece 1 (some .boolean)) (pb_ro 1) (va_Pc [.int x] (fun _ => True)) (pb_Q (pb_z b)) 0 0 pb_no := by
  refine pb_met RX0 (by decide) rfl (Nat.le_of_ble_eq_true rfl) rfl ?_
  intro p e s m below meth c ls C hnm hB hl
  obtain ⟨hx, hb, hml, hr, hown, hlk, hts⟩ := id C
  have hl : lv_has ls 1 [(0, .int x)] := hl
  rcases hok with ⟨rfl, q, hq1, hq2, hq3, rfl⟩ | ⟨rfl, hx1⟩ | ⟨rfl, hx0, hx1⟩ | ⟨rfl, q, hq1, hq2, hq3, rfl⟩
  · refine lv_iload_n hx hb dX0_isPiece_0 rfl (lv_at hl 0 rfl) ?_
    refine lv_iconst (v := nI 1) hx hb dX0_isPiece_1 rfl ?_
    refine pb_ilt (tgt := 23) hx hb dX0_isPiece_2 (by decide) (by first | assumption | omega) (by first | assumption | omega) (fun c2 => absurd c2 (by omega)) (fun c2 => ?_)
    refine lv_iload_n hx hb dX0_isPiece_5 rfl (lv_at hl 0 rfl) ?_
    refine lv_bipush (v := nI 63) hx hb dX0_isPiece_6 rfl ?_
    refine pb_igt (tgt := 23) hx hb dX0_isPiece_8 (by decide) (by first | assumption | omega) (by first | assumption | omega) (fun c8 => absurd c8 (by omega)) (fun c8 => ?_)
    refine lv_iload_n hx hb dX0_isPiece_11 rfl (lv_at hl 0 rfl) ?_
    refine pb_afterQ (pb_runS (As := [.int (nI q)]) (rest := []) C (ct_X0_points l q (by omega)) gw_X0_X0_points hd_X0_points ⟨rfl, rfl, Nat.le_of_ble_eq_true rfl, Nat.le_of_ble_eq_true rfl⟩ ⟨Nat.zero_le _, Nat.zero_le _⟩ hl.1 rfl (Nat.le_of_ble_eq_true rfl) dX0_isPiece_12) ?_
    refine lv_iconst (v := nI 4) hx hb dX0_isPiece_15 rfl ?_
    refine pb_igt (tgt := 23) hx hb dX0_isPiece_16 (by decide) (by have := pb_pop_le q; omega) (by omega) (fun c16 => absurd c16 (by omega)) (fun c16 => ?_)
    refine lv_iconst (v := nI 1) hx hb dX0_isPiece_19 rfl ?_
    refine lv_goto (tgt := 24) hx hb dX0_isPiece_20 (by decide) ?_
    exact pb_zret C (rfl) dX0_isPiece_24
  · refine lv_iload_n hx hb dX0_isPiece_0 rfl (lv_at hl 0 rfl) ?_
    refine lv_iconst (v := nI 1) hx hb dX0_isPiece_1 rfl ?_
    refine lv_icmp_lt (tgt := 23) hx hb dX0_isPiece_2 (by decide) (fun c2 => ?_) (fun c2 => absurd hx1 c2)
    refine lv_iconst (v := nI 0) hx hb dX0_isPiece_23 rfl ?_
    exact pb_zret C (rfl) dX0_isPiece_24
  · refine lv_iload_n hx hb dX0_isPiece_0 rfl (lv_at hl 0 rfl) ?_
    refine lv_iconst (v := nI 1) hx hb dX0_isPiece_1 rfl ?_
    refine lv_icmp_lt (tgt := 23) hx hb dX0_isPiece_2 (by decide) (fun c2 => absurd c2 hx0) (fun c2 => ?_)
    refine lv_iload_n hx hb dX0_isPiece_5 rfl (lv_at hl 0 rfl) ?_
    refine lv_bipush (v := nI 63) hx hb dX0_isPiece_6 rfl ?_
    refine lv_icmp_gt (tgt := 23) hx hb dX0_isPiece_8 (by decide) (fun c8 => ?_) (fun c8 => absurd hx1 c8)
    refine lv_iconst (v := nI 0) hx hb dX0_isPiece_23 rfl ?_
    exact pb_zret C (rfl) dX0_isPiece_24
  · refine lv_iload_n hx hb dX0_isPiece_0 rfl (lv_at hl 0 rfl) ?_
    refine lv_iconst (v := nI 1) hx hb dX0_isPiece_1 rfl ?_
    refine pb_ilt (tgt := 23) hx hb dX0_isPiece_2 (by decide) (by first | assumption | omega) (by first | assumption | omega) (fun c2 => absurd c2 (by omega)) (fun c2 => ?_)
    refine lv_iload_n hx hb dX0_isPiece_5 rfl (lv_at hl 0 rfl) ?_
    refine lv_bipush (v := nI 63) hx hb dX0_isPiece_6 rfl ?_
    refine pb_igt (tgt := 23) hx hb dX0_isPiece_8 (by decide) (by first | assumption | omega) (by first | assumption | omega) (fun c8 => absurd c8 (by omega)) (fun c8 => ?_)
    refine lv_iload_n hx hb dX0_isPiece_11 rfl (lv_at hl 0 rfl) ?_
    refine pb_afterQ (pb_runS (As := [.int (nI q)]) (rest := []) C (ct_X0_points l q (by omega)) gw_X0_X0_points hd_X0_points ⟨rfl, rfl, Nat.le_of_ble_eq_true rfl, Nat.le_of_ble_eq_true rfl⟩ ⟨Nat.zero_le _, Nat.zero_le _⟩ hl.1 rfl (Nat.le_of_ble_eq_true rfl) dX0_isPiece_12) ?_
    refine lv_iconst (v := nI 4) hx hb dX0_isPiece_15 rfl ?_
    refine pb_igt (tgt := 23) hx hb dX0_isPiece_16 (by decide) (by have := pb_pop_le q; omega) (by omega) (fun c16 => ?_) (fun c16 => absurd c16 (by omega))
    refine lv_iconst (v := nI 0) hx hb dX0_isPiece_23 rfl ?_
    exact pb_zret C (rfl) dX0_isPiece_24
set_option maxHeartbeats 4000000 in
set_option maxRecDepth 100000 in
/-- the highest bit -/
theorem ct_X0_lowest (l : Launch) (v i : Nat) (hv : v < 2 ^ 26) (ht : pb_Top v i) : Met l yX0_lowest (ws_ yX0_lowest cX0_lowest 2 (some .int)) (pb_ro 0) (va_Pc [.int (nI v)] (fun _ => True)) (pb_Q (nI i)) 0 0 pb_no := by
  refine pb_met RX0 (by decide) rfl (Nat.le_of_ble_eq_true rfl) rfl ?_
  intro p e s m below meth c ls C hnm hB hl
  obtain ⟨hx, hb, hml, hr, hown, hlk, hts⟩ := id C
  have hl : lv_has ls 2 [(0, .int (nI v))] := hl
  refine lv_bipush (v := nI 25) hx hb dX0_lowest_0 rfl ?_
  refine lv_istore_n (lv' := [(1, .int (nI 25)), (0, .int (nI v))]) hx hb dX0_lowest_2 rfl hl (by decide) rfl (fun ls hl => ?_)
  have loop3 : ∀ (k3 : Nat) (x : Nat) (ls : Array Slot), (x < k3) → (i ≤ x) → (x ≤ 25) → lv_has ls 2 [(0, .int (nI v)), (1, .int (nI x))] → W p l e (pb_ro 0) s m ([.int (nI v)] : List Value).toArray below meth c s.heap [] 0 0 (MQ below (pb_Q (nI i)) ([.int (nI v)] : List Value).toArray s 0 0 pb_no) (F0 m 3 ls []) := by
    intro k3
    induction k3 with
    | zero =>
      intro x ls hk hx1 hx2 hl
      omega
    | succ k3 ih3 =>
      intro x ls hk hx1 hx2 hl
      refine lv_iload_n hx hb dX0_lowest_3 rfl (lv_at hl 1 rfl) ?_
      refine pb_cle (tgt := 21) hx hb dX0_lowest_4 (by decide) (by first | assumption | omega) (fun c4 => ?_) (fun c4 => ?_)
      · refine lv_iload_n hx hb dX0_lowest_21 rfl (lv_at hl 1 rfl) ?_
        exact pb_iret C (by rw [show x = i by omega]) dX0_lowest_22
      · refine lv_iload_n hx hb dX0_lowest_7 rfl (lv_at hl 0 rfl) ?_
        refine lv_iload_n hx hb dX0_lowest_8 rfl (lv_at hl 1 rfl) ?_
        refine lv_ishr hx hb dX0_lowest_9 ?_
        refine lv_iconst (v := nI 1) hx hb dX0_lowest_10 rfl ?_
        refine lv_iand hx hb dX0_lowest_11 ?_
        refine pb_tup (pb_bit (by first | assumption | omega) (by first | assumption | omega)) ?_
        refine pb_zne (tgt := 21) hx hb dX0_lowest_12 (by decide) (fun c12 => ?_) (fun c12 => ?_)
        · have hxi : x = i := by rcases Nat.lt_or_ge i x with z | z; rw [ht.2 x z] at c12; cases c12; omega
          refine lv_iload_n hx hb dX0_lowest_21 rfl (lv_at hl 1 rfl) ?_
          exact pb_iret C (by rw [show x = i by omega]) dX0_lowest_22
        · have hxi : x ≠ i := fun z => by rw [z, ht.1] at c12; cases c12
          refine lv_iinc (v := nI (x - 1)) (lv' := [(1, .int (nI (x - 1))), (0, .int (nI v))]) hx hb dX0_lowest_15 hl (k := 1) rfl (show nI x + (-1) = nI (x - 1) from sb_m1 (by omega)) (by decide) rfl (fun ls hl => ?_)
          refine lv_goto (tgt := 3) hx hb dX0_lowest_18 (by decide) ?_
          exact ih3 (x - 1) ls (by omega) (by omega) (by omega) (lv_sub hl [1, 0] rfl)
  exact loop3 26 25 ls (by omega) (by have := pb_top_lt ht hv; omega) (by omega) (lv_sub hl [1, 0] rfl)
set_option maxHeartbeats 4000000 in
set_option maxRecDepth 100000 in
theorem ct_X0_isGood (l : Launch) (D : va_G) (d : ClassId) (sg : Nat → Nat) (n : Nat) (P : Nat → Nat) (a0 a1 a2 a3 a4 : Nat → Int32) (sv : Int32) (hC : pb_Cx n P) (h0 : ∀ i, i < n → a0 i = nI (P i)) (h1 : ∀ q, q < 64 → pb_At n P q (-2) (a1 q)) (x : Int32) (b : Bool) (hok : pb_okI n x b) : Met l yX0_isGood (ws_ yX0_isGood cX0_isGood 2 (some .boolean)) (pb_ro 0) (va_Pc [.ref (sg 0), .int x] (pb_B D d (pb_xW sg d a0 a1 a2 a3 a4 (nI n) sv))) (pb_Q (pb_z b)) 0 0 pb_no := by
  refine pb_met RX0 (by decide) rfl (Nat.le_of_ble_eq_true rfl) rfl ?_
  intro p e s m below meth c ls C hnm hB hl
  obtain ⟨hx, hb, hml, hr, hown, hlk, hts⟩ := id C
  obtain ⟨hP, hK⟩ := hB
  have hl : lv_has ls 2 [(0, .ref (sg 0)), (1, .int x)] := hl
  have hn26 := hC.1
  rcases hok with ⟨rfl, i, hi, rfl⟩ | ⟨rfl, hx1⟩ | ⟨rfl, i, hi, hi2, rfl⟩
  · refine lv_iload_n hx hb dX0_isGood_0 rfl (lv_at hl 1 rfl) ?_
    refine pb_clt (tgt := 16) hx hb dX0_isGood_1 (by decide) (by first | assumption | omega) ?_
    refine lv_iload_n hx hb dX0_isGood_4 rfl (lv_at hl 1 rfl) ?_
    refine lv_aload_n hx hb dX0_isGood_5 rfl (lv_at hl 0 rfl) ?_
    refine pb_gX5 C hK hP dX0_isGood_6 ?_
    refine pb_ige (tgt := 16) hx hb dX0_isGood_9 (by decide) (by first | assumption | omega) (by first | assumption | omega) (fun c9 => absurd c9 (by omega)) (fun c9 => ?_)
    refine lv_iconst (v := nI 1) hx hb dX0_isGood_12 rfl ?_
    refine lv_goto (tgt := 17) hx hb dX0_isGood_13 (by decide) ?_
    exact pb_zret C (rfl) dX0_isGood_17
  · refine lv_iload_n hx hb dX0_isGood_0 rfl (lv_at hl 1 rfl) ?_
    refine lv_if_lt (tgt := 16) hx hb dX0_isGood_1 (by decide) (fun c1 => ?_) (fun c1 => absurd hx1 c1)
    refine lv_iconst (v := nI 0) hx hb dX0_isGood_16 rfl ?_
    exact pb_zret C (rfl) dX0_isGood_17
  · refine lv_iload_n hx hb dX0_isGood_0 rfl (lv_at hl 1 rfl) ?_
    refine pb_clt (tgt := 16) hx hb dX0_isGood_1 (by decide) (by first | assumption | omega) ?_
    refine lv_iload_n hx hb dX0_isGood_4 rfl (lv_at hl 1 rfl) ?_
    refine lv_aload_n hx hb dX0_isGood_5 rfl (lv_at hl 0 rfl) ?_
    refine pb_gX5 C hK hP dX0_isGood_6 ?_
    refine pb_ige (tgt := 16) hx hb dX0_isGood_9 (by decide) (by first | assumption | omega) (by first | assumption | omega) (fun c9 => ?_) (fun c9 => absurd c9 (by omega))
    refine lv_iconst (v := nI 0) hx hb dX0_isGood_16 rfl ?_
    exact pb_zret C (rfl) dX0_isGood_17
set_option maxHeartbeats 4000000 in
set_option maxRecDepth 100000 in
theorem ct_X0_isChain (l : Launch) (D : va_G) (d : ClassId) (sg : Nat → Nat) (n : Nat) (P : Nat → Nat) (a0 a1 a2 a3 a4 : Nat → Int32) (sv : Int32) (hC : pb_Cx n P) (h0 : ∀ i, i < n → a0 i = nI (P i)) (h1 : ∀ q, q < 64 → pb_At n P q (-2) (a1 q)) (x : Int32) (b : Bool) (hok : pb_okC n x b) : Met l yX0_isChain (ws_ yX0_isChain cX0_isChain 2 (some .boolean)) (pb_ro 0) (va_Pc [.ref (sg 0), .int x] (pb_B D d (pb_xW sg d a0 a1 a2 a3 a4 (nI n) sv))) (pb_Q (pb_z b)) 0 0 pb_no := by
  refine pb_met RX0 (by decide) rfl (Nat.le_of_ble_eq_true rfl) rfl ?_
  intro p e s m below meth c ls C hnm hB hl
  obtain ⟨hx, hb, hml, hr, hown, hlk, hts⟩ := id C
  obtain ⟨hP, hK⟩ := hB
  have hl : lv_has ls 2 [(0, .ref (sg 0)), (1, .int x)] := hl
  have hn26 := hC.1
  have h2n : 2 ^ n < 2 ^ 31 := Nat.pow_lt_pow_right (by decide) (by omega)
  rcases hok with ⟨rfl, i, hi, rfl⟩ | ⟨rfl, hx1⟩ | ⟨rfl, i, hi, hi2, rfl⟩
  · refine lv_iload_n hx hb dX0_isChain_0 rfl (lv_at hl 1 rfl) ?_
    refine pb_clt (tgt := 18) hx hb dX0_isChain_1 (by decide) (by first | assumption | omega) ?_
    refine lv_iload_n hx hb dX0_isChain_4 rfl (lv_at hl 1 rfl) ?_
    refine lv_iconst (v := nI 1) hx hb dX0_isChain_5 rfl ?_
    refine lv_aload_n hx hb dX0_isChain_6 rfl (lv_at hl 0 rfl) ?_
    refine pb_gX5 C hK hP dX0_isChain_7 ?_
    refine lv_ishl hx hb dX0_isChain_10 ?_
    refine pb_tup (pb_shl1 (by omega)) ?_
    refine pb_ige (tgt := 18) hx hb dX0_isChain_11 (by decide) (by first | assumption | omega) (by first | assumption | omega) (fun c11 => absurd c11 (by omega)) (fun c11 => ?_)
    refine lv_iconst (v := nI 1) hx hb dX0_isChain_14 rfl ?_
    refine lv_goto (tgt := 19) hx hb dX0_isChain_15 (by decide) ?_
    exact pb_zret C (rfl) dX0_isChain_19
  · refine lv_iload_n hx hb dX0_isChain_0 rfl (lv_at hl 1 rfl) ?_
    refine lv_if_lt (tgt := 18) hx hb dX0_isChain_1 (by decide) (fun c1 => ?_) (fun c1 => absurd hx1 c1)
    refine lv_iconst (v := nI 0) hx hb dX0_isChain_18 rfl ?_
    exact pb_zret C (rfl) dX0_isChain_19
  · refine lv_iload_n hx hb dX0_isChain_0 rfl (lv_at hl 1 rfl) ?_
    refine pb_clt (tgt := 18) hx hb dX0_isChain_1 (by decide) (by first | assumption | omega) ?_
    refine lv_iload_n hx hb dX0_isChain_4 rfl (lv_at hl 1 rfl) ?_
    refine lv_iconst (v := nI 1) hx hb dX0_isChain_5 rfl ?_
    refine lv_aload_n hx hb dX0_isChain_6 rfl (lv_at hl 0 rfl) ?_
    refine pb_gX5 C hK hP dX0_isChain_7 ?_
    refine lv_ishl hx hb dX0_isChain_10 ?_
    refine pb_tup (pb_shl1 (by omega)) ?_
    refine pb_ige (tgt := 18) hx hb dX0_isChain_11 (by decide) (by first | assumption | omega) (by first | assumption | omega) (fun c11 => ?_) (fun c11 => absurd c11 (by omega))
    refine lv_iconst (v := nI 0) hx hb dX0_isChain_18 rfl ?_
    exact pb_zret C (rfl) dX0_isChain_19
set_option maxHeartbeats 4000000 in
set_option maxRecDepth 100000 in
theorem ct_X0_size (l : Launch) (D : va_G) (d : ClassId) (sg : Nat → Nat) (n : Nat) (P : Nat → Nat) (a0 a1 a2 a3 a4 : Nat → Int32) (sv : Int32) (hC : pb_Cx n P) (h0 : ∀ i, i < n → a0 i = nI (P i)) (h1 : ∀ q, q < 64 → pb_At n P q (-2) (a1 q))  : Met l yX0_size (ws_ yX0_size cX0_size 1 (some .int)) (pb_ro 0) (va_Pc [.ref (sg 0)] (pb_B D d (pb_xW sg d a0 a1 a2 a3 a4 (nI n) sv))) (pb_Q (nI n)) 0 0 pb_no := by
  refine pb_met RX0 (by decide) rfl (Nat.le_of_ble_eq_true rfl) rfl ?_
  intro p e s m below meth c ls C hnm hB hl
  obtain ⟨hx, hb, hml, hr, hown, hlk, hts⟩ := id C
  obtain ⟨hP, hK⟩ := hB
  have hl : lv_has ls 1 [(0, .ref (sg 0))] := hl
  refine lv_aload_n hx hb dX0_size_0 rfl (lv_at hl 0 rfl) ?_
  refine pb_gX5 C hK hP dX0_size_1 ?_
  exact pb_iret C (rfl) dX0_size_4
set_option maxHeartbeats 4000000 in
set_option maxRecDepth 100000 in
theorem ct_X0_dimension (l : Launch) (D : va_G) (d : ClassId) (sg : Nat → Nat) (n : Nat) (P : Nat → Nat) (a0 a1 a2 a3 a4 : Nat → Int32) (sv : Int32) (hC : pb_Cx n P) (h0 : ∀ i, i < n → a0 i = nI (P i)) (h1 : ∀ q, q < 64 → pb_At n P q (-2) (a1 q)) (i : Nat) (hi : i < n) : Met l yX0_dimension (ws_ yX0_dimension cX0_dimension 2 (some .int)) (pb_ro 1) (va_Pc [.ref (sg 0), .int (nI i)] (pb_B D d (pb_xW sg d a0 a1 a2 a3 a4 (nI n) sv))) (pb_Q (nI (pb_pop (P i) - 1))) 0 0 pb_no := by
  refine pb_met RX0 (by decide) rfl (Nat.le_of_ble_eq_true rfl) rfl ?_
  intro p e s m below meth c ls C hnm hB hl
  obtain ⟨hx, hb, hml, hr, hown, hlk, hts⟩ := id C
  obtain ⟨hP, hK⟩ := hB
  have hl : lv_has ls 2 [(0, .ref (sg 0)), (1, .int (nI i))] := hl
  have hPi := pb_cx_pop hC hi
  refine lv_aload_n hx hb dX0_dimension_0 rfl (lv_at hl 0 rfl) ?_
  refine pb_gX0 C hK hP dX0_dimension_1 ?_
  refine lv_iload_n hx hb dX0_dimension_4 rfl (lv_at hl 1 rfl) ?_
  refine pb_ald (nI (P i)) C hK hP 1 rfl (by have := hC.1; omega) (by decide) (h0 i hi) dX0_dimension_5 ?_
  refine pb_afterQ (pb_runS (As := [.int (nI (P i))]) (rest := []) C (ct_X0_points l (P i) (by omega)) gw_X0_X0_points hd_X0_points ⟨rfl, rfl, Nat.le_of_ble_eq_true rfl, Nat.le_of_ble_eq_true rfl⟩ ⟨Nat.zero_le _, Nat.zero_le _⟩ hl.1 rfl (Nat.le_of_ble_eq_true rfl) dX0_dimension_6) ?_
  refine lv_iconst (v := nI 1) hx hb dX0_dimension_9 rfl ?_
  refine lv_isub hx hb dX0_dimension_10 ?_
  refine pb_top (nI (pb_pop (P i) - 1)) (pk_sub (by omega)) ?_
  exact pb_iret C (rfl) dX0_dimension_11
set_option maxHeartbeats 4000000 in
set_option maxRecDepth 100000 in
theorem ct_X0_piece (l : Launch) (D : va_G) (d : ClassId) (sg : Nat → Nat) (n : Nat) (P : Nat → Nat) (a0 a1 a2 a3 a4 : Nat → Int32) (sv : Int32) (hC : pb_Cx n P) (h0 : ∀ i, i < n → a0 i = nI (P i)) (h1 : ∀ q, q < 64 → pb_At n P q (-2) (a1 q)) (x r : Int32) (hr9 : pb_PieceS n P x r) : Met l yX0_piece (ws_ yX0_piece cX0_piece 2 (some .int)) (pb_ro 1) (va_Pc [.ref (sg 0), .int x] (pb_B D d (pb_xW sg d a0 a1 a2 a3 a4 (nI n) sv))) (pb_Q r) 0 0 pb_no := by
  refine pb_met RX0 (by decide) rfl (Nat.le_of_ble_eq_true rfl) rfl ?_
  intro p e s m below meth c ls C hnm hB hl
  obtain ⟨hx, hb, hml, hr, hown, hlk, hts⟩ := id C
  obtain ⟨hP, hK⟩ := hB
  have hl : lv_has ls 2 [(0, .ref (sg 0)), (1, .int x)] := hl
  have hn26 := hC.1
  rcases hr9 with ⟨i, hi, rfl, rfl⟩ | ⟨hx1, rfl⟩
  · refine lv_aload_n hx hb dX0_piece_0 rfl (lv_at hl 0 rfl) ?_
    refine lv_iload_n hx hb dX0_piece_1 rfl (lv_at hl 1 rfl) ?_
    refine pb_afterQ (pb_runV (rC := (RX0, TX0, 7)) (ci := 0) (As := [.int (nI i)]) (rest := []) C (ct_X0_isGood l D d sg n P a0 a1 a2 a3 a4 sv hC h0 h1 (nI i) true (Or.inl ⟨rfl, i, hi, rfl⟩)) gw_X0_X0_isGood hd_X0_isGood ⟨rfl, rfl, Nat.le_of_ble_eq_true rfl, Nat.le_of_ble_eq_true rfl⟩ ⟨Nat.zero_le _, Nat.zero_le _⟩ hK hP rfl rfl hl.1 rfl (Nat.le_of_ble_eq_true rfl) dX0_piece_2) ?_
    refine pb_zeq (tgt := 17) hx hb dX0_piece_5 (by decide) (fun c5 => absurd c5 (by decide)) (fun c5 => ?_)
    refine lv_aload_n hx hb dX0_piece_8 rfl (lv_at hl 0 rfl) ?_
    refine pb_gX0 C hK hP dX0_piece_9 ?_
    refine lv_iload_n hx hb dX0_piece_12 rfl (lv_at hl 1 rfl) ?_
    refine pb_ald (nI (P i)) C hK hP 1 rfl (by omega) (by decide) (h0 i hi) dX0_piece_13 ?_
    refine lv_goto (tgt := 18) hx hb dX0_piece_14 (by decide) ?_
    exact pb_iret C (rfl) dX0_piece_18
  · refine lv_aload_n hx hb dX0_piece_0 rfl (lv_at hl 0 rfl) ?_
    refine lv_iload_n hx hb dX0_piece_1 rfl (lv_at hl 1 rfl) ?_
    refine pb_afterQ (pb_runV (rC := (RX0, TX0, 7)) (ci := 0) (As := [.int x]) (rest := []) C (ct_X0_isGood l D d sg n P a0 a1 a2 a3 a4 sv hC h0 h1 x false hx1) gw_X0_X0_isGood hd_X0_isGood ⟨rfl, rfl, Nat.le_of_ble_eq_true rfl, Nat.le_of_ble_eq_true rfl⟩ ⟨Nat.zero_le _, Nat.zero_le _⟩ hK hP rfl rfl hl.1 rfl (Nat.le_of_ble_eq_true rfl) dX0_piece_2) ?_
    refine pb_zeq (tgt := 17) hx hb dX0_piece_5 (by decide) (fun c5 => ?_) (fun c5 => absurd c5 (by decide))
    refine lv_iconst (v := (-1)) hx hb dX0_piece_17 (by decide) ?_
    exact pb_iret C (rfl) dX0_piece_18
set_option maxHeartbeats 4000000 in
set_option maxRecDepth 100000 in
theorem ct_X0_hasSides (l : Launch) (D : va_G) (d : ClassId) (sg : Nat → Nat) (n : Nat) (P : Nat → Nat) (a0 a1 a2 a3 a4 : Nat → Int32) (sv : Int32) (hC : pb_Cx n P) (h0 : ∀ i, i < n → a0 i = nI (P i)) (h1 : ∀ q, q < 64 → pb_At n P q (-2) (a1 q)) (q : Nat) (hq : 1 ≤ q ∧ q < 64) (b : Bool) (hok : pb_okS n P q b) : Met l yX0_hasSides (ws_ yX0_hasSides cX0_hasSides 4 (some .boolean)) (pb_ro 0) (va_Pc [.ref (sg 0), .int (nI q)] (pb_B D d (pb_xW sg d a0 a1 a2 a3 a4 (nI n) sv))) (pb_Q (pb_z b)) 0 0 pb_no := by
  refine pb_met RX0 (by decide) rfl (Nat.le_of_ble_eq_true rfl) rfl ?_
  intro p e s m below meth c ls C hnm hB hl
  obtain ⟨hx, hb, hml, hr, hown, hlk, hts⟩ := id C
  obtain ⟨hP, hK⟩ := hB
  have hl : lv_has ls 4 [(0, .ref (sg 0)), (1, .int (nI q))] := hl
  have hn26 := hC.1
  refine lv_iconst (v := nI 0) hx hb dX0_hasSides_0 rfl ?_
  refine lv_istore_n (lv' := [(2, .int (nI 0)), (0, .ref (sg 0)), (1, .int (nI q))]) hx hb dX0_hasSides_1 rfl hl (by decide) rfl (fun ls hl => ?_)
  have loop2 : ∀ (k2 : Nat) (u : Nat) (ls : Array Slot), (6 < u + k2) → (u ≤ 6) → (∀ u2, u2 < u → q.testBit u2 = true → pb_pop q ≠ 1 → ∃ i, i < n ∧ P i = pb_rm q u2) → lv_has ls 4 [(0, .ref (sg 0)), (1, .int (nI q)), (2, .int (nI u))] → W p l e (pb_ro 0) s m ([.ref (sg 0), .int (nI q)] : List Value).toArray below meth c s.heap [] 0 0 (MQ below (pb_Q (pb_z b)) ([.ref (sg 0), .int (nI q)] : List Value).toArray s 0 0 pb_no) (F0 m 2 ls []) := by
    intro k2
    induction k2 with
    | zero =>
      intro u ls hk hu hall hl
      omega
    | succ k2 ih2 =>
      intro u ls hk hu hall hl
      refine lv_iload_n hx hb dX0_hasSides_2 rfl (lv_at hl 2 rfl) ?_
      refine lv_bipush (v := nI 6) hx hb dX0_hasSides_3 rfl ?_
      refine pb_ige (tgt := 42) hx hb dX0_hasSides_5 (by decide) (by first | assumption | omega) (by first | assumption | omega) (fun c5 => ?_) (fun c5 => ?_)
      · refine lv_iconst (v := nI 1) hx hb dX0_hasSides_42 rfl ?_
        exact pb_zret C (by rcases hok with ⟨rfl, h⟩ | ⟨rfl, h⟩; rfl; exact absurd (pb_Has_of hq.2 (fun u2 h8 h9 h10 => hall u2 (by omega) h9 h10)) h) dX0_hasSides_43
      · have hrl := pb_rm_lt q hq.2 u (by omega)
        refine lv_iload_n hx hb dX0_hasSides_8 rfl (lv_at hl 1 rfl) ?_
        refine lv_iconst (v := nI 1) hx hb dX0_hasSides_9 rfl ?_
        refine lv_iload_n hx hb dX0_hasSides_10 rfl (lv_at hl 2 rfl) ?_
        refine lv_ishl hx hb dX0_hasSides_11 ?_
        refine pb_tup (pb_shl1 (by omega)) ?_
        refine lv_iconst (v := (-1)) hx hb dX0_hasSides_12 (by decide) ?_
        refine lv_ixor hx hb dX0_hasSides_13 ?_
        refine lv_iand hx hb dX0_hasSides_14 ?_
        refine pb_top (nI (pb_rm q u)) (pb_side q hq.2 u (by omega)) ?_
        refine lv_istore_n (lv' := [(3, .int (nI (pb_rm q u))), (0, .ref (sg 0)), (1, .int (nI q)), (2, .int (nI u))]) hx hb dX0_hasSides_15 rfl hl (by decide) rfl (fun ls hl => ?_)
        refine lv_iload_n hx hb dX0_hasSides_16 rfl (lv_at hl 0 rfl) ?_
        refine lv_iload_n hx hb dX0_hasSides_17 rfl (lv_at hl 2 rfl) ?_
        refine pb_ieq (tgt := 36) hx hb dX0_hasSides_18 (by decide) (by first | assumption | omega) (by first | assumption | omega) (fun c18 => ?_) (fun c18 => ?_)
        · have hbit : q.testBit u = false := by cases z : q.testBit u; rfl; exact absurd c18 (pb_rm_less q hq.2 u (by omega) z)
          refine lv_iinc (v := nI (u + 1)) (lv' := [(2, .int (nI (u + 1))), (3, .int (nI (pb_rm q u))), (0, .ref (sg 0)), (1, .int (nI q))]) hx hb dX0_hasSides_36 hl (k := 3) rfl (nI_1 _) (by decide) rfl (fun ls hl => ?_)
          refine lv_goto (tgt := 2) hx hb dX0_hasSides_39 (by decide) ?_
          exact ih2 (u + 1) ls (by omega) (by omega) (lt_s hall (fun h => by rw [hbit] at h; cases h)) (lv_sub hl [2, 3, 0] rfl)
        · have hbit : q.testBit u = true := by cases z : q.testBit u; exact absurd (pb_rm_same q hq.2 u (by omega) z) c18; rfl
          refine lv_iload_n hx hb dX0_hasSides_21 rfl (lv_at hl 0 rfl) ?_
          refine pb_ceq (tgt := 36) hx hb dX0_hasSides_22 (by decide) (by first | assumption | omega) (fun c22 => ?_) (fun c22 => ?_)
          · have hp1 := ((pb_rm_z q hq.2 u (by omega) hq.1).mp c22).2
            refine lv_iinc (v := nI (u + 1)) (lv' := [(2, .int (nI (u + 1))), (3, .int (nI (pb_rm q u))), (0, .ref (sg 0)), (1, .int (nI q))]) hx hb dX0_hasSides_36 hl (k := 3) rfl (nI_1 _) (by decide) rfl (fun ls hl => ?_)
            refine lv_goto (tgt := 2) hx hb dX0_hasSides_39 (by decide) ?_
            exact ih2 (u + 1) ls (by omega) (by omega) (lt_s hall (fun _ h => absurd hp1 h)) (lv_sub hl [2, 3, 0] rfl)
          · have hp1 : pb_pop q ≠ 1 := fun z => c22 ((pb_rm_z q hq.2 u (by omega) hq.1).mpr ⟨hbit, z⟩)
            refine lv_aload_n hx hb dX0_hasSides_25 rfl (lv_at hl 1 rfl) ?_
            refine pb_gX1 C hK hP dX0_hasSides_26 ?_
            refine lv_iload_n hx hb dX0_hasSides_29 rfl (lv_at hl 0 rfl) ?_
            refine pb_ald (a1 (pb_rm q u)) C hK hP 2 rfl (by omega) (by decide) rfl dX0_hasSides_30 ?_
            rcases h1 (pb_rm q u) hrl with ⟨i0, hi0, hi1, hv⟩ | ⟨hno, hv⟩
            · refine pb_top (nI i0) hv ?_
              refine pb_cge (tgt := 36) hx hb dX0_hasSides_31 (by decide) (by first | assumption | omega) ?_
              refine lv_iinc (v := nI (u + 1)) (lv' := [(2, .int (nI (u + 1))), (3, .int (nI (pb_rm q u))), (0, .ref (sg 0)), (1, .int (nI q))]) hx hb dX0_hasSides_36 hl (k := 3) rfl (nI_1 _) (by decide) rfl (fun ls hl => ?_)
              refine lv_goto (tgt := 2) hx hb dX0_hasSides_39 (by decide) ?_
              exact ih2 (u + 1) ls (by omega) (by omega) (lt_s hall (fun _ _ => ⟨i0, hi0, hi1⟩)) (lv_sub hl [2, 3, 0] rfl)
            · refine pb_top ((-2)) hv ?_
              refine pb_cgeN (tgt := 36) hx hb dX0_hasSides_31 (by decide) (by decide) ?_
              refine lv_iconst (v := nI 0) hx hb dX0_hasSides_34 rfl ?_
              exact pb_zret C (by rcases hok with ⟨rfl, h⟩ | ⟨rfl, h⟩; obtain ⟨i, h8, h9⟩ := h _ (pb_rm_fc q hq.2 u (by omega) hbit hp1); exact absurd h9 (hno i h8); rfl) dX0_hasSides_35
  exact loop2 7 0 ls (by omega) (by omega) (fun j h => absurd h (Nat.not_lt_zero _)) (lv_sub hl [1, 2, 0] rfl)
/-- the sides found with the first u points -/
def pb_So (n : Nat) (P : Nat → Nat) (i u cv : Nat) : Prop := cv < 2 ^ 26 ∧ ∀ j, cv.testBit j = true ↔ j < n ∧ ∃ u2, u2 < u ∧ (P i).testBit u2 = true ∧ pb_pop (P i) ≠ 1 ∧ P j = pb_rm (P i) u2
theorem pb_So_no {n i u cv : Nat} {P : Nat → Nat} (h : pb_So n P i u cv) (hb : ¬ ((P i).testBit u = true ∧ pb_pop (P i) ≠ 1)) : pb_So n P i (u + 1) cv := by
  refine ⟨h.1, fun j => (h.2 j).trans ⟨?_, ?_⟩⟩
  · rintro ⟨h1, u2, h2, h3⟩
    exact ⟨h1, u2, by omega, h3⟩
  · rintro ⟨h1, u2, h2, h3, h4, h5⟩
    refine ⟨h1, u2, ?_, h3, h4, h5⟩
    rcases Nat.lt_or_ge u2 u with z | z
    · exact z
    · have e : u2 = u := by omega
      subst e
      exact absurd ⟨h3, h4⟩ hb
theorem pb_So_yes {n i u cv i0 : Nat} {P : Nat → Nat} (hC : pb_Cx n P) (h : pb_So n P i u cv) (hb : (P i).testBit u = true ∧ pb_pop (P i) ≠ 1) (hi0 : i0 < n) (hi1 : P i0 = pb_rm (P i) u) : pb_So n P i (u + 1) (cv ||| 2 ^ i0) := by
  have hn := hC.1
  refine ⟨Nat.or_lt_two_pow h.1 (Nat.pow_lt_pow_right (by decide) (by omega)), fun j => ?_⟩
  rw [Nat.testBit_or, Bool.or_eq_true, h.2 j, Nat.testBit_two_pow, decide_eq_true_eq]
  constructor
  · rintro (⟨h1, u2, h2, h3⟩ | rfl)
    · exact ⟨h1, u2, by omega, h3⟩
    · exact ⟨hi0, u, by omega, hb.1, hb.2, hi1⟩
  · rintro ⟨h1, u2, h2, h3, h4, h5⟩
    rcases Nat.lt_or_ge u2 u with z | z
    · exact Or.inl ⟨h1, u2, z, h3, h4, h5⟩
    · have e : u2 = u := by omega
      subst e
      exact Or.inr (hC.2.2.1 i0 j hi0 h1 (by rw [hi1, h5]))
theorem pb_So_end {n i cv : Nat} {P : Nat → Nat} (hC : pb_Cx n P) (hi : i < n) (h : pb_So n P i 6 cv) : cv = pb_col P i := by
  have hPi := pb_cx_pop hC hi
  apply Nat.eq_of_testBit_eq
  intro j
  by_cases hj : j < n
  · rw [pb_col_in hC hi hj, Bool.eq_iff_iff, h.2 j]
    constructor
    · rintro ⟨_, u2, h2, h3, h4, h5⟩
      rw [h5]
      exact pb_rm_fc (P i) hPi.2.1 u2 h2 h3 h4
    · intro hf
      have hPj := pb_cx_pop hC hj
      obtain ⟨u, h1, h2, h3⟩ := pb_fc_rm (P i) hPi.2.1 (P j) hPj.2.1 hf
      have := pb_fc_pop hf
      exact ⟨hj, u, h1, h2, by omega, h3.symm⟩
  · have e1 : cv.testBit j = false := by
      cases z : cv.testBit j
      · rfl
      · exact absurd ((h.2 j).mp z).1 hj
    rw [e1, pb_col_bit, decide_eq_false (show ¬ j < i by omega)]
    rfl
set_option maxHeartbeats 4000000 in
set_option maxRecDepth 100000 in
theorem ct_X0_sidesOf (l : Launch) (D : va_G) (d : ClassId) (sg : Nat → Nat) (n : Nat) (P : Nat → Nat) (a0 a1 a2 a3 a4 : Nat → Int32) (sv : Int32) (hC : pb_Cx n P) (h0 : ∀ i, i < n → a0 i = nI (P i)) (h1 : ∀ q, q < 64 → pb_At n P q (-2) (a1 q)) (i : Nat) (hi : i < n) : Met l yX0_sidesOf (ws_ yX0_sidesOf cX0_sidesOf 5 (some .int)) (pb_ro 0) (va_Pc [.ref (sg 0), .int (nI i)] (pb_B D d (pb_xW sg d a0 a1 a2 a3 a4 (nI n) sv))) (pb_Q (nI (pb_col P i))) 0 0 pb_no := by
  refine pb_met RX0 (by decide) rfl (Nat.le_of_ble_eq_true rfl) rfl ?_
  intro p e s m below meth c ls C hnm hB hl
  obtain ⟨hx, hb, hml, hr, hown, hlk, hts⟩ := id C
  obtain ⟨hP, hK⟩ := hB
  have hl : lv_has ls 5 [(0, .ref (sg 0)), (1, .int (nI i))] := hl
  have hn26 := hC.1
  have hPi := pb_cx_pop hC hi
  refine lv_iconst (v := nI 0) hx hb dX0_sidesOf_0 rfl ?_
  refine lv_istore_n (lv' := [(2, .int (nI 0)), (0, .ref (sg 0)), (1, .int (nI i))]) hx hb dX0_sidesOf_1 rfl hl (by decide) rfl (fun ls hl => ?_)
  refine lv_iconst (v := nI 0) hx hb dX0_sidesOf_2 rfl ?_
  refine lv_istore_n (lv' := [(3, .int (nI 0)), (2, .int (nI 0)), (0, .ref (sg 0)), (1, .int (nI i))]) hx hb dX0_sidesOf_3 rfl hl (by decide) rfl (fun ls hl => ?_)
  have loop4 : ∀ (k4 : Nat) (u : Nat) (cv : Nat) (ls : Array Slot), (6 < u + k4) → (u ≤ 6) → (pb_So n P i u cv) → lv_has ls 5 [(0, .ref (sg 0)), (1, .int (nI i)), (2, .int (nI cv)), (3, .int (nI u))] → W p l e (pb_ro 0) s m ([.ref (sg 0), .int (nI i)] : List Value).toArray below meth c s.heap [] 0 0 (MQ below (pb_Q (nI (pb_col P i))) ([.ref (sg 0), .int (nI i)] : List Value).toArray s 0 0 pb_no) (F0 m 4 ls []) := by
    intro k4
    induction k4 with
    | zero =>
      intro u cv ls hk hu hSo hl
      omega
    | succ k4 ih4 =>
      intro u cv ls hk hu hSo hl
      refine lv_iload_n hx hb dX0_sidesOf_4 rfl (lv_at hl 3 rfl) ?_
      refine lv_bipush (v := nI 6) hx hb dX0_sidesOf_5 rfl ?_
      refine pb_ige (tgt := 58) hx hb dX0_sidesOf_7 (by decide) (by first | assumption | omega) (by first | assumption | omega) (fun c7 => ?_) (fun c7 => ?_)
      · refine lv_iload_n hx hb dX0_sidesOf_58 rfl (lv_at hl 2 rfl) ?_
        exact pb_iret C (by rw [show u = 6 by omega] at hSo; rw [pb_So_end hC hi hSo]) dX0_sidesOf_59
      · have hrl := pb_rm_lt (P i) hPi.2.1 u (by omega)
        refine lv_aload_n hx hb dX0_sidesOf_10 rfl (lv_at hl 0 rfl) ?_
        refine pb_gX0 C hK hP dX0_sidesOf_11 ?_
        refine lv_iload_n hx hb dX0_sidesOf_14 rfl (lv_at hl 1 rfl) ?_
        refine pb_ald (nI (P i)) C hK hP 1 rfl (by omega) (by decide) (h0 i hi) dX0_sidesOf_15 ?_
        refine lv_iconst (v := nI 1) hx hb dX0_sidesOf_16 rfl ?_
        refine lv_iload_n hx hb dX0_sidesOf_17 rfl (lv_at hl 3 rfl) ?_
        refine lv_ishl hx hb dX0_sidesOf_18 ?_
        refine pb_tup (pb_shl1 (by omega)) ?_
        refine lv_iconst (v := (-1)) hx hb dX0_sidesOf_19 (by decide) ?_
        refine lv_ixor hx hb dX0_sidesOf_20 ?_
        refine lv_iand hx hb dX0_sidesOf_21 ?_
        refine pb_top (nI (pb_rm (P i) u)) (pb_side (P i) hPi.2.1 u (by omega)) ?_
        refine lv_istore (lv' := [(4, .int (nI (pb_rm (P i) u))), (0, .ref (sg 0)), (1, .int (nI i)), (2, .int (nI cv)), (3, .int (nI u))]) hx hb dX0_sidesOf_22 hl (by decide) rfl (fun ls hl => ?_)
        refine lv_iload hx hb dX0_sidesOf_24 (lv_at hl 0 rfl) ?_
        refine lv_aload_n hx hb dX0_sidesOf_26 rfl (lv_at hl 1 rfl) ?_
        refine pb_gX0 C hK hP dX0_sidesOf_27 ?_
        refine lv_iload_n hx hb dX0_sidesOf_30 rfl (lv_at hl 2 rfl) ?_
        refine pb_ald (nI (P i)) C hK hP 1 rfl (by omega) (by decide) (h0 i hi) dX0_sidesOf_31 ?_
        refine pb_ieq (tgt := 52) hx hb dX0_sidesOf_32 (by decide) (by first | assumption | omega) (by first | assumption | omega) (fun c32 => ?_) (fun c32 => ?_)
        · have hbit : (P i).testBit u = false := by cases z : (P i).testBit u; rfl; exact absurd c32 (pb_rm_less (P i) hPi.2.1 u (by omega) z)
          refine lv_iinc (v := nI (u + 1)) (lv' := [(3, .int (nI (u + 1))), (4, .int (nI (pb_rm (P i) u))), (0, .ref (sg 0)), (1, .int (nI i)), (2, .int (nI cv))]) hx hb dX0_sidesOf_52 hl (k := 4) rfl (nI_1 _) (by decide) rfl (fun ls hl => ?_)
          refine lv_goto (tgt := 4) hx hb dX0_sidesOf_55 (by decide) ?_
          exact ih4 (u + 1) cv ls (by omega) (by omega) (pb_So_no hSo (fun z => by rw [hbit] at z; cases z.1)) (lv_sub hl [2, 3, 4, 0] rfl)
        · have hbit : (P i).testBit u = true := by cases z : (P i).testBit u; exact absurd (pb_rm_same (P i) hPi.2.1 u (by omega) z) c32; rfl
          refine lv_iload hx hb dX0_sidesOf_35 (lv_at hl 0 rfl) ?_
          refine pb_ceq (tgt := 52) hx hb dX0_sidesOf_37 (by decide) (by first | assumption | omega) (fun c37 => ?_) (fun c37 => ?_)
          · have hp1 := ((pb_rm_z (P i) hPi.2.1 u (by omega) hPi.1).mp c37).2
            refine lv_iinc (v := nI (u + 1)) (lv' := [(3, .int (nI (u + 1))), (4, .int (nI (pb_rm (P i) u))), (0, .ref (sg 0)), (1, .int (nI i)), (2, .int (nI cv))]) hx hb dX0_sidesOf_52 hl (k := 4) rfl (nI_1 _) (by decide) rfl (fun ls hl => ?_)
            refine lv_goto (tgt := 4) hx hb dX0_sidesOf_55 (by decide) ?_
            exact ih4 (u + 1) cv ls (by omega) (by omega) (pb_So_no hSo (fun z => z.2 hp1)) (lv_sub hl [2, 3, 4, 0] rfl)
          · have hp1 : pb_pop (P i) ≠ 1 := fun z => c37 ((pb_rm_z (P i) hPi.2.1 u (by omega) hPi.1).mpr ⟨hbit, z⟩)
            obtain ⟨i0, hi0, hi1⟩ := hC.2.2.2 i hi _ (pb_rm_fc (P i) hPi.2.1 u (by omega) hbit hp1)
            have ha1 : a1 (pb_rm (P i) u) = nI i0 := by rcases h1 (pb_rm (P i) u) hrl with ⟨i2, hi2, hi3, hv⟩ | ⟨hno, _⟩; rw [hv, hC.2.2.1 i2 i0 hi2 (by omega) (by rw [hi3, hi1])]; exact absurd hi1 (hno i0 (by omega))
            refine lv_iload_n hx hb dX0_sidesOf_40 rfl (lv_at hl 3 rfl) ?_
            refine lv_iconst (v := nI 1) hx hb dX0_sidesOf_41 rfl ?_
            refine lv_aload_n hx hb dX0_sidesOf_42 rfl (lv_at hl 1 rfl) ?_
            refine pb_gX1 C hK hP dX0_sidesOf_43 ?_
            refine lv_iload hx hb dX0_sidesOf_46 (lv_at hl 0 rfl) ?_
            refine pb_ald (nI i0) C hK hP 2 rfl (by omega) (by decide) ha1 dX0_sidesOf_48 ?_
            refine lv_ishl hx hb dX0_sidesOf_49 ?_
            refine pb_tup (pb_shl1 (by omega)) ?_
            refine lv_ior hx hb dX0_sidesOf_50 ?_
            refine pb_tup (nx_or _ _) ?_
            refine lv_istore_n (lv' := [(2, .int (nI (cv ||| (2 ^ i0)))), (4, .int (nI (pb_rm (P i) u))), (0, .ref (sg 0)), (1, .int (nI i)), (3, .int (nI u))]) hx hb dX0_sidesOf_51 rfl hl (by decide) rfl (fun ls hl => ?_)
            refine lv_iinc (v := nI (u + 1)) (lv' := [(3, .int (nI (u + 1))), (2, .int (nI (cv ||| (2 ^ i0)))), (4, .int (nI (pb_rm (P i) u))), (0, .ref (sg 0)), (1, .int (nI i))]) hx hb dX0_sidesOf_52 hl (k := 4) rfl (nI_1 _) (by decide) rfl (fun ls hl => ?_)
            refine lv_goto (tgt := 4) hx hb dX0_sidesOf_55 (by decide) ?_
            exact ih4 (u + 1) (cv ||| 2 ^ i0) ls (by omega) (by omega) (pb_So_yes hC hSo ⟨hbit, hp1⟩ (by omega) hi1) (lv_sub hl [3, 4, 1, 0] rfl)
  exact loop4 7 0 0 ls (by omega) (by omega) ⟨by decide, fun j => ⟨fun z => (by rw [Nat.zero_testBit] at z; cases z), fun ⟨_, u2, z, _⟩ => absurd z (Nat.not_lt_zero _)⟩⟩ (lv_sub hl [2, 3, 1, 0] rfl)
set_option maxHeartbeats 4000000 in
set_option maxRecDepth 100000 in
theorem ct_X0_borderOf (l : Launch) (D : va_G) (d : ClassId) (sg : Nat → Nat) (n : Nat) (P : Nat → Nat) (a0 a1 a2 a3 a4 : Nat → Int32) (sv : Int32) (hC : pb_Cx n P) (h0 : ∀ i, i < n → a0 i = nI (P i)) (h1 : ∀ q, q < 64 → pb_At n P q (-2) (a1 q)) (ch : Nat) (hch : ch < 2 ^ n) : Met l yX0_borderOf (ws_ yX0_borderOf cX0_borderOf 4 (some .int)) (pb_ro 1) (va_Pc [.ref (sg 0), .int (nI ch)] (pb_B D d (pb_xW sg d a0 a1 a2 a3 a4 (nI n) sv))) (pb_Q (nI (pb_bd P n ch))) 0 0 pb_no := by
  refine pb_met RX0 (by decide) rfl (Nat.le_of_ble_eq_true rfl) rfl ?_
  intro p e s m below meth c ls C hnm hB hl
  obtain ⟨hx, hb, hml, hr, hown, hlk, hts⟩ := id C
  obtain ⟨hP, hK⟩ := hB
  have hl : lv_has ls 4 [(0, .ref (sg 0)), (1, .int (nI ch))] := hl
  have hn26 := hC.1
  have hch2 : ch < 2 ^ 31 := Nat.lt_of_lt_of_le hch (Nat.pow_le_pow_right (by decide) (by omega))
  refine lv_iconst (v := nI 0) hx hb dX0_borderOf_0 rfl ?_
  refine lv_istore_n (lv' := [(2, .int (nI 0)), (0, .ref (sg 0)), (1, .int (nI ch))]) hx hb dX0_borderOf_1 rfl hl (by decide) rfl (fun ls hl => ?_)
  refine lv_iconst (v := nI 0) hx hb dX0_borderOf_2 rfl ?_
  refine lv_istore_n (lv' := [(3, .int (nI 0)), (2, .int (nI 0)), (0, .ref (sg 0)), (1, .int (nI ch))]) hx hb dX0_borderOf_3 rfl hl (by decide) rfl (fun ls hl => ?_)
  have loop4 : ∀ (k4 : Nat) (i : Nat) (ls : Array Slot), (n < i + k4) → (i ≤ n) → lv_has ls 4 [(0, .ref (sg 0)), (1, .int (nI ch)), (2, .int (nI (pb_cb (pb_col P) (fun j => ch.testBit j) i))), (3, .int (nI i))] → W p l e (pb_ro 1) s m ([.ref (sg 0), .int (nI ch)] : List Value).toArray below meth c s.heap [] 0 0 (MQ below (pb_Q (nI (pb_bd P n ch))) ([.ref (sg 0), .int (nI ch)] : List Value).toArray s 0 0 pb_no) (F0 m 4 ls []) := by
    intro k4
    induction k4 with
    | zero =>
      intro i ls hk hi hl
      omega
    | succ k4 ih4 =>
      intro i ls hk hi hl
      refine lv_iload_n hx hb dX0_borderOf_4 rfl (lv_at hl 3 rfl) ?_
      refine lv_aload_n hx hb dX0_borderOf_5 rfl (lv_at hl 0 rfl) ?_
      refine pb_gX5 C hK hP dX0_borderOf_6 ?_
      refine pb_ige (tgt := 35) hx hb dX0_borderOf_9 (by decide) (by first | assumption | omega) (by first | assumption | omega) (fun c9 => ?_) (fun c9 => ?_)
      · refine lv_iload_n hx hb dX0_borderOf_35 rfl (lv_at hl 2 rfl) ?_
        exact pb_iret C (by rw [show i = n by omega]; rfl) dX0_borderOf_36
      · refine lv_iload_n hx hb dX0_borderOf_12 rfl (lv_at hl 1 rfl) ?_
        refine lv_iload_n hx hb dX0_borderOf_13 rfl (lv_at hl 3 rfl) ?_
        refine lv_ishr hx hb dX0_borderOf_14 ?_
        refine lv_iconst (v := nI 1) hx hb dX0_borderOf_15 rfl ?_
        refine lv_iand hx hb dX0_borderOf_16 ?_
        refine pb_tup (pb_bit (by first | assumption | omega) (by first | assumption | omega)) ?_
        refine lv_iconst (v := nI 1) hx hb dX0_borderOf_17 rfl ?_
        refine pb_z1ne (tgt := 29) hx hb dX0_borderOf_18 (by decide) (fun c18 => ?_) (fun c18 => ?_)
        · have hl : lv_has ls 4 [(0, .ref (sg 0)), (1, .int (nI ch)), (2, .int (nI (pb_cb (pb_col P) (fun j => ch.testBit j) (i + 1)))), (3, .int (nI i))] := by have e9 : nI (pb_cb (pb_col P) (fun j => ch.testBit j) i) = nI (pb_cb (pb_col P) (fun j => ch.testBit j) (i + 1)) := (by rw [pb_cb_n (c := fun j => ch.testBit j) c18]); rw [← e9]; exact hl
          refine lv_iinc (v := nI (i + 1)) (lv' := [(3, .int (nI (i + 1))), (0, .ref (sg 0)), (1, .int (nI ch)), (2, .int (nI (pb_cb (pb_col P) (fun j => ch.testBit j) (i + 1))))]) hx hb dX0_borderOf_29 hl (k := 3) rfl (nI_1 _) (by decide) rfl (fun ls hl => ?_)
          refine lv_goto (tgt := 4) hx hb dX0_borderOf_32 (by decide) ?_
          exact ih4 (i + 1) ls (by omega) (by omega) (lv_sub hl [1, 2, 3, 0] rfl)
        · refine lv_iload_n hx hb dX0_borderOf_21 rfl (lv_at hl 2 rfl) ?_
          refine lv_aload_n hx hb dX0_borderOf_22 rfl (lv_at hl 0 rfl) ?_
          refine lv_iload_n hx hb dX0_borderOf_23 rfl (lv_at hl 3 rfl) ?_
          refine pb_afterQ (pb_runV (rC := (RX0, TX0, 7)) (ci := 0) (As := [.int (nI i)]) (rest := [.int (nI (pb_cb (pb_col P) (fun j => ch.testBit j) i))]) C (ct_X0_sidesOf l D d sg n P a0 a1 a2 a3 a4 sv hC h0 h1 i (by omega)) gw_X0_X0_sidesOf hd_X0_sidesOf ⟨rfl, rfl, Nat.le_of_ble_eq_true rfl, Nat.le_of_ble_eq_true rfl⟩ ⟨Nat.zero_le _, Nat.zero_le _⟩ hK hP rfl rfl hl.1 rfl (Nat.le_of_ble_eq_true rfl) dX0_borderOf_24) ?_
          refine lv_ixor hx hb dX0_borderOf_27 ?_
          refine pb_top (nI (pb_cb (pb_col P) (fun j => ch.testBit j) (i + 1))) (pb_cb_y (c := fun j => ch.testBit j) c18) ?_
          refine lv_istore_n (lv' := [(2, .int (nI (pb_cb (pb_col P) (fun j => ch.testBit j) (i + 1)))), (0, .ref (sg 0)), (1, .int (nI ch)), (3, .int (nI i))]) hx hb dX0_borderOf_28 rfl hl (by decide) rfl (fun ls hl => ?_)
          refine lv_iinc (v := nI (i + 1)) (lv' := [(3, .int (nI (i + 1))), (2, .int (nI (pb_cb (pb_col P) (fun j => ch.testBit j) (i + 1)))), (0, .ref (sg 0)), (1, .int (nI ch))]) hx hb dX0_borderOf_29 hl (k := 3) rfl (nI_1 _) (by decide) rfl (fun ls hl => ?_)
          refine lv_goto (tgt := 4) hx hb dX0_borderOf_32 (by decide) ?_
          exact ih4 (i + 1) ls (by omega) (by omega) (lv_sub hl [2, 3, 1, 0] rfl)
  exact loop4 (n + 1) 0 ls (by omega) (by omega) (lv_sub hl [2, 3, 1, 0] rfl)
theorem pb_ev_none {n ch : Nat} {P : Nat → Nat} {b : Bool} (hv : pb_okE P ch b) (hch : ch < 2 ^ n) (h : ∀ j, j < n → ch.testBit j = false) : nI 1 = pb_z b := by
  rcases hv with ⟨rfl, _⟩ | ⟨rfl, h2⟩
  · rfl
  · exact absurd (fun j hj => by rw [h j (pb_ch_lt hch hj)] at hj; cases hj) (h2 0)
theorem pb_ev_one {n ch k : Nat} {P : Nat → Nat} {b : Bool} (hv : pb_okE P ch b) (hch : ch < 2 ^ n) (h : ∀ j, j < n → ch.testBit j = true → pb_pop (P j) = k + 1) : nI 1 = pb_z b := by
  rcases hv with ⟨rfl, _⟩ | ⟨rfl, h2⟩
  · rfl
  · exact absurd (fun j hj => h j (pb_ch_lt hch hj) hj) (h2 (k + 1))
theorem pb_ev_mix {i ch k j0 : Nat} {P : Nat → Nat} {b : Bool} (hv : pb_okE P ch b) (hj0 : ch.testBit j0 = true) (hi : ch.testBit i = true) (h : ∀ j, j < i → ch.testBit j = true → pb_pop (P j) = k + 1) (hne : j0 < i ∧ pb_pop (P i) ≠ k + 1) : nI 0 = pb_z b := by
  rcases hv with ⟨rfl, k2, _, _, h2⟩ | ⟨rfl, h2⟩
  · have e1 := h2 j0 hj0
    have e2 := h2 i hi
    have e3 := h j0 hne.1 hj0
    omega
  · rfl
set_option maxHeartbeats 4000000 in
set_option maxRecDepth 100000 in
theorem ct_X0_isEven (l : Launch) (D : va_G) (d : ClassId) (sg : Nat → Nat) (n : Nat) (P : Nat → Nat) (a0 a1 a2 a3 a4 : Nat → Int32) (sv : Int32) (hC : pb_Cx n P) (h0 : ∀ i, i < n → a0 i = nI (P i)) (h1 : ∀ q, q < 64 → pb_At n P q (-2) (a1 q)) (ch : Nat) (hch : ch < 2 ^ n) (b : Bool) (hv : pb_okE P ch b) : Met l yX0_isEven (ws_ yX0_isEven cX0_isEven 5 (some .boolean)) (pb_ro 2) (va_Pc [.ref (sg 0), .int (nI ch)] (pb_B D d (pb_xW sg d a0 a1 a2 a3 a4 (nI n) sv))) (pb_Q (pb_z b)) 0 0 pb_no := by
  refine pb_met RX0 (by decide) rfl (Nat.le_of_ble_eq_true rfl) rfl ?_
  intro p e s m below meth c ls C hnm hB hl
  obtain ⟨hx, hb, hml, hr, hown, hlk, hts⟩ := id C
  obtain ⟨hP, hK⟩ := hB
  have hl : lv_has ls 5 [(0, .ref (sg 0)), (1, .int (nI ch))] := hl
  have hn26 := hC.1
  have hch2 : ch < 2 ^ 31 := Nat.lt_of_lt_of_le hch (Nat.pow_le_pow_right (by decide) (by omega))
  refine lv_bipush (v := (-2)) hx hb dX0_isEven_0 (by decide) ?_
  refine lv_istore_n (lv' := [(2, .int (-2)), (0, .ref (sg 0)), (1, .int (nI ch))]) hx hb dX0_isEven_2 rfl hl (by decide) rfl (fun ls hl => ?_)
  refine lv_iconst (v := nI 0) hx hb dX0_isEven_3 rfl ?_
  refine lv_istore_n (lv' := [(3, .int (nI 0)), (2, .int (-2)), (0, .ref (sg 0)), (1, .int (nI ch))]) hx hb dX0_isEven_4 rfl hl (by decide) rfl (fun ls hl => ?_)
  have loop5 : ∀ (k5 : Nat) (i : Nat) (kv : Int32) (ls : Array Slot), (n < i + k5) → (i ≤ n) → ((kv = -2 ∧ ∀ j, j < i → ch.testBit j = false) ∨ ∃ k, k < 2 ^ 30 ∧ kv = nI k ∧ ∃ j0, ch.testBit j0 = true ∧ j0 < i ∧ ∀ j, j < i → ch.testBit j = true → pb_pop (P j) = k + 1) → lv_has ls 5 [(0, .ref (sg 0)), (1, .int (nI ch)), (2, .int kv), (3, .int (nI i))] → W p l e (pb_ro 2) s m ([.ref (sg 0), .int (nI ch)] : List Value).toArray below meth c s.heap [] 0 0 (MQ below (pb_Q (pb_z b)) ([.ref (sg 0), .int (nI ch)] : List Value).toArray s 0 0 pb_no) (F0 m 5 ls []) := by
    intro k5
    induction k5 with
    | zero =>
      intro i kv ls hk hi hkv hl
      omega
    | succ k5 ih5 =>
      intro i kv ls hk hi hkv hl
      rcases hkv with ⟨rfl, hno⟩ | ⟨k, hk4, rfl, j0, hj0, hj1, hall⟩
      · refine lv_iload_n hx hb dX0_isEven_5 rfl (lv_at hl 3 rfl) ?_
        refine lv_aload_n hx hb dX0_isEven_6 rfl (lv_at hl 0 rfl) ?_
        refine pb_gX5 C hK hP dX0_isEven_7 ?_
        refine pb_ige (tgt := 52) hx hb dX0_isEven_10 (by decide) (by first | assumption | omega) (by first | assumption | omega) (fun c10 => ?_) (fun c10 => ?_)
        · refine lv_iconst (v := nI 1) hx hb dX0_isEven_52 rfl ?_
          exact pb_zret C (pb_ev_none hv hch (fun j h => hno j (by omega))) dX0_isEven_53
        · have hPi := pb_cx_pop hC (i := i) (by omega)
          refine lv_iload_n hx hb dX0_isEven_13 rfl (lv_at hl 1 rfl) ?_
          refine lv_iload_n hx hb dX0_isEven_14 rfl (lv_at hl 3 rfl) ?_
          refine lv_ishr hx hb dX0_isEven_15 ?_
          refine lv_iconst (v := nI 1) hx hb dX0_isEven_16 rfl ?_
          refine lv_iand hx hb dX0_isEven_17 ?_
          refine pb_tup (pb_bit (by first | assumption | omega) (by first | assumption | omega)) ?_
          refine lv_iconst (v := nI 1) hx hb dX0_isEven_18 rfl ?_
          refine pb_z1ne (tgt := 46) hx hb dX0_isEven_19 (by decide) (fun c19 => ?_) (fun c19 => ?_)
          · refine lv_iinc (v := nI (i + 1)) (lv' := [(3, .int (nI (i + 1))), (0, .ref (sg 0)), (1, .int (nI ch)), (2, .int (-2))]) hx hb dX0_isEven_46 hl (k := 3) rfl (nI_1 _) (by decide) rfl (fun ls hl => ?_)
            refine lv_goto (tgt := 5) hx hb dX0_isEven_49 (by decide) ?_
            exact ih5 (i + 1) (-2) ls (by omega) (by omega) (Or.inl ⟨rfl, lt_s hno c19⟩) (lv_sub hl [1, 2, 3, 0] rfl)
          · refine lv_aload_n hx hb dX0_isEven_22 rfl (lv_at hl 0 rfl) ?_
            refine lv_iload_n hx hb dX0_isEven_23 rfl (lv_at hl 3 rfl) ?_
            refine pb_afterQ (pb_runV (rC := (RX0, TX0, 7)) (ci := 0) (As := [.int (nI i)]) (rest := []) C (ct_X0_dimension l D d sg n P a0 a1 a2 a3 a4 sv hC h0 h1 i (by omega)) gw_X0_X0_dimension hd_X0_dimension ⟨rfl, rfl, Nat.le_of_ble_eq_true rfl, Nat.le_of_ble_eq_true rfl⟩ ⟨Nat.zero_le _, Nat.zero_le _⟩ hK hP rfl rfl hl.1 rfl (Nat.le_of_ble_eq_true rfl) dX0_isEven_24) ?_
            refine lv_istore (lv' := [(4, .int (nI (pb_pop (P i) - 1))), (0, .ref (sg 0)), (1, .int (nI ch)), (2, .int (-2)), (3, .int (nI i))]) hx hb dX0_isEven_27 hl (by decide) rfl (fun ls hl => ?_)
            refine lv_iload_n hx hb dX0_isEven_29 rfl (lv_at hl 3 rfl) ?_
            refine lv_bipush (v := (-2)) hx hb dX0_isEven_30 (by decide) ?_
            refine lv_icmp_eq (tgt := 43) hx hb dX0_isEven_32 (by decide) (fun c32 => ?_) (fun c32 => absurd rfl c32)
            refine lv_iload hx hb dX0_isEven_43 (lv_at hl 0 rfl) ?_
            refine lv_istore_n (lv' := [(2, .int (nI (pb_pop (P i) - 1))), (4, .int (nI (pb_pop (P i) - 1))), (0, .ref (sg 0)), (1, .int (nI ch)), (3, .int (nI i))]) hx hb dX0_isEven_45 rfl hl (by decide) rfl (fun ls hl => ?_)
            refine lv_iinc (v := nI (i + 1)) (lv' := [(3, .int (nI (i + 1))), (2, .int (nI (pb_pop (P i) - 1))), (4, .int (nI (pb_pop (P i) - 1))), (0, .ref (sg 0)), (1, .int (nI ch))]) hx hb dX0_isEven_46 hl (k := 4) rfl (nI_1 _) (by decide) rfl (fun ls hl => ?_)
            refine lv_goto (tgt := 5) hx hb dX0_isEven_49 (by decide) ?_
            exact ih5 (i + 1) (nI (pb_pop (P i) - 1)) ls (by omega) (by omega) (Or.inr ⟨pb_pop (P i) - 1, by omega, rfl, i, c19, by omega, lt_s (fun j h h2 => by rw [hno j h] at h2; cases h2) (fun _ => by omega)⟩) (lv_sub hl [3, 4, 1, 0] rfl)
      · refine lv_iload_n hx hb dX0_isEven_5 rfl (lv_at hl 3 rfl) ?_
        refine lv_aload_n hx hb dX0_isEven_6 rfl (lv_at hl 0 rfl) ?_
        refine pb_gX5 C hK hP dX0_isEven_7 ?_
        refine pb_ige (tgt := 52) hx hb dX0_isEven_10 (by decide) (by first | assumption | omega) (by first | assumption | omega) (fun c10 => ?_) (fun c10 => ?_)
        · refine lv_iconst (v := nI 1) hx hb dX0_isEven_52 rfl ?_
          exact pb_zret C (pb_ev_one hv hch (fun j h => hall j (by omega))) dX0_isEven_53
        · have hPi := pb_cx_pop hC (i := i) (by omega)
          refine lv_iload_n hx hb dX0_isEven_13 rfl (lv_at hl 1 rfl) ?_
          refine lv_iload_n hx hb dX0_isEven_14 rfl (lv_at hl 3 rfl) ?_
          refine lv_ishr hx hb dX0_isEven_15 ?_
          refine lv_iconst (v := nI 1) hx hb dX0_isEven_16 rfl ?_
          refine lv_iand hx hb dX0_isEven_17 ?_
          refine pb_tup (pb_bit (by first | assumption | omega) (by first | assumption | omega)) ?_
          refine lv_iconst (v := nI 1) hx hb dX0_isEven_18 rfl ?_
          refine pb_z1ne (tgt := 46) hx hb dX0_isEven_19 (by decide) (fun c19 => ?_) (fun c19 => ?_)
          · refine lv_iinc (v := nI (i + 1)) (lv' := [(3, .int (nI (i + 1))), (0, .ref (sg 0)), (1, .int (nI ch)), (2, .int (nI k))]) hx hb dX0_isEven_46 hl (k := 3) rfl (nI_1 _) (by decide) rfl (fun ls hl => ?_)
            refine lv_goto (tgt := 5) hx hb dX0_isEven_49 (by decide) ?_
            exact ih5 (i + 1) (nI k) ls (by omega) (by omega) (Or.inr ⟨k, hk4, rfl, j0, hj0, by omega, lt_s hall (fun h => by rw [c19] at h; cases h)⟩) (lv_sub hl [1, 2, 3, 0] rfl)
          · refine lv_aload_n hx hb dX0_isEven_22 rfl (lv_at hl 0 rfl) ?_
            refine lv_iload_n hx hb dX0_isEven_23 rfl (lv_at hl 3 rfl) ?_
            refine pb_afterQ (pb_runV (rC := (RX0, TX0, 7)) (ci := 0) (As := [.int (nI i)]) (rest := []) C (ct_X0_dimension l D d sg n P a0 a1 a2 a3 a4 sv hC h0 h1 i (by omega)) gw_X0_X0_dimension hd_X0_dimension ⟨rfl, rfl, Nat.le_of_ble_eq_true rfl, Nat.le_of_ble_eq_true rfl⟩ ⟨Nat.zero_le _, Nat.zero_le _⟩ hK hP rfl rfl hl.1 rfl (Nat.le_of_ble_eq_true rfl) dX0_isEven_24) ?_
            refine lv_istore (lv' := [(4, .int (nI (pb_pop (P i) - 1))), (0, .ref (sg 0)), (1, .int (nI ch)), (2, .int (nI k)), (3, .int (nI i))]) hx hb dX0_isEven_27 hl (by decide) rfl (fun ls hl => ?_)
            refine lv_iload_n hx hb dX0_isEven_29 rfl (lv_at hl 3 rfl) ?_
            refine lv_bipush (v := (-2)) hx hb dX0_isEven_30 (by decide) ?_
            refine lv_icmp_eq (tgt := 43) hx hb dX0_isEven_32 (by decide) (fun c32 => absurd c32 (pb_n_ne2 (by omega))) (fun c32 => ?_)
            refine lv_iload_n hx hb dX0_isEven_35 rfl (lv_at hl 3 rfl) ?_
            refine lv_iload hx hb dX0_isEven_36 (lv_at hl 0 rfl) ?_
            refine pb_ieq (tgt := 43) hx hb dX0_isEven_38 (by decide) (by first | assumption | omega) (by first | assumption | omega) (fun c38 => ?_) (fun c38 => ?_)
            · refine lv_iload hx hb dX0_isEven_43 (lv_at hl 0 rfl) ?_
              refine lv_istore_n (lv' := [(2, .int (nI (pb_pop (P i) - 1))), (4, .int (nI (pb_pop (P i) - 1))), (0, .ref (sg 0)), (1, .int (nI ch)), (3, .int (nI i))]) hx hb dX0_isEven_45 rfl hl (by decide) rfl (fun ls hl => ?_)
              refine lv_iinc (v := nI (i + 1)) (lv' := [(3, .int (nI (i + 1))), (2, .int (nI (pb_pop (P i) - 1))), (4, .int (nI (pb_pop (P i) - 1))), (0, .ref (sg 0)), (1, .int (nI ch))]) hx hb dX0_isEven_46 hl (k := 4) rfl (nI_1 _) (by decide) rfl (fun ls hl => ?_)
              refine lv_goto (tgt := 5) hx hb dX0_isEven_49 (by decide) ?_
              exact ih5 (i + 1) (nI (pb_pop (P i) - 1)) ls (by omega) (by omega) (Or.inr ⟨pb_pop (P i) - 1, by omega, rfl, j0, hj0, by omega, lt_s (fun j h h2 => by have := hall j h h2; omega) (fun _ => by omega)⟩) (lv_sub hl [3, 4, 1, 0] rfl)
            · refine lv_iconst (v := nI 0) hx hb dX0_isEven_41 rfl ?_
              exact pb_zret C (pb_ev_mix hv hj0 c19 hall (by omega)) dX0_isEven_42
  exact loop5 (n + 1) 0 (-2) ls (by omega) (by omega) (Or.inl ⟨rfl, fun j h => absurd h (Nat.not_lt_zero _)⟩) (lv_sub hl [2, 3, 1, 0] rfl)
set_option maxHeartbeats 4000000 in
set_option maxRecDepth 100000 in
theorem ct_X0_border (l : Launch) (D : va_G) (d : ClassId) (sg : Nat → Nat) (n : Nat) (P : Nat → Nat) (a0 a1 a2 a3 a4 : Nat → Int32) (sv : Int32) (hC : pb_Cx n P) (h0 : ∀ i, i < n → a0 i = nI (P i)) (h1 : ∀ q, q < 64 → pb_At n P q (-2) (a1 q)) (x r : Int32) (hr9 : pb_BorderS n P x r) : Met l yX0_border (ws_ yX0_border cX0_border 2 (some .int)) (pb_ro 3) (va_Pc [.ref (sg 0), .int x] (pb_B D d (pb_xW sg d a0 a1 a2 a3 a4 (nI n) sv))) (pb_Q r) 0 0 pb_no := by
  refine pb_met RX0 (by decide) rfl (Nat.le_of_ble_eq_true rfl) rfl ?_
  intro p e s m below meth c ls C hnm hB hl
  obtain ⟨hx, hb, hml, hr, hown, hlk, hts⟩ := id C
  obtain ⟨hP, hK⟩ := hB
  have hl : lv_has ls 2 [(0, .ref (sg 0)), (1, .int x)] := hl
  have hn26 := hC.1
  rcases hr9 with ⟨hxb, rfl⟩ | ⟨ch, hch, rfl, hev, rfl⟩ | ⟨ch, hch, rfl, hev, rfl⟩
  · refine lv_aload_n hx hb dX0_border_0 rfl (lv_at hl 0 rfl) ?_
    refine lv_iload_n hx hb dX0_border_1 rfl (lv_at hl 1 rfl) ?_
    refine pb_afterQ (pb_runV (rC := (RX0, TX0, 7)) (ci := 0) (As := [.int x]) (rest := []) C (ct_X0_isChain l D d sg n P a0 a1 a2 a3 a4 sv hC h0 h1 x false hxb) gw_X0_X0_isChain hd_X0_isChain ⟨rfl, rfl, Nat.le_of_ble_eq_true rfl, Nat.le_of_ble_eq_true rfl⟩ ⟨Nat.zero_le _, Nat.zero_le _⟩ hK hP rfl rfl hl.1 rfl (Nat.le_of_ble_eq_true rfl) dX0_border_2) ?_
    refine pb_zne (tgt := 10) hx hb dX0_border_5 (by decide) (fun c5 => absurd c5 (by decide)) (fun c5 => ?_)
    refine lv_iconst (v := (-1)) hx hb dX0_border_8 (by decide) ?_
    exact pb_iret C (rfl) dX0_border_9
  · refine lv_aload_n hx hb dX0_border_0 rfl (lv_at hl 0 rfl) ?_
    refine lv_iload_n hx hb dX0_border_1 rfl (lv_at hl 1 rfl) ?_
    refine pb_afterQ (pb_runV (rC := (RX0, TX0, 7)) (ci := 0) (As := [.int (nI ch)]) (rest := []) C (ct_X0_isChain l D d sg n P a0 a1 a2 a3 a4 sv hC h0 h1 (nI ch) true (Or.inl ⟨rfl, ch, hch, rfl⟩)) gw_X0_X0_isChain hd_X0_isChain ⟨rfl, rfl, Nat.le_of_ble_eq_true rfl, Nat.le_of_ble_eq_true rfl⟩ ⟨Nat.zero_le _, Nat.zero_le _⟩ hK hP rfl rfl hl.1 rfl (Nat.le_of_ble_eq_true rfl) dX0_border_2) ?_
    refine pb_zne (tgt := 10) hx hb dX0_border_5 (by decide) (fun c5 => ?_) (fun c5 => absurd c5 (by decide))
    refine lv_aload_n hx hb dX0_border_10 rfl (lv_at hl 0 rfl) ?_
    refine lv_iload_n hx hb dX0_border_11 rfl (lv_at hl 1 rfl) ?_
    refine pb_afterQ (pb_runV (rC := (RX0, TX0, 7)) (ci := 0) (As := [.int (nI ch)]) (rest := []) C (ct_X0_isEven l D d sg n P a0 a1 a2 a3 a4 sv hC h0 h1 ch hch false hev) gw_X0_X0_isEven hd_X0_isEven ⟨rfl, rfl, Nat.le_of_ble_eq_true rfl, Nat.le_of_ble_eq_true rfl⟩ ⟨Nat.zero_le _, Nat.zero_le _⟩ hK hP rfl rfl hl.1 rfl (Nat.le_of_ble_eq_true rfl) dX0_border_12) ?_
    refine pb_zeq (tgt := 26) hx hb dX0_border_15 (by decide) (fun c15 => ?_) (fun c15 => absurd c15 (by decide))
    refine lv_bipush (v := (-2)) hx hb dX0_border_26 (by decide) ?_
    exact pb_iret C (rfl) dX0_border_28
  · refine lv_aload_n hx hb dX0_border_0 rfl (lv_at hl 0 rfl) ?_
    refine lv_iload_n hx hb dX0_border_1 rfl (lv_at hl 1 rfl) ?_
    refine pb_afterQ (pb_runV (rC := (RX0, TX0, 7)) (ci := 0) (As := [.int (nI ch)]) (rest := []) C (ct_X0_isChain l D d sg n P a0 a1 a2 a3 a4 sv hC h0 h1 (nI ch) true (Or.inl ⟨rfl, ch, hch, rfl⟩)) gw_X0_X0_isChain hd_X0_isChain ⟨rfl, rfl, Nat.le_of_ble_eq_true rfl, Nat.le_of_ble_eq_true rfl⟩ ⟨Nat.zero_le _, Nat.zero_le _⟩ hK hP rfl rfl hl.1 rfl (Nat.le_of_ble_eq_true rfl) dX0_border_2) ?_
    refine pb_zne (tgt := 10) hx hb dX0_border_5 (by decide) (fun c5 => ?_) (fun c5 => absurd c5 (by decide))
    refine lv_aload_n hx hb dX0_border_10 rfl (lv_at hl 0 rfl) ?_
    refine lv_iload_n hx hb dX0_border_11 rfl (lv_at hl 1 rfl) ?_
    refine pb_afterQ (pb_runV (rC := (RX0, TX0, 7)) (ci := 0) (As := [.int (nI ch)]) (rest := []) C (ct_X0_isEven l D d sg n P a0 a1 a2 a3 a4 sv hC h0 h1 ch hch true hev) gw_X0_X0_isEven hd_X0_isEven ⟨rfl, rfl, Nat.le_of_ble_eq_true rfl, Nat.le_of_ble_eq_true rfl⟩ ⟨Nat.zero_le _, Nat.zero_le _⟩ hK hP rfl rfl hl.1 rfl (Nat.le_of_ble_eq_true rfl) dX0_border_12) ?_
    refine pb_zeq (tgt := 26) hx hb dX0_border_15 (by decide) (fun c15 => absurd c15 (by decide)) (fun c15 => ?_)
    refine lv_aload_n hx hb dX0_border_18 rfl (lv_at hl 0 rfl) ?_
    refine lv_iload_n hx hb dX0_border_19 rfl (lv_at hl 1 rfl) ?_
    refine pb_afterQ (pb_runV (rC := (RX0, TX0, 7)) (ci := 0) (As := [.int (nI ch)]) (rest := []) C (ct_X0_borderOf l D d sg n P a0 a1 a2 a3 a4 sv hC h0 h1 ch hch) gw_X0_X0_borderOf hd_X0_borderOf ⟨rfl, rfl, Nat.le_of_ble_eq_true rfl, Nat.le_of_ble_eq_true rfl⟩ ⟨Nat.zero_le _, Nat.zero_le _⟩ hK hP rfl rfl hl.1 rfl (Nat.le_of_ble_eq_true rfl) dX0_border_20) ?_
    refine lv_goto (tgt := 28) hx hb dX0_border_23 (by decide) ?_
    exact pb_iret C (rfl) dX0_border_28
set_option maxHeartbeats 4000000 in
set_option maxRecDepth 100000 in
theorem ct_X0_pieces (l : Launch) (D : va_G) (d : ClassId) (sg : Nat → Nat) (n : Nat) (P : Nat → Nat) (a0 a1 a2 a3 a4 : Nat → Int32) (sv : Int32) (hC : pb_Cx n P) (h0 : ∀ i, i < n → a0 i = nI (P i)) (h1 : ∀ q, q < 64 → pb_At n P q (-2) (a1 q)) (t k r : Int32) (hr9 : pb_PiecesS n P t k r) : Met l yX0_pieces (ws_ yX0_pieces cX0_pieces 5 (some .int)) (pb_ro 2) (va_Pc [.ref (sg 0), .int t, .int k] (pb_B D d (pb_xW sg d a0 a1 a2 a3 a4 (nI n) sv))) (pb_Q r) 0 0 pb_no := by
  refine pb_met RX0 (by decide) rfl (Nat.le_of_ble_eq_true rfl) rfl ?_
  intro p e s m below meth c ls C hnm hB hl
  obtain ⟨hx, hb, hml, hr, hown, hlk, hts⟩ := id C
  obtain ⟨hP, hK⟩ := hB
  have hl : lv_has ls 5 [(0, .ref (sg 0)), (1, .int t), (2, .int k)] := hl
  have hn26 := hC.1
  rcases hr9 with ⟨hxb | ⟨_, hx1⟩ | ⟨_, i, hi, hi2, rfl⟩, rfl⟩ | ⟨i, hi, rfl, hkb | ⟨_, hk1⟩ | ⟨_, j, hj, hj2, rfl⟩, rfl⟩ | ⟨i, j, hi, rfl, hj, rfl, rfl⟩
  · exact absurd hxb.1 (by decide)
  · refine lv_iload_n hx hb dX0_pieces_0 rfl (lv_at hl 1 rfl) ?_
    refine lv_if_lt (tgt := 12) hx hb dX0_pieces_1 (by decide) (fun c1 => ?_) (fun c1 => absurd hx1 c1)
    refine lv_iconst (v := (-1)) hx hb dX0_pieces_12 (by decide) ?_
    exact pb_iret C (rfl) dX0_pieces_13
  · refine lv_iload_n hx hb dX0_pieces_0 rfl (lv_at hl 1 rfl) ?_
    refine pb_clt (tgt := 12) hx hb dX0_pieces_1 (by decide) (by first | assumption | omega) ?_
    refine lv_iload_n hx hb dX0_pieces_4 rfl (lv_at hl 1 rfl) ?_
    refine lv_aload_n hx hb dX0_pieces_5 rfl (lv_at hl 0 rfl) ?_
    refine pb_gX5 C hK hP dX0_pieces_6 ?_
    refine pb_ile (tgt := 14) hx hb dX0_pieces_9 (by decide) (by first | assumption | omega) (by first | assumption | omega) (fun c9 => absurd c9 (by omega)) (fun c9 => ?_)
    refine lv_iconst (v := (-1)) hx hb dX0_pieces_12 (by decide) ?_
    exact pb_iret C (rfl) dX0_pieces_13
  · exact absurd hkb.1 (by decide)
  · refine lv_iload_n hx hb dX0_pieces_0 rfl (lv_at hl 1 rfl) ?_
    refine pb_clt (tgt := 12) hx hb dX0_pieces_1 (by decide) (by first | assumption | omega) ?_
    refine lv_iload_n hx hb dX0_pieces_4 rfl (lv_at hl 1 rfl) ?_
    refine lv_aload_n hx hb dX0_pieces_5 rfl (lv_at hl 0 rfl) ?_
    refine pb_gX5 C hK hP dX0_pieces_6 ?_
    refine pb_ile (tgt := 14) hx hb dX0_pieces_9 (by decide) (by first | assumption | omega) (by first | assumption | omega) (fun c9 => ?_) (fun c9 => absurd c9 (by omega))
    refine lv_iload_n hx hb dX0_pieces_14 rfl (lv_at hl 2 rfl) ?_
    refine lv_if_lt (tgt := 23) hx hb dX0_pieces_15 (by decide) (fun c15 => ?_) (fun c15 => absurd hk1 c15)
    refine lv_bipush (v := (-2)) hx hb dX0_pieces_23 (by decide) ?_
    exact pb_iret C (rfl) dX0_pieces_25
  · refine lv_iload_n hx hb dX0_pieces_0 rfl (lv_at hl 1 rfl) ?_
    refine pb_clt (tgt := 12) hx hb dX0_pieces_1 (by decide) (by first | assumption | omega) ?_
    refine lv_iload_n hx hb dX0_pieces_4 rfl (lv_at hl 1 rfl) ?_
    refine lv_aload_n hx hb dX0_pieces_5 rfl (lv_at hl 0 rfl) ?_
    refine pb_gX5 C hK hP dX0_pieces_6 ?_
    refine pb_ile (tgt := 14) hx hb dX0_pieces_9 (by decide) (by first | assumption | omega) (by first | assumption | omega) (fun c9 => ?_) (fun c9 => absurd c9 (by omega))
    refine lv_iload_n hx hb dX0_pieces_14 rfl (lv_at hl 2 rfl) ?_
    refine pb_clt (tgt := 23) hx hb dX0_pieces_15 (by decide) (by first | assumption | omega) ?_
    refine lv_iload_n hx hb dX0_pieces_18 rfl (lv_at hl 2 rfl) ?_
    refine lv_iconst (v := nI 3) hx hb dX0_pieces_19 rfl ?_
    refine pb_ile (tgt := 26) hx hb dX0_pieces_20 (by decide) (by first | assumption | omega) (by first | assumption | omega) (fun c20 => absurd c20 (by omega)) (fun c20 => ?_)
    refine lv_bipush (v := (-2)) hx hb dX0_pieces_23 (by decide) ?_
    exact pb_iret C (rfl) dX0_pieces_25
  · refine lv_iload_n hx hb dX0_pieces_0 rfl (lv_at hl 1 rfl) ?_
    refine pb_clt (tgt := 12) hx hb dX0_pieces_1 (by decide) (by first | assumption | omega) ?_
    refine lv_iload_n hx hb dX0_pieces_4 rfl (lv_at hl 1 rfl) ?_
    refine lv_aload_n hx hb dX0_pieces_5 rfl (lv_at hl 0 rfl) ?_
    refine pb_gX5 C hK hP dX0_pieces_6 ?_
    refine pb_ile (tgt := 14) hx hb dX0_pieces_9 (by decide) (by first | assumption | omega) (by first | assumption | omega) (fun c9 => ?_) (fun c9 => absurd c9 (by omega))
    refine lv_iload_n hx hb dX0_pieces_14 rfl (lv_at hl 2 rfl) ?_
    refine pb_clt (tgt := 23) hx hb dX0_pieces_15 (by decide) (by first | assumption | omega) ?_
    refine lv_iload_n hx hb dX0_pieces_18 rfl (lv_at hl 2 rfl) ?_
    refine lv_iconst (v := nI 3) hx hb dX0_pieces_19 rfl ?_
    refine pb_ile (tgt := 26) hx hb dX0_pieces_20 (by decide) (by first | assumption | omega) (by first | assumption | omega) (fun c20 => ?_) (fun c20 => absurd c20 (by omega))
    refine lv_iconst (v := nI 0) hx hb dX0_pieces_26 rfl ?_
    refine lv_istore_n (lv' := [(3, .int (nI 0)), (0, .ref (sg 0)), (1, .int (nI i)), (2, .int (nI j))]) hx hb dX0_pieces_27 rfl hl (by decide) rfl (fun ls hl => ?_)
    refine lv_iconst (v := nI 0) hx hb dX0_pieces_28 rfl ?_
    refine lv_istore (lv' := [(4, .int (nI 0)), (3, .int (nI 0)), (0, .ref (sg 0)), (1, .int (nI i)), (2, .int (nI j))]) hx hb dX0_pieces_29 hl (by decide) rfl (fun ls hl => ?_)
    have loop31 : ∀ (k31 : Nat) (a : Nat) (ls : Array Slot), (i < a + k31) → (a ≤ i) → lv_has ls 5 [(0, .ref (sg 0)), (1, .int (nI i)), (2, .int (nI j)), (3, .int (nI (pb_tal P a (j + 1)))), (4, .int (nI a))] → W p l e (pb_ro 2) s m ([.ref (sg 0), .int (nI i), .int (nI j)] : List Value).toArray below meth c s.heap [] 0 0 (MQ below (pb_Q (nI (pb_tal P i (j + 1)))) ([.ref (sg 0), .int (nI i), .int (nI j)] : List Value).toArray s 0 0 pb_no) (F0 m 31 ls []) := by
      intro k31
      induction k31 with
      | zero =>
        intro a ls hk ha hl
        omega
      | succ k31 ih31 =>
        intro a ls hk ha hl
        refine lv_iload hx hb dX0_pieces_31 (lv_at hl 4 rfl) ?_
        refine lv_iload_n hx hb dX0_pieces_33 rfl (lv_at hl 1 rfl) ?_
        refine pb_ige (tgt := 61) hx hb dX0_pieces_34 (by decide) (by first | assumption | omega) (by first | assumption | omega) (fun c34 => ?_) (fun c34 => ?_)
        · refine lv_iload_n hx hb dX0_pieces_61 rfl (lv_at hl 3 rfl) ?_
          exact pb_iret C (by rw [show a = i by omega]) dX0_pieces_62
        · have hPi := pb_cx_pop hC (i := a) (by omega)
          refine lv_iload_n hx hb dX0_pieces_37 rfl (lv_at hl 3 rfl) ?_
          refine lv_aload_n hx hb dX0_pieces_38 rfl (lv_at hl 0 rfl) ?_
          refine lv_iload hx hb dX0_pieces_39 (lv_at hl 4 rfl) ?_
          refine pb_afterQ (pb_runV (rC := (RX0, TX0, 7)) (ci := 0) (As := [.int (nI a)]) (rest := [.int (nI (pb_tal P a (j + 1)))]) C (ct_X0_dimension l D d sg n P a0 a1 a2 a3 a4 sv hC h0 h1 a (by omega)) gw_X0_X0_dimension hd_X0_dimension ⟨rfl, rfl, Nat.le_of_ble_eq_true rfl, Nat.le_of_ble_eq_true rfl⟩ ⟨Nat.zero_le _, Nat.zero_le _⟩ hK hP rfl rfl hl.1 rfl (Nat.le_of_ble_eq_true rfl) dX0_pieces_41) ?_
          refine lv_iload_n hx hb dX0_pieces_44 rfl (lv_at hl 2 rfl) ?_
          refine pb_ine (tgt := 52) hx hb dX0_pieces_45 (by decide) (by first | assumption | omega) (by first | assumption | omega) (fun c45 => ?_) (fun c45 => ?_)
          · refine lv_iconst (v := nI 0) hx hb dX0_pieces_52 rfl ?_
            refine lv_iadd hx hb dX0_pieces_53 ?_
            refine pb_top (nI (pb_tal P (a + 1) (j + 1))) (by rw [pb_tal_n (show ¬ pb_pop (P a) = j + 1 by omega)]; exact nI_add _ 0) ?_
            refine lv_istore_n (lv' := [(3, .int (nI (pb_tal P (a + 1) (j + 1)))), (0, .ref (sg 0)), (1, .int (nI i)), (2, .int (nI j)), (4, .int (nI a))]) hx hb dX0_pieces_54 rfl hl (by decide) rfl (fun ls hl => ?_)
            refine lv_iinc (v := nI (a + 1)) (lv' := [(4, .int (nI (a + 1))), (3, .int (nI (pb_tal P (a + 1) (j + 1)))), (0, .ref (sg 0)), (1, .int (nI i)), (2, .int (nI j))]) hx hb dX0_pieces_55 hl (k := 4) rfl (nI_1 _) (by decide) rfl (fun ls hl => ?_)
            refine lv_goto (tgt := 31) hx hb dX0_pieces_58 (by decide) ?_
            exact ih31 (a + 1) ls (by omega) (by omega) (lv_sub hl [2, 3, 4, 1, 0] rfl)
          · refine lv_iconst (v := nI 1) hx hb dX0_pieces_48 rfl ?_
            refine lv_goto (tgt := 53) hx hb dX0_pieces_49 (by decide) ?_
            refine lv_iadd hx hb dX0_pieces_53 ?_
            refine pb_top (nI (pb_tal P (a + 1) (j + 1))) (by rw [pb_tal_y (show pb_pop (P a) = j + 1 by omega)]; exact nI_1 _) ?_
            refine lv_istore_n (lv' := [(3, .int (nI (pb_tal P (a + 1) (j + 1)))), (0, .ref (sg 0)), (1, .int (nI i)), (2, .int (nI j)), (4, .int (nI a))]) hx hb dX0_pieces_54 rfl hl (by decide) rfl (fun ls hl => ?_)
            refine lv_iinc (v := nI (a + 1)) (lv' := [(4, .int (nI (a + 1))), (3, .int (nI (pb_tal P (a + 1) (j + 1)))), (0, .ref (sg 0)), (1, .int (nI i)), (2, .int (nI j))]) hx hb dX0_pieces_55 hl (k := 4) rfl (nI_1 _) (by decide) rfl (fun ls hl => ?_)
            refine lv_goto (tgt := 31) hx hb dX0_pieces_58 (by decide) ?_
            exact ih31 (a + 1) ls (by omega) (by omega) (lv_sub hl [2, 3, 4, 1, 0] rfl)
    exact loop31 (i + 1) 0 ls (by omega) (by omega) (lv_sub hl [2, 3, 4, 1, 0] rfl)
theorem pb_eu_step {P : Nat → Nat} {i : Nat} (h1 : 1 ≤ pb_pop (P i)) (h2 : pb_pop (P i) ≤ 4) : ((pb_pop (P i) - 1) &&& 1 ≠ 0 → pb_eu P i + (-1) = pb_eu P (i + 1)) ∧ ((pb_pop (P i) - 1) &&& 1 = 0 → pb_eu P i + nI 1 = pb_eu P (i + 1)) := by
  have e1 : nI 1 = 1 := rfl
  unfold pb_eu
  rcases (show pb_pop (P i) = 1 ∨ pb_pop (P i) = 2 ∨ pb_pop (P i) = 3 ∨ pb_pop (P i) = 4 by omega) with h | h | h | h
  · rw [pb_tal_y h, pb_tal_n (k := 2) (by omega), pb_tal_n (k := 3) (by omega), pb_tal_n (k := 4) (by omega), h, ← nI_add, e1]
    exact ⟨fun z => absurd rfl z, fun _ => by grind⟩
  · rw [pb_tal_y h, pb_tal_n (k := 1) (by omega), pb_tal_n (k := 3) (by omega), pb_tal_n (k := 4) (by omega), h, ← nI_add, e1]
    exact ⟨fun _ => by grind, fun z => absurd z (by decide)⟩
  · rw [pb_tal_y h, pb_tal_n (k := 1) (by omega), pb_tal_n (k := 2) (by omega), pb_tal_n (k := 4) (by omega), h, ← nI_add, e1]
    exact ⟨fun z => absurd rfl z, fun _ => by grind⟩
  · rw [pb_tal_y h, pb_tal_n (k := 1) (by omega), pb_tal_n (k := 2) (by omega), pb_tal_n (k := 3) (by omega), h, ← nI_add, e1]
    exact ⟨fun _ => by grind, fun z => absurd z (by decide)⟩
theorem pb_eu_0 (P : Nat → Nat) : nI 0 = pb_eu P 0 := by
  show nI 0 = nI 0 - nI 0 + nI 0 - nI 0
  decide
set_option maxHeartbeats 4000000 in
set_option maxRecDepth 100000 in
theorem ct_X0_euler (l : Launch) (D : va_G) (d : ClassId) (sg : Nat → Nat) (n : Nat) (P : Nat → Nat) (a0 a1 a2 a3 a4 : Nat → Int32) (sv : Int32) (hC : pb_Cx n P) (h0 : ∀ i, i < n → a0 i = nI (P i)) (h1 : ∀ q, q < 64 → pb_At n P q (-2) (a1 q)) (t r : Int32) (hr9 : pb_EulerS n P t r) : Met l yX0_euler (ws_ yX0_euler cX0_euler 4 (some .int)) (pb_ro 2) (va_Pc [.ref (sg 0), .int t] (pb_B D d (pb_xW sg d a0 a1 a2 a3 a4 (nI n) sv))) (pb_Q r) 0 0 pb_no := by
  refine pb_met RX0 (by decide) rfl (Nat.le_of_ble_eq_true rfl) rfl ?_
  intro p e s m below meth c ls C hnm hB hl
  obtain ⟨hx, hb, hml, hr, hown, hlk, hts⟩ := id C
  obtain ⟨hP, hK⟩ := hB
  have hl : lv_has ls 4 [(0, .ref (sg 0)), (1, .int t)] := hl
  have hn26 := hC.1
  rcases hr9 with ⟨hxb | ⟨_, hx1⟩ | ⟨_, i, hi, hi2, rfl⟩, rfl⟩ | ⟨i, hi, rfl, rfl⟩
  · exact absurd hxb.1 (by decide)
  · refine lv_iload_n hx hb dX0_euler_0 rfl (lv_at hl 1 rfl) ?_
    refine lv_if_lt (tgt := 12) hx hb dX0_euler_1 (by decide) (fun c1 => ?_) (fun c1 => absurd hx1 c1)
    refine lv_sipush (v := (-1000)) hx hb dX0_euler_12 (by decide) ?_
    exact pb_iret C (rfl) dX0_euler_15
  · refine lv_iload_n hx hb dX0_euler_0 rfl (lv_at hl 1 rfl) ?_
    refine pb_clt (tgt := 12) hx hb dX0_euler_1 (by decide) (by first | assumption | omega) ?_
    refine lv_iload_n hx hb dX0_euler_4 rfl (lv_at hl 1 rfl) ?_
    refine lv_aload_n hx hb dX0_euler_5 rfl (lv_at hl 0 rfl) ?_
    refine pb_gX5 C hK hP dX0_euler_6 ?_
    refine pb_ile (tgt := 16) hx hb dX0_euler_9 (by decide) (by first | assumption | omega) (by first | assumption | omega) (fun c9 => absurd c9 (by omega)) (fun c9 => ?_)
    refine lv_sipush (v := (-1000)) hx hb dX0_euler_12 (by decide) ?_
    exact pb_iret C (rfl) dX0_euler_15
  · refine lv_iload_n hx hb dX0_euler_0 rfl (lv_at hl 1 rfl) ?_
    refine pb_clt (tgt := 12) hx hb dX0_euler_1 (by decide) (by first | assumption | omega) ?_
    refine lv_iload_n hx hb dX0_euler_4 rfl (lv_at hl 1 rfl) ?_
    refine lv_aload_n hx hb dX0_euler_5 rfl (lv_at hl 0 rfl) ?_
    refine pb_gX5 C hK hP dX0_euler_6 ?_
    refine pb_ile (tgt := 16) hx hb dX0_euler_9 (by decide) (by first | assumption | omega) (by first | assumption | omega) (fun c9 => ?_) (fun c9 => absurd c9 (by omega))
    refine lv_iconst (v := nI 0) hx hb dX0_euler_16 rfl ?_
    refine lv_istore_n (lv' := [(2, .int (nI 0)), (0, .ref (sg 0)), (1, .int (nI i))]) hx hb dX0_euler_17 rfl hl (by decide) rfl (fun ls hl => ?_)
    refine lv_iconst (v := nI 0) hx hb dX0_euler_18 rfl ?_
    refine lv_istore_n (lv' := [(3, .int (nI 0)), (2, .int (nI 0)), (0, .ref (sg 0)), (1, .int (nI i))]) hx hb dX0_euler_19 rfl hl (by decide) rfl (fun ls hl => ?_)
    have hl : lv_has ls 4 [(3, .int (nI 0)), (2, .int (pb_eu P 0)), (0, .ref (sg 0)), (1, .int (nI i))] := by have e9 : nI 0 = pb_eu P 0 := (pb_eu_0 P); rw [← e9]; exact hl
    have loop20 : ∀ (k20 : Nat) (a : Nat) (ls : Array Slot), (i < a + k20) → (a ≤ i) → lv_has ls 4 [(0, .ref (sg 0)), (1, .int (nI i)), (2, .int (pb_eu P a)), (3, .int (nI a))] → W p l e (pb_ro 2) s m ([.ref (sg 0), .int (nI i)] : List Value).toArray below meth c s.heap [] 0 0 (MQ below (pb_Q (pb_eu P i)) ([.ref (sg 0), .int (nI i)] : List Value).toArray s 0 0 pb_no) (F0 m 20 ls []) := by
      intro k20
      induction k20 with
      | zero =>
        intro a ls hk ha hl
        omega
      | succ k20 ih20 =>
        intro a ls hk ha hl
        refine lv_iload_n hx hb dX0_euler_20 rfl (lv_at hl 3 rfl) ?_
        refine lv_iload_n hx hb dX0_euler_21 rfl (lv_at hl 1 rfl) ?_
        refine pb_ige (tgt := 49) hx hb dX0_euler_22 (by decide) (by first | assumption | omega) (by first | assumption | omega) (fun c22 => ?_) (fun c22 => ?_)
        · refine lv_iload_n hx hb dX0_euler_49 rfl (lv_at hl 2 rfl) ?_
          exact pb_iret C (by rw [show a = i by omega]) dX0_euler_50
        · have hPi := pb_cx_pop hC (i := a) (by omega)
          refine lv_iload_n hx hb dX0_euler_25 rfl (lv_at hl 2 rfl) ?_
          refine lv_aload_n hx hb dX0_euler_26 rfl (lv_at hl 0 rfl) ?_
          refine lv_iload_n hx hb dX0_euler_27 rfl (lv_at hl 3 rfl) ?_
          refine pb_afterQ (pb_runV (rC := (RX0, TX0, 7)) (ci := 0) (As := [.int (nI a)]) (rest := [.int (pb_eu P a)]) C (ct_X0_dimension l D d sg n P a0 a1 a2 a3 a4 sv hC h0 h1 a (by omega)) gw_X0_X0_dimension hd_X0_dimension ⟨rfl, rfl, Nat.le_of_ble_eq_true rfl, Nat.le_of_ble_eq_true rfl⟩ ⟨Nat.zero_le _, Nat.zero_le _⟩ hK hP rfl rfl hl.1 rfl (Nat.le_of_ble_eq_true rfl) dX0_euler_28) ?_
          refine lv_iconst (v := nI 1) hx hb dX0_euler_31 rfl ?_
          refine lv_iand hx hb dX0_euler_32 ?_
          refine pb_tup (nx_and _ _) ?_
          refine pb_cne (tgt := 40) hx hb dX0_euler_33 (by decide) (by have := Nat.and_le_left (n := pb_pop (P a) - 1) (m := 1); omega) (fun c33 => ?_) (fun c33 => ?_)
          · refine lv_iconst (v := (-1)) hx hb dX0_euler_40 (by decide) ?_
            refine lv_iadd hx hb dX0_euler_41 ?_
            refine pb_top (pb_eu P (a + 1)) ((pb_eu_step hPi.2.2.1 hPi.2.2.2).1 c33) ?_
            refine lv_istore_n (lv' := [(2, .int (pb_eu P (a + 1))), (0, .ref (sg 0)), (1, .int (nI i)), (3, .int (nI a))]) hx hb dX0_euler_42 rfl hl (by decide) rfl (fun ls hl => ?_)
            refine lv_iinc (v := nI (a + 1)) (lv' := [(3, .int (nI (a + 1))), (2, .int (pb_eu P (a + 1))), (0, .ref (sg 0)), (1, .int (nI i))]) hx hb dX0_euler_43 hl (k := 3) rfl (nI_1 _) (by decide) rfl (fun ls hl => ?_)
            refine lv_goto (tgt := 20) hx hb dX0_euler_46 (by decide) ?_
            exact ih20 (a + 1) ls (by omega) (by omega) (lv_sub hl [2, 3, 1, 0] rfl)
          · refine lv_iconst (v := nI 1) hx hb dX0_euler_36 rfl ?_
            refine lv_goto (tgt := 41) hx hb dX0_euler_37 (by decide) ?_
            refine lv_iadd hx hb dX0_euler_41 ?_
            refine pb_top (pb_eu P (a + 1)) ((pb_eu_step hPi.2.2.1 hPi.2.2.2).2 c33) ?_
            refine lv_istore_n (lv' := [(2, .int (pb_eu P (a + 1))), (0, .ref (sg 0)), (1, .int (nI i)), (3, .int (nI a))]) hx hb dX0_euler_42 rfl hl (by decide) rfl (fun ls hl => ?_)
            refine lv_iinc (v := nI (a + 1)) (lv' := [(3, .int (nI (a + 1))), (2, .int (pb_eu P (a + 1))), (0, .ref (sg 0)), (1, .int (nI i))]) hx hb dX0_euler_43 hl (k := 3) rfl (nI_1 _) (by decide) rfl (fun ls hl => ?_)
            refine lv_goto (tgt := 20) hx hb dX0_euler_46 (by decide) ?_
            exact ih20 (a + 1) ls (by omega) (by omega) (lv_sub hl [2, 3, 1, 0] rfl)
    exact loop20 (i + 1) 0 ls (by omega) (by omega) (lv_sub hl [2, 3, 1, 0] rfl)
end
section
/-! the state of a PersistentBars, and how it moves -/
def pb_XR (n : Nat) (P : Nat → Nat) (a0 a1 a2 a3 a4 : Nat → Int32) (sv : Int32) : Prop := (∀ i, i < n → a0 i = nI (P i)) ∧ (∀ q, q < 64 → pb_At n P q (-2) (a1 q)) ∧ ∃ m R lo, m ≤ n ∧ sv = nI m ∧ pb_SX m P R lo a2 a3 a4
/-- a PersistentBars at sg that holds n pieces P -/
def pb_XH (D : va_G) (d : ClassId) (sg : Nat → Nat) (n : Nat) (P : Nat → Nat) (H : Heap) : Prop := ∃ a0 a1 a2 a3 a4 sv, va_P D pb_cl (pb_xW sg d a0 a1 a2 a3 a4 (nI n) sv) H ∧ pb_XR n P a0 a1 a2 a3 a4 sv
def pb_xH (D : va_G) (d : ClassId) (sg : Nat → Nat) (n2 : Nat) (P2 : Nat → Nat) (v : Int32) : Int32 → Heap → Prop := fun r H => r = v ∧ pb_XH D d sg n2 P2 H
/-- an answer that rests on the reduction -/
def pb_xP (D : va_G) (d : ClassId) (sg : Nat → Nat) (n : Nat) (P : Nat → Nat) (S : (Nat → Nat) → (Nat → Nat) → Int32 → Prop) : Int32 → Heap → Prop := fun r H => (∃ R lo, pb_Sol n P R lo ∧ S R lo r) ∧ pb_XH D d sg n P H
theorem pb_SX_0 (P R lo : Nat → Nat) (a2 a3 a4 : Nat → Int32) : pb_SX 0 P R lo a2 a3 a4 := ⟨pb_sol_0 P R lo, fun i h => absurd h (Nat.not_lt_zero _), fun i h => absurd h (Nat.not_lt_zero _), fun i h => absurd h (Nat.not_lt_zero _)⟩
theorem pb_SX_congr {m : Nat} {P Q R lo : Nat → Nat} {a2 a3 a4 : Nat → Int32} (h : ∀ j, j < m → P j = Q j) (hS : pb_SX m P R lo a2 a3 a4) : pb_SX m Q R lo a2 a3 a4 := ⟨pb_sol_congr h hS.1, hS.2⟩
theorem pb_At_add {n q : Nat} {P : Nat → Nat} {a1 : Nat → Int32} (h1 : ∀ q, q < 64 → pb_At n P q (-2) (a1 q)) (hnew : ∀ i, i < n → P i ≠ q) : ∀ q2, q2 < 64 → pb_At (n + 1) (pb_up P n q) q2 (-2) (upd a1 q (nI n) q2) := by
  intro q2 h2
  by_cases e : q2 = q
  · subst e
    rw [pk_us]
    exact Or.inl ⟨n, by omega, pb_up_s _ _ _, rfl⟩
  · rw [pk_un e]
    rcases h1 q2 h2 with ⟨i, hi, hi2, hv⟩ | ⟨hno, hv⟩
    · exact Or.inl ⟨i, by omega, by rw [pb_up_n (by omega)]; exact hi2, hv⟩
    · refine Or.inr ⟨fun i hi => ?_, hv⟩
      rcases Nat.lt_or_ge i n with z | z
      · rw [pb_up_n (by omega)]
        exact hno i z
      · rw [show i = n by omega, pb_up_s]
        exact fun z => e z.symm
theorem pb_At_undo {n : Nat} {P : Nat → Nat} {a1 : Nat → Int32} (hC : pb_Cx n P) (hn : 0 < n) (h1 : ∀ q, q < 64 → pb_At n P q (-2) (a1 q)) : ∀ q, q < 64 → pb_At (n - 1) P q (-2) (upd a1 (P (n - 1)) (-2) q) := by
  intro q2 h2
  by_cases e : q2 = P (n - 1)
  · subst e
    rw [pk_us]
    exact Or.inr ⟨fun i hi z => by have := hC.2.2.1 i (n - 1) (by omega) (by omega) z; omega, rfl⟩
  · rw [pk_un e]
    rcases h1 q2 h2 with ⟨i, hi, hi2, hv⟩ | ⟨hno, hv⟩
    · refine Or.inl ⟨i, ?_, hi2, hv⟩
      rcases Nat.lt_or_ge i (n - 1) with z | z
      · exact z
      · exact absurd (by rw [← hi2, show i = n - 1 by omega]) e
    · exact Or.inr ⟨fun i hi => hno i (by omega), hv⟩
/-- one more column, not yet added: the start of its reduction, a step, its end -/
theorem pb_red_0 (P : Nat → Nat) (i : Nat) : pb_Sp (pb_V P (pb_pop (P i))) i (pb_col P i ^^^ pb_col P i) := by
  rw [Nat.xor_self]
  exact pb_sp0
theorem pb_cf_congr {R R2 lo lo2 : Nat → Nat} {j m : Nat} (h : ∀ b, b < m → R b = R2 b ∧ lo b = lo2 b) : pb_cf R lo j m = pb_cf R2 lo2 j m := by
  induction m with
  | zero => rfl
  | succ m ih =>
    unfold pb_cf
    rw [ih (fun b hb => h b (by omega)), (h m (by omega)).1, (h m (by omega)).2]
theorem pb_cf_up {R lo : Nat → Nat} {i c t j : Nat} : pb_cf (pb_up R i c) (pb_up lo i t) j (i + 1) = if c ≠ 0 ∧ t = j then i + 1 else pb_cf R lo j i := by
  show (if pb_up R i c i ≠ 0 ∧ pb_up lo i t i = j then i + 1 else pb_cf (pb_up R i c) (pb_up lo i t) j i) = _
  rw [pb_up_s, pb_up_s, pb_cf_congr (R2 := R) (lo2 := lo) (fun b hb => ⟨pb_up_n (by omega), pb_up_n (by omega)⟩)]
theorem pb_cv_up {R lo : Nat → Nat} {i c t j : Nat} (h : ¬ (c ≠ 0 ∧ t = j)) : pb_cv (i + 1) (pb_up R i c) (pb_up lo i t) j = pb_cv i R lo j := by
  unfold pb_cv
  rw [pb_cf_up, if_neg h]
theorem pb_cv_self {P R lo : Nat → Nat} {i : Nat} (hS : pb_Sol i P R lo) : pb_cv i R lo i = -2 := by
  rcases pb_cv_c (n := i) (R := R) (lo := lo) i with ⟨_, h⟩ | ⟨b, h1, h2, h3, _⟩
  · exact h
  · have := (pb_lo_lt hS h1 h2).1
    omega
theorem pb_SX_z {i : Nat} {P R lo : Nat → Nat} {a2 a3 a4 : Nat → Int32} (hS : pb_SX i P R lo a2 a3 a4) (hc : pb_Sp (pb_V P (pb_pop (P i))) i (0 ^^^ pb_col P i)) : pb_SX (i + 1) P (pb_up R i 0) (pb_up lo i 0) (upd a2 i (nI 0)) (upd a3 i (-2)) (upd a4 i (-2)) := by
  obtain ⟨h1, h2, h3, h4⟩ := hS
  have hcv : ∀ j, pb_cv (i + 1) (pb_up R i 0) (pb_up lo i 0) j = pb_cv i R lo j := fun j => pb_cv_up (fun z => z.1 rfl)
  refine ⟨pb_sol_add h1 hc (fun z => absurd rfl z), fun j hj => ?_, fun j hj => ?_, fun j hj => ?_⟩
  · rcases Nat.lt_or_ge j i with z | z
    · rw [pk_un (by omega), pb_up_n (by omega)]
      exact h2 j z
    · rw [show j = i by omega, pk_us, pb_up_s]
  · rcases Nat.lt_or_ge j i with z | z
    · rw [pk_un (by omega), h3 j z]
      unfold pb_pv
      rw [hcv, pb_up_n (by omega), pb_up_n (by omega)]
    · rw [show j = i by omega, pk_us, pb_pv_z (pb_up_s _ _ _), hcv, pb_cv_self h1]
  · rw [hcv]
    rcases Nat.lt_or_ge j i with z | z
    · rw [pk_un (by omega)]
      exact h4 j z
    · rw [show j = i by omega, pk_us, pb_cv_self h1]
theorem pb_SX_t {n i : Nat} {P R lo : Nat → Nat} {a2 a3 a4 : Nat → Int32} {c t : Nat} (hC : pb_Cx n P) (hi : i < n) (hS : pb_SX i P R lo a2 a3 a4) (hc : pb_Sp (pb_V P (pb_pop (P i))) i (c ^^^ pb_col P i)) (ht : pb_Top c t) (hno : ∀ b, b < i → R b ≠ 0 → lo b ≠ t) : pb_SX (i + 1) P (pb_up R i c) (pb_up lo i t) (upd a2 i (nI c)) (upd (upd (upd a3 i (-2)) t (nI i)) i (nI t)) (upd (upd a4 i (-2)) t (nI i)) := by
  obtain ⟨h1, h2, h3, h4⟩ := hS
  have hne := pb_top_ne ht
  have hti := (pb_hom hc ht.1).1
  have hN := pb_sol_add h1 hc (fun _ => ⟨ht, hno⟩)
  have hcv : ∀ j, j ≠ t → pb_cv (i + 1) (pb_up R i c) (pb_up lo i t) j = pb_cv i R lo j := fun j hj => pb_cv_up (fun z => hj z.2.symm)
  have hct : pb_cv (i + 1) (pb_up R i c) (pb_up lo i t) t = nI i := by
    have e9 : pb_cf (pb_up R i c) (pb_up lo i t) t (i + 1) = i + 1 := by
      rw [pb_cf_up, if_pos (show c ≠ 0 ∧ t = t from ⟨hne, rfl⟩)]
    unfold pb_cv
    rw [e9, if_neg (Nat.succ_ne_zero i), Nat.add_sub_cancel]
  have hz : R t = 0 := by
    have h9 := pb_lo_zero (pb_cx_less (show i + 1 ≤ n by omega) hC) hN (show i < i + 1 by omega) (by rw [pb_up_s]; exact hne)
    rw [pb_up_s, pb_up_n (by omega)] at h9
    exact h9
  refine ⟨hN, fun j hj => ?_, fun j hj => ?_, fun j hj => ?_⟩
  · rcases Nat.lt_or_ge j i with z | z
    · rw [pk_un (by omega), pb_up_n (by omega)]
      exact h2 j z
    · rw [show j = i by omega, pk_us, pb_up_s]
  · rcases Nat.lt_or_ge j i with z | z
    · rw [pk_un (by omega)]
      by_cases e : j = t
      · subst e
        rw [pk_us, pb_pv_z (by rw [pb_up_n (by omega)]; exact hz), hct]
      · rw [pk_un e, pk_un (by omega), h3 j z]
        unfold pb_pv
        rw [hcv j e, pb_up_n (by omega), pb_up_n (by omega)]
    · rw [show j = i by omega, pk_us, pb_pv_n (by rw [pb_up_s]; exact hne), pb_up_s]
  · by_cases e : j = t
    · subst e
      rw [pk_us, hct]
    · rw [pk_un e, hcv j e]
      rcases Nat.lt_or_ge j i with z | z
      · rw [pk_un (by omega)]
        exact h4 j z
      · rw [show j = i by omega, pk_us, pb_cv_self h1]
theorem pb_red_ex {i : Nat} {P R lo : Nat → Nat} (hS : pb_Sol i P R lo) : ∀ t c, (∀ j, t ≤ j → c.testBit j = false) → pb_Sp (pb_V P (pb_pop (P i))) i (c ^^^ pb_col P i) → ∃ c2 x, pb_Sp (pb_V P (pb_pop (P i))) i (c2 ^^^ pb_col P i) ∧ (c2 ≠ 0 → pb_Top c2 x ∧ ∀ b, b < i → R b ≠ 0 → lo b ≠ x) := by
  intro t
  induction t with
  | zero =>
    intro c hb hc
    refine ⟨c, 0, hc, fun z => absurd ?_ z⟩
    apply Nat.eq_of_testBit_eq
    intro j
    rw [hb j (Nat.zero_le j), Nat.zero_testBit]
  | succ t ih =>
    intro c hb hc
    cases hbit : c.testBit t
    · exact ih c (fun j hj => by
        rcases Nat.lt_or_ge t j with z | z
        · exact hb j (by omega)
        · rw [show j = t by omega]
          exact hbit) hc
    · have ht : pb_Top c t := ⟨hbit, fun j hj => hb j (by omega)⟩
      by_cases h : ∃ b, b < i ∧ R b ≠ 0 ∧ lo b = t
      · obtain ⟨b, hb1, hb2, rfl⟩ := h
        obtain ⟨h3, h4⟩ := pb_red_step hS hc hb1 hb2 ht
        exact ih _ h4 h3
      · exact ⟨c, t, hc, fun _ => ⟨ht, fun b h1 h2 h3 => h ⟨b, h1, h2, h3⟩⟩⟩
theorem pb_Sol_ex {P : Nat → Nat} (n : Nat) : ∃ R lo, pb_Sol n P R lo := by
  induction n with
  | zero => exact ⟨fun _ => 0, fun _ => 0, pb_sol_0 _ _ _⟩
  | succ n ih =>
    obtain ⟨R, lo, hS⟩ := ih
    obtain ⟨c, x, h1, h2⟩ := pb_red_ex hS n (pb_col P n) (fun j hj => by rw [pb_col_bit, decide_eq_false (show ¬ j < n by omega)]; rfl) (pb_red_0 P n)
    exact ⟨_, _, pb_sol_add hS h1 h2⟩
/-- from the top down: what is left of a chain -/
def pb_Dn (n : Nat) (R : Nat → Nat) (ch x rv : Nat) : Prop := pb_Sp R n (rv ^^^ ch) ∧ rv < 2 ^ x
theorem pb_Dn_0 {n ch : Nat} (R : Nat → Nat) (h : ch < 2 ^ n) : pb_Dn n R ch n ch := by
  refine ⟨?_, h⟩
  rw [Nat.xor_self]
  exact pb_sp0
theorem pb_Dn_skip {n y ch rv : Nat} {R : Nat → Nat} (h : pb_Dn n R ch (y + 1) rv) (hb : rv.testBit y = false) : pb_Dn n R ch y rv := by
  refine ⟨h.1, Nat.lt_pow_two_of_testBit _ fun j hj => ?_⟩
  rcases Nat.lt_or_ge y j with z | z
  · exact Nat.testBit_lt_two_pow (Nat.lt_of_lt_of_le h.2 (Nat.pow_le_pow_right (by decide) (by omega)))
  · rw [show j = y by omega]
    exact hb
theorem pb_Dn_top {n y ch rv : Nat} {R : Nat → Nat} (h : pb_Dn n R ch (y + 1) rv) (hb : rv.testBit y = true) : pb_Top rv y := ⟨hb, fun j hj => Nat.testBit_lt_two_pow (Nat.lt_of_lt_of_le h.2 (Nat.pow_le_pow_right (by decide) (by omega)))⟩
theorem pb_Dn_add {n y ch rv b : Nat} {R lo : Nat → Nat} (hE : pb_Ech R lo n) (h : pb_Dn n R ch (y + 1) rv) (hb : rv.testBit y = true) (hb1 : b < n) (hb2 : R b ≠ 0) (hb3 : lo b = y) : pb_Dn n R ch y (rv ^^^ R b) := by
  have ht := pb_Dn_top h hb
  have hT := hE.1 b hb1 hb2
  rw [hb3] at hT
  refine ⟨?_, Nat.lt_pow_two_of_testBit _ fun j hj => ?_⟩
  · have h3 := pb_spx h.1 (pb_spg (V := R) hb1)
    rwa [pb_x3] at h3
  · rw [Nat.testBit_xor]
    rcases Nat.lt_or_ge y j with z | z
    · rw [ht.2 j z, hT.2 j z]
      rfl
    · rw [show j = y by omega, hb, hT.1]
      rfl
theorem pb_Dn_out {n y ch rv : Nat} {R lo : Nat → Nat} (hE : pb_Ech R lo n) (h : pb_Dn n R ch (y + 1) rv) (hb : rv.testBit y = true) (hno : ∀ b, b < n → R b ≠ 0 → lo b ≠ y) : ¬ pb_Sp R n ch := by
  intro z
  have h3 := pb_spx h.1 z
  rw [pb_xa] at h3
  exact pb_ech_out hE (pb_Dn_top h hb) hno h3
theorem pb_Dn_end {n ch rv : Nat} {R : Nat → Nat} (h : pb_Dn n R ch 0 rv) : pb_Sp R n ch := by
  have e : rv = 0 := by have := h.2; omega
  have h1 := h.1
  rw [e, Nat.zero_xor] at h1
  exact h1
theorem pb_XR_q {n : Nat} {P R lo : Nat → Nat} {a0 a1 a2 a3 a4 : Nat → Int32} (h0 : ∀ i, i < n → a0 i = nI (P i)) (h1 : ∀ q, q < 64 → pb_At n P q (-2) (a1 q)) (hS : pb_SX n P R lo a2 a3 a4) : pb_XR n P a0 a1 a2 a3 a4 (nI n) := ⟨h0, h1, n, R, lo, Nat.le_refl n, rfl, hS⟩
end
section
/-! PersistentBars: what changes the pieces, and the reduction -/
set_option maxHeartbeats 4000000 in
set_option maxRecDepth 100000 in
theorem ct_X0_enter (l : Launch) (D : va_G) (d : ClassId) (sg : Nat → Nat) (n : Nat) (P : Nat → Nat) (a0 a1 a2 a3 a4 : Nat → Int32) (sv : Int32) (hn : pb_Nd sg 6) (hC : pb_Cx n P) (h0 : ∀ i, i < n → a0 i = nI (P i)) (h1 : ∀ q, q < 64 → pb_At n P q (-2) (a1 q)) (q : Nat) (hn26 : n < 26) (hq : q < 64) : Met l yX0_enter (ws_ yX0_enter cX0_enter 2 none) (pb_ro 0) (va_Pc [.ref (sg 0), .int (nI q)] (pb_B D d (pb_xW sg d a0 a1 a2 a3 a4 (nI n) sv))) (pb_Qn (pb_A sg 6) (va_P D pb_cl (pb_xW sg d (upd a0 n (nI q)) (upd a1 q (nI n)) a2 a3 a4 (nI (n + 1)) sv))) 0 0 (pb_A sg 6) := by
  refine pb_met RX0 (by decide) rfl (Nat.le_of_ble_eq_true rfl) rfl ?_
  intro p e s m below meth c ls C hnm hB hl
  obtain ⟨hx, hb, hml, hr, hown, hlk, hts⟩ := id C
  obtain ⟨hP, hK⟩ := hB
  have hl : lv_has ls 2 [(0, .ref (sg 0)), (1, .int (nI q))] := hl
  have hS : va_S (pb_A sg 6) s.heap s.heap [] := va_S.rf
  refine lv_aload_n hx hb dX0_enter_0 rfl (lv_at hl 0 rfl) ?_
  refine pb_gX0 C hK hP dX0_enter_1 ?_
  refine lv_aload_n hx hb dX0_enter_4 rfl (lv_at hl 0 rfl) ?_
  refine pb_gX5 C hK hP dX0_enter_5 ?_
  refine lv_iload_n hx hb dX0_enter_8 rfl (lv_at hl 1 rfl) ?_
  refine pb_ast C hK hP (pb_Dof hn rfl) hS 1 rfl hn26 (by decide) dX0_enter_9 (fun H locs hP hS => ?_)
  have hP : va_P D pb_cl (pb_xW sg d (upd a0 n (nI q)) a1 a2 a3 a4 (nI n) sv) H := hP
  refine lv_aload_n hx hb dX0_enter_10 rfl (lv_at hl 0 rfl) ?_
  refine pb_gX1 C hK hP dX0_enter_11 ?_
  refine lv_iload_n hx hb dX0_enter_14 rfl (lv_at hl 1 rfl) ?_
  refine lv_aload_n hx hb dX0_enter_15 rfl (lv_at hl 0 rfl) ?_
  refine pb_gX5 C hK hP dX0_enter_16 ?_
  refine pb_ast C hK hP (pb_Dof hn rfl) hS 2 rfl hq (by decide) dX0_enter_19 (fun H locs hP hS => ?_)
  have hP : va_P D pb_cl (pb_xW sg d (upd a0 n (nI q)) (upd a1 q (nI n)) a2 a3 a4 (nI n) sv) H := hP
  refine lv_aload_n hx hb dX0_enter_20 rfl (lv_at hl 0 rfl) ?_
  refine lv_dup hx hb dX0_enter_21 rfl ?_
  refine pb_gX5 C hK hP dX0_enter_22 ?_
  refine lv_iconst (v := nI 1) hx hb dX0_enter_25 rfl ?_
  refine lv_iadd hx hb dX0_enter_26 ?_
  refine pb_tup (nI_add _ _) ?_
  refine pb_pX5 C hK hn hP hS dX0_enter_27 (fun H locs hP hS => ?_)
  exact pb_mvret C hS hP dX0_enter_30
set_option maxHeartbeats 4000000 in
set_option maxRecDepth 100000 in
theorem ct_X0_add (l : Launch) (D : va_G) (d : ClassId) (sg : Nat → Nat) (n : Nat) (P : Nat → Nat) (a0 a1 a2 a3 a4 : Nat → Int32) (sv : Int32) (hn : pb_Nd sg 6) (hC : pb_Cx n P) (h0 : ∀ i, i < n → a0 i = nI (P i)) (h1 : ∀ q, q < 64 → pb_At n P q (-2) (a1 q)) (m0 : Nat) (R0 lo0 : Nat → Nat) (hm0 : m0 ≤ n) (hsv : sv = nI m0) (hSX : pb_SX m0 P R0 lo0 a2 a3 a4) (x r : Int32) (n2 : Nat) (P2 : Nat → Nat) (hr9 : pb_AddS n P x r n2 P2) : Met l yX0_add (ws_ yX0_add cX0_add 2 (some .int)) (pb_ro 2) (va_Pc [.ref (sg 0), .int x] (pb_B D d (pb_xW sg d a0 a1 a2 a3 a4 (nI n) sv))) (pb_Qm (pb_A sg 6) (pb_xH D d sg n2 P2 r)) 0 0 (pb_A sg 6) := by
  refine pb_met RX0 (by decide) rfl (Nat.le_of_ble_eq_true rfl) rfl ?_
  intro p e s m below meth c ls C hnm hB hl
  obtain ⟨hx, hb, hml, hr, hown, hlk, hts⟩ := id C
  obtain ⟨hP, hK⟩ := hB
  have hl : lv_has ls 2 [(0, .ref (sg 0)), (1, .int x)] := hl
  have hS : va_S (pb_A sg 6) s.heap s.heap [] := va_S.rf
  have hn26 := hC.1
  rcases hr9 with ⟨hx1, rfl, rfl, rfl⟩ | ⟨q, hq1, hq2, hq3, rfl, hr9⟩
  · refine lv_iload_n hx hb dX0_add_0 rfl (lv_at hl 1 rfl) ?_
    refine pb_afterQ (pb_runS (As := [.int x]) (rest := []) C (ct_X0_isPiece l x false hx1) gw_X0_X0_isPiece hd_X0_isPiece ⟨rfl, rfl, Nat.le_of_ble_eq_true rfl, Nat.le_of_ble_eq_true rfl⟩ ⟨Nat.zero_le _, Nat.zero_le _⟩ hl.1 rfl (Nat.le_of_ble_eq_true rfl) dX0_add_1) ?_
    refine pb_zne (tgt := 9) hx hb dX0_add_4 (by decide) (fun c4 => absurd c4 (by decide)) (fun c4 => ?_)
    refine lv_iconst (v := (-1)) hx hb dX0_add_7 (by decide) ?_
    exact pb_miret C hS ⟨rfl, _, _, _, _, _, _, hP, h0, h1, m0, R0, lo0, hm0, hsv, hSX⟩ dX0_add_8
  · have hok : pb_okP (nI q) true := Or.inl ⟨rfl, q, hq1, hq2, hq3, rfl⟩
    rcases hr9 with ⟨⟨i, hi, hi2⟩, rfl, rfl, rfl⟩ | ⟨hnew, hs, rfl, rfl, rfl⟩ | ⟨hnew, hs, h26, rfl, rfl, rfl⟩ | ⟨hnew, hs, h26, rfl, rfl, rfl⟩
    · have ha1 : a1 q = nI i := by rcases h1 q hq2 with ⟨i2, hi3, hi4, hv⟩ | ⟨hno, _⟩; rw [hv, hC.2.2.1 i2 i hi3 hi (by rw [hi4, hi2])]; exact absurd hi2 (hno i hi)
      refine lv_iload_n hx hb dX0_add_0 rfl (lv_at hl 1 rfl) ?_
      refine pb_afterQ (pb_runS (As := [.int (nI q)]) (rest := []) C (ct_X0_isPiece l (nI q) true hok) gw_X0_X0_isPiece hd_X0_isPiece ⟨rfl, rfl, Nat.le_of_ble_eq_true rfl, Nat.le_of_ble_eq_true rfl⟩ ⟨Nat.zero_le _, Nat.zero_le _⟩ hl.1 rfl (Nat.le_of_ble_eq_true rfl) dX0_add_1) ?_
      refine pb_zne (tgt := 9) hx hb dX0_add_4 (by decide) (fun c4 => ?_) (fun c4 => absurd c4 (by decide))
      refine lv_aload_n hx hb dX0_add_9 rfl (lv_at hl 0 rfl) ?_
      refine pb_gX1 C hK hP dX0_add_10 ?_
      refine lv_iload_n hx hb dX0_add_13 rfl (lv_at hl 1 rfl) ?_
      refine pb_ald (nI i) C hK hP 2 rfl hq2 (by decide) ha1 dX0_add_14 ?_
      refine pb_clt (tgt := 21) hx hb dX0_add_15 (by decide) (by first | assumption | omega) ?_
      refine lv_bipush (v := (-2)) hx hb dX0_add_18 (by decide) ?_
      exact pb_miret C hS ⟨rfl, _, _, _, _, _, _, hP, h0, h1, m0, R0, lo0, hm0, hsv, hSX⟩ dX0_add_20
    · have ha1 : a1 q = -2 := by rcases h1 q hq2 with ⟨i2, hi3, hi4, hv⟩ | ⟨_, hv⟩; exact absurd hi4 (hnew i2 hi3); exact hv
      refine lv_iload_n hx hb dX0_add_0 rfl (lv_at hl 1 rfl) ?_
      refine pb_afterQ (pb_runS (As := [.int (nI q)]) (rest := []) C (ct_X0_isPiece l (nI q) true hok) gw_X0_X0_isPiece hd_X0_isPiece ⟨rfl, rfl, Nat.le_of_ble_eq_true rfl, Nat.le_of_ble_eq_true rfl⟩ ⟨Nat.zero_le _, Nat.zero_le _⟩ hl.1 rfl (Nat.le_of_ble_eq_true rfl) dX0_add_1) ?_
      refine pb_zne (tgt := 9) hx hb dX0_add_4 (by decide) (fun c4 => ?_) (fun c4 => absurd c4 (by decide))
      refine lv_aload_n hx hb dX0_add_9 rfl (lv_at hl 0 rfl) ?_
      refine pb_gX1 C hK hP dX0_add_10 ?_
      refine lv_iload_n hx hb dX0_add_13 rfl (lv_at hl 1 rfl) ?_
      refine pb_ald ((-2)) C hK hP 2 rfl hq2 (by decide) ha1 dX0_add_14 ?_
      refine pb_cltN (tgt := 21) hx hb dX0_add_15 (by decide) (by decide) ?_
      refine lv_aload_n hx hb dX0_add_21 rfl (lv_at hl 0 rfl) ?_
      refine lv_iload_n hx hb dX0_add_22 rfl (lv_at hl 1 rfl) ?_
      refine pb_afterQ (pb_runV (rC := (RX0, TX0, 7)) (ci := 0) (As := [.int (nI q)]) (rest := []) C (ct_X0_hasSides l D d sg n P a0 a1 a2 a3 a4 sv hC h0 h1 q ⟨hq1, hq2⟩ false (Or.inr ⟨rfl, hs⟩)) gw_X0_X0_hasSides hd_X0_hasSides ⟨rfl, rfl, Nat.le_of_ble_eq_true rfl, Nat.le_of_ble_eq_true rfl⟩ ⟨Nat.zero_le _, Nat.zero_le _⟩ hK hP rfl rfl hl.1 rfl (Nat.le_of_ble_eq_true rfl) dX0_add_23) ?_
      refine pb_zne (tgt := 32) hx hb dX0_add_26 (by decide) (fun c26 => absurd c26 (by decide)) (fun c26 => ?_)
      refine lv_bipush (v := (-3)) hx hb dX0_add_29 (by decide) ?_
      exact pb_miret C hS ⟨rfl, _, _, _, _, _, _, hP, h0, h1, m0, R0, lo0, hm0, hsv, hSX⟩ dX0_add_31
    · have ha1 : a1 q = -2 := by rcases h1 q hq2 with ⟨i2, hi3, hi4, hv⟩ | ⟨_, hv⟩; exact absurd hi4 (hnew i2 hi3); exact hv
      refine lv_iload_n hx hb dX0_add_0 rfl (lv_at hl 1 rfl) ?_
      refine pb_afterQ (pb_runS (As := [.int (nI q)]) (rest := []) C (ct_X0_isPiece l (nI q) true hok) gw_X0_X0_isPiece hd_X0_isPiece ⟨rfl, rfl, Nat.le_of_ble_eq_true rfl, Nat.le_of_ble_eq_true rfl⟩ ⟨Nat.zero_le _, Nat.zero_le _⟩ hl.1 rfl (Nat.le_of_ble_eq_true rfl) dX0_add_1) ?_
      refine pb_zne (tgt := 9) hx hb dX0_add_4 (by decide) (fun c4 => ?_) (fun c4 => absurd c4 (by decide))
      refine lv_aload_n hx hb dX0_add_9 rfl (lv_at hl 0 rfl) ?_
      refine pb_gX1 C hK hP dX0_add_10 ?_
      refine lv_iload_n hx hb dX0_add_13 rfl (lv_at hl 1 rfl) ?_
      refine pb_ald ((-2)) C hK hP 2 rfl hq2 (by decide) ha1 dX0_add_14 ?_
      refine pb_cltN (tgt := 21) hx hb dX0_add_15 (by decide) (by decide) ?_
      refine lv_aload_n hx hb dX0_add_21 rfl (lv_at hl 0 rfl) ?_
      refine lv_iload_n hx hb dX0_add_22 rfl (lv_at hl 1 rfl) ?_
      refine pb_afterQ (pb_runV (rC := (RX0, TX0, 7)) (ci := 0) (As := [.int (nI q)]) (rest := []) C (ct_X0_hasSides l D d sg n P a0 a1 a2 a3 a4 sv hC h0 h1 q ⟨hq1, hq2⟩ true (Or.inl ⟨rfl, hs⟩)) gw_X0_X0_hasSides hd_X0_hasSides ⟨rfl, rfl, Nat.le_of_ble_eq_true rfl, Nat.le_of_ble_eq_true rfl⟩ ⟨Nat.zero_le _, Nat.zero_le _⟩ hK hP rfl rfl hl.1 rfl (Nat.le_of_ble_eq_true rfl) dX0_add_23) ?_
      refine pb_zne (tgt := 32) hx hb dX0_add_26 (by decide) (fun c26 => ?_) (fun c26 => absurd c26 (by decide))
      refine lv_aload_n hx hb dX0_add_32 rfl (lv_at hl 0 rfl) ?_
      refine pb_gX5 C hK hP dX0_add_33 ?_
      refine lv_bipush (v := nI 26) hx hb dX0_add_36 rfl ?_
      refine pb_ine (tgt := 44) hx hb dX0_add_38 (by decide) (by first | assumption | omega) (by first | assumption | omega) (fun c38 => absurd h26 c38) (fun c38 => ?_)
      refine lv_bipush (v := (-4)) hx hb dX0_add_41 (by decide) ?_
      exact pb_miret C hS ⟨rfl, _, _, _, _, _, _, hP, h0, h1, m0, R0, lo0, hm0, hsv, hSX⟩ dX0_add_43
    · have ha1 : a1 q = -2 := by rcases h1 q hq2 with ⟨i2, hi3, hi4, hv⟩ | ⟨_, hv⟩; exact absurd hi4 (hnew i2 hi3); exact hv
      refine lv_iload_n hx hb dX0_add_0 rfl (lv_at hl 1 rfl) ?_
      refine pb_afterQ (pb_runS (As := [.int (nI q)]) (rest := []) C (ct_X0_isPiece l (nI q) true hok) gw_X0_X0_isPiece hd_X0_isPiece ⟨rfl, rfl, Nat.le_of_ble_eq_true rfl, Nat.le_of_ble_eq_true rfl⟩ ⟨Nat.zero_le _, Nat.zero_le _⟩ hl.1 rfl (Nat.le_of_ble_eq_true rfl) dX0_add_1) ?_
      refine pb_zne (tgt := 9) hx hb dX0_add_4 (by decide) (fun c4 => ?_) (fun c4 => absurd c4 (by decide))
      refine lv_aload_n hx hb dX0_add_9 rfl (lv_at hl 0 rfl) ?_
      refine pb_gX1 C hK hP dX0_add_10 ?_
      refine lv_iload_n hx hb dX0_add_13 rfl (lv_at hl 1 rfl) ?_
      refine pb_ald ((-2)) C hK hP 2 rfl hq2 (by decide) ha1 dX0_add_14 ?_
      refine pb_cltN (tgt := 21) hx hb dX0_add_15 (by decide) (by decide) ?_
      refine lv_aload_n hx hb dX0_add_21 rfl (lv_at hl 0 rfl) ?_
      refine lv_iload_n hx hb dX0_add_22 rfl (lv_at hl 1 rfl) ?_
      refine pb_afterQ (pb_runV (rC := (RX0, TX0, 7)) (ci := 0) (As := [.int (nI q)]) (rest := []) C (ct_X0_hasSides l D d sg n P a0 a1 a2 a3 a4 sv hC h0 h1 q ⟨hq1, hq2⟩ true (Or.inl ⟨rfl, hs⟩)) gw_X0_X0_hasSides hd_X0_hasSides ⟨rfl, rfl, Nat.le_of_ble_eq_true rfl, Nat.le_of_ble_eq_true rfl⟩ ⟨Nat.zero_le _, Nat.zero_le _⟩ hK hP rfl rfl hl.1 rfl (Nat.le_of_ble_eq_true rfl) dX0_add_23) ?_
      refine pb_zne (tgt := 32) hx hb dX0_add_26 (by decide) (fun c26 => ?_) (fun c26 => absurd c26 (by decide))
      refine lv_aload_n hx hb dX0_add_32 rfl (lv_at hl 0 rfl) ?_
      refine pb_gX5 C hK hP dX0_add_33 ?_
      refine lv_bipush (v := nI 26) hx hb dX0_add_36 rfl ?_
      refine pb_ine (tgt := 44) hx hb dX0_add_38 (by decide) (by first | assumption | omega) (by first | assumption | omega) (fun c38 => ?_) (fun c38 => absurd c38 (by omega))
      refine lv_aload_n hx hb dX0_add_44 rfl (lv_at hl 0 rfl) ?_
      refine lv_iload_n hx hb dX0_add_45 rfl (lv_at hl 1 rfl) ?_
      refine pb_afterN (pb_runV (rC := (RX0, TX0, 7)) (ci := 0) (As := [.int (nI q)]) (rest := []) C (ct_X0_enter l D d sg n P a0 a1 a2 a3 a4 sv hn hC h0 h1 q h26 hq2) gw_X0_X0_enter hd_X0_enter ⟨rfl, rfl, Nat.le_of_ble_eq_true rfl, Nat.le_of_ble_eq_true rfl⟩ ⟨Nat.zero_le _, Nat.zero_le _⟩ hK hP rfl rfl hl.1 rfl (Nat.le_of_ble_eq_true rfl) dX0_add_46) hS (fun _ z => z) (fun H locs hq hfr hS => ?_)
      have hP : va_P D pb_cl (pb_xW sg d (upd a0 n (nI q)) (upd a1 q (nI n)) a2 a3 a4 (nI (n + 1)) sv) H := hq
      refine lv_aload_n hx hb dX0_add_49 rfl (lv_at hl 0 rfl) ?_
      refine pb_gX5 C hK hP dX0_add_50 ?_
      refine lv_iconst (v := nI 1) hx hb dX0_add_53 rfl ?_
      refine lv_isub hx hb dX0_add_54 ?_
      refine pb_top (nI (n + 1 - 1)) (pk_sub (by omega)) ?_
      exact pb_miret C hS ⟨by rw [Nat.add_sub_cancel], _, _, _, _, _, _, hP, pb_upd_P h0, pb_At_add h1 hnew, m0, R0, lo0, by omega, hsv, pb_SX_congr (fun j hj => (pb_up_n (by omega)).symm) hSX⟩ dX0_add_55
set_option maxHeartbeats 4000000 in
set_option maxRecDepth 100000 in
theorem ct_X0_undo (l : Launch) (D : va_G) (d : ClassId) (sg : Nat → Nat) (n : Nat) (P : Nat → Nat) (a0 a1 a2 a3 a4 : Nat → Int32) (sv : Int32) (hn : pb_Nd sg 6) (hC : pb_Cx n P) (h0 : ∀ i, i < n → a0 i = nI (P i)) (h1 : ∀ q, q < 64 → pb_At n P q (-2) (a1 q)) (m0 : Nat) (R0 lo0 : Nat → Nat) (hm0 : m0 ≤ n) (hsv : sv = nI m0) (hSX : pb_SX m0 P R0 lo0 a2 a3 a4) (r : Int32) (n2 : Nat) (hr9 : pb_UndoS n P r n2) : Met l yX0_undo (ws_ yX0_undo cX0_undo 1 (some .int)) (pb_ro 0) (va_Pc [.ref (sg 0)] (pb_B D d (pb_xW sg d a0 a1 a2 a3 a4 (nI n) sv))) (pb_Qm (pb_A sg 6) (pb_xH D d sg n2 P r)) 0 0 (pb_A sg 6) := by
  refine pb_met RX0 (by decide) rfl (Nat.le_of_ble_eq_true rfl) rfl ?_
  intro p e s m below meth c ls C hnm hB hl
  obtain ⟨hx, hb, hml, hr, hown, hlk, hts⟩ := id C
  obtain ⟨hP, hK⟩ := hB
  have hl : lv_has ls 1 [(0, .ref (sg 0))] := hl
  have hS : va_S (pb_A sg 6) s.heap s.heap [] := va_S.rf
  have hn26 := hC.1
  rcases hr9 with ⟨hz, rfl, rfl⟩ | ⟨hz, rfl, rfl⟩
  · refine lv_aload_n hx hb dX0_undo_0 rfl (lv_at hl 0 rfl) ?_
    refine pb_gX5 C hK hP dX0_undo_1 ?_
    refine pb_cne (tgt := 9) hx hb dX0_undo_4 (by decide) (by first | assumption | omega) (fun c4 => absurd hz c4) (fun c4 => ?_)
    refine lv_iconst (v := (-1)) hx hb dX0_undo_7 (by decide) ?_
    exact pb_miret C hS (by subst hz; exact ⟨rfl, _, _, _, _, _, _, hP, h0, h1, m0, R0, lo0, hm0, hsv, hSX⟩) dX0_undo_8
  · subst hsv
    have hPn := pb_cx_pop hC (i := n - 1) (by omega)
    refine lv_aload_n hx hb dX0_undo_0 rfl (lv_at hl 0 rfl) ?_
    refine pb_gX5 C hK hP dX0_undo_1 ?_
    refine pb_cne (tgt := 9) hx hb dX0_undo_4 (by decide) (by first | assumption | omega) (fun c4 => ?_) (fun c4 => absurd c4 (by omega))
    refine lv_aload_n hx hb dX0_undo_9 rfl (lv_at hl 0 rfl) ?_
    refine lv_dup hx hb dX0_undo_10 rfl ?_
    refine pb_gX5 C hK hP dX0_undo_11 ?_
    refine lv_iconst (v := nI 1) hx hb dX0_undo_14 rfl ?_
    refine lv_isub hx hb dX0_undo_15 ?_
    refine pb_top (nI (n - 1)) (pk_sub (by omega)) ?_
    refine pb_pX5 C hK hn hP hS dX0_undo_16 (fun H locs hP hS => ?_)
    refine lv_aload_n hx hb dX0_undo_19 rfl (lv_at hl 0 rfl) ?_
    refine pb_gX1 C hK hP dX0_undo_20 ?_
    refine lv_aload_n hx hb dX0_undo_23 rfl (lv_at hl 0 rfl) ?_
    refine pb_gX0 C hK hP dX0_undo_24 ?_
    refine lv_aload_n hx hb dX0_undo_27 rfl (lv_at hl 0 rfl) ?_
    refine pb_gX5 C hK hP dX0_undo_28 ?_
    refine pb_ald (nI (P (n - 1))) C hK hP 1 rfl (by omega) (by decide) (h0 (n - 1) (by omega)) dX0_undo_31 ?_
    refine lv_bipush (v := (-2)) hx hb dX0_undo_32 (by decide) ?_
    refine pb_ast C hK hP (pb_Dof hn rfl) hS 2 rfl (by omega) (by decide) dX0_undo_34 (fun H locs hP hS => ?_)
    have hP : va_P D pb_cl (pb_xW sg d a0 (upd a1 (P (n - 1)) (-2)) a2 a3 a4 (nI (n - 1)) (nI m0)) H := hP
    refine lv_aload_n hx hb dX0_undo_35 rfl (lv_at hl 0 rfl) ?_
    refine lv_aload_n hx hb dX0_undo_36 rfl (lv_at hl 0 rfl) ?_
    refine pb_gX6 C hK hP dX0_undo_37 ?_
    refine lv_aload_n hx hb dX0_undo_40 rfl (lv_at hl 0 rfl) ?_
    refine pb_gX5 C hK hP dX0_undo_41 ?_
    refine pb_ile (tgt := 51) hx hb dX0_undo_44 (by decide) (by first | assumption | omega) (by first | assumption | omega) (fun c44 => ?_) (fun c44 => ?_)
    · refine lv_aload_n hx hb dX0_undo_51 rfl (lv_at hl 0 rfl) ?_
      refine pb_gX6 C hK hP dX0_undo_52 ?_
      refine pb_pX6 C hK hn hP hS dX0_undo_55 (fun H locs hP hS => ?_)
      refine lv_aload_n hx hb dX0_undo_58 rfl (lv_at hl 0 rfl) ?_
      refine pb_gX0 C hK hP dX0_undo_59 ?_
      refine lv_aload_n hx hb dX0_undo_62 rfl (lv_at hl 0 rfl) ?_
      refine pb_gX5 C hK hP dX0_undo_63 ?_
      refine pb_ald (nI (P (n - 1))) C hK hP 1 rfl (by omega) (by decide) (h0 (n - 1) (by omega)) dX0_undo_66 ?_
      exact pb_miret C hS ⟨rfl, _, _, _, _, _, _, hP, fun i h => h0 i (by omega), pb_At_undo hC hz h1, m0, R0, lo0, c44, rfl, hSX⟩ dX0_undo_67
    · refine lv_iconst (v := nI 0) hx hb dX0_undo_47 rfl ?_
      refine lv_goto (tgt := 55) hx hb dX0_undo_48 (by decide) ?_
      refine pb_pX6 C hK hn hP hS dX0_undo_55 (fun H locs hP hS => ?_)
      refine lv_aload_n hx hb dX0_undo_58 rfl (lv_at hl 0 rfl) ?_
      refine pb_gX0 C hK hP dX0_undo_59 ?_
      refine lv_aload_n hx hb dX0_undo_62 rfl (lv_at hl 0 rfl) ?_
      refine pb_gX5 C hK hP dX0_undo_63 ?_
      refine pb_ald (nI (P (n - 1))) C hK hP 1 rfl (by omega) (by decide) (h0 (n - 1) (by omega)) dX0_undo_66 ?_
      exact pb_miret C hS ⟨rfl, _, _, _, _, _, _, hP, fun i h => h0 i (by omega), pb_At_undo hC hz h1, 0, R0, lo0, Nat.zero_le _, rfl, pb_SX_0 _ _ _ _ _ _⟩ dX0_undo_67
set_option maxHeartbeats 4000000 in
set_option maxRecDepth 100000 in
theorem ct_X0_fill (l : Launch) (D : va_G) (d : ClassId) (sg : Nat → Nat) (n : Nat) (P : Nat → Nat) (a0 a1 a2 a3 a4 : Nat → Int32) (sv : Int32) (hn : pb_Nd sg 6) (hC : pb_Cx n P) (h0 : ∀ i, i < n → a0 i = nI (P i)) (h1 : ∀ q, q < 64 → pb_At n P q (-2) (a1 q)) (m0 : Nat) (R0 lo0 : Nat → Nat) (hm0 : m0 ≤ n) (hsv : sv = nI m0) (hSX : pb_SX m0 P R0 lo0 a2 a3 a4) (x r : Int32) (n2 : Nat) (P2 : Nat → Nat) (hr9 : pb_FillS n P x r n2 P2) : Met l yX0_fill (ws_ yX0_fill cX0_fill 4 (some .int)) (pb_ro 2) (va_Pc [.ref (sg 0), .int x] (pb_B D d (pb_xW sg d a0 a1 a2 a3 a4 (nI n) sv))) (pb_Qm (pb_A sg 6) (pb_xH D d sg n2 P2 r)) 0 0 (pb_A sg 6) := by
  refine pb_met RX0 (by decide) rfl (Nat.le_of_ble_eq_true rfl) rfl ?_
  intro p e s m below meth c ls C hnm hB hl
  obtain ⟨hx, hb, hml, hr, hown, hlk, hts⟩ := id C
  obtain ⟨hP, hK⟩ := hB
  have hl : lv_has ls 4 [(0, .ref (sg 0)), (1, .int x)] := hl
  have hS : va_S (pb_A sg 6) s.heap s.heap [] := va_S.rf
  have hn26 := hC.1
  rcases hr9 with ⟨hx1, rfl, rfl, rfl⟩ | ⟨q, hq1, hq2, hq3, rfl, hr9⟩
  · refine lv_iload_n hx hb dX0_fill_0 rfl (lv_at hl 1 rfl) ?_
    refine pb_afterQ (pb_runS (As := [.int x]) (rest := []) C (ct_X0_isPiece l x false hx1) gw_X0_X0_isPiece hd_X0_isPiece ⟨rfl, rfl, Nat.le_of_ble_eq_true rfl, Nat.le_of_ble_eq_true rfl⟩ ⟨Nat.zero_le _, Nat.zero_le _⟩ hl.1 rfl (Nat.le_of_ble_eq_true rfl) dX0_fill_1) ?_
    refine pb_zne (tgt := 9) hx hb dX0_fill_4 (by decide) (fun c4 => absurd c4 (by decide)) (fun c4 => ?_)
    refine lv_iconst (v := (-1)) hx hb dX0_fill_7 (by decide) ?_
    exact pb_miret C hS ⟨rfl, _, _, _, _, _, _, hP, h0, h1, m0, R0, lo0, hm0, hsv, hSX⟩ dX0_fill_8
  · have hok : pb_okP (nI q) true := Or.inl ⟨rfl, q, hq1, hq2, hq3, rfl⟩
    have hf0 : ¬ pb_fr n P q 0 = true := fun z => absurd (pb_fr_i.mp z).1 (by decide)
    have hf1 : pb_fn n P q 1 = 0 := by rw [pb_fn_n hf0]; rfl
    have hbf1 : ∀ i, i < n + 0 → a0 i = nI (pb_fP n P q 1 i) := by rw [pb_fP_n hf0]; exact h0
    have hbf2 : ∀ q2, q2 < 64 → pb_At (n + 0) (pb_fP n P q 1) q2 (-2) (a1 q2) := by rw [pb_fP_n hf0]; exact h1
    refine lv_iload_n hx hb dX0_fill_0 rfl (lv_at hl 1 rfl) ?_
    refine pb_afterQ (pb_runS (As := [.int (nI q)]) (rest := []) C (ct_X0_isPiece l (nI q) true hok) gw_X0_X0_isPiece hd_X0_isPiece ⟨rfl, rfl, Nat.le_of_ble_eq_true rfl, Nat.le_of_ble_eq_true rfl⟩ ⟨Nat.zero_le _, Nat.zero_le _⟩ hl.1 rfl (Nat.le_of_ble_eq_true rfl) dX0_fill_1) ?_
    refine pb_zne (tgt := 9) hx hb dX0_fill_4 (by decide) (fun c4 => ?_) (fun c4 => absurd c4 (by decide))
    refine lv_iconst (v := nI 0) hx hb dX0_fill_9 rfl ?_
    refine lv_istore_n (lv' := [(2, .int (nI 0)), (0, .ref (sg 0)), (1, .int (nI q))]) hx hb dX0_fill_10 rfl hl (by decide) rfl (fun ls hl => ?_)
    refine lv_iconst (v := nI 1) hx hb dX0_fill_11 rfl ?_
    refine lv_istore_n (lv' := [(3, .int (nI 1)), (2, .int (nI 0)), (0, .ref (sg 0)), (1, .int (nI q))]) hx hb dX0_fill_12 rfl hl (by decide) rfl (fun ls hl => ?_)
    have hl : lv_has ls 4 [(3, .int (nI 1)), (2, .int (nI (pb_fn n P q 1))), (0, .ref (sg 0)), (1, .int (nI q))] := by have e9 : nI 0 = nI (pb_fn n P q 1) := (by rw [hf1]); rw [← e9]; exact hl
    have loop13 : ∀ (k13 : Nat) (x : Nat) (ls : Array Slot), (q + 1 < x + k13) → (1 ≤ x) → (x ≤ q + 1) → lv_has ls 4 [(0, .ref (sg 0)), (1, .int (nI q)), (2, .int (nI (pb_fn n P q x))), (3, .int (nI x))] → W p l e (pb_ro 2) s m ([.ref (sg 0), .int (nI q)] : List Value).toArray below meth c s.heap [] 0 0 (MQ below (pb_Qm (pb_A sg 6) (pb_xH D d sg n2 P2 r)) ([.ref (sg 0), .int (nI q)] : List Value).toArray s 0 0 (pb_A sg 6)) (F0 m 13 ls []) := by
      intro k13
      induction k13 with
      | zero =>
        intro x ls hk hx1 hx3 hl
        omega
      | succ k13 ih13 =>
        intro x ls hk hx1 hx3 hl
        have hfx := pb_fn_le (n := n) (P := P) (q := q) x
        refine lv_iload_n hx hb dX0_fill_13 rfl (lv_at hl 3 rfl) ?_
        refine lv_iload_n hx hb dX0_fill_14 rfl (lv_at hl 1 rfl) ?_
        refine pb_igt (tgt := 49) hx hb dX0_fill_15 (by decide) (by first | assumption | omega) (by first | assumption | omega) (fun c15 => ?_) (fun c15 => ?_)
        · have ex : x = q + 1 := by omega
          have hl : lv_has ls 4 [(0, .ref (sg 0)), (1, .int (nI q)), (2, .int (nI (pb_fn n P q (q + 1)))), (3, .int (nI x))] := by have e9 : nI (pb_fn n P q x) = nI (pb_fn n P q (q + 1)) := (by rw [ex]); rw [← e9]; exact hl
          have hfl := pb_fn_le (n := n) (P := P) (q := q) (q + 1)
          rcases hr9 with ⟨hbig, rfl, rfl, rfl⟩ | ⟨hfit, rfl, rfl, rfl⟩
          · refine lv_aload_n hx hb dX0_fill_49 rfl (lv_at hl 0 rfl) ?_
            refine pb_gX5 C hK hP dX0_fill_50 ?_
            refine lv_iload_n hx hb dX0_fill_53 rfl (lv_at hl 2 rfl) ?_
            refine lv_iadd hx hb dX0_fill_54 ?_
            refine pb_tup (nI_add _ _) ?_
            refine lv_bipush (v := nI 26) hx hb dX0_fill_55 rfl ?_
            refine pb_ile (tgt := 63) hx hb dX0_fill_57 (by decide) (by first | assumption | omega) (by first | assumption | omega) (fun c57 => absurd c57 (by omega)) (fun c57 => ?_)
            refine lv_bipush (v := (-2)) hx hb dX0_fill_60 (by decide) ?_
            exact pb_miret C hS ⟨rfl, _, _, _, _, _, _, hP, h0, h1, m0, R0, lo0, hm0, hsv, hSX⟩ dX0_fill_62
          · refine lv_aload_n hx hb dX0_fill_49 rfl (lv_at hl 0 rfl) ?_
            refine pb_gX5 C hK hP dX0_fill_50 ?_
            refine lv_iload_n hx hb dX0_fill_53 rfl (lv_at hl 2 rfl) ?_
            refine lv_iadd hx hb dX0_fill_54 ?_
            refine pb_tup (nI_add _ _) ?_
            refine lv_bipush (v := nI 26) hx hb dX0_fill_55 rfl ?_
            refine pb_ile (tgt := 63) hx hb dX0_fill_57 (by decide) (by first | assumption | omega) (by first | assumption | omega) (fun c57 => ?_) (fun c57 => absurd c57 (by omega))
            refine lv_iconst (v := nI 1) hx hb dX0_fill_63 rfl ?_
            refine lv_istore_n (lv' := [(3, .int (nI 1)), (0, .ref (sg 0)), (1, .int (nI q)), (2, .int (nI (pb_fn n P q (q + 1))))]) hx hb dX0_fill_64 rfl hl (by decide) rfl (fun ls hl => ?_)
            have hP : va_P D pb_cl (pb_xW sg d a0 a1 a2 a3 a4 (nI (n + pb_fn n P q 1)) sv) s.heap := by rw [hf1]; exact hP
            have loop65 : ∀ (k65 : Nat) (x : Nat) (a0 : Nat → Int32) (a1 : Nat → Int32) (ls : Array Slot) (H : Heap) (locs : List Loc), (q + 1 < x + k65) → (1 ≤ x) → (x ≤ q + 1) → (n + pb_fn n P q x ≤ 26) → (∀ i, i < n + pb_fn n P q x → a0 i = nI (pb_fP n P q x i)) → (∀ q2, q2 < 64 → pb_At (n + pb_fn n P q x) (pb_fP n P q x) q2 (-2) (a1 q2)) → va_P D pb_cl (pb_xW sg d a0 a1 a2 a3 a4 (nI (n + pb_fn n P q x)) sv) H → va_S (pb_A sg 6) s.heap H locs → lv_has ls 4 [(0, .ref (sg 0)), (1, .int (nI q)), (3, .int (nI x))] → W p l e (pb_ro 2) s m ([.ref (sg 0), .int (nI q)] : List Value).toArray below meth c H locs 0 0 (MQ below (pb_Qm (pb_A sg 6) (pb_xH D d sg (n + pb_fn n P q (q + 1)) (pb_fP n P q (q + 1)) (nI (n + pb_fn n P q (q + 1))))) ([.ref (sg 0), .int (nI q)] : List Value).toArray s 0 0 (pb_A sg 6)) (F0 m 65 ls []) := by
              intro k65
              induction k65 with
              | zero =>
                intro x a0 a1 ls H locs hk hx2 hx3 hle h0x h1x hP hS hl
                omega
              | succ k65 ih65 =>
                intro x a0 a1 ls H locs hk hx2 hx3 hle h0x h1x hP hS hl
                have hCx := pb_fP_cx hC hq2 hq3 x hle
                refine lv_iload_n hx hb dX0_fill_65 rfl (lv_at hl 2 rfl) ?_
                refine lv_iload_n hx hb dX0_fill_66 rfl (lv_at hl 1 rfl) ?_
                refine pb_igt (tgt := 98) hx hb dX0_fill_67 (by decide) (by first | assumption | omega) (by first | assumption | omega) (fun c67 => ?_) (fun c67 => ?_)
                · refine lv_aload_n hx hb dX0_fill_98 rfl (lv_at hl 0 rfl) ?_
                  refine pb_gX5 C hK hP dX0_fill_99 ?_
                  exact pb_miret C hS (by have ex : x = q + 1 := (by omega); subst ex; exact ⟨rfl, _, _, _, _, _, _, hP, h0x, h1x, m0, R0, lo0, by omega, hsv, pb_SX_congr (fun j hj => ((pb_fP_in _).1 j (by omega)).symm) hSX⟩) dX0_fill_102
                · refine lv_iload_n hx hb dX0_fill_70 rfl (lv_at hl 2 rfl) ?_
                  refine lv_iload_n hx hb dX0_fill_71 rfl (lv_at hl 1 rfl) ?_
                  refine lv_iconst (v := (-1)) hx hb dX0_fill_72 (by decide) ?_
                  refine lv_ixor hx hb dX0_fill_73 ?_
                  refine lv_iand hx hb dX0_fill_74 ?_
                  refine pb_top (nI (x - (x &&& q))) (pb_andn q hq2 x (by omega)) ?_
                  refine pb_cne (tgt := 92) hx hb dX0_fill_75 (by decide) (by omega) (fun c75 => ?_) (fun c75 => ?_)
                  · have hnf : ¬ pb_fr n P q x = true := fun z => c75 (by rw [(pb_fr_i.mp z).2.1]; omega)
                    refine lv_iinc (v := nI (x + 1)) (lv' := [(3, .int (nI (x + 1))), (0, .ref (sg 0)), (1, .int (nI q))]) hx hb dX0_fill_92 hl (k := 2) rfl (nI_1 _) (by decide) rfl (fun ls hl => ?_)
                    refine lv_goto (tgt := 65) hx hb dX0_fill_95 (by decide) ?_
                    rw [← pb_fn_n hnf] at hP
                    exact ih65 (x + 1) a0 a1 ls _ _ (by omega) (by omega) (by omega) (by rw [pb_fn_n hnf]; exact hle) (by rw [pb_fn_n hnf, pb_fP_n hnf]; exact h0x) (by rw [pb_fn_n hnf, pb_fP_n hnf]; exact h1x) hP hS (lv_sub hl [1, 2, 0] rfl)
                  · have hsub : x &&& q = x := by have := Nat.and_le_left (n := x) (m := q); omega
                    refine lv_aload_n hx hb dX0_fill_78 rfl (lv_at hl 0 rfl) ?_
                    refine pb_gX1 C hK hP dX0_fill_79 ?_
                    refine lv_iload_n hx hb dX0_fill_82 rfl (lv_at hl 2 rfl) ?_
                    refine pb_ald (a1 x) C hK hP 2 rfl (by omega) (by decide) rfl dX0_fill_83 ?_
                    rcases h1x x (by omega) with ⟨i0, hi0, hi1, hv⟩ | ⟨hno, hv⟩
                    · refine pb_top (nI i0) hv ?_
                      have hnf : ¬ pb_fr n P q x = true := fun z => pb_fP_new.mpr (pb_fr_i.mp z).2.2 i0 hi0 hi1
                      refine pb_cge (tgt := 92) hx hb dX0_fill_84 (by decide) (by first | assumption | omega) ?_
                      refine lv_iinc (v := nI (x + 1)) (lv' := [(3, .int (nI (x + 1))), (0, .ref (sg 0)), (1, .int (nI q))]) hx hb dX0_fill_92 hl (k := 2) rfl (nI_1 _) (by decide) rfl (fun ls hl => ?_)
                      refine lv_goto (tgt := 65) hx hb dX0_fill_95 (by decide) ?_
                      rw [← pb_fn_n hnf] at hP
                      exact ih65 (x + 1) a0 a1 ls _ _ (by omega) (by omega) (by omega) (by rw [pb_fn_n hnf]; exact hle) (by rw [pb_fn_n hnf, pb_fP_n hnf]; exact h0x) (by rw [pb_fn_n hnf, pb_fP_n hnf]; exact h1x) hP hS (lv_sub hl [1, 2, 0] rfl)
                    · refine pb_top ((-2)) hv ?_
                      have hf : pb_fr n P q x = true := pb_fr_i.mpr ⟨hx2, hsub, pb_fP_new.mp hno⟩
                      have hup : pb_fn n P q (x + 1) ≤ pb_fn n P q (q + 1) := pb_fn_mono (by omega)
                      rw [pb_fn_y hf] at hup
                      refine pb_cgeN (tgt := 92) hx hb dX0_fill_84 (by decide) (by decide) ?_
                      refine lv_aload_n hx hb dX0_fill_87 rfl (lv_at hl 0 rfl) ?_
                      refine lv_iload_n hx hb dX0_fill_88 rfl (lv_at hl 2 rfl) ?_
                      refine pb_afterN (pb_runV (rC := (RX0, TX0, 7)) (ci := 0) (As := [.int (nI x)]) (rest := []) C (ct_X0_enter l D d sg (n + pb_fn n P q x) (pb_fP n P q x) a0 a1 a2 a3 a4 sv hn hCx h0x h1x x (by omega) (by omega)) gw_X0_X0_enter hd_X0_enter ⟨rfl, rfl, Nat.le_of_ble_eq_true rfl, Nat.le_of_ble_eq_true rfl⟩ ⟨Nat.zero_le _, Nat.zero_le _⟩ hK hP rfl rfl hl.1 rfl (Nat.le_of_ble_eq_true rfl) dX0_fill_89) hS (fun _ z => z) (fun H locs hq hfr hS => ?_)
                      have hP : va_P D pb_cl (pb_xW sg d (upd a0 (n + pb_fn n P q x) (nI x)) (upd a1 x (nI (n + pb_fn n P q x))) a2 a3 a4 (nI (n + pb_fn n P q x + 1)) sv) H := hq
                      refine lv_iinc (v := nI (x + 1)) (lv' := [(3, .int (nI (x + 1))), (0, .ref (sg 0)), (1, .int (nI q))]) hx hb dX0_fill_92 hl (k := 2) rfl (nI_1 _) (by decide) rfl (fun ls hl => ?_)
                      refine lv_goto (tgt := 65) hx hb dX0_fill_95 (by decide) ?_
                      have e8 : n + pb_fn n P q x + 1 = n + pb_fn n P q (x + 1) := by rw [pb_fn_y hf]; rfl
                      rw [e8] at hP
                      exact ih65 (x + 1) (upd a0 (n + pb_fn n P q x) (nI x)) (upd a1 x (nI (n + pb_fn n P q x))) ls _ _ (by omega) (by omega) (by omega) (by omega) (by rw [pb_fn_y hf, pb_fP_y hf]; exact pb_upd_P h0x) (by rw [pb_fn_y hf, pb_fP_y hf]; exact pb_At_add h1x hno) hP hS (lv_sub hl [1, 2, 0] rfl)
            exact loop65 (q + 1) 1 a0 a1 ls _ _ (by omega) (by omega) (by omega) (by rw [hf1]; exact hn26) (by rw [hf1]; exact hbf1) (by rw [hf1]; exact hbf2) hP hS (lv_sub hl [1, 2, 0] rfl)
        · refine lv_iload_n hx hb dX0_fill_18 rfl (lv_at hl 2 rfl) ?_
          refine lv_iload_n hx hb dX0_fill_19 rfl (lv_at hl 3 rfl) ?_
          refine lv_iload_n hx hb dX0_fill_20 rfl (lv_at hl 1 rfl) ?_
          refine lv_iconst (v := (-1)) hx hb dX0_fill_21 (by decide) ?_
          refine lv_ixor hx hb dX0_fill_22 ?_
          refine lv_iand hx hb dX0_fill_23 ?_
          refine pb_top (nI (x - (x &&& q))) (pb_andn q hq2 x (by omega)) ?_
          refine pb_cne (tgt := 40) hx hb dX0_fill_24 (by decide) (by omega) (fun c24 => ?_) (fun c24 => ?_)
          · have hnf : ¬ pb_fr n P q x = true := fun z => c24 (by rw [(pb_fr_i.mp z).2.1]; omega)
            refine lv_iconst (v := nI 0) hx hb dX0_fill_40 rfl ?_
            refine lv_iadd hx hb dX0_fill_41 ?_
            refine pb_top (nI (pb_fn n P q (x + 1))) (by rw [pb_fn_n hnf]; exact nI_add _ 0) ?_
            refine lv_istore_n (lv' := [(2, .int (nI (pb_fn n P q (x + 1)))), (0, .ref (sg 0)), (1, .int (nI q)), (3, .int (nI x))]) hx hb dX0_fill_42 rfl hl (by decide) rfl (fun ls hl => ?_)
            refine lv_iinc (v := nI (x + 1)) (lv' := [(3, .int (nI (x + 1))), (2, .int (nI (pb_fn n P q (x + 1)))), (0, .ref (sg 0)), (1, .int (nI q))]) hx hb dX0_fill_43 hl (k := 3) rfl (nI_1 _) (by decide) rfl (fun ls hl => ?_)
            refine lv_goto (tgt := 13) hx hb dX0_fill_46 (by decide) ?_
            exact ih13 (x + 1) ls (by omega) (by omega) (by omega) (lv_sub hl [2, 3, 1, 0] rfl)
          · have hsub : x &&& q = x := by have := Nat.and_le_left (n := x) (m := q); omega
            refine lv_aload_n hx hb dX0_fill_27 rfl (lv_at hl 0 rfl) ?_
            refine pb_gX1 C hK hP dX0_fill_28 ?_
            refine lv_iload_n hx hb dX0_fill_31 rfl (lv_at hl 3 rfl) ?_
            refine pb_ald (a1 x) C hK hP 2 rfl (by omega) (by decide) rfl dX0_fill_32 ?_
            rcases h1 x (by omega) with ⟨i0, hi0, hi1, hv⟩ | ⟨hno, hv⟩
            · refine pb_top (nI i0) hv ?_
              have hnf : ¬ pb_fr n P q x = true := fun z => (pb_fr_i.mp z).2.2 i0 hi0 hi1
              refine pb_cge (tgt := 40) hx hb dX0_fill_33 (by decide) (by first | assumption | omega) ?_
              refine lv_iconst (v := nI 0) hx hb dX0_fill_40 rfl ?_
              refine lv_iadd hx hb dX0_fill_41 ?_
              refine pb_top (nI (pb_fn n P q (x + 1))) (by rw [pb_fn_n hnf]; exact nI_add _ 0) ?_
              refine lv_istore_n (lv' := [(2, .int (nI (pb_fn n P q (x + 1)))), (0, .ref (sg 0)), (1, .int (nI q)), (3, .int (nI x))]) hx hb dX0_fill_42 rfl hl (by decide) rfl (fun ls hl => ?_)
              refine lv_iinc (v := nI (x + 1)) (lv' := [(3, .int (nI (x + 1))), (2, .int (nI (pb_fn n P q (x + 1)))), (0, .ref (sg 0)), (1, .int (nI q))]) hx hb dX0_fill_43 hl (k := 3) rfl (nI_1 _) (by decide) rfl (fun ls hl => ?_)
              refine lv_goto (tgt := 13) hx hb dX0_fill_46 (by decide) ?_
              exact ih13 (x + 1) ls (by omega) (by omega) (by omega) (lv_sub hl [2, 3, 1, 0] rfl)
            · refine pb_top ((-2)) hv ?_
              have hf : pb_fr n P q x = true := pb_fr_i.mpr ⟨hx1, hsub, hno⟩
              refine pb_cgeN (tgt := 40) hx hb dX0_fill_33 (by decide) (by decide) ?_
              refine lv_iconst (v := nI 1) hx hb dX0_fill_36 rfl ?_
              refine lv_goto (tgt := 41) hx hb dX0_fill_37 (by decide) ?_
              refine lv_iadd hx hb dX0_fill_41 ?_
              refine pb_top (nI (pb_fn n P q (x + 1))) (by rw [pb_fn_y hf]; exact nI_1 _) ?_
              refine lv_istore_n (lv' := [(2, .int (nI (pb_fn n P q (x + 1)))), (0, .ref (sg 0)), (1, .int (nI q)), (3, .int (nI x))]) hx hb dX0_fill_42 rfl hl (by decide) rfl (fun ls hl => ?_)
              refine lv_iinc (v := nI (x + 1)) (lv' := [(3, .int (nI (x + 1))), (2, .int (nI (pb_fn n P q (x + 1)))), (0, .ref (sg 0)), (1, .int (nI q))]) hx hb dX0_fill_43 hl (k := 3) rfl (nI_1 _) (by decide) rfl (fun ls hl => ?_)
              refine lv_goto (tgt := 13) hx hb dX0_fill_46 (by decide) ?_
              exact ih13 (x + 1) ls (by omega) (by omega) (by omega) (lv_sub hl [2, 3, 1, 0] rfl)
    exact loop13 (q + 1) 1 ls (by omega) (by omega) (by omega) (lv_sub hl [2, 3, 1, 0] rfl)
theorem pb_top_log {v : Nat} (h : v ≠ 0) : pb_Top v v.log2 := ⟨Nat.testBit_log2 h, fun j hj => Nat.testBit_lt_two_pow (Nat.lt_of_lt_of_le Nat.lt_log2_self (Nat.pow_le_pow_right (by decide) hj))⟩
/-- all pieces reduced -/
def pb_xS (D : va_G) (d : ClassId) (sg : Nat → Nat) (n : Nat) (P : Nat → Nat) (a0 a1 : Nat → Int32) : Heap → Prop := fun H => ∃ R lo a2 a3 a4, pb_SX n P R lo a2 a3 a4 ∧ va_P D pb_cl (pb_xW sg d a0 a1 a2 a3 a4 (nI n) (nI n)) H
set_option maxHeartbeats 4000000 in
set_option maxRecDepth 100000 in
/-- reduces the columns that are new -/
theorem ct_X0_solve (l : Launch) (D : va_G) (d : ClassId) (sg : Nat → Nat) (n : Nat) (P : Nat → Nat) (a0 a1 a2 a3 a4 : Nat → Int32) (sv : Int32) (hn : pb_Nd sg 6) (hC : pb_Cx n P) (h0 : ∀ i, i < n → a0 i = nI (P i)) (h1 : ∀ q, q < 64 → pb_At n P q (-2) (a1 q)) (m0 : Nat) (R0 lo0 : Nat → Nat) (hm0 : m0 ≤ n) (hsv : sv = nI m0) (hSX : pb_SX m0 P R0 lo0 a2 a3 a4) : Met l yX0_solve (ws_ yX0_solve cX0_solve 5 none) (pb_ro 1) (va_Pc [.ref (sg 0)] (pb_B D d (pb_xW sg d a0 a1 a2 a3 a4 (nI n) sv))) (pb_Qn (pb_A sg 6) (pb_xS D d sg n P a0 a1)) 0 0 (pb_A sg 6) := by
  refine pb_met RX0 (by decide) rfl (Nat.le_of_ble_eq_true rfl) rfl ?_
  intro p e s m below meth c ls C hnm hB hl
  obtain ⟨hx, hb, hml, hr, hown, hlk, hts⟩ := id C
  obtain ⟨hP, hK⟩ := hB
  have hl : lv_has ls 5 [(0, .ref (sg 0))] := hl
  have hS : va_S (pb_A sg 6) s.heap s.heap [] := va_S.rf
  have hn26 := hC.1
  subst hsv
  refine lv_aload_n hx hb dX0_solve_0 rfl (lv_at hl 0 rfl) ?_
  refine pb_gX6 C hK hP dX0_solve_1 ?_
  refine lv_istore_n (lv' := [(1, .int (nI m0)), (0, .ref (sg 0))]) hx hb dX0_solve_4 rfl hl (by decide) rfl (fun ls hl => ?_)
  have loop5 : ∀ (k5 : Nat) (i : Nat) (R : Nat → Nat) (lo : Nat → Nat) (a2 : Nat → Int32) (a3 : Nat → Int32) (a4 : Nat → Int32) (ls : Array Slot) (H : Heap) (locs : List Loc), (n < i + k5) → (i ≤ n) → (pb_SX i P R lo a2 a3 a4) → va_P D pb_cl (pb_xW sg d a0 a1 a2 a3 a4 (nI n) (nI m0)) H → va_S (pb_A sg 6) s.heap H locs → lv_has ls 5 [(0, .ref (sg 0)), (1, .int (nI i))] → W p l e (pb_ro 1) s m ([.ref (sg 0)] : List Value).toArray below meth c H locs 0 0 (MQ below (pb_Qn (pb_A sg 6) (pb_xS D d sg n P a0 a1)) ([.ref (sg 0)] : List Value).toArray s 0 0 (pb_A sg 6)) (F0 m 5 ls []) := by
    intro k5
    induction k5 with
    | zero =>
      intro i R lo a2 a3 a4 ls H locs hk hi hSX hP hS hl
      omega
    | succ k5 ih5 =>
      intro i R lo a2 a3 a4 ls H locs hk hi hSX hP hS hl
      refine lv_iload_n hx hb dX0_solve_5 rfl (lv_at hl 1 rfl) ?_
      refine lv_aload_n hx hb dX0_solve_6 rfl (lv_at hl 0 rfl) ?_
      refine pb_gX5 C hK hP dX0_solve_7 ?_
      refine pb_ige (tgt := 130) hx hb dX0_solve_10 (by decide) (by first | assumption | omega) (by first | assumption | omega) (fun c10 => ?_) (fun c10 => ?_)
      · refine lv_aload_n hx hb dX0_solve_130 rfl (lv_at hl 0 rfl) ?_
        refine lv_aload_n hx hb dX0_solve_131 rfl (lv_at hl 0 rfl) ?_
        refine pb_gX5 C hK hP dX0_solve_132 ?_
        refine pb_pX6 C hK hn hP hS dX0_solve_135 (fun H locs hP hS => ?_)
        exact pb_mvret C hS (by rw [show i = n by omega] at hSX; exact ⟨_, _, _, _, _, hSX, hP⟩) dX0_solve_138
      · refine lv_aload_n hx hb dX0_solve_13 rfl (lv_at hl 0 rfl) ?_
        refine pb_gX3 C hK hP dX0_solve_14 ?_
        refine lv_iload_n hx hb dX0_solve_17 rfl (lv_at hl 1 rfl) ?_
        refine lv_bipush (v := (-2)) hx hb dX0_solve_18 (by decide) ?_
        refine pb_ast C hK hP (pb_Dof hn rfl) hS 4 rfl (by omega) (by decide) dX0_solve_20 (fun H locs hP hS => ?_)
        have hP : va_P D pb_cl (pb_xW sg d a0 a1 a2 (upd a3 i (-2)) a4 (nI n) (nI m0)) H := hP
        refine lv_aload_n hx hb dX0_solve_21 rfl (lv_at hl 0 rfl) ?_
        refine pb_gX4 C hK hP dX0_solve_22 ?_
        refine lv_iload_n hx hb dX0_solve_25 rfl (lv_at hl 1 rfl) ?_
        refine lv_bipush (v := (-2)) hx hb dX0_solve_26 (by decide) ?_
        refine pb_ast C hK hP (pb_Dof hn rfl) hS 5 rfl (by omega) (by decide) dX0_solve_28 (fun H locs hP hS => ?_)
        have hP : va_P D pb_cl (pb_xW sg d a0 a1 a2 (upd a3 i (-2)) (upd a4 i (-2)) (nI n) (nI m0)) H := hP
        refine lv_aload_n hx hb dX0_solve_29 rfl (lv_at hl 0 rfl) ?_
        refine lv_iload_n hx hb dX0_solve_30 rfl (lv_at hl 1 rfl) ?_
        refine pb_afterQ (pb_runV (rC := (RX0, TX0, 7)) (ci := 0) (As := [.int (nI i)]) (rest := []) C (ct_X0_sidesOf l D d sg n P a0 a1 a2 (upd a3 i (-2)) (upd a4 i (-2)) (nI m0) hC h0 h1 i (by omega)) gw_X0_X0_sidesOf hd_X0_sidesOf ⟨rfl, rfl, Nat.le_of_ble_eq_true rfl, Nat.le_of_ble_eq_true rfl⟩ ⟨Nat.zero_le _, Nat.zero_le _⟩ hK hP rfl rfl hl.1 rfl (Nat.le_of_ble_eq_true rfl) dX0_solve_31) ?_
        refine lv_istore_n (lv' := [(2, .int (nI (pb_col P i))), (0, .ref (sg 0)), (1, .int (nI i))]) hx hb dX0_solve_34 rfl hl (by decide) rfl (fun ls hl => ?_)
        refine lv_iconst (v := nI 0) hx hb dX0_solve_35 rfl ?_
        refine lv_istore_n (lv' := [(3, .int (nI 0)), (2, .int (nI (pb_col P i))), (0, .ref (sg 0)), (1, .int (nI i))]) hx hb dX0_solve_36 rfl hl (by decide) rfl (fun ls hl => ?_)
        have loop37 : ∀ (k37 : Nat) (st9 : Nat) (cv : Nat) (ls : Array Slot), (26 < st9 + k37) → (st9 ≤ 26) → (pb_Sp (pb_V P (pb_pop (P i))) i (cv ^^^ pb_col P i)) → (cv < 2 ^ 26) → (∀ j, 26 - st9 ≤ j → cv.testBit j = false) → lv_has ls 5 [(0, .ref (sg 0)), (1, .int (nI i)), (2, .int (nI cv)), (3, .int (nI st9))] → W p l e (pb_ro 1) s m ([.ref (sg 0)] : List Value).toArray below meth c H locs 0 0 (MQ below (pb_Qn (pb_A sg 6) (pb_xS D d sg n P a0 a1)) ([.ref (sg 0)] : List Value).toArray s 0 0 (pb_A sg 6)) (F0 m 37 ls []) := by
          intro k37
          induction k37 with
          | zero =>
            intro st9 cv ls hk2 hst hSp hcv hlow hl
            omega
          | succ k37 ih37 =>
            intro st9 cv ls hk2 hst hSp hcv hlow hl
            refine lv_iload_n hx hb dX0_solve_37 rfl (lv_at hl 3 rfl) ?_
            refine lv_bipush (v := nI 26) hx hb dX0_solve_38 rfl ?_
            refine pb_ige (tgt := 87) hx hb dX0_solve_40 (by decide) (by first | assumption | omega) (by first | assumption | omega) (fun c40 => ?_) (fun c40 => ?_)
            · have hz : cv = 0 := by apply Nat.eq_of_testBit_eq; intro j; rw [Nat.zero_testBit]; exact hlow j (by omega)
              refine lv_aload_n hx hb dX0_solve_87 rfl (lv_at hl 0 rfl) ?_
              refine pb_gX2 C hK hP dX0_solve_88 ?_
              refine lv_iload_n hx hb dX0_solve_91 rfl (lv_at hl 1 rfl) ?_
              refine lv_iload_n hx hb dX0_solve_92 rfl (lv_at hl 2 rfl) ?_
              refine pb_ast C hK hP (pb_Dof hn rfl) hS 3 rfl (by omega) (by decide) dX0_solve_93 (fun H locs hP hS => ?_)
              have hP : va_P D pb_cl (pb_xW sg d a0 a1 (upd a2 i (nI cv)) (upd a3 i (-2)) (upd a4 i (-2)) (nI n) (nI m0)) H := hP
              refine lv_iload_n hx hb dX0_solve_94 rfl (lv_at hl 2 rfl) ?_
              refine pb_ceq (tgt := 124) hx hb dX0_solve_95 (by decide) (by first | assumption | omega) (fun c95 => ?_) (fun c95 => absurd hz c95)
              refine lv_iinc (v := nI (i + 1)) (lv' := [(1, .int (nI (i + 1))), (0, .ref (sg 0)), (2, .int (nI cv)), (3, .int (nI st9))]) hx hb dX0_solve_124 hl (k := 1) rfl (nI_1 _) (by decide) rfl (fun ls hl => ?_)
              refine lv_goto (tgt := 5) hx hb dX0_solve_127 (by decide) ?_
              rw [hz] at hP hSp
              exact ih5 (i + 1) (pb_up R i 0) (pb_up lo i 0) (upd a2 i (nI 0)) (upd a3 i (-2)) (upd a4 i (-2)) ls _ _ (by omega) (by omega) (pb_SX_z hSX hSp) hP hS (lv_sub hl [1, 0] rfl)
            · refine lv_iload_n hx hb dX0_solve_43 rfl (lv_at hl 2 rfl) ?_
              refine pb_ceq (tgt := 87) hx hb dX0_solve_44 (by decide) (by first | assumption | omega) (fun c44 => ?_) (fun c44 => ?_)
              · have hz : cv = 0 := c44
                refine lv_aload_n hx hb dX0_solve_87 rfl (lv_at hl 0 rfl) ?_
                refine pb_gX2 C hK hP dX0_solve_88 ?_
                refine lv_iload_n hx hb dX0_solve_91 rfl (lv_at hl 1 rfl) ?_
                refine lv_iload_n hx hb dX0_solve_92 rfl (lv_at hl 2 rfl) ?_
                refine pb_ast C hK hP (pb_Dof hn rfl) hS 3 rfl (by omega) (by decide) dX0_solve_93 (fun H locs hP hS => ?_)
                have hP : va_P D pb_cl (pb_xW sg d a0 a1 (upd a2 i (nI cv)) (upd a3 i (-2)) (upd a4 i (-2)) (nI n) (nI m0)) H := hP
                refine lv_iload_n hx hb dX0_solve_94 rfl (lv_at hl 2 rfl) ?_
                refine pb_ceq (tgt := 124) hx hb dX0_solve_95 (by decide) (by first | assumption | omega) (fun c95 => ?_) (fun c95 => absurd hz c95)
                refine lv_iinc (v := nI (i + 1)) (lv' := [(1, .int (nI (i + 1))), (0, .ref (sg 0)), (2, .int (nI cv)), (3, .int (nI st9))]) hx hb dX0_solve_124 hl (k := 1) rfl (nI_1 _) (by decide) rfl (fun ls hl => ?_)
                refine lv_goto (tgt := 5) hx hb dX0_solve_127 (by decide) ?_
                rw [hz] at hP hSp
                exact ih5 (i + 1) (pb_up R i 0) (pb_up lo i 0) (upd a2 i (nI 0)) (upd a3 i (-2)) (upd a4 i (-2)) ls _ _ (by omega) (by omega) (pb_SX_z hSX hSp) hP hS (lv_sub hl [1, 0] rfl)
              · refine lv_iload_n hx hb dX0_solve_47 rfl (lv_at hl 2 rfl) ?_
                have htop := pb_top_log c44
                have hti := (pb_hom hSp htop.1).1
                generalize cv.log2 = t at htop hti
                refine pb_afterQ (pb_runS (As := [.int (nI cv)]) (rest := []) C (ct_X0_lowest l cv t hcv htop) gw_X0_X0_lowest hd_X0_lowest ⟨rfl, rfl, Nat.le_of_ble_eq_true rfl, Nat.le_of_ble_eq_true rfl⟩ ⟨Nat.zero_le _, Nat.zero_le _⟩ hl.1 rfl (Nat.le_of_ble_eq_true rfl) dX0_solve_48) ?_
                refine lv_istore (lv' := [(4, .int (nI t)), (0, .ref (sg 0)), (1, .int (nI i)), (2, .int (nI cv)), (3, .int (nI st9))]) hx hb dX0_solve_51 hl (by decide) rfl (fun ls hl => ?_)
                refine lv_aload_n hx hb dX0_solve_53 rfl (lv_at hl 1 rfl) ?_
                refine pb_gX4 C hK hP dX0_solve_54 ?_
                refine lv_iload hx hb dX0_solve_57 (lv_at hl 0 rfl) ?_
                refine pb_ald (pb_cv i R lo t) C hK hP 5 rfl (by omega) (by decide) (by rw [pk_un (by omega)]; exact hSX.2.2.2 t hti) dX0_solve_59 ?_
                rcases pb_cv_c (n := i) (R := R) (lo := lo) t with ⟨hcf, hcvv⟩ | ⟨b, hb1, hb2, hb3, hb4, hcvv⟩
                · refine pb_top ((-2)) hcvv ?_
                  refine pb_cgeN (tgt := 66) hx hb dX0_solve_60 (by decide) (by decide) ?_
                  refine lv_goto (tgt := 87) hx hb dX0_solve_63 (by decide) ?_
                  refine lv_aload_n hx hb dX0_solve_87 rfl (lv_at hl 1 rfl) ?_
                  refine pb_gX2 C hK hP dX0_solve_88 ?_
                  refine lv_iload_n hx hb dX0_solve_91 rfl (lv_at hl 2 rfl) ?_
                  refine lv_iload_n hx hb dX0_solve_92 rfl (lv_at hl 3 rfl) ?_
                  refine pb_ast C hK hP (pb_Dof hn rfl) hS 3 rfl (by omega) (by decide) dX0_solve_93 (fun H locs hP hS => ?_)
                  have hP : va_P D pb_cl (pb_xW sg d a0 a1 (upd a2 i (nI cv)) (upd a3 i (-2)) (upd a4 i (-2)) (nI n) (nI m0)) H := hP
                  refine lv_iload_n hx hb dX0_solve_94 rfl (lv_at hl 3 rfl) ?_
                  refine pb_ceq (tgt := 124) hx hb dX0_solve_95 (by decide) (by first | assumption | omega) (fun c95 => absurd c95 c44) (fun c95 => ?_)
                  refine lv_iload_n hx hb dX0_solve_98 rfl (lv_at hl 3 rfl) ?_
                  refine pb_afterQ (pb_runS (As := [.int (nI cv)]) (rest := []) C (ct_X0_lowest l cv t hcv htop) gw_X0_X0_lowest hd_X0_lowest ⟨rfl, rfl, Nat.le_of_ble_eq_true rfl, Nat.le_of_ble_eq_true rfl⟩ ⟨Nat.zero_le _, Nat.zero_le _⟩ hl.1 rfl (Nat.le_of_ble_eq_true rfl) dX0_solve_99) ?_
                  refine lv_istore_n (lv' := [(3, .int (nI t)), (4, .int (nI t)), (0, .ref (sg 0)), (1, .int (nI i)), (2, .int (nI cv))]) hx hb dX0_solve_102 rfl hl (by decide) rfl (fun ls hl => ?_)
                  refine lv_aload_n hx hb dX0_solve_103 rfl (lv_at hl 2 rfl) ?_
                  refine pb_gX4 C hK hP dX0_solve_104 ?_
                  refine lv_iload_n hx hb dX0_solve_107 rfl (lv_at hl 0 rfl) ?_
                  refine lv_iload_n hx hb dX0_solve_108 rfl (lv_at hl 3 rfl) ?_
                  refine pb_ast C hK hP (pb_Dof hn rfl) hS 5 rfl (by omega) (by decide) dX0_solve_109 (fun H locs hP hS => ?_)
                  have hP : va_P D pb_cl (pb_xW sg d a0 a1 (upd a2 i (nI cv)) (upd a3 i (-2)) (upd (upd a4 i (-2)) t (nI i)) (nI n) (nI m0)) H := hP
                  refine lv_aload_n hx hb dX0_solve_110 rfl (lv_at hl 2 rfl) ?_
                  refine pb_gX3 C hK hP dX0_solve_111 ?_
                  refine lv_iload_n hx hb dX0_solve_114 rfl (lv_at hl 0 rfl) ?_
                  refine lv_iload_n hx hb dX0_solve_115 rfl (lv_at hl 3 rfl) ?_
                  refine pb_ast C hK hP (pb_Dof hn rfl) hS 4 rfl (by omega) (by decide) dX0_solve_116 (fun H locs hP hS => ?_)
                  have hP : va_P D pb_cl (pb_xW sg d a0 a1 (upd a2 i (nI cv)) (upd (upd a3 i (-2)) t (nI i)) (upd (upd a4 i (-2)) t (nI i)) (nI n) (nI m0)) H := hP
                  refine lv_aload_n hx hb dX0_solve_117 rfl (lv_at hl 2 rfl) ?_
                  refine pb_gX3 C hK hP dX0_solve_118 ?_
                  refine lv_iload_n hx hb dX0_solve_121 rfl (lv_at hl 3 rfl) ?_
                  refine lv_iload_n hx hb dX0_solve_122 rfl (lv_at hl 0 rfl) ?_
                  refine pb_ast C hK hP (pb_Dof hn rfl) hS 4 rfl (by omega) (by decide) dX0_solve_123 (fun H locs hP hS => ?_)
                  have hP : va_P D pb_cl (pb_xW sg d a0 a1 (upd a2 i (nI cv)) (upd (upd (upd a3 i (-2)) t (nI i)) i (nI t)) (upd (upd a4 i (-2)) t (nI i)) (nI n) (nI m0)) H := hP
                  refine lv_iinc (v := nI (i + 1)) (lv' := [(1, .int (nI (i + 1))), (3, .int (nI t)), (4, .int (nI t)), (0, .ref (sg 0)), (2, .int (nI cv))]) hx hb dX0_solve_124 hl (k := 3) rfl (nI_1 _) (by decide) rfl (fun ls hl => ?_)
                  refine lv_goto (tgt := 5) hx hb dX0_solve_127 (by decide) ?_
                  exact ih5 (i + 1) (pb_up R i cv) (pb_up lo i t) (upd a2 i (nI cv)) (upd (upd (upd a3 i (-2)) t (nI i)) i (nI t)) (upd (upd a4 i (-2)) t (nI i)) ls _ _ (by omega) (by omega) (pb_SX_t hC (by omega) hSX hSp htop (pb_cf_z hcf)) hP hS (lv_sub hl [3, 0] rfl)
                · refine pb_top (nI b) hcvv ?_
                  obtain ⟨hr1, hr2⟩ := pb_red_step hSX.1 hSp hb1 hb2 (by rw [hb3]; exact htop)
                  have hRb := pb_p26 (pb_R_lt hSX.1 hb1) (by omega)
                  refine pb_cge (tgt := 66) hx hb dX0_solve_60 (by decide) (by first | assumption | omega) ?_
                  refine lv_iload_n hx hb dX0_solve_66 rfl (lv_at hl 3 rfl) ?_
                  refine lv_aload_n hx hb dX0_solve_67 rfl (lv_at hl 1 rfl) ?_
                  refine pb_gX2 C hK hP dX0_solve_68 ?_
                  refine lv_aload_n hx hb dX0_solve_71 rfl (lv_at hl 1 rfl) ?_
                  refine pb_gX4 C hK hP dX0_solve_72 ?_
                  refine lv_iload hx hb dX0_solve_75 (lv_at hl 0 rfl) ?_
                  refine pb_ald (nI b) C hK hP 5 rfl (by omega) (by decide) (by rw [pk_un (by omega), hSX.2.2.2 t hti]; exact hcvv) dX0_solve_77 ?_
                  refine pb_ald (nI (R b)) C hK hP 3 rfl (by omega) (by decide) (hSX.2.1 b hb1) dX0_solve_78 ?_
                  refine lv_ixor hx hb dX0_solve_79 ?_
                  refine pb_tup (nx_xor _ _) ?_
                  refine lv_istore_n (lv' := [(2, .int (nI (cv ^^^ (R b)))), (4, .int (nI t)), (0, .ref (sg 0)), (1, .int (nI i)), (3, .int (nI st9))]) hx hb dX0_solve_80 rfl hl (by decide) rfl (fun ls hl => ?_)
                  refine lv_iinc (v := nI (st9 + 1)) (lv' := [(3, .int (nI (st9 + 1))), (2, .int (nI (cv ^^^ (R b)))), (4, .int (nI t)), (0, .ref (sg 0)), (1, .int (nI i))]) hx hb dX0_solve_81 hl (k := 4) rfl (nI_1 _) (by decide) rfl (fun ls hl => ?_)
                  refine lv_goto (tgt := 37) hx hb dX0_solve_84 (by decide) ?_
                  exact ih37 (st9 + 1) (cv ^^^ R b) ls (by omega) (by omega) hr1 (Nat.xor_lt_two_pow hcv hRb) (fun j hj => hr2 j (by rw [hb3]; rcases Nat.lt_or_ge j t with z | z; exact absurd htop.1 (by rw [hlow t (by omega)]; decide); exact z)) (lv_sub hl [3, 4, 1, 0] rfl)
        exact loop37 27 0 (pb_col P i) ls (by omega) (by omega) (pb_red_0 P i) (pb_p26 (pb_col_lt P i) (by omega)) (fun j hj => Nat.testBit_lt_two_pow (Nat.lt_of_lt_of_le (pb_p26 (pb_col_lt P i) (by omega)) (Nat.pow_le_pow_right (by decide) (by omega)))) (lv_sub hl [2, 3, 1, 0] rfl)
  exact loop5 (n + 1) m0 R0 lo0 a2 a3 a4 ls _ _ (by omega) hm0 hSX hP hS (lv_sub hl [1, 0] rfl)
end
section
/-! PersistentBars: the queries that rest on the reduction -/
def pb_xL (D : va_G) (d : ClassId) (sg : Nat → Nat) (n : Nat) (P : Nat → Nat) (a0 a1 : Nat → Int32) (i j k : Nat) : Int32 → Heap → Prop := fun r H => ∃ R lo a2 a3 a4, pb_SX n P R lo a2 a3 a4 ∧ va_P D pb_cl (pb_xW sg d a0 a1 a2 a3 a4 (nI n) (nI n)) H ∧ r = nI (pb_Lm P R lo i j (k + 1))
set_option maxHeartbeats 4000000 in
set_option maxRecDepth 100000 in
theorem ct_X0_living (l : Launch) (D : va_G) (d : ClassId) (sg : Nat → Nat) (n : Nat) (P : Nat → Nat) (a0 a1 a2 a3 a4 : Nat → Int32) (sv : Int32) (hn : pb_Nd sg 6) (hC : pb_Cx n P) (h0 : ∀ i, i < n → a0 i = nI (P i)) (h1 : ∀ q, q < 64 → pb_At n P q (-2) (a1 q)) (m0 : Nat) (R0 lo0 : Nat → Nat) (hm0 : m0 ≤ n) (hsv : sv = nI m0) (hSX : pb_SX m0 P R0 lo0 a2 a3 a4) (i j k : Nat) (hij : i ≤ j) (hj : j ≤ n) (hkk : k < 4) : Met l yX0_living (ws_ yX0_living cX0_living 7 (some .int)) (pb_ro 2) (va_Pc [.ref (sg 0), .int (nI i), .int (nI j), .int (nI k)] (pb_B D d (pb_xW sg d a0 a1 a2 a3 a4 (nI n) sv))) (pb_Qm (pb_A sg 6) (pb_xL D d sg n P a0 a1 i j k)) 0 0 (pb_A sg 6) := by
  refine pb_met RX0 (by decide) rfl (Nat.le_of_ble_eq_true rfl) rfl ?_
  intro p e s m below meth c ls C hnm hB hl
  obtain ⟨hx, hb, hml, hr, hown, hlk, hts⟩ := id C
  obtain ⟨hP, hK⟩ := hB
  have hl : lv_has ls 7 [(0, .ref (sg 0)), (1, .int (nI i)), (2, .int (nI j)), (3, .int (nI k))] := hl
  have hS : va_S (pb_A sg 6) s.heap s.heap [] := va_S.rf
  have hn26 := hC.1
  refine lv_aload_n hx hb dX0_living_0 rfl (lv_at hl 0 rfl) ?_
  refine pb_afterN (pb_runV (rC := (RX0, TX0, 7)) (ci := 0) (As := []) (rest := []) C (ct_X0_solve l D d sg n P a0 a1 a2 a3 a4 sv hn hC h0 h1 m0 R0 lo0 hm0 hsv hSX) gw_X0_X0_solve hd_X0_solve ⟨rfl, rfl, Nat.le_of_ble_eq_true rfl, Nat.le_of_ble_eq_true rfl⟩ ⟨Nat.zero_le _, Nat.zero_le _⟩ hK hP rfl rfl hl.1 rfl (Nat.le_of_ble_eq_true rfl) dX0_living_1) hS (fun _ z => z) (fun H locs hq hfr hS => ?_)
  obtain ⟨R, lo, a2, a3, a4, hSX, hP⟩ := hq
  refine lv_iconst (v := nI 0) hx hb dX0_living_4 rfl ?_
  refine lv_istore (lv' := [(4, .int (nI 0)), (0, .ref (sg 0)), (1, .int (nI i)), (2, .int (nI j)), (3, .int (nI k))]) hx hb dX0_living_5 hl (by decide) rfl (fun ls hl => ?_)
  refine lv_iconst (v := nI 0) hx hb dX0_living_7 rfl ?_
  refine lv_istore (lv' := [(5, .int (nI 0)), (4, .int (nI 0)), (0, .ref (sg 0)), (1, .int (nI i)), (2, .int (nI j)), (3, .int (nI k))]) hx hb dX0_living_8 hl (by decide) rfl (fun ls hl => ?_)
  have loop10 : ∀ (k10 : Nat) (a : Nat) (ls : Array Slot), (i < a + k10) → (a ≤ i) → lv_has ls 7 [(0, .ref (sg 0)), (1, .int (nI i)), (2, .int (nI j)), (3, .int (nI k)), (4, .int (nI (pb_Lm P R lo a j (k + 1)))), (5, .int (nI a))] → W p l e (pb_ro 2) s m ([.ref (sg 0), .int (nI i), .int (nI j), .int (nI k)] : List Value).toArray below meth c H locs 0 0 (MQ below (pb_Qm (pb_A sg 6) (pb_xL D d sg n P a0 a1 i j k)) ([.ref (sg 0), .int (nI i), .int (nI j), .int (nI k)] : List Value).toArray s 0 0 (pb_A sg 6)) (F0 m 10 ls []) := by
    intro k10
    induction k10 with
    | zero =>
      intro a ls hk ha hl
      omega
    | succ k10 ih10 =>
      intro a ls hk ha hl
      refine lv_iload hx hb dX0_living_10 (lv_at hl 5 rfl) ?_
      refine lv_iload_n hx hb dX0_living_12 rfl (lv_at hl 1 rfl) ?_
      refine pb_ige (tgt := 85) hx hb dX0_living_13 (by decide) (by first | assumption | omega) (by first | assumption | omega) (fun c13 => ?_) (fun c13 => ?_)
      · refine lv_iload hx hb dX0_living_85 (lv_at hl 4 rfl) ?_
        exact pb_miret C hS ⟨R, lo, _, _, _, hSX, hP, by rw [show a = i by omega]⟩ dX0_living_87
      · have hPa := pb_cx_pop hC (i := a) (by omega)
        by_cases hR : R a = 0
        · rcases pb_cv_c (n := n) (R := R) (lo := lo) a with ⟨hcf, hcvv⟩ | ⟨b, hb1, hb2, hb3, hb4, hcvv⟩
          · have hpv : a3 a = -2 := by rw [hSX.2.2.1 a (by omega), pb_pv_z hR]; exact hcvv
            refine lv_aload_n hx hb dX0_living_16 rfl (lv_at hl 0 rfl) ?_
            refine pb_gX3 C hK hP dX0_living_17 ?_
            refine lv_iload hx hb dX0_living_20 (lv_at hl 5 rfl) ?_
            refine pb_ald ((-2)) C hK hP 4 rfl (by omega) (by decide) hpv dX0_living_22 ?_
            refine pb_cltN (tgt := 41) hx hb dX0_living_23 (by decide) (by decide) ?_
            refine lv_iconst (v := nI 0) hx hb dX0_living_41 rfl ?_
            refine lv_istore (lv' := [(6, .int (nI 0)), (0, .ref (sg 0)), (1, .int (nI i)), (2, .int (nI j)), (3, .int (nI k)), (4, .int (nI (pb_Lm P R lo a j (k + 1)))), (5, .int (nI a))]) hx hb dX0_living_42 hl (by decide) rfl (fun ls hl => ?_)
            refine lv_iload hx hb dX0_living_44 (lv_at hl 5 rfl) ?_
            refine lv_aload_n hx hb dX0_living_46 rfl (lv_at hl 1 rfl) ?_
            refine lv_iload hx hb dX0_living_47 (lv_at hl 6 rfl) ?_
            refine pb_afterQ (pb_runV (rC := (RX0, TX0, 7)) (ci := 0) (As := [.int (nI a)]) (rest := [.int (nI (pb_Lm P R lo a j (k + 1)))]) C (ct_X0_dimension l D d sg n P a0 a1 a2 a3 a4 (nI n) hC h0 h1 a (by omega)) gw_X0_X0_dimension hd_X0_dimension ⟨rfl, rfl, Nat.le_of_ble_eq_true rfl, Nat.le_of_ble_eq_true rfl⟩ ⟨Nat.zero_le _, Nat.zero_le _⟩ hK hP rfl rfl hl.1 rfl (Nat.le_of_ble_eq_true rfl) dX0_living_49) ?_
            refine lv_iload_n hx hb dX0_living_52 rfl (lv_at hl 4 rfl) ?_
            refine pb_ine (tgt := 75) hx hb dX0_living_53 (by decide) (by first | assumption | omega) (by first | assumption | omega) (fun c53 => ?_) (fun c53 => ?_)
            · refine lv_iconst (v := nI 0) hx hb dX0_living_75 rfl ?_
              refine lv_iadd hx hb dX0_living_76 ?_
              refine pb_top (nI (pb_Lm P R lo (a + 1) j (k + 1))) (by rw [pb_Lm_n (fun z => by omega)]; exact nI_add _ 0) ?_
              refine lv_istore (lv' := [(4, .int (nI (pb_Lm P R lo (a + 1) j (k + 1)))), (6, .int (nI 0)), (0, .ref (sg 0)), (1, .int (nI i)), (2, .int (nI j)), (3, .int (nI k)), (5, .int (nI a))]) hx hb dX0_living_77 hl (by decide) rfl (fun ls hl => ?_)
              refine lv_iinc (v := nI (a + 1)) (lv' := [(5, .int (nI (a + 1))), (4, .int (nI (pb_Lm P R lo (a + 1) j (k + 1)))), (6, .int (nI 0)), (0, .ref (sg 0)), (1, .int (nI i)), (2, .int (nI j)), (3, .int (nI k))]) hx hb dX0_living_79 hl (k := 6) rfl (nI_1 _) (by decide) rfl (fun ls hl => ?_)
              refine lv_goto (tgt := 10) hx hb dX0_living_82 (by decide) ?_
              exact ih10 (a + 1) ls (by omega) (by omega) (lv_sub hl [3, 4, 5, 6, 1, 0] rfl)
            · refine lv_aload_n hx hb dX0_living_56 rfl (lv_at hl 1 rfl) ?_
              refine pb_gX2 C hK hP dX0_living_57 ?_
              refine lv_iload hx hb dX0_living_60 (lv_at hl 6 rfl) ?_
              refine pb_ald (nI (R a)) C hK hP 3 rfl (by omega) (by decide) (hSX.2.1 a (by omega)) dX0_living_62 ?_
              refine pb_cne (tgt := 75) hx hb dX0_living_63 (by decide) (Nat.lt_trans (pb_p26 (pb_R_lt hSX.1 (show a < n by omega)) (by omega)) (by decide)) (fun c63 => absurd hR c63) (fun c63 => ?_)
              refine lv_iload hx hb dX0_living_66 (lv_at hl 0 rfl) ?_
              refine pb_cne (tgt := 75) hx hb dX0_living_68 (by decide) (by first | assumption | omega) (fun c68 => absurd rfl c68) (fun c68 => ?_)
              refine lv_iconst (v := nI 1) hx hb dX0_living_71 rfl ?_
              refine lv_goto (tgt := 76) hx hb dX0_living_72 (by decide) ?_
              refine lv_iadd hx hb dX0_living_76 ?_
              refine pb_top (nI (pb_Lm P R lo (a + 1) j (k + 1))) (by rw [pb_Lm_y ⟨by omega, hR, fun ⟨b, h8, h9, h10⟩ => pb_cf_z hcf b (by omega) h9 h10⟩]; exact nI_1 _) ?_
              refine lv_istore (lv' := [(4, .int (nI (pb_Lm P R lo (a + 1) j (k + 1)))), (6, .int (nI 0)), (0, .ref (sg 0)), (1, .int (nI i)), (2, .int (nI j)), (3, .int (nI k)), (5, .int (nI a))]) hx hb dX0_living_77 hl (by decide) rfl (fun ls hl => ?_)
              refine lv_iinc (v := nI (a + 1)) (lv' := [(5, .int (nI (a + 1))), (4, .int (nI (pb_Lm P R lo (a + 1) j (k + 1)))), (6, .int (nI 0)), (0, .ref (sg 0)), (1, .int (nI i)), (2, .int (nI j)), (3, .int (nI k))]) hx hb dX0_living_79 hl (k := 6) rfl (nI_1 _) (by decide) rfl (fun ls hl => ?_)
              refine lv_goto (tgt := 10) hx hb dX0_living_82 (by decide) ?_
              exact ih10 (a + 1) ls (by omega) (by omega) (lv_sub hl [3, 4, 5, 6, 1, 0] rfl)
          · have hpv : a3 a = nI b := by rw [hSX.2.2.1 a (by omega), pb_pv_z hR]; exact hcvv
            have hab := (pb_lo_lt hSX.1 hb1 hb2).1
            refine lv_aload_n hx hb dX0_living_16 rfl (lv_at hl 0 rfl) ?_
            refine pb_gX3 C hK hP dX0_living_17 ?_
            refine lv_iload hx hb dX0_living_20 (lv_at hl 5 rfl) ?_
            refine pb_ald (nI b) C hK hP 4 rfl (by omega) (by decide) hpv dX0_living_22 ?_
            refine pb_clt (tgt := 41) hx hb dX0_living_23 (by decide) (by first | assumption | omega) ?_
            refine lv_aload_n hx hb dX0_living_26 rfl (lv_at hl 0 rfl) ?_
            refine pb_gX3 C hK hP dX0_living_27 ?_
            refine lv_iload hx hb dX0_living_30 (lv_at hl 5 rfl) ?_
            refine pb_ald (nI b) C hK hP 4 rfl (by omega) (by decide) hpv dX0_living_32 ?_
            refine lv_iload_n hx hb dX0_living_33 rfl (lv_at hl 2 rfl) ?_
            refine pb_ige (tgt := 41) hx hb dX0_living_34 (by decide) (by first | assumption | omega) (by first | assumption | omega) (fun c34 => ?_) (fun c34 => ?_)
            · refine lv_iconst (v := nI 0) hx hb dX0_living_41 rfl ?_
              refine lv_istore (lv' := [(6, .int (nI 0)), (0, .ref (sg 0)), (1, .int (nI i)), (2, .int (nI j)), (3, .int (nI k)), (4, .int (nI (pb_Lm P R lo a j (k + 1)))), (5, .int (nI a))]) hx hb dX0_living_42 hl (by decide) rfl (fun ls hl => ?_)
              refine lv_iload hx hb dX0_living_44 (lv_at hl 5 rfl) ?_
              refine lv_aload_n hx hb dX0_living_46 rfl (lv_at hl 1 rfl) ?_
              refine lv_iload hx hb dX0_living_47 (lv_at hl 6 rfl) ?_
              refine pb_afterQ (pb_runV (rC := (RX0, TX0, 7)) (ci := 0) (As := [.int (nI a)]) (rest := [.int (nI (pb_Lm P R lo a j (k + 1)))]) C (ct_X0_dimension l D d sg n P a0 a1 a2 a3 a4 (nI n) hC h0 h1 a (by omega)) gw_X0_X0_dimension hd_X0_dimension ⟨rfl, rfl, Nat.le_of_ble_eq_true rfl, Nat.le_of_ble_eq_true rfl⟩ ⟨Nat.zero_le _, Nat.zero_le _⟩ hK hP rfl rfl hl.1 rfl (Nat.le_of_ble_eq_true rfl) dX0_living_49) ?_
              refine lv_iload_n hx hb dX0_living_52 rfl (lv_at hl 4 rfl) ?_
              refine pb_ine (tgt := 75) hx hb dX0_living_53 (by decide) (by first | assumption | omega) (by first | assumption | omega) (fun c53 => ?_) (fun c53 => ?_)
              · refine lv_iconst (v := nI 0) hx hb dX0_living_75 rfl ?_
                refine lv_iadd hx hb dX0_living_76 ?_
                refine pb_top (nI (pb_Lm P R lo (a + 1) j (k + 1))) (by rw [pb_Lm_n (fun z => by omega)]; exact nI_add _ 0) ?_
                refine lv_istore (lv' := [(4, .int (nI (pb_Lm P R lo (a + 1) j (k + 1)))), (6, .int (nI 0)), (0, .ref (sg 0)), (1, .int (nI i)), (2, .int (nI j)), (3, .int (nI k)), (5, .int (nI a))]) hx hb dX0_living_77 hl (by decide) rfl (fun ls hl => ?_)
                refine lv_iinc (v := nI (a + 1)) (lv' := [(5, .int (nI (a + 1))), (4, .int (nI (pb_Lm P R lo (a + 1) j (k + 1)))), (6, .int (nI 0)), (0, .ref (sg 0)), (1, .int (nI i)), (2, .int (nI j)), (3, .int (nI k))]) hx hb dX0_living_79 hl (k := 6) rfl (nI_1 _) (by decide) rfl (fun ls hl => ?_)
                refine lv_goto (tgt := 10) hx hb dX0_living_82 (by decide) ?_
                exact ih10 (a + 1) ls (by omega) (by omega) (lv_sub hl [3, 4, 5, 6, 1, 0] rfl)
              · refine lv_aload_n hx hb dX0_living_56 rfl (lv_at hl 1 rfl) ?_
                refine pb_gX2 C hK hP dX0_living_57 ?_
                refine lv_iload hx hb dX0_living_60 (lv_at hl 6 rfl) ?_
                refine pb_ald (nI (R a)) C hK hP 3 rfl (by omega) (by decide) (hSX.2.1 a (by omega)) dX0_living_62 ?_
                refine pb_cne (tgt := 75) hx hb dX0_living_63 (by decide) (Nat.lt_trans (pb_p26 (pb_R_lt hSX.1 (show a < n by omega)) (by omega)) (by decide)) (fun c63 => absurd hR c63) (fun c63 => ?_)
                refine lv_iload hx hb dX0_living_66 (lv_at hl 0 rfl) ?_
                refine pb_cne (tgt := 75) hx hb dX0_living_68 (by decide) (by first | assumption | omega) (fun c68 => absurd rfl c68) (fun c68 => ?_)
                refine lv_iconst (v := nI 1) hx hb dX0_living_71 rfl ?_
                refine lv_goto (tgt := 76) hx hb dX0_living_72 (by decide) ?_
                refine lv_iadd hx hb dX0_living_76 ?_
                refine pb_top (nI (pb_Lm P R lo (a + 1) j (k + 1))) (by rw [pb_Lm_y ⟨by omega, hR, fun ⟨b8, h8, h9, h10⟩ => by have := hSX.1.2.2 b8 b (by omega) hb1 h9 hb2 (by omega); omega⟩]; exact nI_1 _) ?_
                refine lv_istore (lv' := [(4, .int (nI (pb_Lm P R lo (a + 1) j (k + 1)))), (6, .int (nI 0)), (0, .ref (sg 0)), (1, .int (nI i)), (2, .int (nI j)), (3, .int (nI k)), (5, .int (nI a))]) hx hb dX0_living_77 hl (by decide) rfl (fun ls hl => ?_)
                refine lv_iinc (v := nI (a + 1)) (lv' := [(5, .int (nI (a + 1))), (4, .int (nI (pb_Lm P R lo (a + 1) j (k + 1)))), (6, .int (nI 0)), (0, .ref (sg 0)), (1, .int (nI i)), (2, .int (nI j)), (3, .int (nI k))]) hx hb dX0_living_79 hl (k := 6) rfl (nI_1 _) (by decide) rfl (fun ls hl => ?_)
                refine lv_goto (tgt := 10) hx hb dX0_living_82 (by decide) ?_
                exact ih10 (a + 1) ls (by omega) (by omega) (lv_sub hl [3, 4, 5, 6, 1, 0] rfl)
            · refine lv_iconst (v := nI 1) hx hb dX0_living_37 rfl ?_
              refine lv_goto (tgt := 42) hx hb dX0_living_38 (by decide) ?_
              refine lv_istore (lv' := [(6, .int (nI 1)), (0, .ref (sg 0)), (1, .int (nI i)), (2, .int (nI j)), (3, .int (nI k)), (4, .int (nI (pb_Lm P R lo a j (k + 1)))), (5, .int (nI a))]) hx hb dX0_living_42 hl (by decide) rfl (fun ls hl => ?_)
              refine lv_iload hx hb dX0_living_44 (lv_at hl 5 rfl) ?_
              refine lv_aload_n hx hb dX0_living_46 rfl (lv_at hl 1 rfl) ?_
              refine lv_iload hx hb dX0_living_47 (lv_at hl 6 rfl) ?_
              refine pb_afterQ (pb_runV (rC := (RX0, TX0, 7)) (ci := 0) (As := [.int (nI a)]) (rest := [.int (nI (pb_Lm P R lo a j (k + 1)))]) C (ct_X0_dimension l D d sg n P a0 a1 a2 a3 a4 (nI n) hC h0 h1 a (by omega)) gw_X0_X0_dimension hd_X0_dimension ⟨rfl, rfl, Nat.le_of_ble_eq_true rfl, Nat.le_of_ble_eq_true rfl⟩ ⟨Nat.zero_le _, Nat.zero_le _⟩ hK hP rfl rfl hl.1 rfl (Nat.le_of_ble_eq_true rfl) dX0_living_49) ?_
              refine lv_iload_n hx hb dX0_living_52 rfl (lv_at hl 4 rfl) ?_
              refine pb_ine (tgt := 75) hx hb dX0_living_53 (by decide) (by first | assumption | omega) (by first | assumption | omega) (fun c53 => ?_) (fun c53 => ?_)
              · refine lv_iconst (v := nI 0) hx hb dX0_living_75 rfl ?_
                refine lv_iadd hx hb dX0_living_76 ?_
                refine pb_top (nI (pb_Lm P R lo (a + 1) j (k + 1))) (by rw [pb_Lm_n (fun z => by omega)]; exact nI_add _ 0) ?_
                refine lv_istore (lv' := [(4, .int (nI (pb_Lm P R lo (a + 1) j (k + 1)))), (6, .int (nI 1)), (0, .ref (sg 0)), (1, .int (nI i)), (2, .int (nI j)), (3, .int (nI k)), (5, .int (nI a))]) hx hb dX0_living_77 hl (by decide) rfl (fun ls hl => ?_)
                refine lv_iinc (v := nI (a + 1)) (lv' := [(5, .int (nI (a + 1))), (4, .int (nI (pb_Lm P R lo (a + 1) j (k + 1)))), (6, .int (nI 1)), (0, .ref (sg 0)), (1, .int (nI i)), (2, .int (nI j)), (3, .int (nI k))]) hx hb dX0_living_79 hl (k := 6) rfl (nI_1 _) (by decide) rfl (fun ls hl => ?_)
                refine lv_goto (tgt := 10) hx hb dX0_living_82 (by decide) ?_
                exact ih10 (a + 1) ls (by omega) (by omega) (lv_sub hl [3, 4, 5, 6, 1, 0] rfl)
              · refine lv_aload_n hx hb dX0_living_56 rfl (lv_at hl 1 rfl) ?_
                refine pb_gX2 C hK hP dX0_living_57 ?_
                refine lv_iload hx hb dX0_living_60 (lv_at hl 6 rfl) ?_
                refine pb_ald (nI (R a)) C hK hP 3 rfl (by omega) (by decide) (hSX.2.1 a (by omega)) dX0_living_62 ?_
                refine pb_cne (tgt := 75) hx hb dX0_living_63 (by decide) (Nat.lt_trans (pb_p26 (pb_R_lt hSX.1 (show a < n by omega)) (by omega)) (by decide)) (fun c63 => absurd hR c63) (fun c63 => ?_)
                refine lv_iload hx hb dX0_living_66 (lv_at hl 0 rfl) ?_
                refine pb_cne (tgt := 75) hx hb dX0_living_68 (by decide) (by first | assumption | omega) (fun c68 => ?_) (fun c68 => absurd c68 (by decide))
                refine lv_iconst (v := nI 0) hx hb dX0_living_75 rfl ?_
                refine lv_iadd hx hb dX0_living_76 ?_
                refine pb_top (nI (pb_Lm P R lo (a + 1) j (k + 1))) (by rw [pb_Lm_n (fun z => z.2.2 ⟨b, c34, hb2, hb3⟩)]; exact nI_add _ 0) ?_
                refine lv_istore (lv' := [(4, .int (nI (pb_Lm P R lo (a + 1) j (k + 1)))), (6, .int (nI 1)), (0, .ref (sg 0)), (1, .int (nI i)), (2, .int (nI j)), (3, .int (nI k)), (5, .int (nI a))]) hx hb dX0_living_77 hl (by decide) rfl (fun ls hl => ?_)
                refine lv_iinc (v := nI (a + 1)) (lv' := [(5, .int (nI (a + 1))), (4, .int (nI (pb_Lm P R lo (a + 1) j (k + 1)))), (6, .int (nI 1)), (0, .ref (sg 0)), (1, .int (nI i)), (2, .int (nI j)), (3, .int (nI k))]) hx hb dX0_living_79 hl (k := 6) rfl (nI_1 _) (by decide) rfl (fun ls hl => ?_)
                refine lv_goto (tgt := 10) hx hb dX0_living_82 (by decide) ?_
                exact ih10 (a + 1) ls (by omega) (by omega) (lv_sub hl [3, 4, 5, 6, 1, 0] rfl)
        · have hpv : a3 a = nI (lo a) := by rw [hSX.2.2.1 a (by omega), pb_pv_n hR]
          have hla := (pb_lo_lt hSX.1 (show a < n by omega) hR).1
          refine lv_aload_n hx hb dX0_living_16 rfl (lv_at hl 0 rfl) ?_
          refine pb_gX3 C hK hP dX0_living_17 ?_
          refine lv_iload hx hb dX0_living_20 (lv_at hl 5 rfl) ?_
          refine pb_ald (nI (lo a)) C hK hP 4 rfl (by omega) (by decide) hpv dX0_living_22 ?_
          refine pb_clt (tgt := 41) hx hb dX0_living_23 (by decide) (by first | assumption | omega) ?_
          refine lv_aload_n hx hb dX0_living_26 rfl (lv_at hl 0 rfl) ?_
          refine pb_gX3 C hK hP dX0_living_27 ?_
          refine lv_iload hx hb dX0_living_30 (lv_at hl 5 rfl) ?_
          refine pb_ald (nI (lo a)) C hK hP 4 rfl (by omega) (by decide) hpv dX0_living_32 ?_
          refine lv_iload_n hx hb dX0_living_33 rfl (lv_at hl 2 rfl) ?_
          refine pb_ige (tgt := 41) hx hb dX0_living_34 (by decide) (by first | assumption | omega) (by first | assumption | omega) (fun c34 => ?_) (fun c34 => ?_)
          · refine lv_iconst (v := nI 0) hx hb dX0_living_41 rfl ?_
            refine lv_istore (lv' := [(6, .int (nI 0)), (0, .ref (sg 0)), (1, .int (nI i)), (2, .int (nI j)), (3, .int (nI k)), (4, .int (nI (pb_Lm P R lo a j (k + 1)))), (5, .int (nI a))]) hx hb dX0_living_42 hl (by decide) rfl (fun ls hl => ?_)
            refine lv_iload hx hb dX0_living_44 (lv_at hl 5 rfl) ?_
            refine lv_aload_n hx hb dX0_living_46 rfl (lv_at hl 1 rfl) ?_
            refine lv_iload hx hb dX0_living_47 (lv_at hl 6 rfl) ?_
            refine pb_afterQ (pb_runV (rC := (RX0, TX0, 7)) (ci := 0) (As := [.int (nI a)]) (rest := [.int (nI (pb_Lm P R lo a j (k + 1)))]) C (ct_X0_dimension l D d sg n P a0 a1 a2 a3 a4 (nI n) hC h0 h1 a (by omega)) gw_X0_X0_dimension hd_X0_dimension ⟨rfl, rfl, Nat.le_of_ble_eq_true rfl, Nat.le_of_ble_eq_true rfl⟩ ⟨Nat.zero_le _, Nat.zero_le _⟩ hK hP rfl rfl hl.1 rfl (Nat.le_of_ble_eq_true rfl) dX0_living_49) ?_
            refine lv_iload_n hx hb dX0_living_52 rfl (lv_at hl 4 rfl) ?_
            refine pb_ine (tgt := 75) hx hb dX0_living_53 (by decide) (by first | assumption | omega) (by first | assumption | omega) (fun c53 => ?_) (fun c53 => ?_)
            · refine lv_iconst (v := nI 0) hx hb dX0_living_75 rfl ?_
              refine lv_iadd hx hb dX0_living_76 ?_
              refine pb_top (nI (pb_Lm P R lo (a + 1) j (k + 1))) (by rw [pb_Lm_n (fun z => by omega)]; exact nI_add _ 0) ?_
              refine lv_istore (lv' := [(4, .int (nI (pb_Lm P R lo (a + 1) j (k + 1)))), (6, .int (nI 0)), (0, .ref (sg 0)), (1, .int (nI i)), (2, .int (nI j)), (3, .int (nI k)), (5, .int (nI a))]) hx hb dX0_living_77 hl (by decide) rfl (fun ls hl => ?_)
              refine lv_iinc (v := nI (a + 1)) (lv' := [(5, .int (nI (a + 1))), (4, .int (nI (pb_Lm P R lo (a + 1) j (k + 1)))), (6, .int (nI 0)), (0, .ref (sg 0)), (1, .int (nI i)), (2, .int (nI j)), (3, .int (nI k))]) hx hb dX0_living_79 hl (k := 6) rfl (nI_1 _) (by decide) rfl (fun ls hl => ?_)
              refine lv_goto (tgt := 10) hx hb dX0_living_82 (by decide) ?_
              exact ih10 (a + 1) ls (by omega) (by omega) (lv_sub hl [3, 4, 5, 6, 1, 0] rfl)
            · refine lv_aload_n hx hb dX0_living_56 rfl (lv_at hl 1 rfl) ?_
              refine pb_gX2 C hK hP dX0_living_57 ?_
              refine lv_iload hx hb dX0_living_60 (lv_at hl 6 rfl) ?_
              refine pb_ald (nI (R a)) C hK hP 3 rfl (by omega) (by decide) (hSX.2.1 a (by omega)) dX0_living_62 ?_
              refine pb_cne (tgt := 75) hx hb dX0_living_63 (by decide) (Nat.lt_trans (pb_p26 (pb_R_lt hSX.1 (show a < n by omega)) (by omega)) (by decide)) (fun c63 => ?_) (fun c63 => absurd c63 hR)
              refine lv_iconst (v := nI 0) hx hb dX0_living_75 rfl ?_
              refine lv_iadd hx hb dX0_living_76 ?_
              refine pb_top (nI (pb_Lm P R lo (a + 1) j (k + 1))) (by rw [pb_Lm_n (fun z => hR z.2.1)]; exact nI_add _ 0) ?_
              refine lv_istore (lv' := [(4, .int (nI (pb_Lm P R lo (a + 1) j (k + 1)))), (6, .int (nI 0)), (0, .ref (sg 0)), (1, .int (nI i)), (2, .int (nI j)), (3, .int (nI k)), (5, .int (nI a))]) hx hb dX0_living_77 hl (by decide) rfl (fun ls hl => ?_)
              refine lv_iinc (v := nI (a + 1)) (lv' := [(5, .int (nI (a + 1))), (4, .int (nI (pb_Lm P R lo (a + 1) j (k + 1)))), (6, .int (nI 0)), (0, .ref (sg 0)), (1, .int (nI i)), (2, .int (nI j)), (3, .int (nI k))]) hx hb dX0_living_79 hl (k := 6) rfl (nI_1 _) (by decide) rfl (fun ls hl => ?_)
              refine lv_goto (tgt := 10) hx hb dX0_living_82 (by decide) ?_
              exact ih10 (a + 1) ls (by omega) (by omega) (lv_sub hl [3, 4, 5, 6, 1, 0] rfl)
          · refine lv_iconst (v := nI 1) hx hb dX0_living_37 rfl ?_
            refine lv_goto (tgt := 42) hx hb dX0_living_38 (by decide) ?_
            refine lv_istore (lv' := [(6, .int (nI 1)), (0, .ref (sg 0)), (1, .int (nI i)), (2, .int (nI j)), (3, .int (nI k)), (4, .int (nI (pb_Lm P R lo a j (k + 1)))), (5, .int (nI a))]) hx hb dX0_living_42 hl (by decide) rfl (fun ls hl => ?_)
            refine lv_iload hx hb dX0_living_44 (lv_at hl 5 rfl) ?_
            refine lv_aload_n hx hb dX0_living_46 rfl (lv_at hl 1 rfl) ?_
            refine lv_iload hx hb dX0_living_47 (lv_at hl 6 rfl) ?_
            refine pb_afterQ (pb_runV (rC := (RX0, TX0, 7)) (ci := 0) (As := [.int (nI a)]) (rest := [.int (nI (pb_Lm P R lo a j (k + 1)))]) C (ct_X0_dimension l D d sg n P a0 a1 a2 a3 a4 (nI n) hC h0 h1 a (by omega)) gw_X0_X0_dimension hd_X0_dimension ⟨rfl, rfl, Nat.le_of_ble_eq_true rfl, Nat.le_of_ble_eq_true rfl⟩ ⟨Nat.zero_le _, Nat.zero_le _⟩ hK hP rfl rfl hl.1 rfl (Nat.le_of_ble_eq_true rfl) dX0_living_49) ?_
            refine lv_iload_n hx hb dX0_living_52 rfl (lv_at hl 4 rfl) ?_
            refine pb_ine (tgt := 75) hx hb dX0_living_53 (by decide) (by first | assumption | omega) (by first | assumption | omega) (fun c53 => ?_) (fun c53 => ?_)
            · refine lv_iconst (v := nI 0) hx hb dX0_living_75 rfl ?_
              refine lv_iadd hx hb dX0_living_76 ?_
              refine pb_top (nI (pb_Lm P R lo (a + 1) j (k + 1))) (by rw [pb_Lm_n (fun z => by omega)]; exact nI_add _ 0) ?_
              refine lv_istore (lv' := [(4, .int (nI (pb_Lm P R lo (a + 1) j (k + 1)))), (6, .int (nI 1)), (0, .ref (sg 0)), (1, .int (nI i)), (2, .int (nI j)), (3, .int (nI k)), (5, .int (nI a))]) hx hb dX0_living_77 hl (by decide) rfl (fun ls hl => ?_)
              refine lv_iinc (v := nI (a + 1)) (lv' := [(5, .int (nI (a + 1))), (4, .int (nI (pb_Lm P R lo (a + 1) j (k + 1)))), (6, .int (nI 1)), (0, .ref (sg 0)), (1, .int (nI i)), (2, .int (nI j)), (3, .int (nI k))]) hx hb dX0_living_79 hl (k := 6) rfl (nI_1 _) (by decide) rfl (fun ls hl => ?_)
              refine lv_goto (tgt := 10) hx hb dX0_living_82 (by decide) ?_
              exact ih10 (a + 1) ls (by omega) (by omega) (lv_sub hl [3, 4, 5, 6, 1, 0] rfl)
            · refine lv_aload_n hx hb dX0_living_56 rfl (lv_at hl 1 rfl) ?_
              refine pb_gX2 C hK hP dX0_living_57 ?_
              refine lv_iload hx hb dX0_living_60 (lv_at hl 6 rfl) ?_
              refine pb_ald (nI (R a)) C hK hP 3 rfl (by omega) (by decide) (hSX.2.1 a (by omega)) dX0_living_62 ?_
              refine pb_cne (tgt := 75) hx hb dX0_living_63 (by decide) (Nat.lt_trans (pb_p26 (pb_R_lt hSX.1 (show a < n by omega)) (by omega)) (by decide)) (fun c63 => ?_) (fun c63 => absurd c63 hR)
              refine lv_iconst (v := nI 0) hx hb dX0_living_75 rfl ?_
              refine lv_iadd hx hb dX0_living_76 ?_
              refine pb_top (nI (pb_Lm P R lo (a + 1) j (k + 1))) (by rw [pb_Lm_n (fun z => hR z.2.1)]; exact nI_add _ 0) ?_
              refine lv_istore (lv' := [(4, .int (nI (pb_Lm P R lo (a + 1) j (k + 1)))), (6, .int (nI 1)), (0, .ref (sg 0)), (1, .int (nI i)), (2, .int (nI j)), (3, .int (nI k)), (5, .int (nI a))]) hx hb dX0_living_77 hl (by decide) rfl (fun ls hl => ?_)
              refine lv_iinc (v := nI (a + 1)) (lv' := [(5, .int (nI (a + 1))), (4, .int (nI (pb_Lm P R lo (a + 1) j (k + 1)))), (6, .int (nI 1)), (0, .ref (sg 0)), (1, .int (nI i)), (2, .int (nI j)), (3, .int (nI k))]) hx hb dX0_living_79 hl (k := 6) rfl (nI_1 _) (by decide) rfl (fun ls hl => ?_)
              refine lv_goto (tgt := 10) hx hb dX0_living_82 (by decide) ?_
              exact ih10 (a + 1) ls (by omega) (by omega) (lv_sub hl [3, 4, 5, 6, 1, 0] rfl)
  exact loop10 (i + 1) 0 ls (by omega) (by omega) (lv_sub hl [2, 3, 4, 5, 1, 0] rfl)
set_option maxHeartbeats 4000000 in
set_option maxRecDepth 100000 in
theorem ct_X0_holes (l : Launch) (D : va_G) (d : ClassId) (sg : Nat → Nat) (n : Nat) (P : Nat → Nat) (a0 a1 a2 a3 a4 : Nat → Int32) (sv : Int32) (hn : pb_Nd sg 6) (hC : pb_Cx n P) (h0 : ∀ i, i < n → a0 i = nI (P i)) (h1 : ∀ q, q < 64 → pb_At n P q (-2) (a1 q)) (m0 : Nat) (R0 lo0 : Nat → Nat) (hm0 : m0 ≤ n) (hsv : sv = nI m0) (hSX : pb_SX m0 P R0 lo0 a2 a3 a4) (t k : Int32) : Met l yX0_holes (ws_ yX0_holes cX0_holes 3 (some .int)) (pb_ro 3) (va_Pc [.ref (sg 0), .int t, .int k] (pb_B D d (pb_xW sg d a0 a1 a2 a3 a4 (nI n) sv))) (pb_Qm (pb_A sg 6) (pb_xP D d sg n P (fun R lo r => pb_HolesS n P R lo t k r))) 0 0 (pb_A sg 6) := by
  refine pb_met RX0 (by decide) rfl (Nat.le_of_ble_eq_true rfl) rfl ?_
  intro p e s m below meth c ls C hnm hB hl
  obtain ⟨hx, hb, hml, hr, hown, hlk, hts⟩ := id C
  obtain ⟨hP, hK⟩ := hB
  have hl : lv_has ls 3 [(0, .ref (sg 0)), (1, .int t), (2, .int k)] := hl
  have hS : va_S (pb_A sg 6) s.heap s.heap [] := va_S.rf
  have hn26 := hC.1
  obtain ⟨bt, ht⟩ := pb_okI_ex (n + 1) t
  obtain ⟨bk, hk⟩ := pb_okI_ex 4 k
  rcases ht with ⟨rfl, i, hi, rfl⟩ | ⟨rfl, hx1⟩ | ⟨rfl, i, hi, hi2, rfl⟩
  · rcases hk with ⟨rfl, j, hj, rfl⟩ | ⟨rfl, hk1⟩ | ⟨rfl, j, hj, hj2, rfl⟩
    · refine lv_iload_n hx hb dX0_holes_0 rfl (lv_at hl 1 rfl) ?_
      refine pb_clt (tgt := 12) hx hb dX0_holes_1 (by decide) (by first | assumption | omega) ?_
      refine lv_iload_n hx hb dX0_holes_4 rfl (lv_at hl 1 rfl) ?_
      refine lv_aload_n hx hb dX0_holes_5 rfl (lv_at hl 0 rfl) ?_
      refine pb_gX5 C hK hP dX0_holes_6 ?_
      refine pb_ile (tgt := 14) hx hb dX0_holes_9 (by decide) (by first | assumption | omega) (by first | assumption | omega) (fun c9 => ?_) (fun c9 => absurd c9 (by omega))
      refine lv_iload_n hx hb dX0_holes_14 rfl (lv_at hl 2 rfl) ?_
      refine pb_clt (tgt := 23) hx hb dX0_holes_15 (by decide) (by first | assumption | omega) ?_
      refine lv_iload_n hx hb dX0_holes_18 rfl (lv_at hl 2 rfl) ?_
      refine lv_iconst (v := nI 3) hx hb dX0_holes_19 rfl ?_
      refine pb_ile (tgt := 26) hx hb dX0_holes_20 (by decide) (by first | assumption | omega) (by first | assumption | omega) (fun c20 => ?_) (fun c20 => absurd c20 (by omega))
      refine lv_aload_n hx hb dX0_holes_26 rfl (lv_at hl 0 rfl) ?_
      refine lv_iload_n hx hb dX0_holes_27 rfl (lv_at hl 1 rfl) ?_
      refine lv_iload_n hx hb dX0_holes_28 rfl (lv_at hl 1 rfl) ?_
      refine lv_iload_n hx hb dX0_holes_29 rfl (lv_at hl 2 rfl) ?_
      refine pb_afterM (pb_runV (rC := (RX0, TX0, 7)) (ci := 0) (As := [.int (nI i), .int (nI i), .int (nI j)]) (rest := []) C (ct_X0_living l D d sg n P a0 a1 a2 a3 a4 sv hn hC h0 h1 m0 R0 lo0 hm0 hsv hSX i i j (by omega) (by omega) (by omega)) gw_X0_X0_living hd_X0_living ⟨rfl, rfl, Nat.le_of_ble_eq_true rfl, Nat.le_of_ble_eq_true rfl⟩ ⟨Nat.zero_le _, Nat.zero_le _⟩ hK hP rfl rfl hl.1 rfl (Nat.le_of_ble_eq_true rfl) dX0_holes_30) hS (fun _ z => z) (fun r H locs hq hfr hS => ?_)
      obtain ⟨R, lo, a2, a3, a4, hSX, hP, rfl⟩ := hq
      exact pb_miret C hS ⟨⟨R, lo, hSX.1, Or.inr (Or.inr ⟨i, j, by omega, rfl, hj, rfl, rfl⟩)⟩, ⟨_, _, _, _, _, _, hP, pb_XR_q h0 h1 hSX⟩⟩ dX0_holes_33
    · refine lv_iload_n hx hb dX0_holes_0 rfl (lv_at hl 1 rfl) ?_
      refine pb_clt (tgt := 12) hx hb dX0_holes_1 (by decide) (by first | assumption | omega) ?_
      refine lv_iload_n hx hb dX0_holes_4 rfl (lv_at hl 1 rfl) ?_
      refine lv_aload_n hx hb dX0_holes_5 rfl (lv_at hl 0 rfl) ?_
      refine pb_gX5 C hK hP dX0_holes_6 ?_
      refine pb_ile (tgt := 14) hx hb dX0_holes_9 (by decide) (by first | assumption | omega) (by first | assumption | omega) (fun c9 => ?_) (fun c9 => absurd c9 (by omega))
      refine lv_iload_n hx hb dX0_holes_14 rfl (lv_at hl 2 rfl) ?_
      refine lv_if_lt (tgt := 23) hx hb dX0_holes_15 (by decide) (fun c15 => ?_) (fun c15 => absurd hk1 c15)
      refine lv_bipush (v := (-2)) hx hb dX0_holes_23 (by decide) ?_
      exact pb_miret C hS (by obtain ⟨R, lo, hSol⟩ := pb_Sol_ex (P := P) n; exact ⟨⟨R, lo, hSol, Or.inr (Or.inl ⟨i, by omega, rfl, Or.inr (Or.inl ⟨rfl, hk1⟩), rfl⟩)⟩, ⟨_, _, _, _, _, _, hP, h0, h1, m0, R0, lo0, hm0, hsv, hSX⟩⟩) dX0_holes_25
    · refine lv_iload_n hx hb dX0_holes_0 rfl (lv_at hl 1 rfl) ?_
      refine pb_clt (tgt := 12) hx hb dX0_holes_1 (by decide) (by first | assumption | omega) ?_
      refine lv_iload_n hx hb dX0_holes_4 rfl (lv_at hl 1 rfl) ?_
      refine lv_aload_n hx hb dX0_holes_5 rfl (lv_at hl 0 rfl) ?_
      refine pb_gX5 C hK hP dX0_holes_6 ?_
      refine pb_ile (tgt := 14) hx hb dX0_holes_9 (by decide) (by first | assumption | omega) (by first | assumption | omega) (fun c9 => ?_) (fun c9 => absurd c9 (by omega))
      refine lv_iload_n hx hb dX0_holes_14 rfl (lv_at hl 2 rfl) ?_
      refine pb_clt (tgt := 23) hx hb dX0_holes_15 (by decide) (by first | assumption | omega) ?_
      refine lv_iload_n hx hb dX0_holes_18 rfl (lv_at hl 2 rfl) ?_
      refine lv_iconst (v := nI 3) hx hb dX0_holes_19 rfl ?_
      refine pb_ile (tgt := 26) hx hb dX0_holes_20 (by decide) (by first | assumption | omega) (by first | assumption | omega) (fun c20 => absurd c20 (by omega)) (fun c20 => ?_)
      refine lv_bipush (v := (-2)) hx hb dX0_holes_23 (by decide) ?_
      exact pb_miret C hS (by obtain ⟨R, lo, hSol⟩ := pb_Sol_ex (P := P) n; exact ⟨⟨R, lo, hSol, Or.inr (Or.inl ⟨i, by omega, rfl, Or.inr (Or.inr ⟨rfl, j, hj, hj2, rfl⟩), rfl⟩)⟩, ⟨_, _, _, _, _, _, hP, h0, h1, m0, R0, lo0, hm0, hsv, hSX⟩⟩) dX0_holes_25
  · refine lv_iload_n hx hb dX0_holes_0 rfl (lv_at hl 1 rfl) ?_
    refine lv_if_lt (tgt := 12) hx hb dX0_holes_1 (by decide) (fun c1 => ?_) (fun c1 => absurd hx1 c1)
    refine lv_iconst (v := (-1)) hx hb dX0_holes_12 (by decide) ?_
    exact pb_miret C hS (by obtain ⟨R, lo, hSol⟩ := pb_Sol_ex (P := P) n; exact ⟨⟨R, lo, hSol, Or.inl ⟨Or.inr (Or.inl ⟨rfl, hx1⟩), rfl⟩⟩, ⟨_, _, _, _, _, _, hP, h0, h1, m0, R0, lo0, hm0, hsv, hSX⟩⟩) dX0_holes_13
  · refine lv_iload_n hx hb dX0_holes_0 rfl (lv_at hl 1 rfl) ?_
    refine pb_clt (tgt := 12) hx hb dX0_holes_1 (by decide) (by first | assumption | omega) ?_
    refine lv_iload_n hx hb dX0_holes_4 rfl (lv_at hl 1 rfl) ?_
    refine lv_aload_n hx hb dX0_holes_5 rfl (lv_at hl 0 rfl) ?_
    refine pb_gX5 C hK hP dX0_holes_6 ?_
    refine pb_ile (tgt := 14) hx hb dX0_holes_9 (by decide) (by first | assumption | omega) (by first | assumption | omega) (fun c9 => absurd c9 (by omega)) (fun c9 => ?_)
    refine lv_iconst (v := (-1)) hx hb dX0_holes_12 (by decide) ?_
    exact pb_miret C hS (by obtain ⟨R, lo, hSol⟩ := pb_Sol_ex (P := P) n; exact ⟨⟨R, lo, hSol, Or.inl ⟨Or.inr (Or.inr ⟨rfl, i, hi, hi2, rfl⟩), rfl⟩⟩, ⟨_, _, _, _, _, _, hP, h0, h1, m0, R0, lo0, hm0, hsv, hSX⟩⟩) dX0_holes_13
theorem pb_gt_neg {i : Nat} {y : Int32} (hi : i < 2 ^ 31) (hy : y < 0) : y < nI i := by
  rw [Int32.lt_iff_toInt_lt] at hy ⊢
  rw [nI_toInt hi]
  have e0 : (0 : Int32).toInt = 0 := rfl
  rw [e0] at hy
  omega
set_option maxHeartbeats 4000000 in
set_option maxRecDepth 100000 in
theorem ct_X0_lasting (l : Launch) (D : va_G) (d : ClassId) (sg : Nat → Nat) (n : Nat) (P : Nat → Nat) (a0 a1 a2 a3 a4 : Nat → Int32) (sv : Int32) (hn : pb_Nd sg 6) (hC : pb_Cx n P) (h0 : ∀ i, i < n → a0 i = nI (P i)) (h1 : ∀ q, q < 64 → pb_At n P q (-2) (a1 q)) (m0 : Nat) (R0 lo0 : Nat → Nat) (hm0 : m0 ≤ n) (hsv : sv = nI m0) (hSX : pb_SX m0 P R0 lo0 a2 a3 a4) (x y k : Int32) : Met l yX0_lasting (ws_ yX0_lasting cX0_lasting 4 (some .int)) (pb_ro 3) (va_Pc [.ref (sg 0), .int x, .int y, .int k] (pb_B D d (pb_xW sg d a0 a1 a2 a3 a4 (nI n) sv))) (pb_Qm (pb_A sg 6) (pb_xP D d sg n P (fun R lo r => pb_LastingS n P R lo x y k r))) 0 0 (pb_A sg 6) := by
  refine pb_met RX0 (by decide) rfl (Nat.le_of_ble_eq_true rfl) rfl ?_
  intro p e s m below meth c ls C hnm hB hl
  obtain ⟨hx, hb, hml, hr, hown, hlk, hts⟩ := id C
  obtain ⟨hP, hK⟩ := hB
  have hl : lv_has ls 4 [(0, .ref (sg 0)), (1, .int x), (2, .int y), (3, .int k)] := hl
  have hS : va_S (pb_A sg 6) s.heap s.heap [] := va_S.rf
  have hn26 := hC.1
  obtain ⟨bk, hk⟩ := pb_okI_ex 4 k
  rcases pb_argn x with hx0 | ⟨i, hi, rfl⟩
  · refine lv_iload_n hx hb dX0_lasting_0 rfl (lv_at hl 1 rfl) ?_
    refine lv_if_lt (tgt := 17) hx hb dX0_lasting_1 (by decide) (fun c1 => ?_) (fun c1 => absurd hx0 c1)
    refine lv_iconst (v := (-1)) hx hb dX0_lasting_17 (by decide) ?_
    exact pb_miret C hS (by obtain ⟨R, lo, hSol⟩ := pb_Sol_ex (P := P) n; exact ⟨⟨R, lo, hSol, Or.inl ⟨Or.inl hx0, rfl⟩⟩, ⟨_, _, _, _, _, _, hP, h0, h1, m0, R0, lo0, hm0, hsv, hSX⟩⟩) dX0_lasting_18
  · rcases pb_argn y with hy0 | ⟨j, hj, rfl⟩
    · refine lv_iload_n hx hb dX0_lasting_0 rfl (lv_at hl 1 rfl) ?_
      refine pb_clt (tgt := 17) hx hb dX0_lasting_1 (by decide) (by first | assumption | omega) ?_
      refine lv_iload_n hx hb dX0_lasting_4 rfl (lv_at hl 1 rfl) ?_
      refine lv_iload_n hx hb dX0_lasting_5 rfl (lv_at hl 2 rfl) ?_
      refine lv_icmp_gt (tgt := 17) hx hb dX0_lasting_6 (by decide) (fun c6 => ?_) (fun c6 => absurd (pb_gt_neg hi hy0) c6)
      refine lv_iconst (v := (-1)) hx hb dX0_lasting_17 (by decide) ?_
      exact pb_miret C hS (by obtain ⟨R, lo, hSol⟩ := pb_Sol_ex (P := P) n; exact ⟨⟨R, lo, hSol, Or.inl ⟨Or.inr (Or.inl ⟨i, hi, rfl, hy0⟩), rfl⟩⟩, ⟨_, _, _, _, _, _, hP, h0, h1, m0, R0, lo0, hm0, hsv, hSX⟩⟩) dX0_lasting_18
    · rcases Nat.lt_or_ge j i with hij | hij
      · refine lv_iload_n hx hb dX0_lasting_0 rfl (lv_at hl 1 rfl) ?_
        refine pb_clt (tgt := 17) hx hb dX0_lasting_1 (by decide) (by first | assumption | omega) ?_
        refine lv_iload_n hx hb dX0_lasting_4 rfl (lv_at hl 1 rfl) ?_
        refine lv_iload_n hx hb dX0_lasting_5 rfl (lv_at hl 2 rfl) ?_
        refine pb_igt (tgt := 17) hx hb dX0_lasting_6 (by decide) (by first | assumption | omega) (by first | assumption | omega) (fun c6 => ?_) (fun c6 => absurd hij (Nat.not_lt.mpr c6))
        refine lv_iconst (v := (-1)) hx hb dX0_lasting_17 (by decide) ?_
        exact pb_miret C hS (by obtain ⟨R, lo, hSol⟩ := pb_Sol_ex (P := P) n; exact ⟨⟨R, lo, hSol, Or.inl ⟨Or.inr (Or.inr ⟨i, j, hi, hj, rfl, rfl, Or.inl hij⟩), rfl⟩⟩, ⟨_, _, _, _, _, _, hP, h0, h1, m0, R0, lo0, hm0, hsv, hSX⟩⟩) dX0_lasting_18
      · rcases Nat.lt_or_ge n j with hjn | hjn
        · refine lv_iload_n hx hb dX0_lasting_0 rfl (lv_at hl 1 rfl) ?_
          refine pb_clt (tgt := 17) hx hb dX0_lasting_1 (by decide) (by first | assumption | omega) ?_
          refine lv_iload_n hx hb dX0_lasting_4 rfl (lv_at hl 1 rfl) ?_
          refine lv_iload_n hx hb dX0_lasting_5 rfl (lv_at hl 2 rfl) ?_
          refine pb_igt (tgt := 17) hx hb dX0_lasting_6 (by decide) (by first | assumption | omega) (by first | assumption | omega) (fun c6 => absurd c6 (Nat.not_lt.mpr hij)) (fun c6 => ?_)
          refine lv_iload_n hx hb dX0_lasting_9 rfl (lv_at hl 2 rfl) ?_
          refine lv_aload_n hx hb dX0_lasting_10 rfl (lv_at hl 0 rfl) ?_
          refine pb_gX5 C hK hP dX0_lasting_11 ?_
          refine pb_ile (tgt := 19) hx hb dX0_lasting_14 (by decide) (by first | assumption | omega) (by first | assumption | omega) (fun c14 => absurd c14 (by omega)) (fun c14 => ?_)
          refine lv_iconst (v := (-1)) hx hb dX0_lasting_17 (by decide) ?_
          exact pb_miret C hS (by obtain ⟨R, lo, hSol⟩ := pb_Sol_ex (P := P) n; exact ⟨⟨R, lo, hSol, Or.inl ⟨Or.inr (Or.inr ⟨i, j, hi, hj, rfl, rfl, Or.inr hjn⟩), rfl⟩⟩, ⟨_, _, _, _, _, _, hP, h0, h1, m0, R0, lo0, hm0, hsv, hSX⟩⟩) dX0_lasting_18
        · rcases hk with ⟨rfl, a, ha, rfl⟩ | ⟨rfl, hk1⟩ | ⟨rfl, a, ha, ha2, rfl⟩
          · refine lv_iload_n hx hb dX0_lasting_0 rfl (lv_at hl 1 rfl) ?_
            refine pb_clt (tgt := 17) hx hb dX0_lasting_1 (by decide) (by first | assumption | omega) ?_
            refine lv_iload_n hx hb dX0_lasting_4 rfl (lv_at hl 1 rfl) ?_
            refine lv_iload_n hx hb dX0_lasting_5 rfl (lv_at hl 2 rfl) ?_
            refine pb_igt (tgt := 17) hx hb dX0_lasting_6 (by decide) (by first | assumption | omega) (by first | assumption | omega) (fun c6 => absurd c6 (Nat.not_lt.mpr hij)) (fun c6 => ?_)
            refine lv_iload_n hx hb dX0_lasting_9 rfl (lv_at hl 2 rfl) ?_
            refine lv_aload_n hx hb dX0_lasting_10 rfl (lv_at hl 0 rfl) ?_
            refine pb_gX5 C hK hP dX0_lasting_11 ?_
            refine pb_ile (tgt := 19) hx hb dX0_lasting_14 (by decide) (by first | assumption | omega) (by first | assumption | omega) (fun c14 => ?_) (fun c14 => absurd c14 (by omega))
            refine lv_iload_n hx hb dX0_lasting_19 rfl (lv_at hl 3 rfl) ?_
            refine pb_clt (tgt := 28) hx hb dX0_lasting_20 (by decide) (by first | assumption | omega) ?_
            refine lv_iload_n hx hb dX0_lasting_23 rfl (lv_at hl 3 rfl) ?_
            refine lv_iconst (v := nI 3) hx hb dX0_lasting_24 rfl ?_
            refine pb_ile (tgt := 31) hx hb dX0_lasting_25 (by decide) (by first | assumption | omega) (by first | assumption | omega) (fun c25 => ?_) (fun c25 => absurd c25 (by omega))
            refine lv_aload_n hx hb dX0_lasting_31 rfl (lv_at hl 0 rfl) ?_
            refine lv_iload_n hx hb dX0_lasting_32 rfl (lv_at hl 1 rfl) ?_
            refine lv_iload_n hx hb dX0_lasting_33 rfl (lv_at hl 2 rfl) ?_
            refine lv_iload_n hx hb dX0_lasting_34 rfl (lv_at hl 3 rfl) ?_
            refine pb_afterM (pb_runV (rC := (RX0, TX0, 7)) (ci := 0) (As := [.int (nI i), .int (nI j), .int (nI a)]) (rest := []) C (ct_X0_living l D d sg n P a0 a1 a2 a3 a4 sv hn hC h0 h1 m0 R0 lo0 hm0 hsv hSX i j a (by omega) (by omega) (by omega)) gw_X0_X0_living hd_X0_living ⟨rfl, rfl, Nat.le_of_ble_eq_true rfl, Nat.le_of_ble_eq_true rfl⟩ ⟨Nat.zero_le _, Nat.zero_le _⟩ hK hP rfl rfl hl.1 rfl (Nat.le_of_ble_eq_true rfl) dX0_lasting_35) hS (fun _ z => z) (fun r H locs hq hfr hS => ?_)
            obtain ⟨R, lo, a2, a3, a4, hSX, hP, rfl⟩ := hq
            exact pb_miret C hS ⟨⟨R, lo, hSX.1, Or.inr (Or.inr ⟨i, j, a, hij, hjn, rfl, rfl, ha, rfl, rfl⟩)⟩, ⟨_, _, _, _, _, _, hP, pb_XR_q h0 h1 hSX⟩⟩ dX0_lasting_38
          · refine lv_iload_n hx hb dX0_lasting_0 rfl (lv_at hl 1 rfl) ?_
            refine pb_clt (tgt := 17) hx hb dX0_lasting_1 (by decide) (by first | assumption | omega) ?_
            refine lv_iload_n hx hb dX0_lasting_4 rfl (lv_at hl 1 rfl) ?_
            refine lv_iload_n hx hb dX0_lasting_5 rfl (lv_at hl 2 rfl) ?_
            refine pb_igt (tgt := 17) hx hb dX0_lasting_6 (by decide) (by first | assumption | omega) (by first | assumption | omega) (fun c6 => absurd c6 (Nat.not_lt.mpr hij)) (fun c6 => ?_)
            refine lv_iload_n hx hb dX0_lasting_9 rfl (lv_at hl 2 rfl) ?_
            refine lv_aload_n hx hb dX0_lasting_10 rfl (lv_at hl 0 rfl) ?_
            refine pb_gX5 C hK hP dX0_lasting_11 ?_
            refine pb_ile (tgt := 19) hx hb dX0_lasting_14 (by decide) (by first | assumption | omega) (by first | assumption | omega) (fun c14 => ?_) (fun c14 => absurd c14 (by omega))
            refine lv_iload_n hx hb dX0_lasting_19 rfl (lv_at hl 3 rfl) ?_
            refine lv_if_lt (tgt := 28) hx hb dX0_lasting_20 (by decide) (fun c20 => ?_) (fun c20 => absurd hk1 c20)
            refine lv_bipush (v := (-2)) hx hb dX0_lasting_28 (by decide) ?_
            exact pb_miret C hS (by obtain ⟨R, lo, hSol⟩ := pb_Sol_ex (P := P) n; exact ⟨⟨R, lo, hSol, Or.inr (Or.inl ⟨i, j, hij, hjn, rfl, rfl, Or.inr (Or.inl ⟨rfl, hk1⟩), rfl⟩)⟩, ⟨_, _, _, _, _, _, hP, h0, h1, m0, R0, lo0, hm0, hsv, hSX⟩⟩) dX0_lasting_30
          · refine lv_iload_n hx hb dX0_lasting_0 rfl (lv_at hl 1 rfl) ?_
            refine pb_clt (tgt := 17) hx hb dX0_lasting_1 (by decide) (by first | assumption | omega) ?_
            refine lv_iload_n hx hb dX0_lasting_4 rfl (lv_at hl 1 rfl) ?_
            refine lv_iload_n hx hb dX0_lasting_5 rfl (lv_at hl 2 rfl) ?_
            refine pb_igt (tgt := 17) hx hb dX0_lasting_6 (by decide) (by first | assumption | omega) (by first | assumption | omega) (fun c6 => absurd c6 (Nat.not_lt.mpr hij)) (fun c6 => ?_)
            refine lv_iload_n hx hb dX0_lasting_9 rfl (lv_at hl 2 rfl) ?_
            refine lv_aload_n hx hb dX0_lasting_10 rfl (lv_at hl 0 rfl) ?_
            refine pb_gX5 C hK hP dX0_lasting_11 ?_
            refine pb_ile (tgt := 19) hx hb dX0_lasting_14 (by decide) (by first | assumption | omega) (by first | assumption | omega) (fun c14 => ?_) (fun c14 => absurd c14 (by omega))
            refine lv_iload_n hx hb dX0_lasting_19 rfl (lv_at hl 3 rfl) ?_
            refine pb_clt (tgt := 28) hx hb dX0_lasting_20 (by decide) (by first | assumption | omega) ?_
            refine lv_iload_n hx hb dX0_lasting_23 rfl (lv_at hl 3 rfl) ?_
            refine lv_iconst (v := nI 3) hx hb dX0_lasting_24 rfl ?_
            refine pb_ile (tgt := 31) hx hb dX0_lasting_25 (by decide) (by first | assumption | omega) (by first | assumption | omega) (fun c25 => absurd c25 (by omega)) (fun c25 => ?_)
            refine lv_bipush (v := (-2)) hx hb dX0_lasting_28 (by decide) ?_
            exact pb_miret C hS (by obtain ⟨R, lo, hSol⟩ := pb_Sol_ex (P := P) n; exact ⟨⟨R, lo, hSol, Or.inr (Or.inl ⟨i, j, hij, hjn, rfl, rfl, Or.inr (Or.inr ⟨rfl, a, ha, ha2, rfl⟩), rfl⟩)⟩, ⟨_, _, _, _, _, _, hP, h0, h1, m0, R0, lo0, hm0, hsv, hSX⟩⟩) dX0_lasting_30
set_option maxHeartbeats 4000000 in
set_option maxRecDepth 100000 in
theorem ct_X0_opens (l : Launch) (D : va_G) (d : ClassId) (sg : Nat → Nat) (n : Nat) (P : Nat → Nat) (a0 a1 a2 a3 a4 : Nat → Int32) (sv : Int32) (hn : pb_Nd sg 6) (hC : pb_Cx n P) (h0 : ∀ i, i < n → a0 i = nI (P i)) (h1 : ∀ q, q < 64 → pb_At n P q (-2) (a1 q)) (m0 : Nat) (R0 lo0 : Nat → Nat) (hm0 : m0 ≤ n) (hsv : sv = nI m0) (hSX : pb_SX m0 P R0 lo0 a2 a3 a4) (x : Int32) : Met l yX0_opens (ws_ yX0_opens cX0_opens 2 (some .int)) (pb_ro 3) (va_Pc [.ref (sg 0), .int x] (pb_B D d (pb_xW sg d a0 a1 a2 a3 a4 (nI n) sv))) (pb_Qm (pb_A sg 6) (pb_xP D d sg n P (fun R lo r => pb_OpensS n R x r))) 0 0 (pb_A sg 6) := by
  refine pb_met RX0 (by decide) rfl (Nat.le_of_ble_eq_true rfl) rfl ?_
  intro p e s m below meth c ls C hnm hB hl
  obtain ⟨hx, hb, hml, hr, hown, hlk, hts⟩ := id C
  obtain ⟨hP, hK⟩ := hB
  have hl : lv_has ls 2 [(0, .ref (sg 0)), (1, .int x)] := hl
  have hS : va_S (pb_A sg 6) s.heap s.heap [] := va_S.rf
  have hn26 := hC.1
  obtain ⟨bx, hbx⟩ := pb_okI_ex n x
  cases bx
  · refine lv_aload_n hx hb dX0_opens_0 rfl (lv_at hl 0 rfl) ?_
    refine lv_iload_n hx hb dX0_opens_1 rfl (lv_at hl 1 rfl) ?_
    refine pb_afterQ (pb_runV (rC := (RX0, TX0, 7)) (ci := 0) (As := [.int x]) (rest := []) C (ct_X0_isGood l D d sg n P a0 a1 a2 a3 a4 sv hC h0 h1 x false hbx) gw_X0_X0_isGood hd_X0_isGood ⟨rfl, rfl, Nat.le_of_ble_eq_true rfl, Nat.le_of_ble_eq_true rfl⟩ ⟨Nat.zero_le _, Nat.zero_le _⟩ hK hP rfl rfl hl.1 rfl (Nat.le_of_ble_eq_true rfl) dX0_opens_2) ?_
    refine pb_zne (tgt := 10) hx hb dX0_opens_5 (by decide) (fun c5 => absurd c5 (by decide)) (fun c5 => ?_)
    refine lv_iconst (v := (-1)) hx hb dX0_opens_8 (by decide) ?_
    exact pb_miret C hS (by obtain ⟨R, lo, hSol⟩ := pb_Sol_ex (P := P) n; exact ⟨⟨R, lo, hSol, Or.inl ⟨hbx, rfl⟩⟩, ⟨_, _, _, _, _, _, hP, h0, h1, m0, R0, lo0, hm0, hsv, hSX⟩⟩) dX0_opens_9
  · rcases hbx with ⟨_, i, hi, rfl⟩ | ⟨h, _⟩ | ⟨h, _⟩
    · refine lv_aload_n hx hb dX0_opens_0 rfl (lv_at hl 0 rfl) ?_
      refine lv_iload_n hx hb dX0_opens_1 rfl (lv_at hl 1 rfl) ?_
      refine pb_afterQ (pb_runV (rC := (RX0, TX0, 7)) (ci := 0) (As := [.int (nI i)]) (rest := []) C (ct_X0_isGood l D d sg n P a0 a1 a2 a3 a4 sv hC h0 h1 (nI i) true (Or.inl ⟨rfl, i, hi, rfl⟩)) gw_X0_X0_isGood hd_X0_isGood ⟨rfl, rfl, Nat.le_of_ble_eq_true rfl, Nat.le_of_ble_eq_true rfl⟩ ⟨Nat.zero_le _, Nat.zero_le _⟩ hK hP rfl rfl hl.1 rfl (Nat.le_of_ble_eq_true rfl) dX0_opens_2) ?_
      refine pb_zne (tgt := 10) hx hb dX0_opens_5 (by decide) (fun c5 => ?_) (fun c5 => absurd c5 (by decide))
      refine lv_aload_n hx hb dX0_opens_10 rfl (lv_at hl 0 rfl) ?_
      refine pb_afterN (pb_runV (rC := (RX0, TX0, 7)) (ci := 0) (As := []) (rest := []) C (ct_X0_solve l D d sg n P a0 a1 a2 a3 a4 sv hn hC h0 h1 m0 R0 lo0 hm0 hsv hSX) gw_X0_X0_solve hd_X0_solve ⟨rfl, rfl, Nat.le_of_ble_eq_true rfl, Nat.le_of_ble_eq_true rfl⟩ ⟨Nat.zero_le _, Nat.zero_le _⟩ hK hP rfl rfl hl.1 rfl (Nat.le_of_ble_eq_true rfl) dX0_opens_11) hS (fun _ z => z) (fun H locs hq hfr hS => ?_)
      obtain ⟨R, lo, a2, a3, a4, hSX, hP⟩ := hq
      refine lv_aload_n hx hb dX0_opens_14 rfl (lv_at hl 0 rfl) ?_
      refine pb_gX2 C hK hP dX0_opens_15 ?_
      refine lv_iload_n hx hb dX0_opens_18 rfl (lv_at hl 1 rfl) ?_
      refine pb_ald (nI (R i)) C hK hP 3 rfl (by omega) (by decide) (hSX.2.1 i hi) dX0_opens_19 ?_
      refine pb_cne (tgt := 27) hx hb dX0_opens_20 (by decide) (Nat.lt_trans (pb_p26 (pb_R_lt hSX.1 hi) (by omega)) (by decide)) (fun c20 => ?_) (fun c20 => ?_)
      · refine lv_iconst (v := nI 0) hx hb dX0_opens_27 rfl ?_
        exact pb_miret C hS ⟨⟨R, lo, hSX.1, Or.inr ⟨i, hi, rfl, by rw [decide_eq_false c20]; rfl⟩⟩, ⟨_, _, _, _, _, _, hP, pb_XR_q h0 h1 hSX⟩⟩ dX0_opens_28
      · refine lv_iconst (v := nI 1) hx hb dX0_opens_23 rfl ?_
        refine lv_goto (tgt := 28) hx hb dX0_opens_24 (by decide) ?_
        exact pb_miret C hS ⟨⟨R, lo, hSX.1, Or.inr ⟨i, hi, rfl, by rw [decide_eq_true c20]; rfl⟩⟩, ⟨_, _, _, _, _, _, hP, pb_XR_q h0 h1 hSX⟩⟩ dX0_opens_28
    · cases h
    · cases h
set_option maxHeartbeats 4000000 in
set_option maxRecDepth 100000 in
theorem ct_X0_partner (l : Launch) (D : va_G) (d : ClassId) (sg : Nat → Nat) (n : Nat) (P : Nat → Nat) (a0 a1 a2 a3 a4 : Nat → Int32) (sv : Int32) (hn : pb_Nd sg 6) (hC : pb_Cx n P) (h0 : ∀ i, i < n → a0 i = nI (P i)) (h1 : ∀ q, q < 64 → pb_At n P q (-2) (a1 q)) (m0 : Nat) (R0 lo0 : Nat → Nat) (hm0 : m0 ≤ n) (hsv : sv = nI m0) (hSX : pb_SX m0 P R0 lo0 a2 a3 a4) (x : Int32) : Met l yX0_partner (ws_ yX0_partner cX0_partner 2 (some .int)) (pb_ro 3) (va_Pc [.ref (sg 0), .int x] (pb_B D d (pb_xW sg d a0 a1 a2 a3 a4 (nI n) sv))) (pb_Qm (pb_A sg 6) (pb_xP D d sg n P (fun R lo r => pb_PartnerS n R lo x r))) 0 0 (pb_A sg 6) := by
  refine pb_met RX0 (by decide) rfl (Nat.le_of_ble_eq_true rfl) rfl ?_
  intro p e s m below meth c ls C hnm hB hl
  obtain ⟨hx, hb, hml, hr, hown, hlk, hts⟩ := id C
  obtain ⟨hP, hK⟩ := hB
  have hl : lv_has ls 2 [(0, .ref (sg 0)), (1, .int x)] := hl
  have hS : va_S (pb_A sg 6) s.heap s.heap [] := va_S.rf
  have hn26 := hC.1
  obtain ⟨bx, hbx⟩ := pb_okI_ex n x
  cases bx
  · refine lv_aload_n hx hb dX0_partner_0 rfl (lv_at hl 0 rfl) ?_
    refine lv_iload_n hx hb dX0_partner_1 rfl (lv_at hl 1 rfl) ?_
    refine pb_afterQ (pb_runV (rC := (RX0, TX0, 7)) (ci := 0) (As := [.int x]) (rest := []) C (ct_X0_isGood l D d sg n P a0 a1 a2 a3 a4 sv hC h0 h1 x false hbx) gw_X0_X0_isGood hd_X0_isGood ⟨rfl, rfl, Nat.le_of_ble_eq_true rfl, Nat.le_of_ble_eq_true rfl⟩ ⟨Nat.zero_le _, Nat.zero_le _⟩ hK hP rfl rfl hl.1 rfl (Nat.le_of_ble_eq_true rfl) dX0_partner_2) ?_
    refine pb_zne (tgt := 10) hx hb dX0_partner_5 (by decide) (fun c5 => absurd c5 (by decide)) (fun c5 => ?_)
    refine lv_iconst (v := (-1)) hx hb dX0_partner_8 (by decide) ?_
    exact pb_miret C hS (by obtain ⟨R, lo, hSol⟩ := pb_Sol_ex (P := P) n; exact ⟨⟨R, lo, hSol, Or.inl ⟨hbx, rfl⟩⟩, ⟨_, _, _, _, _, _, hP, h0, h1, m0, R0, lo0, hm0, hsv, hSX⟩⟩) dX0_partner_9
  · rcases hbx with ⟨_, i, hi, rfl⟩ | ⟨h, _⟩ | ⟨h, _⟩
    · refine lv_aload_n hx hb dX0_partner_0 rfl (lv_at hl 0 rfl) ?_
      refine lv_iload_n hx hb dX0_partner_1 rfl (lv_at hl 1 rfl) ?_
      refine pb_afterQ (pb_runV (rC := (RX0, TX0, 7)) (ci := 0) (As := [.int (nI i)]) (rest := []) C (ct_X0_isGood l D d sg n P a0 a1 a2 a3 a4 sv hC h0 h1 (nI i) true (Or.inl ⟨rfl, i, hi, rfl⟩)) gw_X0_X0_isGood hd_X0_isGood ⟨rfl, rfl, Nat.le_of_ble_eq_true rfl, Nat.le_of_ble_eq_true rfl⟩ ⟨Nat.zero_le _, Nat.zero_le _⟩ hK hP rfl rfl hl.1 rfl (Nat.le_of_ble_eq_true rfl) dX0_partner_2) ?_
      refine pb_zne (tgt := 10) hx hb dX0_partner_5 (by decide) (fun c5 => ?_) (fun c5 => absurd c5 (by decide))
      refine lv_aload_n hx hb dX0_partner_10 rfl (lv_at hl 0 rfl) ?_
      refine pb_afterN (pb_runV (rC := (RX0, TX0, 7)) (ci := 0) (As := []) (rest := []) C (ct_X0_solve l D d sg n P a0 a1 a2 a3 a4 sv hn hC h0 h1 m0 R0 lo0 hm0 hsv hSX) gw_X0_X0_solve hd_X0_solve ⟨rfl, rfl, Nat.le_of_ble_eq_true rfl, Nat.le_of_ble_eq_true rfl⟩ ⟨Nat.zero_le _, Nat.zero_le _⟩ hK hP rfl rfl hl.1 rfl (Nat.le_of_ble_eq_true rfl) dX0_partner_11) hS (fun _ z => z) (fun H locs hq hfr hS => ?_)
      obtain ⟨R, lo, a2, a3, a4, hSX, hP⟩ := hq
      refine lv_aload_n hx hb dX0_partner_14 rfl (lv_at hl 0 rfl) ?_
      refine pb_gX3 C hK hP dX0_partner_15 ?_
      refine lv_iload_n hx hb dX0_partner_18 rfl (lv_at hl 1 rfl) ?_
      refine pb_ald (pb_pv n R lo i) C hK hP 4 rfl (by omega) (by decide) (hSX.2.2.1 i hi) dX0_partner_19 ?_
      exact pb_miret C hS ⟨⟨R, lo, hSX.1, Or.inr ⟨i, hi, rfl, rfl⟩⟩, ⟨_, _, _, _, _, _, hP, pb_XR_q h0 h1 hSX⟩⟩ dX0_partner_20
    · cases h
    · cases h
set_option maxHeartbeats 4000000 in
set_option maxRecDepth 100000 in
theorem ct_X0_forever (l : Launch) (D : va_G) (d : ClassId) (sg : Nat → Nat) (n : Nat) (P : Nat → Nat) (a0 a1 a2 a3 a4 : Nat → Int32) (sv : Int32) (hn : pb_Nd sg 6) (hC : pb_Cx n P) (h0 : ∀ i, i < n → a0 i = nI (P i)) (h1 : ∀ q, q < 64 → pb_At n P q (-2) (a1 q)) (m0 : Nat) (R0 lo0 : Nat → Nat) (hm0 : m0 ≤ n) (hsv : sv = nI m0) (hSX : pb_SX m0 P R0 lo0 a2 a3 a4) (k : Int32) : Met l yX0_forever (ws_ yX0_forever cX0_forever 2 (some .int)) (pb_ro 3) (va_Pc [.ref (sg 0), .int k] (pb_B D d (pb_xW sg d a0 a1 a2 a3 a4 (nI n) sv))) (pb_Qm (pb_A sg 6) (pb_xP D d sg n P (fun R lo r => pb_ForeverS n P R lo k r))) 0 0 (pb_A sg 6) := by
  refine pb_met RX0 (by decide) rfl (Nat.le_of_ble_eq_true rfl) rfl ?_
  intro p e s m below meth c ls C hnm hB hl
  obtain ⟨hx, hb, hml, hr, hown, hlk, hts⟩ := id C
  obtain ⟨hP, hK⟩ := hB
  have hl : lv_has ls 2 [(0, .ref (sg 0)), (1, .int k)] := hl
  have hS : va_S (pb_A sg 6) s.heap s.heap [] := va_S.rf
  have hn26 := hC.1
  obtain ⟨bk, hk⟩ := pb_okI_ex 4 k
  rcases hk with ⟨rfl, a8, ha8, rfl⟩ | ⟨rfl, hk1⟩ | ⟨rfl, a8, ha8, ha2, rfl⟩
  · refine lv_iload_n hx hb dX0_forever_0 rfl (lv_at hl 1 rfl) ?_
    refine pb_clt (tgt := 9) hx hb dX0_forever_1 (by decide) (by first | assumption | omega) ?_
    refine lv_iload_n hx hb dX0_forever_4 rfl (lv_at hl 1 rfl) ?_
    refine lv_iconst (v := nI 3) hx hb dX0_forever_5 rfl ?_
    refine pb_ile (tgt := 11) hx hb dX0_forever_6 (by decide) (by first | assumption | omega) (by first | assumption | omega) (fun c6 => ?_) (fun c6 => absurd c6 (by omega))
    refine lv_aload_n hx hb dX0_forever_11 rfl (lv_at hl 0 rfl) ?_
    refine lv_aload_n hx hb dX0_forever_12 rfl (lv_at hl 0 rfl) ?_
    refine pb_gX5 C hK hP dX0_forever_13 ?_
    refine lv_aload_n hx hb dX0_forever_16 rfl (lv_at hl 0 rfl) ?_
    refine pb_gX5 C hK hP dX0_forever_17 ?_
    refine lv_iload_n hx hb dX0_forever_20 rfl (lv_at hl 1 rfl) ?_
    refine pb_afterM (pb_runV (rC := (RX0, TX0, 7)) (ci := 0) (As := [.int (nI n), .int (nI n), .int (nI a8)]) (rest := []) C (ct_X0_living l D d sg n P a0 a1 a2 a3 a4 sv hn hC h0 h1 m0 R0 lo0 hm0 hsv hSX n n a8 (Nat.le_refl n) (Nat.le_refl n) (by omega)) gw_X0_X0_living hd_X0_living ⟨rfl, rfl, Nat.le_of_ble_eq_true rfl, Nat.le_of_ble_eq_true rfl⟩ ⟨Nat.zero_le _, Nat.zero_le _⟩ hK hP rfl rfl hl.1 rfl (Nat.le_of_ble_eq_true rfl) dX0_forever_21) hS (fun _ z => z) (fun r H locs hq hfr hS => ?_)
    obtain ⟨R, lo, a2, a3, a4, hSX, hP, rfl⟩ := hq
    exact pb_miret C hS ⟨⟨R, lo, hSX.1, Or.inr ⟨a8, ha8, rfl, rfl⟩⟩, ⟨_, _, _, _, _, _, hP, pb_XR_q h0 h1 hSX⟩⟩ dX0_forever_24
  · refine lv_iload_n hx hb dX0_forever_0 rfl (lv_at hl 1 rfl) ?_
    refine lv_if_lt (tgt := 9) hx hb dX0_forever_1 (by decide) (fun c1 => ?_) (fun c1 => absurd hk1 c1)
    refine lv_iconst (v := (-1)) hx hb dX0_forever_9 (by decide) ?_
    exact pb_miret C hS (by obtain ⟨R, lo, hSol⟩ := pb_Sol_ex (P := P) n; exact ⟨⟨R, lo, hSol, Or.inl ⟨Or.inr (Or.inl ⟨rfl, hk1⟩), rfl⟩⟩, ⟨_, _, _, _, _, _, hP, h0, h1, m0, R0, lo0, hm0, hsv, hSX⟩⟩) dX0_forever_10
  · refine lv_iload_n hx hb dX0_forever_0 rfl (lv_at hl 1 rfl) ?_
    refine pb_clt (tgt := 9) hx hb dX0_forever_1 (by decide) (by first | assumption | omega) ?_
    refine lv_iload_n hx hb dX0_forever_4 rfl (lv_at hl 1 rfl) ?_
    refine lv_iconst (v := nI 3) hx hb dX0_forever_5 rfl ?_
    refine pb_ile (tgt := 11) hx hb dX0_forever_6 (by decide) (by first | assumption | omega) (by first | assumption | omega) (fun c6 => absurd c6 (by omega)) (fun c6 => ?_)
    refine lv_iconst (v := (-1)) hx hb dX0_forever_9 (by decide) ?_
    exact pb_miret C hS (by obtain ⟨R, lo, hSol⟩ := pb_Sol_ex (P := P) n; exact ⟨⟨R, lo, hSol, Or.inl ⟨Or.inr (Or.inr ⟨rfl, a8, ha8, ha2, rfl⟩), rfl⟩⟩, ⟨_, _, _, _, _, _, hP, h0, h1, m0, R0, lo0, hm0, hsv, hSX⟩⟩) dX0_forever_10
set_option maxHeartbeats 4000000 in
set_option maxRecDepth 100000 in
theorem ct_X0_longest (l : Launch) (D : va_G) (d : ClassId) (sg : Nat → Nat) (n : Nat) (P : Nat → Nat) (a0 a1 a2 a3 a4 : Nat → Int32) (sv : Int32) (hn : pb_Nd sg 6) (hC : pb_Cx n P) (h0 : ∀ i, i < n → a0 i = nI (P i)) (h1 : ∀ q, q < 64 → pb_At n P q (-2) (a1 q)) (m0 : Nat) (R0 lo0 : Nat → Nat) (hm0 : m0 ≤ n) (hsv : sv = nI m0) (hSX : pb_SX m0 P R0 lo0 a2 a3 a4) (k : Int32) : Met l yX0_longest (ws_ yX0_longest cX0_longest 4 (some .int)) (pb_ro 2) (va_Pc [.ref (sg 0), .int k] (pb_B D d (pb_xW sg d a0 a1 a2 a3 a4 (nI n) sv))) (pb_Qm (pb_A sg 6) (pb_xP D d sg n P (fun R lo r => pb_LongestS n P R lo k r))) 0 0 (pb_A sg 6) := by
  refine pb_met RX0 (by decide) rfl (Nat.le_of_ble_eq_true rfl) rfl ?_
  intro p e s m below meth c ls C hnm hB hl
  obtain ⟨hx, hb, hml, hr, hown, hlk, hts⟩ := id C
  obtain ⟨hP, hK⟩ := hB
  have hl : lv_has ls 4 [(0, .ref (sg 0)), (1, .int k)] := hl
  have hS : va_S (pb_A sg 6) s.heap s.heap [] := va_S.rf
  have hn26 := hC.1
  obtain ⟨bk, hk⟩ := pb_okI_ex 4 k
  rcases hk with ⟨rfl, a8, ha8, rfl⟩ | ⟨rfl, hk1⟩ | ⟨rfl, a8, ha8, ha2, rfl⟩
  · refine lv_iload_n hx hb dX0_longest_0 rfl (lv_at hl 1 rfl) ?_
    refine pb_clt (tgt := 9) hx hb dX0_longest_1 (by decide) (by first | assumption | omega) ?_
    refine lv_iload_n hx hb dX0_longest_4 rfl (lv_at hl 1 rfl) ?_
    refine lv_iconst (v := nI 3) hx hb dX0_longest_5 rfl ?_
    refine pb_ile (tgt := 11) hx hb dX0_longest_6 (by decide) (by first | assumption | omega) (by first | assumption | omega) (fun c6 => ?_) (fun c6 => absurd c6 (by omega))
    refine lv_aload_n hx hb dX0_longest_11 rfl (lv_at hl 0 rfl) ?_
    refine pb_afterN (pb_runV (rC := (RX0, TX0, 7)) (ci := 0) (As := []) (rest := []) C (ct_X0_solve l D d sg n P a0 a1 a2 a3 a4 sv hn hC h0 h1 m0 R0 lo0 hm0 hsv hSX) gw_X0_X0_solve hd_X0_solve ⟨rfl, rfl, Nat.le_of_ble_eq_true rfl, Nat.le_of_ble_eq_true rfl⟩ ⟨Nat.zero_le _, Nat.zero_le _⟩ hK hP rfl rfl hl.1 rfl (Nat.le_of_ble_eq_true rfl) dX0_longest_12) hS (fun _ z => z) (fun H locs hq hfr hS => ?_)
    obtain ⟨R, lo, a2, a3, a4, hSX, hP⟩ := hq
    refine lv_iconst (v := nI 0) hx hb dX0_longest_15 rfl ?_
    refine lv_istore_n (lv' := [(2, .int (nI 0)), (0, .ref (sg 0)), (1, .int (nI a8))]) hx hb dX0_longest_16 rfl hl (by decide) rfl (fun ls hl => ?_)
    refine lv_iconst (v := nI 0) hx hb dX0_longest_17 rfl ?_
    refine lv_istore_n (lv' := [(3, .int (nI 0)), (2, .int (nI 0)), (0, .ref (sg 0)), (1, .int (nI a8))]) hx hb dX0_longest_18 rfl hl (by decide) rfl (fun ls hl => ?_)
    have loop19 : ∀ (k19 : Nat) (a : Nat) (ls : Array Slot), (n < a + k19) → (a ≤ n) → lv_has ls 4 [(0, .ref (sg 0)), (1, .int (nI a8)), (2, .int (nI (pb_mx n P R lo (a8 + 1) a))), (3, .int (nI a))] → W p l e (pb_ro 2) s m ([.ref (sg 0), .int (nI a8)] : List Value).toArray below meth c H locs 0 0 (MQ below (pb_Qm (pb_A sg 6) (pb_xP D d sg n P (fun R lo r => pb_LongestS n P R lo (nI a8) r))) ([.ref (sg 0), .int (nI a8)] : List Value).toArray s 0 0 (pb_A sg 6)) (F0 m 19 ls []) := by
      intro k19
      induction k19 with
      | zero =>
        intro a ls hk ha hl
        omega
      | succ k19 ih19 =>
        intro a ls hk ha hl
        refine lv_iload_n hx hb dX0_longest_19 rfl (lv_at hl 3 rfl) ?_
        refine lv_aload_n hx hb dX0_longest_20 rfl (lv_at hl 0 rfl) ?_
        refine pb_gX5 C hK hP dX0_longest_21 ?_
        refine pb_ige (tgt := 73) hx hb dX0_longest_24 (by decide) (by first | assumption | omega) (by first | assumption | omega) (fun c24 => ?_) (fun c24 => ?_)
        · refine lv_iload_n hx hb dX0_longest_73 rfl (lv_at hl 2 rfl) ?_
          exact pb_miret C hS ⟨⟨R, lo, hSX.1, Or.inr ⟨a8, ha8, rfl, by rw [show a = n by omega]⟩⟩, ⟨_, _, _, _, _, _, hP, pb_XR_q h0 h1 hSX⟩⟩ dX0_longest_74
        · have hmx := pb_mx_le (n := n) (P := P) (R := R) (lo := lo) (k := a8 + 1) a
          have hPa := pb_cx_pop hC (i := a) (by omega)
          by_cases hR : R a = 0
          · rcases pb_cv_c (n := n) (R := R) (lo := lo) a with ⟨hcf, hcvv⟩ | ⟨b, hb1, hb2, hb3, hb4, hcvv⟩
            · have hpv : a3 a = -2 := by rw [hSX.2.2.1 a (by omega), pb_pv_z hR]; exact hcvv
              refine lv_aload_n hx hb dX0_longest_27 rfl (lv_at hl 0 rfl) ?_
              refine lv_iload_n hx hb dX0_longest_28 rfl (lv_at hl 3 rfl) ?_
              refine pb_afterQ (pb_runV (rC := (RX0, TX0, 7)) (ci := 0) (As := [.int (nI a)]) (rest := []) C (ct_X0_dimension l D d sg n P a0 a1 a2 a3 a4 (nI n) hC h0 h1 a (by omega)) gw_X0_X0_dimension hd_X0_dimension ⟨rfl, rfl, Nat.le_of_ble_eq_true rfl, Nat.le_of_ble_eq_true rfl⟩ ⟨Nat.zero_le _, Nat.zero_le _⟩ hK hP rfl rfl hl.1 rfl (Nat.le_of_ble_eq_true rfl) dX0_longest_29) ?_
              refine lv_iload_n hx hb dX0_longest_32 rfl (lv_at hl 1 rfl) ?_
              refine pb_ine (tgt := 67) hx hb dX0_longest_33 (by decide) (by first | assumption | omega) (by first | assumption | omega) (fun c33 => ?_) (fun c33 => ?_)
              · have hl : lv_has ls 4 [(0, .ref (sg 0)), (1, .int (nI a8)), (2, .int (nI (pb_mx n P R lo (a8 + 1) (a + 1)))), (3, .int (nI a))] := by have e9 : nI (pb_mx n P R lo (a8 + 1) a) = nI (pb_mx n P R lo (a8 + 1) (a + 1)) := (by rw [pb_mx_n (fun z => by omega)]); rw [← e9]; exact hl
                refine lv_iinc (v := nI (a + 1)) (lv' := [(3, .int (nI (a + 1))), (0, .ref (sg 0)), (1, .int (nI a8)), (2, .int (nI (pb_mx n P R lo (a8 + 1) (a + 1))))]) hx hb dX0_longest_67 hl (k := 3) rfl (nI_1 _) (by decide) rfl (fun ls hl => ?_)
                refine lv_goto (tgt := 19) hx hb dX0_longest_70 (by decide) ?_
                exact ih19 (a + 1) ls (by omega) (by omega) (lv_sub hl [1, 2, 3, 0] rfl)
              · refine lv_aload_n hx hb dX0_longest_36 rfl (lv_at hl 0 rfl) ?_
                refine pb_gX3 C hK hP dX0_longest_37 ?_
                refine lv_iload_n hx hb dX0_longest_40 rfl (lv_at hl 3 rfl) ?_
                refine pb_ald ((-2)) C hK hP 4 rfl (by omega) (by decide) hpv dX0_longest_41 ?_
                refine lv_iload_n hx hb dX0_longest_42 rfl (lv_at hl 3 rfl) ?_
                refine lv_icmp_le (tgt := 67) hx hb dX0_longest_43 (by decide) (fun c43 => ?_) (fun c43 => absurd (Int32.le_of_lt (pb_gt_neg (by omega) (by decide))) c43)
                have hl : lv_has ls 4 [(0, .ref (sg 0)), (1, .int (nI a8)), (2, .int (nI (pb_mx n P R lo (a8 + 1) (a + 1)))), (3, .int (nI a))] := by have e9 : nI (pb_mx n P R lo (a8 + 1) a) = nI (pb_mx n P R lo (a8 + 1) (a + 1)) := (by rw [pb_mx_n (fun z => by rw [hcf] at z; omega)]); rw [← e9]; exact hl
                refine lv_iinc (v := nI (a + 1)) (lv' := [(3, .int (nI (a + 1))), (0, .ref (sg 0)), (1, .int (nI a8)), (2, .int (nI (pb_mx n P R lo (a8 + 1) (a + 1))))]) hx hb dX0_longest_67 hl (k := 3) rfl (nI_1 _) (by decide) rfl (fun ls hl => ?_)
                refine lv_goto (tgt := 19) hx hb dX0_longest_70 (by decide) ?_
                exact ih19 (a + 1) ls (by omega) (by omega) (lv_sub hl [1, 2, 3, 0] rfl)
            · have hpv : a3 a = nI b := by rw [hSX.2.2.1 a (by omega), pb_pv_z hR]; exact hcvv
              have hab := (pb_lo_lt hSX.1 hb1 hb2).1
              refine lv_aload_n hx hb dX0_longest_27 rfl (lv_at hl 0 rfl) ?_
              refine lv_iload_n hx hb dX0_longest_28 rfl (lv_at hl 3 rfl) ?_
              refine pb_afterQ (pb_runV (rC := (RX0, TX0, 7)) (ci := 0) (As := [.int (nI a)]) (rest := []) C (ct_X0_dimension l D d sg n P a0 a1 a2 a3 a4 (nI n) hC h0 h1 a (by omega)) gw_X0_X0_dimension hd_X0_dimension ⟨rfl, rfl, Nat.le_of_ble_eq_true rfl, Nat.le_of_ble_eq_true rfl⟩ ⟨Nat.zero_le _, Nat.zero_le _⟩ hK hP rfl rfl hl.1 rfl (Nat.le_of_ble_eq_true rfl) dX0_longest_29) ?_
              refine lv_iload_n hx hb dX0_longest_32 rfl (lv_at hl 1 rfl) ?_
              refine pb_ine (tgt := 67) hx hb dX0_longest_33 (by decide) (by first | assumption | omega) (by first | assumption | omega) (fun c33 => ?_) (fun c33 => ?_)
              · have hl : lv_has ls 4 [(0, .ref (sg 0)), (1, .int (nI a8)), (2, .int (nI (pb_mx n P R lo (a8 + 1) (a + 1)))), (3, .int (nI a))] := by have e9 : nI (pb_mx n P R lo (a8 + 1) a) = nI (pb_mx n P R lo (a8 + 1) (a + 1)) := (by rw [pb_mx_n (fun z => by omega)]); rw [← e9]; exact hl
                refine lv_iinc (v := nI (a + 1)) (lv' := [(3, .int (nI (a + 1))), (0, .ref (sg 0)), (1, .int (nI a8)), (2, .int (nI (pb_mx n P R lo (a8 + 1) (a + 1))))]) hx hb dX0_longest_67 hl (k := 3) rfl (nI_1 _) (by decide) rfl (fun ls hl => ?_)
                refine lv_goto (tgt := 19) hx hb dX0_longest_70 (by decide) ?_
                exact ih19 (a + 1) ls (by omega) (by omega) (lv_sub hl [1, 2, 3, 0] rfl)
              · refine lv_aload_n hx hb dX0_longest_36 rfl (lv_at hl 0 rfl) ?_
                refine pb_gX3 C hK hP dX0_longest_37 ?_
                refine lv_iload_n hx hb dX0_longest_40 rfl (lv_at hl 3 rfl) ?_
                refine pb_ald (nI b) C hK hP 4 rfl (by omega) (by decide) hpv dX0_longest_41 ?_
                refine lv_iload_n hx hb dX0_longest_42 rfl (lv_at hl 3 rfl) ?_
                refine pb_ile (tgt := 67) hx hb dX0_longest_43 (by decide) (by first | assumption | omega) (by first | assumption | omega) (fun c43 => absurd c43 (by omega)) (fun c43 => ?_)
                refine lv_aload_n hx hb dX0_longest_46 rfl (lv_at hl 0 rfl) ?_
                refine pb_gX3 C hK hP dX0_longest_47 ?_
                refine lv_iload_n hx hb dX0_longest_50 rfl (lv_at hl 3 rfl) ?_
                refine pb_ald (nI b) C hK hP 4 rfl (by omega) (by decide) hpv dX0_longest_51 ?_
                refine lv_iload_n hx hb dX0_longest_52 rfl (lv_at hl 3 rfl) ?_
                refine lv_isub hx hb dX0_longest_53 ?_
                refine pb_top (nI (b - a)) (pk_sub (by omega)) ?_
                refine lv_iload_n hx hb dX0_longest_54 rfl (lv_at hl 2 rfl) ?_
                refine pb_ile (tgt := 67) hx hb dX0_longest_55 (by decide) (by first | assumption | omega) (by first | assumption | omega) (fun c55 => ?_) (fun c55 => ?_)
                · have hl : lv_has ls 4 [(0, .ref (sg 0)), (1, .int (nI a8)), (2, .int (nI (pb_mx n P R lo (a8 + 1) (a + 1)))), (3, .int (nI a))] := by have e9 : nI (pb_mx n P R lo (a8 + 1) a) = nI (pb_mx n P R lo (a8 + 1) (a + 1)) := (by rw [pb_mx_n (fun z => by rw [hb4] at z; omega)]); rw [← e9]; exact hl
                  refine lv_iinc (v := nI (a + 1)) (lv' := [(3, .int (nI (a + 1))), (0, .ref (sg 0)), (1, .int (nI a8)), (2, .int (nI (pb_mx n P R lo (a8 + 1) (a + 1))))]) hx hb dX0_longest_67 hl (k := 3) rfl (nI_1 _) (by decide) rfl (fun ls hl => ?_)
                  refine lv_goto (tgt := 19) hx hb dX0_longest_70 (by decide) ?_
                  exact ih19 (a + 1) ls (by omega) (by omega) (lv_sub hl [1, 2, 3, 0] rfl)
                · refine lv_aload_n hx hb dX0_longest_58 rfl (lv_at hl 0 rfl) ?_
                  refine pb_gX3 C hK hP dX0_longest_59 ?_
                  refine lv_iload_n hx hb dX0_longest_62 rfl (lv_at hl 3 rfl) ?_
                  refine pb_ald (nI b) C hK hP 4 rfl (by omega) (by decide) hpv dX0_longest_63 ?_
                  refine lv_iload_n hx hb dX0_longest_64 rfl (lv_at hl 3 rfl) ?_
                  refine lv_isub hx hb dX0_longest_65 ?_
                  refine pb_top (nI (b - a)) (pk_sub (by omega)) ?_
                  refine lv_istore_n (lv' := [(2, .int (nI (b - a))), (0, .ref (sg 0)), (1, .int (nI a8)), (3, .int (nI a))]) hx hb dX0_longest_66 rfl hl (by decide) rfl (fun ls hl => ?_)
                  have hl : lv_has ls 4 [(2, .int (nI (pb_mx n P R lo (a8 + 1) (a + 1)))), (0, .ref (sg 0)), (1, .int (nI a8)), (3, .int (nI a))] := by have e9 : nI (b - a) = nI (pb_mx n P R lo (a8 + 1) (a + 1)) := (by rw [pb_mx_y (by omega) hR (by rw [hb4]; omega), hb4]; rfl); rw [← e9]; exact hl
                  refine lv_iinc (v := nI (a + 1)) (lv' := [(3, .int (nI (a + 1))), (2, .int (nI (pb_mx n P R lo (a8 + 1) (a + 1)))), (0, .ref (sg 0)), (1, .int (nI a8))]) hx hb dX0_longest_67 hl (k := 3) rfl (nI_1 _) (by decide) rfl (fun ls hl => ?_)
                  refine lv_goto (tgt := 19) hx hb dX0_longest_70 (by decide) ?_
                  exact ih19 (a + 1) ls (by omega) (by omega) (lv_sub hl [2, 3, 1, 0] rfl)
          · have hpv : a3 a = nI (lo a) := by rw [hSX.2.2.1 a (by omega), pb_pv_n hR]
            have hla := (pb_lo_lt hSX.1 (show a < n by omega) hR).1
            refine lv_aload_n hx hb dX0_longest_27 rfl (lv_at hl 0 rfl) ?_
            refine lv_iload_n hx hb dX0_longest_28 rfl (lv_at hl 3 rfl) ?_
            refine pb_afterQ (pb_runV (rC := (RX0, TX0, 7)) (ci := 0) (As := [.int (nI a)]) (rest := []) C (ct_X0_dimension l D d sg n P a0 a1 a2 a3 a4 (nI n) hC h0 h1 a (by omega)) gw_X0_X0_dimension hd_X0_dimension ⟨rfl, rfl, Nat.le_of_ble_eq_true rfl, Nat.le_of_ble_eq_true rfl⟩ ⟨Nat.zero_le _, Nat.zero_le _⟩ hK hP rfl rfl hl.1 rfl (Nat.le_of_ble_eq_true rfl) dX0_longest_29) ?_
            refine lv_iload_n hx hb dX0_longest_32 rfl (lv_at hl 1 rfl) ?_
            refine pb_ine (tgt := 67) hx hb dX0_longest_33 (by decide) (by first | assumption | omega) (by first | assumption | omega) (fun c33 => ?_) (fun c33 => ?_)
            · have hl : lv_has ls 4 [(0, .ref (sg 0)), (1, .int (nI a8)), (2, .int (nI (pb_mx n P R lo (a8 + 1) (a + 1)))), (3, .int (nI a))] := by have e9 : nI (pb_mx n P R lo (a8 + 1) a) = nI (pb_mx n P R lo (a8 + 1) (a + 1)) := (by rw [pb_mx_n (fun z => by omega)]); rw [← e9]; exact hl
              refine lv_iinc (v := nI (a + 1)) (lv' := [(3, .int (nI (a + 1))), (0, .ref (sg 0)), (1, .int (nI a8)), (2, .int (nI (pb_mx n P R lo (a8 + 1) (a + 1))))]) hx hb dX0_longest_67 hl (k := 3) rfl (nI_1 _) (by decide) rfl (fun ls hl => ?_)
              refine lv_goto (tgt := 19) hx hb dX0_longest_70 (by decide) ?_
              exact ih19 (a + 1) ls (by omega) (by omega) (lv_sub hl [1, 2, 3, 0] rfl)
            · refine lv_aload_n hx hb dX0_longest_36 rfl (lv_at hl 0 rfl) ?_
              refine pb_gX3 C hK hP dX0_longest_37 ?_
              refine lv_iload_n hx hb dX0_longest_40 rfl (lv_at hl 3 rfl) ?_
              refine pb_ald (nI (lo a)) C hK hP 4 rfl (by omega) (by decide) hpv dX0_longest_41 ?_
              refine lv_iload_n hx hb dX0_longest_42 rfl (lv_at hl 3 rfl) ?_
              refine pb_ile (tgt := 67) hx hb dX0_longest_43 (by decide) (by first | assumption | omega) (by first | assumption | omega) (fun c43 => ?_) (fun c43 => absurd c43 (by omega))
              have hl : lv_has ls 4 [(0, .ref (sg 0)), (1, .int (nI a8)), (2, .int (nI (pb_mx n P R lo (a8 + 1) (a + 1)))), (3, .int (nI a))] := by have e9 : nI (pb_mx n P R lo (a8 + 1) a) = nI (pb_mx n P R lo (a8 + 1) (a + 1)) := (by rw [pb_mx_n (fun z => hR z.2.1)]); rw [← e9]; exact hl
              refine lv_iinc (v := nI (a + 1)) (lv' := [(3, .int (nI (a + 1))), (0, .ref (sg 0)), (1, .int (nI a8)), (2, .int (nI (pb_mx n P R lo (a8 + 1) (a + 1))))]) hx hb dX0_longest_67 hl (k := 3) rfl (nI_1 _) (by decide) rfl (fun ls hl => ?_)
              refine lv_goto (tgt := 19) hx hb dX0_longest_70 (by decide) ?_
              exact ih19 (a + 1) ls (by omega) (by omega) (lv_sub hl [1, 2, 3, 0] rfl)
    exact loop19 (n + 1) 0 ls (by omega) (by omega) (lv_sub hl [2, 3, 1, 0] rfl)
  · refine lv_iload_n hx hb dX0_longest_0 rfl (lv_at hl 1 rfl) ?_
    refine lv_if_lt (tgt := 9) hx hb dX0_longest_1 (by decide) (fun c1 => ?_) (fun c1 => absurd hk1 c1)
    refine lv_iconst (v := (-1)) hx hb dX0_longest_9 (by decide) ?_
    exact pb_miret C hS (by obtain ⟨R, lo, hSol⟩ := pb_Sol_ex (P := P) n; exact ⟨⟨R, lo, hSol, Or.inl ⟨Or.inr (Or.inl ⟨rfl, hk1⟩), rfl⟩⟩, ⟨_, _, _, _, _, _, hP, h0, h1, m0, R0, lo0, hm0, hsv, hSX⟩⟩) dX0_longest_10
  · refine lv_iload_n hx hb dX0_longest_0 rfl (lv_at hl 1 rfl) ?_
    refine pb_clt (tgt := 9) hx hb dX0_longest_1 (by decide) (by first | assumption | omega) ?_
    refine lv_iload_n hx hb dX0_longest_4 rfl (lv_at hl 1 rfl) ?_
    refine lv_iconst (v := nI 3) hx hb dX0_longest_5 rfl ?_
    refine pb_ile (tgt := 11) hx hb dX0_longest_6 (by decide) (by first | assumption | omega) (by first | assumption | omega) (fun c6 => absurd c6 (by omega)) (fun c6 => ?_)
    refine lv_iconst (v := (-1)) hx hb dX0_longest_9 (by decide) ?_
    exact pb_miret C hS (by obtain ⟨R, lo, hSol⟩ := pb_Sol_ex (P := P) n; exact ⟨⟨R, lo, hSol, Or.inl ⟨Or.inr (Or.inr ⟨rfl, a8, ha8, ha2, rfl⟩), rfl⟩⟩, ⟨_, _, _, _, _, _, hP, h0, h1, m0, R0, lo0, hm0, hsv, hSX⟩⟩) dX0_longest_10
theorem pb_dec1 (y : Nat) : nI y + Int32.ofInt (-1) = nI y - nI 1 := by
  rw [Int32.sub_eq_add_neg]
  rfl
theorem pb_neg0 : nI 0 - nI 1 < 0 := by decide
theorem pb_sub1 (y : Nat) : nI (y + 1) - nI 1 = nI y := nI_pred y
set_option maxHeartbeats 4000000 in
set_option maxRecDepth 100000 in
theorem ct_X0_bounds (l : Launch) (D : va_G) (d : ClassId) (sg : Nat → Nat) (n : Nat) (P : Nat → Nat) (a0 a1 a2 a3 a4 : Nat → Int32) (sv : Int32) (hn : pb_Nd sg 6) (hC : pb_Cx n P) (h0 : ∀ i, i < n → a0 i = nI (P i)) (h1 : ∀ q, q < 64 → pb_At n P q (-2) (a1 q)) (m0 : Nat) (R0 lo0 : Nat → Nat) (hm0 : m0 ≤ n) (hsv : sv = nI m0) (hSX : pb_SX m0 P R0 lo0 a2 a3 a4) (x : Int32) : Met l yX0_bounds (ws_ yX0_bounds cX0_bounds 4 (some .int)) (pb_ro 3) (va_Pc [.ref (sg 0), .int x] (pb_B D d (pb_xW sg d a0 a1 a2 a3 a4 (nI n) sv))) (pb_Qm (pb_A sg 6) (pb_xP D d sg n P (fun R lo r => pb_BoundsS n P R x r))) 0 0 (pb_A sg 6) := by
  refine pb_met RX0 (by decide) rfl (Nat.le_of_ble_eq_true rfl) rfl ?_
  intro p e s m below meth c ls C hnm hB hl
  obtain ⟨hx, hb, hml, hr, hown, hlk, hts⟩ := id C
  obtain ⟨hP, hK⟩ := hB
  have hl : lv_has ls 4 [(0, .ref (sg 0)), (1, .int x)] := hl
  have hS : va_S (pb_A sg 6) s.heap s.heap [] := va_S.rf
  have hn26 := hC.1
  obtain ⟨bx, hbx⟩ := pb_okI_ex (2 ^ n) x
  cases bx
  · refine lv_aload_n hx hb dX0_bounds_0 rfl (lv_at hl 0 rfl) ?_
    refine lv_iload_n hx hb dX0_bounds_1 rfl (lv_at hl 1 rfl) ?_
    refine pb_afterQ (pb_runV (rC := (RX0, TX0, 7)) (ci := 0) (As := [.int x]) (rest := []) C (ct_X0_isChain l D d sg n P a0 a1 a2 a3 a4 sv hC h0 h1 x false hbx) gw_X0_X0_isChain hd_X0_isChain ⟨rfl, rfl, Nat.le_of_ble_eq_true rfl, Nat.le_of_ble_eq_true rfl⟩ ⟨Nat.zero_le _, Nat.zero_le _⟩ hK hP rfl rfl hl.1 rfl (Nat.le_of_ble_eq_true rfl) dX0_bounds_2) ?_
    refine pb_zne (tgt := 10) hx hb dX0_bounds_5 (by decide) (fun c5 => absurd c5 (by decide)) (fun c5 => ?_)
    refine lv_iconst (v := (-1)) hx hb dX0_bounds_8 (by decide) ?_
    exact pb_miret C hS (by obtain ⟨R, lo, hSol⟩ := pb_Sol_ex (P := P) n; exact ⟨⟨R, lo, hSol, Or.inl ⟨hbx, rfl⟩⟩, ⟨_, _, _, _, _, _, hP, h0, h1, m0, R0, lo0, hm0, hsv, hSX⟩⟩) dX0_bounds_9
  · rcases hbx with ⟨_, ch, hch, rfl⟩ | ⟨h, _⟩ | ⟨h, _⟩
    · have hbl : pb_bd P n ch < 2 ^ 26 := pb_bd_lt P _ hn26 n (Nat.le_refl n)
      obtain ⟨be, hev⟩ := pb_okE_ex hC hch
      cases be
      · refine lv_aload_n hx hb dX0_bounds_0 rfl (lv_at hl 0 rfl) ?_
        refine lv_iload_n hx hb dX0_bounds_1 rfl (lv_at hl 1 rfl) ?_
        refine pb_afterQ (pb_runV (rC := (RX0, TX0, 7)) (ci := 0) (As := [.int (nI ch)]) (rest := []) C (ct_X0_isChain l D d sg n P a0 a1 a2 a3 a4 sv hC h0 h1 (nI ch) true (Or.inl ⟨rfl, ch, hch, rfl⟩)) gw_X0_X0_isChain hd_X0_isChain ⟨rfl, rfl, Nat.le_of_ble_eq_true rfl, Nat.le_of_ble_eq_true rfl⟩ ⟨Nat.zero_le _, Nat.zero_le _⟩ hK hP rfl rfl hl.1 rfl (Nat.le_of_ble_eq_true rfl) dX0_bounds_2) ?_
        refine pb_zne (tgt := 10) hx hb dX0_bounds_5 (by decide) (fun c5 => ?_) (fun c5 => absurd c5 (by decide))
        refine lv_aload_n hx hb dX0_bounds_10 rfl (lv_at hl 0 rfl) ?_
        refine lv_iload_n hx hb dX0_bounds_11 rfl (lv_at hl 1 rfl) ?_
        refine pb_afterQ (pb_runV (rC := (RX0, TX0, 7)) (ci := 0) (As := [.int (nI ch)]) (rest := []) C (ct_X0_isEven l D d sg n P a0 a1 a2 a3 a4 sv hC h0 h1 ch hch false hev) gw_X0_X0_isEven hd_X0_isEven ⟨rfl, rfl, Nat.le_of_ble_eq_true rfl, Nat.le_of_ble_eq_true rfl⟩ ⟨Nat.zero_le _, Nat.zero_le _⟩ hK hP rfl rfl hl.1 rfl (Nat.le_of_ble_eq_true rfl) dX0_bounds_12) ?_
        refine pb_zne (tgt := 21) hx hb dX0_bounds_15 (by decide) (fun c15 => absurd c15 (by decide)) (fun c15 => ?_)
        refine lv_bipush (v := (-2)) hx hb dX0_bounds_18 (by decide) ?_
        exact pb_miret C hS (by obtain ⟨R, lo, hSol⟩ := pb_Sol_ex (P := P) n; exact ⟨⟨R, lo, hSol, Or.inr (Or.inl ⟨ch, hch, rfl, hev, rfl⟩)⟩, ⟨_, _, _, _, _, _, hP, h0, h1, m0, R0, lo0, hm0, hsv, hSX⟩⟩) dX0_bounds_20
      · refine lv_aload_n hx hb dX0_bounds_0 rfl (lv_at hl 0 rfl) ?_
        refine lv_iload_n hx hb dX0_bounds_1 rfl (lv_at hl 1 rfl) ?_
        refine pb_afterQ (pb_runV (rC := (RX0, TX0, 7)) (ci := 0) (As := [.int (nI ch)]) (rest := []) C (ct_X0_isChain l D d sg n P a0 a1 a2 a3 a4 sv hC h0 h1 (nI ch) true (Or.inl ⟨rfl, ch, hch, rfl⟩)) gw_X0_X0_isChain hd_X0_isChain ⟨rfl, rfl, Nat.le_of_ble_eq_true rfl, Nat.le_of_ble_eq_true rfl⟩ ⟨Nat.zero_le _, Nat.zero_le _⟩ hK hP rfl rfl hl.1 rfl (Nat.le_of_ble_eq_true rfl) dX0_bounds_2) ?_
        refine pb_zne (tgt := 10) hx hb dX0_bounds_5 (by decide) (fun c5 => ?_) (fun c5 => absurd c5 (by decide))
        refine lv_aload_n hx hb dX0_bounds_10 rfl (lv_at hl 0 rfl) ?_
        refine lv_iload_n hx hb dX0_bounds_11 rfl (lv_at hl 1 rfl) ?_
        refine pb_afterQ (pb_runV (rC := (RX0, TX0, 7)) (ci := 0) (As := [.int (nI ch)]) (rest := []) C (ct_X0_isEven l D d sg n P a0 a1 a2 a3 a4 sv hC h0 h1 ch hch true hev) gw_X0_X0_isEven hd_X0_isEven ⟨rfl, rfl, Nat.le_of_ble_eq_true rfl, Nat.le_of_ble_eq_true rfl⟩ ⟨Nat.zero_le _, Nat.zero_le _⟩ hK hP rfl rfl hl.1 rfl (Nat.le_of_ble_eq_true rfl) dX0_bounds_12) ?_
        refine pb_zne (tgt := 21) hx hb dX0_bounds_15 (by decide) (fun c15 => ?_) (fun c15 => absurd c15 (by decide))
        refine lv_aload_n hx hb dX0_bounds_21 rfl (lv_at hl 0 rfl) ?_
        refine lv_iload_n hx hb dX0_bounds_22 rfl (lv_at hl 1 rfl) ?_
        refine pb_afterQ (pb_runV (rC := (RX0, TX0, 7)) (ci := 0) (As := [.int (nI ch)]) (rest := []) C (ct_X0_borderOf l D d sg n P a0 a1 a2 a3 a4 sv hC h0 h1 ch hch) gw_X0_X0_borderOf hd_X0_borderOf ⟨rfl, rfl, Nat.le_of_ble_eq_true rfl, Nat.le_of_ble_eq_true rfl⟩ ⟨Nat.zero_le _, Nat.zero_le _⟩ hK hP rfl rfl hl.1 rfl (Nat.le_of_ble_eq_true rfl) dX0_bounds_23) ?_
        refine pb_ceq (tgt := 31) hx hb dX0_bounds_26 (by decide) (by omega) (fun c26 => ?_) (fun c26 => ?_)
        · refine lv_aload_n hx hb dX0_bounds_31 rfl (lv_at hl 0 rfl) ?_
          refine pb_afterN (pb_runV (rC := (RX0, TX0, 7)) (ci := 0) (As := []) (rest := []) C (ct_X0_solve l D d sg n P a0 a1 a2 a3 a4 sv hn hC h0 h1 m0 R0 lo0 hm0 hsv hSX) gw_X0_X0_solve hd_X0_solve ⟨rfl, rfl, Nat.le_of_ble_eq_true rfl, Nat.le_of_ble_eq_true rfl⟩ ⟨Nat.zero_le _, Nat.zero_le _⟩ hK hP rfl rfl hl.1 rfl (Nat.le_of_ble_eq_true rfl) dX0_bounds_32) hS (fun _ z => z) (fun H locs hq hfr hS => ?_)
          obtain ⟨R, lo, a2, a3, a4, hSX, hP⟩ := hq
          refine lv_iload_n hx hb dX0_bounds_35 rfl (lv_at hl 1 rfl) ?_
          refine lv_istore_n (lv' := [(2, .int (nI ch)), (0, .ref (sg 0)), (1, .int (nI ch))]) hx hb dX0_bounds_36 rfl hl (by decide) rfl (fun ls hl => ?_)
          refine lv_aload_n hx hb dX0_bounds_37 rfl (lv_at hl 1 rfl) ?_
          refine pb_gX5 C hK hP dX0_bounds_38 ?_
          refine lv_iconst (v := nI 1) hx hb dX0_bounds_41 rfl ?_
          refine lv_isub hx hb dX0_bounds_42 ?_
          refine lv_istore_n (lv' := [(3, .int (nI n - nI 1)), (2, .int (nI ch)), (0, .ref (sg 0)), (1, .int (nI ch))]) hx hb dX0_bounds_43 rfl hl (by decide) rfl (fun ls hl => ?_)
          have loop44 : ∀ (k44 : Nat) (x : Nat) (rv : Nat) (ls : Array Slot), (x < k44) → (x ≤ n) → (pb_Dn n R ch x rv) → lv_has ls 4 [(0, .ref (sg 0)), (1, .int (nI ch)), (2, .int (nI rv)), (3, .int (nI x - nI 1))] → W p l e (pb_ro 3) s m ([.ref (sg 0), .int (nI ch)] : List Value).toArray below meth c H locs 0 0 (MQ below (pb_Qm (pb_A sg 6) (pb_xP D d sg n P (fun R lo r => pb_BoundsS n P R (nI ch) r))) ([.ref (sg 0), .int (nI ch)] : List Value).toArray s 0 0 (pb_A sg 6)) (F0 m 44 ls []) := by
            intro k44
            induction k44 with
            | zero =>
              intro x rv ls hk hx9 hDn hl
              omega
            | succ k44 ih44 =>
              intro x rv ls hk hx9 hDn hl
              have hrv : rv < 2 ^ 26 := pb_p26 hDn.2 (by omega)
              cases x with
              | zero =>
                refine lv_iload_n hx hb dX0_bounds_44 rfl (lv_at hl 3 rfl) ?_
                refine lv_if_lt (tgt := 88) hx hb dX0_bounds_45 (by decide) (fun c45 => ?_) (fun c45 => absurd pb_neg0 c45)
                refine lv_iconst (v := nI 1) hx hb dX0_bounds_88 rfl ?_
                exact pb_miret C hS ⟨⟨R, lo, hSX.1, Or.inr (Or.inr (Or.inr ⟨ch, true, hch, rfl, hev, c26, ⟨fun _ => pb_Dn_end hDn, fun _ => rfl⟩, rfl⟩))⟩, ⟨_, _, _, _, _, _, hP, pb_XR_q h0 h1 hSX⟩⟩ dX0_bounds_89
              | succ y =>
                have hl : lv_has ls 4 [(0, .ref (sg 0)), (1, .int (nI ch)), (2, .int (nI rv)), (3, .int (nI y))] := by have e9 : nI (y + 1) - nI 1 = nI y := (pb_sub1 y); rw [← e9]; exact hl
                refine lv_iload_n hx hb dX0_bounds_44 rfl (lv_at hl 3 rfl) ?_
                refine pb_clt (tgt := 88) hx hb dX0_bounds_45 (by decide) (by first | assumption | omega) ?_
                refine lv_iload_n hx hb dX0_bounds_48 rfl (lv_at hl 2 rfl) ?_
                refine lv_iload_n hx hb dX0_bounds_49 rfl (lv_at hl 3 rfl) ?_
                refine lv_ishr hx hb dX0_bounds_50 ?_
                refine lv_iconst (v := nI 1) hx hb dX0_bounds_51 rfl ?_
                refine lv_iand hx hb dX0_bounds_52 ?_
                refine pb_tup (pb_bit (by first | assumption | omega) (by first | assumption | omega)) ?_
                refine lv_iconst (v := nI 1) hx hb dX0_bounds_53 rfl ?_
                refine pb_z1ne (tgt := 82) hx hb dX0_bounds_54 (by decide) (fun c54 => ?_) (fun c54 => ?_)
                · refine lv_iinc (v := nI y - nI 1) (lv' := [(3, .int (nI y - nI 1)), (0, .ref (sg 0)), (1, .int (nI ch)), (2, .int (nI rv))]) hx hb dX0_bounds_82 hl (k := 3) rfl (pb_dec1 y) (by decide) rfl (fun ls hl => ?_)
                  refine lv_goto (tgt := 44) hx hb dX0_bounds_85 (by decide) ?_
                  exact ih44 y rv ls (by omega) (by omega) (pb_Dn_skip hDn c54) (lv_sub hl [1, 2, 3, 0] rfl)
                · refine lv_aload_n hx hb dX0_bounds_57 rfl (lv_at hl 0 rfl) ?_
                  refine pb_gX4 C hK hP dX0_bounds_58 ?_
                  refine lv_iload_n hx hb dX0_bounds_61 rfl (lv_at hl 3 rfl) ?_
                  refine pb_ald (pb_cv n R lo y) C hK hP 5 rfl (by omega) (by decide) (hSX.2.2.2 y (by omega)) dX0_bounds_62 ?_
                  rcases pb_cv_c (n := n) (R := R) (lo := lo) y with ⟨hcf, hcvv⟩ | ⟨b, hb1, hb2, hb3, hb4, hcvv⟩
                  · refine pb_top ((-2)) hcvv ?_
                    refine pb_cgeN (tgt := 68) hx hb dX0_bounds_63 (by decide) (by decide) ?_
                    refine lv_iconst (v := nI 0) hx hb dX0_bounds_66 rfl ?_
                    exact pb_miret C hS ⟨⟨R, lo, hSX.1, Or.inr (Or.inr (Or.inr ⟨ch, false, hch, rfl, hev, c26, ⟨fun z => absurd z (by decide), fun z => absurd z (pb_Dn_out hSX.1.2 hDn c54 (pb_cf_z hcf))⟩, rfl⟩))⟩, ⟨_, _, _, _, _, _, hP, pb_XR_q h0 h1 hSX⟩⟩ dX0_bounds_67
                  · refine pb_top (nI b) hcvv ?_
                    refine pb_cge (tgt := 68) hx hb dX0_bounds_63 (by decide) (by first | assumption | omega) ?_
                    refine lv_iload_n hx hb dX0_bounds_68 rfl (lv_at hl 2 rfl) ?_
                    refine lv_aload_n hx hb dX0_bounds_69 rfl (lv_at hl 0 rfl) ?_
                    refine pb_gX2 C hK hP dX0_bounds_70 ?_
                    refine lv_aload_n hx hb dX0_bounds_73 rfl (lv_at hl 0 rfl) ?_
                    refine pb_gX4 C hK hP dX0_bounds_74 ?_
                    refine lv_iload_n hx hb dX0_bounds_77 rfl (lv_at hl 3 rfl) ?_
                    refine pb_ald (nI b) C hK hP 5 rfl (by omega) (by decide) (by rw [hSX.2.2.2 y (by omega)]; exact hcvv) dX0_bounds_78 ?_
                    refine pb_ald (nI (R b)) C hK hP 3 rfl (by omega) (by decide) (hSX.2.1 b hb1) dX0_bounds_79 ?_
                    refine lv_ixor hx hb dX0_bounds_80 ?_
                    refine pb_tup (nx_xor _ _) ?_
                    refine lv_istore_n (lv' := [(2, .int (nI (rv ^^^ (R b)))), (0, .ref (sg 0)), (1, .int (nI ch)), (3, .int (nI y))]) hx hb dX0_bounds_81 rfl hl (by decide) rfl (fun ls hl => ?_)
                    refine lv_iinc (v := nI y - nI 1) (lv' := [(3, .int (nI y - nI 1)), (2, .int (nI (rv ^^^ (R b)))), (0, .ref (sg 0)), (1, .int (nI ch))]) hx hb dX0_bounds_82 hl (k := 3) rfl (pb_dec1 y) (by decide) rfl (fun ls hl => ?_)
                    refine lv_goto (tgt := 44) hx hb dX0_bounds_85 (by decide) ?_
                    exact ih44 y (rv ^^^ R b) ls (by omega) (by omega) (pb_Dn_add hSX.1.2 hDn c54 hb1 hb2 hb3) (lv_sub hl [2, 3, 1, 0] rfl)
          exact loop44 (n + 1) n ch ls (by omega) (Nat.le_refl n) (pb_Dn_0 R hch) (lv_sub hl [2, 3, 1, 0] rfl)
        · refine lv_iconst (v := nI 2) hx hb dX0_bounds_29 rfl ?_
          exact pb_miret C hS (by obtain ⟨R, lo, hSol⟩ := pb_Sol_ex (P := P) n; exact ⟨⟨R, lo, hSol, Or.inr (Or.inr (Or.inl ⟨ch, hch, rfl, hev, c26, rfl⟩))⟩, ⟨_, _, _, _, _, _, hP, h0, h1, m0, R0, lo0, hm0, hsv, hSX⟩⟩) dX0_bounds_30
    · cases h
    · cases h
end
section
/-! the two constructors -/
set_option maxRecDepth 100000
def pb_s3 (h q1 q2 : Nat) : Nat → Nat := fun k => match k with
  | 0 => h
  | 1 => q1
  | _ => q2
def pb_s6 (h q1 q2 q3 q4 q5 : Nat) : Nat → Nat := fun k => match k with
  | 0 => h
  | 1 => q1
  | 2 => q2
  | 3 => q3
  | 4 => q4
  | _ => q5
/-- all int arrays are of one kind -/
theorem pb_one {D : va_G} {tys : List (ClassId × FieldType)} {U : State} (hK : va_K D pb_cl tys U) (i j : Nat) {c1 c2 : ClassId} (h1 : tys[i]? = some (c1, .int)) (h2 : tys[j]? = some (c2, .int)) : c1 = c2 := by
  have e1 : U.vm.findClass ("[" ++ FieldType.int.toString) = some c1 := (hK.2 i _ h1).2
  have e2 : U.vm.findClass ("[" ++ FieldType.int.toString) = some c2 := (hK.2 j _ h2).2
  exact Option.some.inj (e1.symm.trans e2)
abbrev pb_m0 (h : Nat) : va_W := [(h, .inr (1, [.int 0, .null, .null]))]
abbrev pb_x0 (h : Nat) : va_W := [(h, .inr (0, [.null, .null, .null, .null, .null, .int 0, .int 0]))]
/-- a new model: no pieces -/
def pb_mI (D : va_G) (h sz : Nat) (u : Nat × Nat × ClassId) (t : State) : Prop := va_P D pb_cl (pb_mW (pb_s3 h u.1 u.2.1) u.2.2 (nI 0) (fun _ => 0) (fun _ => 0)) t.heap ∧ va_K D pb_cl [(u.2.2, .int)] t ∧ va_D (va_A (pb_m0 h) sz) (pb_mW (pb_s3 h u.1 u.2.1) u.2.2 (nI 0) (fun _ => 0) (fun _ => 0))
/-- a new PersistentBars: no piece has a place -/
def pb_xI (D : va_G) (h sz : Nat) (u : (Nat × Nat × Nat × Nat × Nat) × ClassId × (Nat → Int32)) (t : State) : Prop := va_P D pb_cl (pb_xW (pb_s6 h u.1.1 u.1.2.1 u.1.2.2.1 u.1.2.2.2.1 u.1.2.2.2.2) u.2.1 (fun _ => 0) u.2.2 (fun _ => 0) (fun _ => 0) (fun _ => 0) (nI 0) (nI 0)) t.heap ∧ va_K D pb_cl [(u.2.1, .int)] t ∧ va_D (va_A (pb_x0 h) sz) (pb_xW (pb_s6 h u.1.1 u.1.2.1 u.1.2.2.1 u.1.2.2.2.1 u.1.2.2.2.2) u.2.1 (fun _ => 0) u.2.2 (fun _ => 0) (fun _ => 0) (fun _ => 0) (nI 0) (nI 0))
set_option maxHeartbeats 4000000 in
set_option maxRecDepth 100000 in
theorem ct_X1_init (l : Launch) (D : va_G) (h sz : Nat) : Met l yX1_init (ws_ yX1_init cX1_init 1 none) ({ frames := 1, cells := 2, slots := 52, locals := 12 }) (va_Pc [.ref h] (fun U => U.heap.size = sz ∧ va_P D pb_cl (pb_m0 h) U.heap ∧ va_K D pb_cl [] U ∧ va_D (fun _ => True) (pb_m0 h))) (va_Qv (fun u : Nat × Nat × ClassId => True) (pb_mI D h sz) (va_A (pb_m0 h) sz)) 2 52 (va_A (pb_m0 h) sz) := by
  refine pb_met RX1 (by decide) rfl (Nat.le_of_ble_eq_true rfl) rfl ?_
  intro p e s m below meth c ls C hnm hB hl
  obtain ⟨hx, hb, hml, hr, hown, hlk, hts⟩ := id C
  obtain ⟨hsz, hP, hK, hD0⟩ := hB
  have hin : meth.name = "<init>" := hnm
  subst hsz
  have hD := hD0.self (sz := s.heap.size)
  generalize hAe : va_A (pb_m0 h) s.heap.size = A at hD ⊢
  have hA : ∀ q : Nat, s.heap.size ≤ q → A q := fun q z => by rw [← hAe]; exact Or.inr z
  have hS : va_S A s.heap s.heap [] := va_S.rf
  have hl : lv_has ls 1 [(0, .ref h)] := hl
  refine lv_aload_n hx hb dX1_init_0 rfl (lv_at hl 0 rfl) ?_
  refine W.objInit hx hb hown (hts _ q176) (hts _ q37) (hts _ q38) rfl (by rw [hml]; exact hl.1) rfl dX1_init_1 (Nat.le_of_ble_eq_true rfl) (Nat.le_of_ble_eq_true rfl) ?_
  refine W.eq (g2 := F0 m 4 ls []) rfl ?_
  refine lv_aload_n hx hb dX1_init_4 rfl (lv_at hl 0 rfl) ?_
  refine lv_bipush (v := nI 26) hx hb dX1_init_5 rfl ?_
  refine va_newa (atype := .int) (ty := .int) (a0 := (26, .inl (fun _ => 0))) (N' := 26) hx hb (hts _ q61) rfl hK hP hD hS hA (fun cA => rfl) (by decide) rfl (by decide) (by decide) (by decide) dX1_init_7 (fun q1_ c1_ H hK hP hD hS => ?_)
  have hK : va_K D pb_cl [(c1_, .int)] s := hK.sub [0] rfl
  have hP : va_P D pb_cl [(h, .inr (1, [.int 0, .null, .null])), (q1_, .inl (c1_, 26, .inl (fun _ => 0)))] H := hP
  have hD : va_D A [(h, .inr (1, [.int 0, .null, .null])), (q1_, .inl (c1_, 26, .inl (fun _ => 0)))] := hD
  refine W.widen (k := 1) (n := 26) (by omega) (by omega) ?_
  refine va_put (D := D) (ci := 1) (v := .ref q1_) (ty := .array .int) (C := RX1) (T := TX1) (N := 3) hx hb hts in_X1 tyX1 tyX1_ok nmX1 hown hK hP hD hS 0 rfl rfl 1 (by decide) (hts _ q178) (fun _ h9 => h9) rfl (by decide +kernel) rfl rfl (Nat.le_of_ble_eq_true rfl) dX1_init_9 (fun H locs hP hD hS => ?_)
  have hP : va_P D pb_cl [(h, .inr (1, [.int 0, .ref q1_, .null])), (q1_, .inl (c1_, 26, .inl (fun _ => 0)))] H := hP
  have hD : va_D A [(h, .inr (1, [.int 0, .ref q1_, .null])), (q1_, .inl (c1_, 26, .inl (fun _ => 0)))] := hD
  refine lv_aload_n hx hb dX1_init_12 rfl (lv_at hl 0 rfl) ?_
  refine lv_bipush (v := nI 26) hx hb dX1_init_13 rfl ?_
  refine va_newa (atype := .int) (ty := .int) (a0 := (26, .inl (fun _ => 0))) (N' := 26) hx hb (hts _ q61) rfl hK hP hD hS hA (fun cA => rfl) (by decide) rfl (by decide) (by decide) (by decide) dX1_init_15 (fun q2_ c2_ H hK hP hD hS => ?_)
  have e1_ : c1_ = c2_ := pb_one hK 0 1 rfl rfl
  subst e1_
  have hK : va_K D pb_cl [(c1_, .int)] s := hK.sub [0] rfl
  have hP : va_P D pb_cl [(h, .inr (1, [.int 0, .ref q1_, .null])), (q1_, .inl (c1_, 26, .inl (fun _ => 0))), (q2_, .inl (c1_, 26, .inl (fun _ => 0)))] H := hP
  have hD : va_D A [(h, .inr (1, [.int 0, .ref q1_, .null])), (q1_, .inl (c1_, 26, .inl (fun _ => 0))), (q2_, .inl (c1_, 26, .inl (fun _ => 0)))] := hD
  refine W.widen (k := 2) (n := 52) (by omega) (by omega) ?_
  refine va_put (D := D) (ci := 1) (v := .ref q2_) (ty := .array .int) (C := RX1) (T := TX1) (N := 3) hx hb hts in_X1 tyX1 tyX1_ok nmX1 hown hK hP hD hS 0 rfl rfl 2 (by decide) (hts _ q179) (fun _ h9 => h9) rfl (by decide +kernel) rfl rfl (Nat.le_of_ble_eq_true rfl) dX1_init_17 (fun H locs hP hD hS => ?_)
  have hP : va_P D pb_cl [(h, .inr (1, [.int 0, .ref q1_, .ref q2_])), (q1_, .inl (c1_, 26, .inl (fun _ => 0))), (q2_, .inl (c1_, 26, .inl (fun _ => 0)))] H := hP
  have hD : va_D A [(h, .inr (1, [.int 0, .ref q1_, .ref q2_])), (q1_, .inl (c1_, 26, .inl (fun _ => 0))), (q2_, .inl (c1_, 26, .inl (fun _ => 0)))] := hD
  exact W.vret hx hb hr (fun t ht hW => ⟨⟨(q1_, q2_, c1_), rfl, trivial, by rw [ht]; exact hP, va_K.moved hW.alike hK, by rw [hAe]; exact hD⟩, hS.F ht⟩) hS.2.2 dX1_init_20 hlk
set_option maxHeartbeats 4000000 in
set_option maxRecDepth 100000 in
theorem ct_X0_init (l : Launch) (D : va_G) (h sz : Nat) : Met l yX0_init (ws_ yX0_init cX0_init 2 none) ({ frames := 1, cells := 5, slots := 168, locals := 12 }) (va_Pc [.ref h] (fun U => U.heap.size = sz ∧ va_P D pb_cl (pb_x0 h) U.heap ∧ va_K D pb_cl [] U ∧ va_D (fun _ => True) (pb_x0 h))) (va_Qv (fun u : (Nat × Nat × Nat × Nat × Nat) × ClassId × (Nat → Int32) => ∀ q, q < 64 → u.2.2 q = -2) (pb_xI D h sz) (va_A (pb_x0 h) sz)) 5 168 (va_A (pb_x0 h) sz) := by
  refine pb_met RX0 (by decide) rfl (Nat.le_of_ble_eq_true rfl) rfl ?_
  intro p e s m below meth c ls C hnm hB hl
  obtain ⟨hx, hb, hml, hr, hown, hlk, hts⟩ := id C
  obtain ⟨hsz, hP, hK, hD0⟩ := hB
  have hin : meth.name = "<init>" := hnm
  subst hsz
  have hD := hD0.self (sz := s.heap.size)
  generalize hAe : va_A (pb_x0 h) s.heap.size = A at hD ⊢
  have hA : ∀ q : Nat, s.heap.size ≤ q → A q := fun q z => by rw [← hAe]; exact Or.inr z
  have hS : va_S A s.heap s.heap [] := va_S.rf
  have hl : lv_has ls 2 [(0, .ref h)] := hl
  refine lv_aload_n hx hb dX0_init_0 rfl (lv_at hl 0 rfl) ?_
  refine W.objInit hx hb hown (hts _ q36) (hts _ q37) (hts _ q38) rfl (by rw [hml]; exact hl.1) rfl dX0_init_1 (Nat.le_of_ble_eq_true rfl) (Nat.le_of_ble_eq_true rfl) ?_
  refine W.eq (g2 := F0 m 4 ls []) rfl ?_
  refine lv_aload_n hx hb dX0_init_4 rfl (lv_at hl 0 rfl) ?_
  refine lv_bipush (v := nI 26) hx hb dX0_init_5 rfl ?_
  refine va_newa (atype := .int) (ty := .int) (a0 := (26, .inl (fun _ => 0))) (N' := 26) hx hb (hts _ q61) rfl hK hP hD hS hA (fun cA => rfl) (by decide) rfl (by decide) (by decide) (by decide) dX0_init_7 (fun q1_ c1_ H hK hP hD hS => ?_)
  have hK : va_K D pb_cl [(c1_, .int)] s := hK.sub [0] rfl
  have hP : va_P D pb_cl [(h, .inr (0, [.null, .null, .null, .null, .null, .int 0, .int 0])), (q1_, .inl (c1_, 26, .inl (fun _ => 0)))] H := hP
  have hD : va_D A [(h, .inr (0, [.null, .null, .null, .null, .null, .int 0, .int 0])), (q1_, .inl (c1_, 26, .inl (fun _ => 0)))] := hD
  refine W.widen (k := 1) (n := 26) (by omega) (by omega) ?_
  refine va_putF (D := D) (ci := 0) (v := .ref q1_) (ty := .array .int) (C := RX0) (T := TX0) (N := 7) hx hb hts in_X0 tyX0 tyX0_ok nmX0 hown hK hP hD hS 0 rfl rfl 0 (by decide) (hts _ q39) (fun _ h9 => h9) rfl hin rfl (by decide +kernel) rfl rfl (Nat.le_of_ble_eq_true rfl) dX0_init_9 (fun H locs hP hD hS => ?_)
  have hP : va_P D pb_cl [(h, .inr (0, [.ref q1_, .null, .null, .null, .null, .int 0, .int 0])), (q1_, .inl (c1_, 26, .inl (fun _ => 0)))] H := hP
  have hD : va_D A [(h, .inr (0, [.ref q1_, .null, .null, .null, .null, .int 0, .int 0])), (q1_, .inl (c1_, 26, .inl (fun _ => 0)))] := hD
  refine lv_aload_n hx hb dX0_init_12 rfl (lv_at hl 0 rfl) ?_
  refine lv_bipush (v := nI 64) hx hb dX0_init_13 rfl ?_
  refine va_newa (atype := .int) (ty := .int) (a0 := (64, .inl (fun _ => 0))) (N' := 64) hx hb (hts _ q61) rfl hK hP hD hS hA (fun cA => rfl) (by decide) rfl (by decide) (by decide) (by decide) dX0_init_15 (fun q2_ c2_ H hK hP hD hS => ?_)
  have e1_ : c1_ = c2_ := pb_one hK 0 1 rfl rfl
  subst e1_
  have hK : va_K D pb_cl [(c1_, .int)] s := hK.sub [0] rfl
  have hP : va_P D pb_cl [(h, .inr (0, [.ref q1_, .null, .null, .null, .null, .int 0, .int 0])), (q1_, .inl (c1_, 26, .inl (fun _ => 0))), (q2_, .inl (c1_, 64, .inl (fun _ => 0)))] H := hP
  have hD : va_D A [(h, .inr (0, [.ref q1_, .null, .null, .null, .null, .int 0, .int 0])), (q1_, .inl (c1_, 26, .inl (fun _ => 0))), (q2_, .inl (c1_, 64, .inl (fun _ => 0)))] := hD
  refine W.widen (k := 2) (n := 90) (by omega) (by omega) ?_
  refine va_putF (D := D) (ci := 0) (v := .ref q2_) (ty := .array .int) (C := RX0) (T := TX0) (N := 7) hx hb hts in_X0 tyX0 tyX0_ok nmX0 hown hK hP hD hS 0 rfl rfl 1 (by decide) (hts _ q40) (fun _ h9 => h9) rfl hin rfl (by decide +kernel) rfl rfl (Nat.le_of_ble_eq_true rfl) dX0_init_17 (fun H locs hP hD hS => ?_)
  have hP : va_P D pb_cl [(h, .inr (0, [.ref q1_, .ref q2_, .null, .null, .null, .int 0, .int 0])), (q1_, .inl (c1_, 26, .inl (fun _ => 0))), (q2_, .inl (c1_, 64, .inl (fun _ => 0)))] H := hP
  have hD : va_D A [(h, .inr (0, [.ref q1_, .ref q2_, .null, .null, .null, .int 0, .int 0])), (q1_, .inl (c1_, 26, .inl (fun _ => 0))), (q2_, .inl (c1_, 64, .inl (fun _ => 0)))] := hD
  refine lv_aload_n hx hb dX0_init_20 rfl (lv_at hl 0 rfl) ?_
  refine lv_bipush (v := nI 26) hx hb dX0_init_21 rfl ?_
  refine va_newa (atype := .int) (ty := .int) (a0 := (26, .inl (fun _ => 0))) (N' := 26) hx hb (hts _ q61) rfl hK hP hD hS hA (fun cA => rfl) (by decide) rfl (by decide) (by decide) (by decide) dX0_init_23 (fun q3_ c3_ H hK hP hD hS => ?_)
  have e2_ : c1_ = c3_ := pb_one hK 0 1 rfl rfl
  subst e2_
  have hK : va_K D pb_cl [(c1_, .int)] s := hK.sub [0] rfl
  have hP : va_P D pb_cl [(h, .inr (0, [.ref q1_, .ref q2_, .null, .null, .null, .int 0, .int 0])), (q1_, .inl (c1_, 26, .inl (fun _ => 0))), (q2_, .inl (c1_, 64, .inl (fun _ => 0))), (q3_, .inl (c1_, 26, .inl (fun _ => 0)))] H := hP
  have hD : va_D A [(h, .inr (0, [.ref q1_, .ref q2_, .null, .null, .null, .int 0, .int 0])), (q1_, .inl (c1_, 26, .inl (fun _ => 0))), (q2_, .inl (c1_, 64, .inl (fun _ => 0))), (q3_, .inl (c1_, 26, .inl (fun _ => 0)))] := hD
  refine W.widen (k := 3) (n := 116) (by omega) (by omega) ?_
  refine va_putF (D := D) (ci := 0) (v := .ref q3_) (ty := .array .int) (C := RX0) (T := TX0) (N := 7) hx hb hts in_X0 tyX0 tyX0_ok nmX0 hown hK hP hD hS 0 rfl rfl 2 (by decide) (hts _ q41) (fun _ h9 => h9) rfl hin rfl (by decide +kernel) rfl rfl (Nat.le_of_ble_eq_true rfl) dX0_init_25 (fun H locs hP hD hS => ?_)
  have hP : va_P D pb_cl [(h, .inr (0, [.ref q1_, .ref q2_, .ref q3_, .null, .null, .int 0, .int 0])), (q1_, .inl (c1_, 26, .inl (fun _ => 0))), (q2_, .inl (c1_, 64, .inl (fun _ => 0))), (q3_, .inl (c1_, 26, .inl (fun _ => 0)))] H := hP
  have hD : va_D A [(h, .inr (0, [.ref q1_, .ref q2_, .ref q3_, .null, .null, .int 0, .int 0])), (q1_, .inl (c1_, 26, .inl (fun _ => 0))), (q2_, .inl (c1_, 64, .inl (fun _ => 0))), (q3_, .inl (c1_, 26, .inl (fun _ => 0)))] := hD
  refine lv_aload_n hx hb dX0_init_28 rfl (lv_at hl 0 rfl) ?_
  refine lv_bipush (v := nI 26) hx hb dX0_init_29 rfl ?_
  refine va_newa (atype := .int) (ty := .int) (a0 := (26, .inl (fun _ => 0))) (N' := 26) hx hb (hts _ q61) rfl hK hP hD hS hA (fun cA => rfl) (by decide) rfl (by decide) (by decide) (by decide) dX0_init_31 (fun q4_ c4_ H hK hP hD hS => ?_)
  have e3_ : c1_ = c4_ := pb_one hK 0 1 rfl rfl
  subst e3_
  have hK : va_K D pb_cl [(c1_, .int)] s := hK.sub [0] rfl
  have hP : va_P D pb_cl [(h, .inr (0, [.ref q1_, .ref q2_, .ref q3_, .null, .null, .int 0, .int 0])), (q1_, .inl (c1_, 26, .inl (fun _ => 0))), (q2_, .inl (c1_, 64, .inl (fun _ => 0))), (q3_, .inl (c1_, 26, .inl (fun _ => 0))), (q4_, .inl (c1_, 26, .inl (fun _ => 0)))] H := hP
  have hD : va_D A [(h, .inr (0, [.ref q1_, .ref q2_, .ref q3_, .null, .null, .int 0, .int 0])), (q1_, .inl (c1_, 26, .inl (fun _ => 0))), (q2_, .inl (c1_, 64, .inl (fun _ => 0))), (q3_, .inl (c1_, 26, .inl (fun _ => 0))), (q4_, .inl (c1_, 26, .inl (fun _ => 0)))] := hD
  refine W.widen (k := 4) (n := 142) (by omega) (by omega) ?_
  refine va_putF (D := D) (ci := 0) (v := .ref q4_) (ty := .array .int) (C := RX0) (T := TX0) (N := 7) hx hb hts in_X0 tyX0 tyX0_ok nmX0 hown hK hP hD hS 0 rfl rfl 3 (by decide) (hts _ q42) (fun _ h9 => h9) rfl hin rfl (by decide +kernel) rfl rfl (Nat.le_of_ble_eq_true rfl) dX0_init_33 (fun H locs hP hD hS => ?_)
  have hP : va_P D pb_cl [(h, .inr (0, [.ref q1_, .ref q2_, .ref q3_, .ref q4_, .null, .int 0, .int 0])), (q1_, .inl (c1_, 26, .inl (fun _ => 0))), (q2_, .inl (c1_, 64, .inl (fun _ => 0))), (q3_, .inl (c1_, 26, .inl (fun _ => 0))), (q4_, .inl (c1_, 26, .inl (fun _ => 0)))] H := hP
  have hD : va_D A [(h, .inr (0, [.ref q1_, .ref q2_, .ref q3_, .ref q4_, .null, .int 0, .int 0])), (q1_, .inl (c1_, 26, .inl (fun _ => 0))), (q2_, .inl (c1_, 64, .inl (fun _ => 0))), (q3_, .inl (c1_, 26, .inl (fun _ => 0))), (q4_, .inl (c1_, 26, .inl (fun _ => 0)))] := hD
  refine lv_aload_n hx hb dX0_init_36 rfl (lv_at hl 0 rfl) ?_
  refine lv_bipush (v := nI 26) hx hb dX0_init_37 rfl ?_
  refine va_newa (atype := .int) (ty := .int) (a0 := (26, .inl (fun _ => 0))) (N' := 26) hx hb (hts _ q61) rfl hK hP hD hS hA (fun cA => rfl) (by decide) rfl (by decide) (by decide) (by decide) dX0_init_39 (fun q5_ c5_ H hK hP hD hS => ?_)
  have e4_ : c1_ = c5_ := pb_one hK 0 1 rfl rfl
  subst e4_
  have hK : va_K D pb_cl [(c1_, .int)] s := hK.sub [0] rfl
  have hP : va_P D pb_cl [(h, .inr (0, [.ref q1_, .ref q2_, .ref q3_, .ref q4_, .null, .int 0, .int 0])), (q1_, .inl (c1_, 26, .inl (fun _ => 0))), (q2_, .inl (c1_, 64, .inl (fun _ => 0))), (q3_, .inl (c1_, 26, .inl (fun _ => 0))), (q4_, .inl (c1_, 26, .inl (fun _ => 0))), (q5_, .inl (c1_, 26, .inl (fun _ => 0)))] H := hP
  have hD : va_D A [(h, .inr (0, [.ref q1_, .ref q2_, .ref q3_, .ref q4_, .null, .int 0, .int 0])), (q1_, .inl (c1_, 26, .inl (fun _ => 0))), (q2_, .inl (c1_, 64, .inl (fun _ => 0))), (q3_, .inl (c1_, 26, .inl (fun _ => 0))), (q4_, .inl (c1_, 26, .inl (fun _ => 0))), (q5_, .inl (c1_, 26, .inl (fun _ => 0)))] := hD
  refine W.widen (k := 5) (n := 168) (by omega) (by omega) ?_
  refine va_putF (D := D) (ci := 0) (v := .ref q5_) (ty := .array .int) (C := RX0) (T := TX0) (N := 7) hx hb hts in_X0 tyX0 tyX0_ok nmX0 hown hK hP hD hS 0 rfl rfl 4 (by decide) (hts _ q43) (fun _ h9 => h9) rfl hin rfl (by decide +kernel) rfl rfl (Nat.le_of_ble_eq_true rfl) dX0_init_41 (fun H locs hP hD hS => ?_)
  have hP : va_P D pb_cl [(h, .inr (0, [.ref q1_, .ref q2_, .ref q3_, .ref q4_, .ref q5_, .int 0, .int 0])), (q1_, .inl (c1_, 26, .inl (fun _ => 0))), (q2_, .inl (c1_, 64, .inl (fun _ => 0))), (q3_, .inl (c1_, 26, .inl (fun _ => 0))), (q4_, .inl (c1_, 26, .inl (fun _ => 0))), (q5_, .inl (c1_, 26, .inl (fun _ => 0)))] H := hP
  have hD : va_D A [(h, .inr (0, [.ref q1_, .ref q2_, .ref q3_, .ref q4_, .ref q5_, .int 0, .int 0])), (q1_, .inl (c1_, 26, .inl (fun _ => 0))), (q2_, .inl (c1_, 64, .inl (fun _ => 0))), (q3_, .inl (c1_, 26, .inl (fun _ => 0))), (q4_, .inl (c1_, 26, .inl (fun _ => 0))), (q5_, .inl (c1_, 26, .inl (fun _ => 0)))] := hD
  have hP : va_P D pb_cl (pb_xW (pb_s6 h q1_ q2_ q3_ q4_ q5_) c1_ (fun _ => 0) (fun _ => 0) (fun _ => 0) (fun _ => 0) (fun _ => 0) (nI 0) (nI 0)) H := hP
  have hD : va_D A (pb_xW (pb_s6 h q1_ q2_ q3_ q4_ q5_) c1_ (fun _ => 0) (fun _ => 0) (fun _ => 0) (fun _ => 0) (fun _ => 0) (nI 0) (nI 0)) := hD
  refine lv_iconst (v := nI 0) hx hb dX0_init_44 rfl ?_
  refine lv_istore_n (lv' := [(1, .int (nI 0)), (0, .ref h)]) hx hb dX0_init_45 rfl hl (by decide) rfl (fun ls hl => ?_)
  have loop46 : ∀ (k46 : Nat) (i : Nat) (a1 : Nat → Int32) (ls : Array Slot) (H : Heap) (locs : List Loc), (64 < i + k46) → (i ≤ 64) → (∀ q, q < i → a1 q = -2) → va_P D pb_cl (pb_xW (pb_s6 h q1_ q2_ q3_ q4_ q5_) c1_ (fun _ => 0) a1 (fun _ => 0) (fun _ => 0) (fun _ => 0) (nI 0) (nI 0)) H → va_D A (pb_xW (pb_s6 h q1_ q2_ q3_ q4_ q5_) c1_ (fun _ => 0) a1 (fun _ => 0) (fun _ => 0) (fun _ => 0) (nI 0) (nI 0)) → va_S A s.heap H locs → lv_has ls 2 [(0, .ref h), (1, .int (nI i))] → W p l e ({ frames := 1, cells := 5, slots := 168, locals := 12 }) s m ([.ref h] : List Value).toArray below meth c H locs 5 168 (MQ below (va_Qv (fun u : (Nat × Nat × Nat × Nat × Nat) × ClassId × (Nat → Int32) => ∀ q, q < 64 → u.2.2 q = -2) (pb_xI D h s.heap.size) A) ([.ref h] : List Value).toArray s 5 168 A) (F0 m 46 ls []) := by
    intro k46
    induction k46 with
    | zero =>
      intro i a1 ls H locs hk hi ha hP hD hS hl
      omega
    | succ k46 ih46 =>
      intro i a1 ls H locs hk hi ha hP hD hS hl
      refine lv_iload_n hx hb dX0_init_46 rfl (lv_at hl 1 rfl) ?_
      refine lv_bipush (v := nI 64) hx hb dX0_init_47 rfl ?_
      refine pb_ige (tgt := 66) hx hb dX0_init_49 (by decide) (by omega) (by omega) (fun c49 => ?_) (fun c49 => ?_)
      · exact W.vret hx hb hr (fun t ht hW => ⟨⟨((q1_, q2_, q3_, q4_, q5_), c1_, a1), rfl, fun q hq => ha q (by omega), by rw [ht]; exact hP, va_K.moved hW.alike hK, by rw [hAe]; exact hD⟩, hS.F ht⟩) hS.2.2 dX0_init_66 hlk
      · refine lv_aload_n hx hb dX0_init_52 rfl (lv_at hl 0 rfl) ?_
        refine pb_gX1 (sg := (pb_s6 h q1_ q2_ q3_ q4_ q5_)) C hK hP dX0_init_53 ?_
        refine lv_iload_n hx hb dX0_init_56 rfl (lv_at hl 1 rfl) ?_
        refine lv_bipush (v := (-2)) hx hb dX0_init_57 (by decide) ?_
        refine va_iast C.1 C.2.1 hK hP hD hS 2 0 rfl rfl (vp_in_nI c49 (by decide)) dX0_init_59 (fun H locs hP hD hS => ?_)
        rw [nI_clamp (by omega)] at hP hD
        have hP : va_P D pb_cl (pb_xW (pb_s6 h q1_ q2_ q3_ q4_ q5_) c1_ (fun _ => 0) (upd a1 i (-2)) (fun _ => 0) (fun _ => 0) (fun _ => 0) (nI 0) (nI 0)) H := hP
        have hD : va_D A (pb_xW (pb_s6 h q1_ q2_ q3_ q4_ q5_) c1_ (fun _ => 0) (upd a1 i (-2)) (fun _ => 0) (fun _ => 0) (fun _ => 0) (nI 0) (nI 0)) := hD
        refine lv_iinc (v := nI (i + 1)) (lv' := [(1, .int (nI (i + 1))), (0, .ref h)]) hx hb dX0_init_60 hl (k := 1) rfl (nI_1 _) (by decide) rfl (fun ls hl => ?_)
        refine lv_goto (tgt := 46) hx hb dX0_init_63 (by decide) ?_
        exact ih46 (i + 1) (upd a1 i (-2)) ls _ _ (by omega) (by omega) (fun q hq => by rcases Nat.lt_or_ge q i with z | z; rw [pk_un (by omega)]; exact ha q z; rw [show q = i by omega, pk_us]) hP hD hS (lv_sub hl [1, 0] rfl)
  exact loop46 65 0 (fun _ => 0) ls _ _ (by omega) (by omega) (fun q z => absurd z (Nat.not_lt_zero _)) hP hD hS (lv_sub hl [1, 0] rfl)
end
section
/-! THE CLAIM OUT OF ONE WALK OF THE LAW'S BODY. Your part is whole_start (and what it stands on); all else here is the same for every law, but numbers. -/
def R_law : String := "PersistentBarsLaw"
def lw_P (b : Addr) (xs : List Int32) (args : Array Value) (s : State) : Prop := args = #[.ref b] ∧ s.IntsAt b xs ∧ xs.length ≤ 256 ∧ (Jvm.Cond.and given_1 narrow_1).before args s = true
def lw_Q (_ : Array Value) (s : State) (o : Outcome) (t : State) : Prop := o = .returned (some (.int 1)) ∧ Framed s o t [] 600000 7290000
def lw_Z (below : List Frame) (a : Array Value) (s : State) : State → Prop := fun t => ∃ o, t.status = .running ∧ Ended t below o ∧ lw_Q a s o t
/-- the law's own end, with 1 on the stack, nothing written that was there before, its room as the claim has it -/
theorem lw_ret {p : Program} {l : Launch} {e : Env} {s : State} {m : MethodId} {below : List Frame} {meth : Method} {c : Code} {b : Nat} (hx : p.tables.exec = Jvm.exec) (hb : c.code = code) (hr : meth.sig.returnType = ret) (hlocks : meth.locks = false) {pc : Nat} {H : Heap} {ls : Array Slot} (hdg : decode code pc = .ok (.ireturn, 1)) : W p l e room_1 s m #[Value.ref b] below meth c H [] 600000 7290000 (lw_Z below #[Value.ref b] s) (F0 m pc ls [.int 1]) := by
  intro T hT X
  obtain ⟨fs, hret, hrun, hended, hW, hframe⟩ := X.leave (v := some (.int 1)) (hlocks := hlocks) (fun h => by rw [hr] at h; cases h)
  have hmeth' : T.vm.method? m = some meth := X.method'
  refine ⟨T.setFrames fs, ?_, .returned (some (.int 1)), hrun, hended, rfl, ⟨_, rfl⟩, hW, hframe⟩
  jvm_step X.here [X.here.top, hx, hb, hdg, hmeth', hr, ret, narrow_b1]
  (try refine ⟨rfl, ?_⟩); (try refine ⟨rfl, ?_⟩)
  first | (intro acts; rw [hret _ acts rfl rfl rfl]) | rw [hret _ _ rfl rfl rfl]
  exact Steps.refl _
/-- what holds at the law's entry: the machine, the code, the tables' words (any of lw_tbl by 'hts w (by decide +kernel)'), the script of L ints xs at the cell b, what the Statement gives of the start (any of its parts by flat_of_before) -/
def lw_At (p : Program) (s : State) (m : MethodId) (meth : Method) (c : Code) (b L : Nat) (xs : Nat → Int32) : Prop :=
  p.tables.exec = Jvm.exec ∧ c.code = code ∧ meth.sig.returnType = ret ∧ c.maxLocals = 4 ∧ s.vm.findClass R_law = some m.cls ∧ (∀ w ∈ lw_tbl, w.before #[Value.ref b] s = true) ∧ va_X b L xs s s.heap ∧ b < s.heap.size ∧ meth.locks = false ∧ (Jvm.Cond.and given_1 narrow_1).before #[Value.ref b] s = true
end
section
/-! the law: its loop -/
set_option maxRecDepth 100000
/-- what a call leaves alone -/
theorem pb_keep {D : va_G} {w : va_W} {tg : Nat → Nat} {k : Nat} {A : Nat → Prop} {H H1 : Heap} (hw : w.map (fun q => q.1) = (List.range k).map tg) (hd : ∀ j, j < k → ¬ A (tg j)) (hfr : ∀ q : Nat, q < H.size → ¬ A q → H1[q]? = H[q]?) (hP : va_P D pb_cl w H) : va_P D pb_cl w H1 := by
  refine hP.kept fun i q hq => ?_
  have h1 : (w.map (fun q => q.1))[i]? = some q.1 := by rw [List.getElem?_map, hq]; rfl
  rw [hw, List.getElem?_map] at h1
  have h2 : i < k := by
    rcases Nat.lt_or_ge i k with x | x
    · exact x
    · rw [List.getElem?_eq_none (by simpa using x)] at h1
      cases h1
  rw [List.getElem?_range h2] at h1
  have e : q.1 = tg i := (Option.some.inj h1).symm
  refine hfr q.1 ((hP i q hq).lt) ?_
  rw [e]
  exact hd i h2
theorem pb_lenc {L i : Nat} (hL : L ≤ 256) (hi : i ≤ 256) : nI L - nI 4 < nI i ↔ L < i + 4 := by
  rw [Int32.lt_iff_toInt_lt, pk_sub_toInt (by omega) (by omega), nI_toInt (by omega)]
  omega
theorem pb_16 {j : Nat} (h : j < 2 ^ 4) : j = 0 ∨ j = 1 ∨ j = 2 ∨ j = 3 ∨ j = 4 ∨ j = 5 ∨ j = 6 ∨ j = 7 ∨ j = 8 ∨ j = 9 ∨ j = 10 ∨ j = 11 ∨ j = 12 ∨ j = 13 ∨ j = 14 ∨ j = 15 := by omega
theorem pb_inc4 (i : Nat) : nI i + Int32.ofInt 4 = nI (i + 4) := nI_add i 4
set_option maxHeartbeats 4000000 in
set_option maxRecDepth 100000 in
theorem pb_loop {p : Program} {e : Env} {s : State} {m : MethodId} {below : List Frame} {meth : Method} {c : Code} (l : Launch) {b L : Nat} {xs : Nat → Int32} (hL : L ≤ 256) (C0 : lw_At p s m meth c b L xs) (D : va_G) (dx dm : ClassId) (sg tg : Nat → Nat) (hKx : va_K D pb_cl [(dx, .int)] s) (hKm : va_K D pb_cl [(dm, .int)] s) (hn6 : pb_Nd sg 6) (hn3 : pb_Nd tg 3) (hdis : ∀ i j, i < 6 → j < 3 → sg i ≠ tg j) (hnx : ∀ i, i < 6 → s.heap.size ≤ sg i) (hnm : ∀ i, i < 3 → s.heap.size ≤ tg i) :
    ∀ (k i n : Nat) (P : Nat → Nat) (a0 a1 a2 a3 a4 : Nat → Int32) (sv : Int32) (b0 b1 : Nat → Int32) (H : Heap) (locs : List Loc) (ls : Array Slot), L < i + k → i ≤ L → pb_Cx n P → va_P D pb_cl (pb_xW sg dx a0 a1 a2 a3 a4 (nI n) sv) H → pb_XR n P a0 a1 a2 a3 a4 sv → va_P D pb_cl (pb_mW tg dm (nI n) b0 b1) H → (∀ i, i < n → b0 i = nI (P i)) → va_S (fun q : Nat => s.heap.size ≤ q) s.heap H locs → lv_has ls 4 [(0, .ref b), (1, .ref (sg 0)), (2, .ref (tg 0)), (3, .int (nI i))] → W p l e room_1 s m #[Value.ref b] below meth c H locs 9 230 (lw_Z below #[Value.ref b] s) (F0 m 18 ls []) := by
  obtain ⟨hx, hb, hr, hml, hown, hts0, hX, hbl, hlocks, hgv⟩ := id C0
  have hts : ∀ w ∈ lw_all, w.before #[Value.ref b] s = true := fun w h => hts0 w (lw_all_tbl h)
  have C : pb_C p s m meth c #[Value.ref b] code 4 ret "PersistentBarsLaw" := ⟨hx, hb, hml, hr, hown, hlocks, hts⟩
  have hbA : ¬ (fun q : Nat => s.heap.size ≤ q) b := Nat.not_le.mpr hbl
  have hsx : ∀ q, pb_A sg 6 q → s.heap.size ≤ q := fun q ⟨i, hi, z⟩ => by rw [z]; exact hnx i hi
  have hsm : ∀ q, pb_A tg 3 q → s.heap.size ≤ q := fun q ⟨i, hi, z⟩ => by rw [z]; exact hnm i hi
  have hmx : ∀ j, j < 3 → ¬ pb_A sg 6 (tg j) := fun j hj ⟨i, hi, z⟩ => hdis i j hi hj z.symm
  have hxm : ∀ j, j < 6 → ¬ pb_A tg 3 (sg j) := fun j hj ⟨i, hi, z⟩ => hdis j i hj hi z
  intro k
  induction k with
  | zero =>
    intro i n P a0 a1 a2 a3 a4 sv b0 b1 H locs ls hk hi hC hPx hXR hPm hb0 hS hl
    omega
  | succ k ih =>
    intro i n P a0 a1 a2 a3 a4 sv b0 b1 H locs ls hk hi hC hPx hXR hPm hb0 hS hl
    obtain ⟨h0, h1, m0, R0, lo0, hm0, hsv, hSX⟩ := hXR
    refine lv_iload_n hx hb dL_law_18 rfl (lv_at hl 3 rfl) ?_
    refine lv_aload_n hx hb dL_law_19 rfl (lv_at hl 0 rfl) ?_
    refine va_slen hx hb hX hbl hbA hS dL_law_20 ?_
    refine pb_top (nI L) rfl ?_
    refine lv_iconst (v := nI 4) hx hb dL_law_21 rfl ?_
    refine lv_isub hx hb dL_law_22 ?_
    refine lv_icmp_gt (tgt := 479) hx hb dL_law_23 (by decide) (fun c23 => ?_) (fun c23 => ?_)
    · refine lv_iconst (v := 1) hx hb dL_law_479 (by decide) ?_
      refine va_forget hS.2.2 ?_
      refine W.widen (k := 600000) (n := 7290000) (by decide) (by decide) ?_
      exact lw_ret hx hb hr hlocks dL_law_480
    · have hiL : i + 4 ≤ L := by rcases Nat.lt_or_ge L (i + 4) with z | z; exact absurd ((pb_lenc hL (by omega)).mpr z) c23; exact z
      refine lv_aload_n hx hb dL_law_26 rfl (lv_at hl 0 rfl) ?_
      refine lv_iload_n hx hb dL_law_27 rfl (lv_at hl 3 rfl) ?_
      refine va_sld hx hb hX hbl hbA hS (vp_in_nI (show i < L by omega) (by omega)) dL_law_28 ?_
      refine pb_top (xs i) (by rw [nI_clamp (by omega)]) ?_
      refine lv_bipush (v := nI 15) hx hb dL_law_29 rfl ?_
      refine lv_iand hx hb dL_law_31 ?_
      obtain ⟨j, hj, ej⟩ := pk_andE (xs i) (m := nI 15) 4 rfl
      refine pb_top (nI j) ej ?_
      rcases pb_16 hj with rfl | rfl | rfl | rfl | rfl | rfl | rfl | rfl | rfl | rfl | rfl | rfl | rfl | rfl | rfl | rfl
      · refine lv_tableIn (tgt := 108) hx hb dL_law_32 (by decide) (by decide) rfl (by decide) ?_
        obtain ⟨r, n2, P2, hr9, hC2⟩ := pb_AddS_ex hC (xs (i + 1))
        refine lv_aload_n hx hb dL_law_108 rfl (lv_at hl 1 rfl) ?_
        refine lv_aload_n hx hb dL_law_109 rfl (lv_at hl 0 rfl) ?_
        refine lv_iload_n hx hb dL_law_110 rfl (lv_at hl 3 rfl) ?_
        refine lv_iconst (v := nI 1) hx hb dL_law_111 rfl ?_
        refine lv_iadd hx hb dL_law_112 ?_
        refine pb_tup (nI_add _ _) ?_
        refine va_sld hx hb hX hbl hbA hS (vp_in_nI (show i + 1 < L by omega) (by omega)) dL_law_113 ?_
        refine pb_top (xs (i + 1)) (by rw [nI_clamp (by omega)]) ?_
        refine pb_afterM (pb_runV (rC := (RX0, TX0, 7)) (ci := 0) (As := [.int (xs (i + 1))]) (rest := []) C (ct_X0_add l D dx sg n P a0 a1 a2 a3 a4 sv hn6 hC h0 h1 m0 R0 lo0 hm0 hsv hSX (xs (i + 1)) r n2 P2 hr9) gw_L_X0_add hd_X0_add ⟨rfl, rfl, Nat.le_of_ble_eq_true rfl, Nat.le_of_ble_eq_true rfl⟩ ⟨Nat.le_of_ble_eq_true rfl, Nat.le_of_ble_eq_true rfl⟩ hKx hPx rfl rfl hl.1 rfl (Nat.le_of_ble_eq_true rfl) dL_law_114) hS hsx (fun r1 H locs hq hfr hS => ?_)
        obtain ⟨hr1, a0, a1, a2, a3, a4, sv, hPx, hXR⟩ := hq
        have hPm := pb_keep (k := 3) rfl hmx hfr hPm
        refine lv_aload_n hx hb dL_law_117 rfl (lv_at hl 2 rfl) ?_
        refine lv_aload_n hx hb dL_law_118 rfl (lv_at hl 0 rfl) ?_
        refine lv_iload_n hx hb dL_law_119 rfl (lv_at hl 3 rfl) ?_
        refine lv_iconst (v := nI 1) hx hb dL_law_120 rfl ?_
        refine lv_iadd hx hb dL_law_121 ?_
        refine pb_tup (nI_add _ _) ?_
        refine va_sld hx hb hX hbl hbA hS (vp_in_nI (show i + 1 < L by omega) (by omega)) dL_law_122 ?_
        refine pb_top (xs (i + 1)) (by rw [nI_clamp (by omega)]) ?_
        refine pb_afterM (pb_runV (rC := (RX1, TX1, 3)) (ci := 1) (As := [.int (xs (i + 1))]) (rest := [.int r1]) C (ct_X1_add l D dm tg n P b0 b1 hn3 hC hb0 (xs (i + 1)) r n2 P2 hr9) gw_L_X1_add hd_X1_add ⟨rfl, rfl, Nat.le_of_ble_eq_true rfl, Nat.le_of_ble_eq_true rfl⟩ ⟨Nat.le_of_ble_eq_true rfl, Nat.le_of_ble_eq_true rfl⟩ hKm hPm rfl rfl hl.1 rfl (Nat.le_of_ble_eq_true rfl) dL_law_123) hS hsm (fun r2 H locs hq hfr hS => ?_)
        obtain ⟨hr2, b0, b1, hPm, hb0⟩ := hq
        have hPx := pb_keep (k := 6) rfl hxm hfr hPx
        refine lv_icmp_eq (tgt := 473) hx hb dL_law_126 (by decide) (fun c126 => ?_) (fun c126 => absurd (hr1.trans hr2.symm) c126)
        refine lv_iinc (v := nI (i + 4)) (lv' := [(3, .int (nI (i + 4))), (0, .ref b), (1, .ref (sg 0)), (2, .ref (tg 0))]) hx hb dL_law_473 hl (k := 3) rfl (pb_inc4 i) (by decide) rfl (fun ls hl => ?_)
        refine lv_goto (tgt := 18) hx hb dL_law_476 (by decide) ?_
        exact ih (i + 4) n2 P2 _ _ _ _ _ _ _ _ _ _ ls (by omega) (by omega) hC2 hPx hXR hPm hb0 hS (lv_sub hl [1, 2, 3, 0] rfl)
      · refine lv_tableIn (tgt := 131) hx hb dL_law_32 (by decide) (by decide) rfl (by decide) ?_
        obtain ⟨r, n2, P2, hr9, hC2⟩ := pb_FillS_ex hC (xs (i + 1))
        refine lv_aload_n hx hb dL_law_131 rfl (lv_at hl 1 rfl) ?_
        refine lv_aload_n hx hb dL_law_132 rfl (lv_at hl 0 rfl) ?_
        refine lv_iload_n hx hb dL_law_133 rfl (lv_at hl 3 rfl) ?_
        refine lv_iconst (v := nI 1) hx hb dL_law_134 rfl ?_
        refine lv_iadd hx hb dL_law_135 ?_
        refine pb_tup (nI_add _ _) ?_
        refine va_sld hx hb hX hbl hbA hS (vp_in_nI (show i + 1 < L by omega) (by omega)) dL_law_136 ?_
        refine pb_top (xs (i + 1)) (by rw [nI_clamp (by omega)]) ?_
        refine pb_afterM (pb_runV (rC := (RX0, TX0, 7)) (ci := 0) (As := [.int (xs (i + 1))]) (rest := []) C (ct_X0_fill l D dx sg n P a0 a1 a2 a3 a4 sv hn6 hC h0 h1 m0 R0 lo0 hm0 hsv hSX (xs (i + 1)) r n2 P2 hr9) gw_L_X0_fill hd_X0_fill ⟨rfl, rfl, Nat.le_of_ble_eq_true rfl, Nat.le_of_ble_eq_true rfl⟩ ⟨Nat.le_of_ble_eq_true rfl, Nat.le_of_ble_eq_true rfl⟩ hKx hPx rfl rfl hl.1 rfl (Nat.le_of_ble_eq_true rfl) dL_law_137) hS hsx (fun r1 H locs hq hfr hS => ?_)
        obtain ⟨hr1, a0, a1, a2, a3, a4, sv, hPx, hXR⟩ := hq
        have hPm := pb_keep (k := 3) rfl hmx hfr hPm
        refine lv_aload_n hx hb dL_law_140 rfl (lv_at hl 2 rfl) ?_
        refine lv_aload_n hx hb dL_law_141 rfl (lv_at hl 0 rfl) ?_
        refine lv_iload_n hx hb dL_law_142 rfl (lv_at hl 3 rfl) ?_
        refine lv_iconst (v := nI 1) hx hb dL_law_143 rfl ?_
        refine lv_iadd hx hb dL_law_144 ?_
        refine pb_tup (nI_add _ _) ?_
        refine va_sld hx hb hX hbl hbA hS (vp_in_nI (show i + 1 < L by omega) (by omega)) dL_law_145 ?_
        refine pb_top (xs (i + 1)) (by rw [nI_clamp (by omega)]) ?_
        refine pb_afterM (pb_runV (rC := (RX1, TX1, 3)) (ci := 1) (As := [.int (xs (i + 1))]) (rest := [.int r1]) C (ct_X1_fill l D dm tg n P b0 b1 hn3 hC hb0 (xs (i + 1)) r n2 P2 hr9) gw_L_X1_fill hd_X1_fill ⟨rfl, rfl, Nat.le_of_ble_eq_true rfl, Nat.le_of_ble_eq_true rfl⟩ ⟨Nat.le_of_ble_eq_true rfl, Nat.le_of_ble_eq_true rfl⟩ hKm hPm rfl rfl hl.1 rfl (Nat.le_of_ble_eq_true rfl) dL_law_146) hS hsm (fun r2 H locs hq hfr hS => ?_)
        obtain ⟨hr2, b0, b1, hPm, hb0⟩ := hq
        have hPx := pb_keep (k := 6) rfl hxm hfr hPx
        refine lv_icmp_eq (tgt := 473) hx hb dL_law_149 (by decide) (fun c149 => ?_) (fun c149 => absurd (hr1.trans hr2.symm) c149)
        refine lv_iinc (v := nI (i + 4)) (lv' := [(3, .int (nI (i + 4))), (0, .ref b), (1, .ref (sg 0)), (2, .ref (tg 0))]) hx hb dL_law_473 hl (k := 3) rfl (pb_inc4 i) (by decide) rfl (fun ls hl => ?_)
        refine lv_goto (tgt := 18) hx hb dL_law_476 (by decide) ?_
        exact ih (i + 4) n2 P2 _ _ _ _ _ _ _ _ _ _ ls (by omega) (by omega) hC2 hPx hXR hPm hb0 hS (lv_sub hl [1, 2, 3, 0] rfl)
      · refine lv_tableIn (tgt := 154) hx hb dL_law_32 (by decide) (by decide) rfl (by decide) ?_
        obtain ⟨r, n2, hr9, hn2⟩ := pb_UndoS_ex n P
        have hC2 := pb_cx_less hn2 hC
        refine lv_aload_n hx hb dL_law_154 rfl (lv_at hl 1 rfl) ?_
        refine pb_afterM (pb_runV (rC := (RX0, TX0, 7)) (ci := 0) (As := []) (rest := []) C (ct_X0_undo l D dx sg n P a0 a1 a2 a3 a4 sv hn6 hC h0 h1 m0 R0 lo0 hm0 hsv hSX r n2 hr9) gw_L_X0_undo hd_X0_undo ⟨rfl, rfl, Nat.le_of_ble_eq_true rfl, Nat.le_of_ble_eq_true rfl⟩ ⟨Nat.le_of_ble_eq_true rfl, Nat.le_of_ble_eq_true rfl⟩ hKx hPx rfl rfl hl.1 rfl (Nat.le_of_ble_eq_true rfl) dL_law_155) hS hsx (fun r1 H locs hq hfr hS => ?_)
        obtain ⟨hr1, a0, a1, a2, a3, a4, sv, hPx, hXR⟩ := hq
        have hPm := pb_keep (k := 3) rfl hmx hfr hPm
        refine lv_aload_n hx hb dL_law_158 rfl (lv_at hl 2 rfl) ?_
        refine pb_afterM (pb_runV (rC := (RX1, TX1, 3)) (ci := 1) (As := []) (rest := [.int r1]) C (ct_X1_undo l D dm tg n P b0 b1 hn3 hC hb0 r n2 hr9) gw_L_X1_undo hd_X1_undo ⟨rfl, rfl, Nat.le_of_ble_eq_true rfl, Nat.le_of_ble_eq_true rfl⟩ ⟨Nat.le_of_ble_eq_true rfl, Nat.le_of_ble_eq_true rfl⟩ hKm hPm rfl rfl hl.1 rfl (Nat.le_of_ble_eq_true rfl) dL_law_159) hS hsm (fun r2 H locs hq hfr hS => ?_)
        obtain ⟨hr2, b0, b1, hPm, hb0⟩ := hq
        have hPx := pb_keep (k := 6) rfl hxm hfr hPx
        refine lv_icmp_eq (tgt := 473) hx hb dL_law_162 (by decide) (fun c162 => ?_) (fun c162 => absurd (hr1.trans hr2.symm) c162)
        refine lv_iinc (v := nI (i + 4)) (lv' := [(3, .int (nI (i + 4))), (0, .ref b), (1, .ref (sg 0)), (2, .ref (tg 0))]) hx hb dL_law_473 hl (k := 3) rfl (pb_inc4 i) (by decide) rfl (fun ls hl => ?_)
        refine lv_goto (tgt := 18) hx hb dL_law_476 (by decide) ?_
        exact ih (i + 4) n2 P _ _ _ _ _ _ _ _ _ _ ls (by omega) (by omega) hC2 hPx hXR hPm hb0 hS (lv_sub hl [1, 2, 3, 0] rfl)
      · refine lv_tableIn (tgt := 167) hx hb dL_law_32 (by decide) (by decide) rfl (by decide) ?_
        refine lv_aload_n hx hb dL_law_167 rfl (lv_at hl 1 rfl) ?_
        refine pb_afterQ (pb_runV (rC := (RX0, TX0, 7)) (ci := 0) (As := []) (rest := []) C (ct_X0_size l D dx sg n P a0 a1 a2 a3 a4 sv hC h0 h1) gw_L_X0_size hd_X0_size ⟨rfl, rfl, Nat.le_of_ble_eq_true rfl, Nat.le_of_ble_eq_true rfl⟩ ⟨Nat.le_of_ble_eq_true rfl, Nat.le_of_ble_eq_true rfl⟩ hKx hPx rfl rfl hl.1 rfl (Nat.le_of_ble_eq_true rfl) dL_law_168) ?_
        refine lv_aload_n hx hb dL_law_171 rfl (lv_at hl 2 rfl) ?_
        refine pb_afterQ (pb_runV (rC := (RX1, TX1, 3)) (ci := 1) (As := []) (rest := [.int (nI n)]) C (ct_X1_size l D dm tg n P b0 b1 hC hb0) gw_L_X1_size hd_X1_size ⟨rfl, rfl, Nat.le_of_ble_eq_true rfl, Nat.le_of_ble_eq_true rfl⟩ ⟨Nat.le_of_ble_eq_true rfl, Nat.le_of_ble_eq_true rfl⟩ hKm hPm rfl rfl hl.1 rfl (Nat.le_of_ble_eq_true rfl) dL_law_172) ?_
        refine lv_icmp_eq (tgt := 473) hx hb dL_law_175 (by decide) (fun c175 => ?_) (fun c175 => absurd rfl c175)
        refine lv_iinc (v := nI (i + 4)) (lv' := [(3, .int (nI (i + 4))), (0, .ref b), (1, .ref (sg 0)), (2, .ref (tg 0))]) hx hb dL_law_473 hl (k := 3) rfl (pb_inc4 i) (by decide) rfl (fun ls hl => ?_)
        refine lv_goto (tgt := 18) hx hb dL_law_476 (by decide) ?_
        exact ih (i + 4) n P _ _ _ _ _ _ _ _ _ _ ls (by omega) (by omega) hC hPx (⟨h0, h1, m0, R0, lo0, hm0, hsv, hSX⟩) hPm hb0 hS (lv_sub hl [1, 2, 3, 0] rfl)
      · refine lv_tableIn (tgt := 180) hx hb dL_law_32 (by decide) (by decide) rfl (by decide) ?_
        obtain ⟨r, hr9⟩ := pb_PieceS_ex n P (xs (i + 1))
        refine lv_aload_n hx hb dL_law_180 rfl (lv_at hl 1 rfl) ?_
        refine lv_aload_n hx hb dL_law_181 rfl (lv_at hl 0 rfl) ?_
        refine lv_iload_n hx hb dL_law_182 rfl (lv_at hl 3 rfl) ?_
        refine lv_iconst (v := nI 1) hx hb dL_law_183 rfl ?_
        refine lv_iadd hx hb dL_law_184 ?_
        refine pb_tup (nI_add _ _) ?_
        refine va_sld hx hb hX hbl hbA hS (vp_in_nI (show i + 1 < L by omega) (by omega)) dL_law_185 ?_
        refine pb_top (xs (i + 1)) (by rw [nI_clamp (by omega)]) ?_
        refine pb_afterQ (pb_runV (rC := (RX0, TX0, 7)) (ci := 0) (As := [.int (xs (i + 1))]) (rest := []) C (ct_X0_piece l D dx sg n P a0 a1 a2 a3 a4 sv hC h0 h1 (xs (i + 1)) r hr9) gw_L_X0_piece hd_X0_piece ⟨rfl, rfl, Nat.le_of_ble_eq_true rfl, Nat.le_of_ble_eq_true rfl⟩ ⟨Nat.le_of_ble_eq_true rfl, Nat.le_of_ble_eq_true rfl⟩ hKx hPx rfl rfl hl.1 rfl (Nat.le_of_ble_eq_true rfl) dL_law_186) ?_
        refine lv_aload_n hx hb dL_law_189 rfl (lv_at hl 2 rfl) ?_
        refine lv_aload_n hx hb dL_law_190 rfl (lv_at hl 0 rfl) ?_
        refine lv_iload_n hx hb dL_law_191 rfl (lv_at hl 3 rfl) ?_
        refine lv_iconst (v := nI 1) hx hb dL_law_192 rfl ?_
        refine lv_iadd hx hb dL_law_193 ?_
        refine pb_tup (nI_add _ _) ?_
        refine va_sld hx hb hX hbl hbA hS (vp_in_nI (show i + 1 < L by omega) (by omega)) dL_law_194 ?_
        refine pb_top (xs (i + 1)) (by rw [nI_clamp (by omega)]) ?_
        refine pb_afterQ (pb_runV (rC := (RX1, TX1, 3)) (ci := 1) (As := [.int (xs (i + 1))]) (rest := [.int r]) C (ct_X1_piece l D dm tg n P b0 b1 hC hb0 (xs (i + 1)) r hr9) gw_L_X1_piece hd_X1_piece ⟨rfl, rfl, Nat.le_of_ble_eq_true rfl, Nat.le_of_ble_eq_true rfl⟩ ⟨Nat.le_of_ble_eq_true rfl, Nat.le_of_ble_eq_true rfl⟩ hKm hPm rfl rfl hl.1 rfl (Nat.le_of_ble_eq_true rfl) dL_law_195) ?_
        refine lv_icmp_eq (tgt := 473) hx hb dL_law_198 (by decide) (fun c198 => ?_) (fun c198 => absurd rfl c198)
        refine lv_iinc (v := nI (i + 4)) (lv' := [(3, .int (nI (i + 4))), (0, .ref b), (1, .ref (sg 0)), (2, .ref (tg 0))]) hx hb dL_law_473 hl (k := 3) rfl (pb_inc4 i) (by decide) rfl (fun ls hl => ?_)
        refine lv_goto (tgt := 18) hx hb dL_law_476 (by decide) ?_
        exact ih (i + 4) n P _ _ _ _ _ _ _ _ _ _ ls (by omega) (by omega) hC hPx (⟨h0, h1, m0, R0, lo0, hm0, hsv, hSX⟩) hPm hb0 hS (lv_sub hl [1, 2, 3, 0] rfl)
      · refine lv_tableIn (tgt := 203) hx hb dL_law_32 (by decide) (by decide) rfl (by decide) ?_
        obtain ⟨r, hr9⟩ := pb_PiecesS_ex n P (xs (i + 1)) (xs (i + 2))
        refine lv_aload_n hx hb dL_law_203 rfl (lv_at hl 1 rfl) ?_
        refine lv_aload_n hx hb dL_law_204 rfl (lv_at hl 0 rfl) ?_
        refine lv_iload_n hx hb dL_law_205 rfl (lv_at hl 3 rfl) ?_
        refine lv_iconst (v := nI 1) hx hb dL_law_206 rfl ?_
        refine lv_iadd hx hb dL_law_207 ?_
        refine pb_tup (nI_add _ _) ?_
        refine va_sld hx hb hX hbl hbA hS (vp_in_nI (show i + 1 < L by omega) (by omega)) dL_law_208 ?_
        refine pb_top (xs (i + 1)) (by rw [nI_clamp (by omega)]) ?_
        refine lv_aload_n hx hb dL_law_209 rfl (lv_at hl 0 rfl) ?_
        refine lv_iload_n hx hb dL_law_210 rfl (lv_at hl 3 rfl) ?_
        refine lv_iconst (v := nI 2) hx hb dL_law_211 rfl ?_
        refine lv_iadd hx hb dL_law_212 ?_
        refine pb_tup (nI_add _ _) ?_
        refine va_sld hx hb hX hbl hbA hS (vp_in_nI (show i + 2 < L by omega) (by omega)) dL_law_213 ?_
        refine pb_top (xs (i + 2)) (by rw [nI_clamp (by omega)]) ?_
        refine pb_afterQ (pb_runV (rC := (RX0, TX0, 7)) (ci := 0) (As := [.int (xs (i + 1)), .int (xs (i + 2))]) (rest := []) C (ct_X0_pieces l D dx sg n P a0 a1 a2 a3 a4 sv hC h0 h1 (xs (i + 1)) (xs (i + 2)) r hr9) gw_L_X0_pieces hd_X0_pieces ⟨rfl, rfl, Nat.le_of_ble_eq_true rfl, Nat.le_of_ble_eq_true rfl⟩ ⟨Nat.le_of_ble_eq_true rfl, Nat.le_of_ble_eq_true rfl⟩ hKx hPx rfl rfl hl.1 rfl (Nat.le_of_ble_eq_true rfl) dL_law_214) ?_
        refine lv_aload_n hx hb dL_law_217 rfl (lv_at hl 2 rfl) ?_
        refine lv_aload_n hx hb dL_law_218 rfl (lv_at hl 0 rfl) ?_
        refine lv_iload_n hx hb dL_law_219 rfl (lv_at hl 3 rfl) ?_
        refine lv_iconst (v := nI 1) hx hb dL_law_220 rfl ?_
        refine lv_iadd hx hb dL_law_221 ?_
        refine pb_tup (nI_add _ _) ?_
        refine va_sld hx hb hX hbl hbA hS (vp_in_nI (show i + 1 < L by omega) (by omega)) dL_law_222 ?_
        refine pb_top (xs (i + 1)) (by rw [nI_clamp (by omega)]) ?_
        refine lv_aload_n hx hb dL_law_223 rfl (lv_at hl 0 rfl) ?_
        refine lv_iload_n hx hb dL_law_224 rfl (lv_at hl 3 rfl) ?_
        refine lv_iconst (v := nI 2) hx hb dL_law_225 rfl ?_
        refine lv_iadd hx hb dL_law_226 ?_
        refine pb_tup (nI_add _ _) ?_
        refine va_sld hx hb hX hbl hbA hS (vp_in_nI (show i + 2 < L by omega) (by omega)) dL_law_227 ?_
        refine pb_top (xs (i + 2)) (by rw [nI_clamp (by omega)]) ?_
        refine pb_afterQ (pb_runV (rC := (RX1, TX1, 3)) (ci := 1) (As := [.int (xs (i + 1)), .int (xs (i + 2))]) (rest := [.int r]) C (ct_X1_pieces l D dm tg n P b0 b1 hC hb0 (xs (i + 1)) (xs (i + 2)) r hr9) gw_L_X1_pieces hd_X1_pieces ⟨rfl, rfl, Nat.le_of_ble_eq_true rfl, Nat.le_of_ble_eq_true rfl⟩ ⟨Nat.le_of_ble_eq_true rfl, Nat.le_of_ble_eq_true rfl⟩ hKm hPm rfl rfl hl.1 rfl (Nat.le_of_ble_eq_true rfl) dL_law_228) ?_
        refine lv_icmp_eq (tgt := 473) hx hb dL_law_231 (by decide) (fun c231 => ?_) (fun c231 => absurd rfl c231)
        refine lv_iinc (v := nI (i + 4)) (lv' := [(3, .int (nI (i + 4))), (0, .ref b), (1, .ref (sg 0)), (2, .ref (tg 0))]) hx hb dL_law_473 hl (k := 3) rfl (pb_inc4 i) (by decide) rfl (fun ls hl => ?_)
        refine lv_goto (tgt := 18) hx hb dL_law_476 (by decide) ?_
        exact ih (i + 4) n P _ _ _ _ _ _ _ _ _ _ ls (by omega) (by omega) hC hPx (⟨h0, h1, m0, R0, lo0, hm0, hsv, hSX⟩) hPm hb0 hS (lv_sub hl [1, 2, 3, 0] rfl)
      · refine lv_tableIn (tgt := 236) hx hb dL_law_32 (by decide) (by decide) rfl (by decide) ?_
        refine lv_aload_n hx hb dL_law_236 rfl (lv_at hl 1 rfl) ?_
        refine lv_aload_n hx hb dL_law_237 rfl (lv_at hl 0 rfl) ?_
        refine lv_iload_n hx hb dL_law_238 rfl (lv_at hl 3 rfl) ?_
        refine lv_iconst (v := nI 1) hx hb dL_law_239 rfl ?_
        refine lv_iadd hx hb dL_law_240 ?_
        refine pb_tup (nI_add _ _) ?_
        refine va_sld hx hb hX hbl hbA hS (vp_in_nI (show i + 1 < L by omega) (by omega)) dL_law_241 ?_
        refine pb_top (xs (i + 1)) (by rw [nI_clamp (by omega)]) ?_
        refine lv_aload_n hx hb dL_law_242 rfl (lv_at hl 0 rfl) ?_
        refine lv_iload_n hx hb dL_law_243 rfl (lv_at hl 3 rfl) ?_
        refine lv_iconst (v := nI 2) hx hb dL_law_244 rfl ?_
        refine lv_iadd hx hb dL_law_245 ?_
        refine pb_tup (nI_add _ _) ?_
        refine va_sld hx hb hX hbl hbA hS (vp_in_nI (show i + 2 < L by omega) (by omega)) dL_law_246 ?_
        refine pb_top (xs (i + 2)) (by rw [nI_clamp (by omega)]) ?_
        refine pb_afterM (pb_runV (rC := (RX0, TX0, 7)) (ci := 0) (As := [.int (xs (i + 1)), .int (xs (i + 2))]) (rest := []) C (ct_X0_holes l D dx sg n P a0 a1 a2 a3 a4 sv hn6 hC h0 h1 m0 R0 lo0 hm0 hsv hSX (xs (i + 1)) (xs (i + 2))) gw_L_X0_holes hd_X0_holes ⟨rfl, rfl, Nat.le_of_ble_eq_true rfl, Nat.le_of_ble_eq_true rfl⟩ ⟨Nat.le_of_ble_eq_true rfl, Nat.le_of_ble_eq_true rfl⟩ hKx hPx rfl rfl hl.1 rfl (Nat.le_of_ble_eq_true rfl) dL_law_247) hS hsx (fun r1 H locs hq hfr hS => ?_)
        obtain ⟨⟨R, lo, hSol, hSp⟩, a0, a1, a2, a3, a4, sv, hPx, hXR⟩ := hq
        have hPm := pb_keep (k := 3) rfl hmx hfr hPm
        refine lv_aload_n hx hb dL_law_250 rfl (lv_at hl 2 rfl) ?_
        refine lv_aload_n hx hb dL_law_251 rfl (lv_at hl 0 rfl) ?_
        refine lv_iload_n hx hb dL_law_252 rfl (lv_at hl 3 rfl) ?_
        refine lv_iconst (v := nI 1) hx hb dL_law_253 rfl ?_
        refine lv_iadd hx hb dL_law_254 ?_
        refine pb_tup (nI_add _ _) ?_
        refine va_sld hx hb hX hbl hbA hS (vp_in_nI (show i + 1 < L by omega) (by omega)) dL_law_255 ?_
        refine pb_top (xs (i + 1)) (by rw [nI_clamp (by omega)]) ?_
        refine lv_aload_n hx hb dL_law_256 rfl (lv_at hl 0 rfl) ?_
        refine lv_iload_n hx hb dL_law_257 rfl (lv_at hl 3 rfl) ?_
        refine lv_iconst (v := nI 2) hx hb dL_law_258 rfl ?_
        refine lv_iadd hx hb dL_law_259 ?_
        refine pb_tup (nI_add _ _) ?_
        refine va_sld hx hb hX hbl hbA hS (vp_in_nI (show i + 2 < L by omega) (by omega)) dL_law_260 ?_
        refine pb_top (xs (i + 2)) (by rw [nI_clamp (by omega)]) ?_
        refine pb_afterM (pb_runV (rC := (RX1, TX1, 3)) (ci := 1) (As := [.int (xs (i + 1)), .int (xs (i + 2))]) (rest := [.int r1]) C (ct_X1_holes l D dm tg n P b0 b1 hn3 hC hb0 R lo hSol (xs (i + 1)) (xs (i + 2)) r1 hSp) gw_L_X1_holes hd_X1_holes ⟨rfl, rfl, Nat.le_of_ble_eq_true rfl, Nat.le_of_ble_eq_true rfl⟩ ⟨Nat.le_of_ble_eq_true rfl, Nat.le_of_ble_eq_true rfl⟩ hKm hPm rfl rfl hl.1 rfl (Nat.le_of_ble_eq_true rfl) dL_law_261) hS hsm (fun r2 H locs hq hfr hS => ?_)
        obtain ⟨hr2, b1, hPm⟩ := hq
        have hPx := pb_keep (k := 6) rfl hxm hfr hPx
        refine lv_icmp_eq (tgt := 473) hx hb dL_law_264 (by decide) (fun c264 => ?_) (fun c264 => absurd hr2.symm c264)
        refine lv_iinc (v := nI (i + 4)) (lv' := [(3, .int (nI (i + 4))), (0, .ref b), (1, .ref (sg 0)), (2, .ref (tg 0))]) hx hb dL_law_473 hl (k := 3) rfl (pb_inc4 i) (by decide) rfl (fun ls hl => ?_)
        refine lv_goto (tgt := 18) hx hb dL_law_476 (by decide) ?_
        exact ih (i + 4) n P _ _ _ _ _ _ _ _ _ _ ls (by omega) (by omega) hC hPx hXR hPm hb0 hS (lv_sub hl [1, 2, 3, 0] rfl)
      · refine lv_tableIn (tgt := 269) hx hb dL_law_32 (by decide) (by decide) rfl (by decide) ?_
        refine lv_aload_n hx hb dL_law_269 rfl (lv_at hl 1 rfl) ?_
        refine lv_aload_n hx hb dL_law_270 rfl (lv_at hl 0 rfl) ?_
        refine lv_iload_n hx hb dL_law_271 rfl (lv_at hl 3 rfl) ?_
        refine lv_iconst (v := nI 1) hx hb dL_law_272 rfl ?_
        refine lv_iadd hx hb dL_law_273 ?_
        refine pb_tup (nI_add _ _) ?_
        refine va_sld hx hb hX hbl hbA hS (vp_in_nI (show i + 1 < L by omega) (by omega)) dL_law_274 ?_
        refine pb_top (xs (i + 1)) (by rw [nI_clamp (by omega)]) ?_
        refine lv_aload_n hx hb dL_law_275 rfl (lv_at hl 0 rfl) ?_
        refine lv_iload_n hx hb dL_law_276 rfl (lv_at hl 3 rfl) ?_
        refine lv_iconst (v := nI 2) hx hb dL_law_277 rfl ?_
        refine lv_iadd hx hb dL_law_278 ?_
        refine pb_tup (nI_add _ _) ?_
        refine va_sld hx hb hX hbl hbA hS (vp_in_nI (show i + 2 < L by omega) (by omega)) dL_law_279 ?_
        refine pb_top (xs (i + 2)) (by rw [nI_clamp (by omega)]) ?_
        refine lv_aload_n hx hb dL_law_280 rfl (lv_at hl 0 rfl) ?_
        refine lv_iload_n hx hb dL_law_281 rfl (lv_at hl 3 rfl) ?_
        refine lv_iconst (v := nI 3) hx hb dL_law_282 rfl ?_
        refine lv_iadd hx hb dL_law_283 ?_
        refine pb_tup (nI_add _ _) ?_
        refine va_sld hx hb hX hbl hbA hS (vp_in_nI (show i + 3 < L by omega) (by omega)) dL_law_284 ?_
        refine pb_top (xs (i + 3)) (by rw [nI_clamp (by omega)]) ?_
        refine pb_afterM (pb_runV (rC := (RX0, TX0, 7)) (ci := 0) (As := [.int (xs (i + 1)), .int (xs (i + 2)), .int (xs (i + 3))]) (rest := []) C (ct_X0_lasting l D dx sg n P a0 a1 a2 a3 a4 sv hn6 hC h0 h1 m0 R0 lo0 hm0 hsv hSX (xs (i + 1)) (xs (i + 2)) (xs (i + 3))) gw_L_X0_lasting hd_X0_lasting ⟨rfl, rfl, Nat.le_of_ble_eq_true rfl, Nat.le_of_ble_eq_true rfl⟩ ⟨Nat.le_of_ble_eq_true rfl, Nat.le_of_ble_eq_true rfl⟩ hKx hPx rfl rfl hl.1 rfl (Nat.le_of_ble_eq_true rfl) dL_law_285) hS hsx (fun r1 H locs hq hfr hS => ?_)
        obtain ⟨⟨R, lo, hSol, hSp⟩, a0, a1, a2, a3, a4, sv, hPx, hXR⟩ := hq
        have hPm := pb_keep (k := 3) rfl hmx hfr hPm
        refine lv_aload_n hx hb dL_law_288 rfl (lv_at hl 2 rfl) ?_
        refine lv_aload_n hx hb dL_law_289 rfl (lv_at hl 0 rfl) ?_
        refine lv_iload_n hx hb dL_law_290 rfl (lv_at hl 3 rfl) ?_
        refine lv_iconst (v := nI 1) hx hb dL_law_291 rfl ?_
        refine lv_iadd hx hb dL_law_292 ?_
        refine pb_tup (nI_add _ _) ?_
        refine va_sld hx hb hX hbl hbA hS (vp_in_nI (show i + 1 < L by omega) (by omega)) dL_law_293 ?_
        refine pb_top (xs (i + 1)) (by rw [nI_clamp (by omega)]) ?_
        refine lv_aload_n hx hb dL_law_294 rfl (lv_at hl 0 rfl) ?_
        refine lv_iload_n hx hb dL_law_295 rfl (lv_at hl 3 rfl) ?_
        refine lv_iconst (v := nI 2) hx hb dL_law_296 rfl ?_
        refine lv_iadd hx hb dL_law_297 ?_
        refine pb_tup (nI_add _ _) ?_
        refine va_sld hx hb hX hbl hbA hS (vp_in_nI (show i + 2 < L by omega) (by omega)) dL_law_298 ?_
        refine pb_top (xs (i + 2)) (by rw [nI_clamp (by omega)]) ?_
        refine lv_aload_n hx hb dL_law_299 rfl (lv_at hl 0 rfl) ?_
        refine lv_iload_n hx hb dL_law_300 rfl (lv_at hl 3 rfl) ?_
        refine lv_iconst (v := nI 3) hx hb dL_law_301 rfl ?_
        refine lv_iadd hx hb dL_law_302 ?_
        refine pb_tup (nI_add _ _) ?_
        refine va_sld hx hb hX hbl hbA hS (vp_in_nI (show i + 3 < L by omega) (by omega)) dL_law_303 ?_
        refine pb_top (xs (i + 3)) (by rw [nI_clamp (by omega)]) ?_
        refine pb_afterM (pb_runV (rC := (RX1, TX1, 3)) (ci := 1) (As := [.int (xs (i + 1)), .int (xs (i + 2)), .int (xs (i + 3))]) (rest := [.int r1]) C (ct_X1_lasting l D dm tg n P b0 b1 hn3 hC hb0 R lo hSol (xs (i + 1)) (xs (i + 2)) (xs (i + 3)) r1 hSp) gw_L_X1_lasting hd_X1_lasting ⟨rfl, rfl, Nat.le_of_ble_eq_true rfl, Nat.le_of_ble_eq_true rfl⟩ ⟨Nat.le_of_ble_eq_true rfl, Nat.le_of_ble_eq_true rfl⟩ hKm hPm rfl rfl hl.1 rfl (Nat.le_of_ble_eq_true rfl) dL_law_304) hS hsm (fun r2 H locs hq hfr hS => ?_)
        obtain ⟨hr2, b1, hPm⟩ := hq
        have hPx := pb_keep (k := 6) rfl hxm hfr hPx
        refine lv_icmp_eq (tgt := 473) hx hb dL_law_307 (by decide) (fun c307 => ?_) (fun c307 => absurd hr2.symm c307)
        refine lv_iinc (v := nI (i + 4)) (lv' := [(3, .int (nI (i + 4))), (0, .ref b), (1, .ref (sg 0)), (2, .ref (tg 0))]) hx hb dL_law_473 hl (k := 3) rfl (pb_inc4 i) (by decide) rfl (fun ls hl => ?_)
        refine lv_goto (tgt := 18) hx hb dL_law_476 (by decide) ?_
        exact ih (i + 4) n P _ _ _ _ _ _ _ _ _ _ ls (by omega) (by omega) hC hPx hXR hPm hb0 hS (lv_sub hl [1, 2, 3, 0] rfl)
      · refine lv_tableIn (tgt := 312) hx hb dL_law_32 (by decide) (by decide) rfl (by decide) ?_
        refine lv_aload_n hx hb dL_law_312 rfl (lv_at hl 1 rfl) ?_
        refine lv_aload_n hx hb dL_law_313 rfl (lv_at hl 0 rfl) ?_
        refine lv_iload_n hx hb dL_law_314 rfl (lv_at hl 3 rfl) ?_
        refine lv_iconst (v := nI 1) hx hb dL_law_315 rfl ?_
        refine lv_iadd hx hb dL_law_316 ?_
        refine pb_tup (nI_add _ _) ?_
        refine va_sld hx hb hX hbl hbA hS (vp_in_nI (show i + 1 < L by omega) (by omega)) dL_law_317 ?_
        refine pb_top (xs (i + 1)) (by rw [nI_clamp (by omega)]) ?_
        refine pb_afterM (pb_runV (rC := (RX0, TX0, 7)) (ci := 0) (As := [.int (xs (i + 1))]) (rest := []) C (ct_X0_opens l D dx sg n P a0 a1 a2 a3 a4 sv hn6 hC h0 h1 m0 R0 lo0 hm0 hsv hSX (xs (i + 1))) gw_L_X0_opens hd_X0_opens ⟨rfl, rfl, Nat.le_of_ble_eq_true rfl, Nat.le_of_ble_eq_true rfl⟩ ⟨Nat.le_of_ble_eq_true rfl, Nat.le_of_ble_eq_true rfl⟩ hKx hPx rfl rfl hl.1 rfl (Nat.le_of_ble_eq_true rfl) dL_law_318) hS hsx (fun r1 H locs hq hfr hS => ?_)
        obtain ⟨⟨R, lo, hSol, hSp⟩, a0, a1, a2, a3, a4, sv, hPx, hXR⟩ := hq
        have hPm := pb_keep (k := 3) rfl hmx hfr hPm
        refine lv_aload_n hx hb dL_law_321 rfl (lv_at hl 2 rfl) ?_
        refine lv_aload_n hx hb dL_law_322 rfl (lv_at hl 0 rfl) ?_
        refine lv_iload_n hx hb dL_law_323 rfl (lv_at hl 3 rfl) ?_
        refine lv_iconst (v := nI 1) hx hb dL_law_324 rfl ?_
        refine lv_iadd hx hb dL_law_325 ?_
        refine pb_tup (nI_add _ _) ?_
        refine va_sld hx hb hX hbl hbA hS (vp_in_nI (show i + 1 < L by omega) (by omega)) dL_law_326 ?_
        refine pb_top (xs (i + 1)) (by rw [nI_clamp (by omega)]) ?_
        refine pb_afterM (pb_runV (rC := (RX1, TX1, 3)) (ci := 1) (As := [.int (xs (i + 1))]) (rest := [.int r1]) C (ct_X1_opens l D dm tg n P b0 b1 hn3 hC hb0 R lo hSol (xs (i + 1)) r1 hSp) gw_L_X1_opens hd_X1_opens ⟨rfl, rfl, Nat.le_of_ble_eq_true rfl, Nat.le_of_ble_eq_true rfl⟩ ⟨Nat.le_of_ble_eq_true rfl, Nat.le_of_ble_eq_true rfl⟩ hKm hPm rfl rfl hl.1 rfl (Nat.le_of_ble_eq_true rfl) dL_law_327) hS hsm (fun r2 H locs hq hfr hS => ?_)
        obtain ⟨hr2, b1, hPm⟩ := hq
        have hPx := pb_keep (k := 6) rfl hxm hfr hPx
        refine lv_icmp_eq (tgt := 473) hx hb dL_law_330 (by decide) (fun c330 => ?_) (fun c330 => absurd hr2.symm c330)
        refine lv_iinc (v := nI (i + 4)) (lv' := [(3, .int (nI (i + 4))), (0, .ref b), (1, .ref (sg 0)), (2, .ref (tg 0))]) hx hb dL_law_473 hl (k := 3) rfl (pb_inc4 i) (by decide) rfl (fun ls hl => ?_)
        refine lv_goto (tgt := 18) hx hb dL_law_476 (by decide) ?_
        exact ih (i + 4) n P _ _ _ _ _ _ _ _ _ _ ls (by omega) (by omega) hC hPx hXR hPm hb0 hS (lv_sub hl [1, 2, 3, 0] rfl)
      · refine lv_tableIn (tgt := 335) hx hb dL_law_32 (by decide) (by decide) rfl (by decide) ?_
        refine lv_aload_n hx hb dL_law_335 rfl (lv_at hl 1 rfl) ?_
        refine lv_aload_n hx hb dL_law_336 rfl (lv_at hl 0 rfl) ?_
        refine lv_iload_n hx hb dL_law_337 rfl (lv_at hl 3 rfl) ?_
        refine lv_iconst (v := nI 1) hx hb dL_law_338 rfl ?_
        refine lv_iadd hx hb dL_law_339 ?_
        refine pb_tup (nI_add _ _) ?_
        refine va_sld hx hb hX hbl hbA hS (vp_in_nI (show i + 1 < L by omega) (by omega)) dL_law_340 ?_
        refine pb_top (xs (i + 1)) (by rw [nI_clamp (by omega)]) ?_
        refine pb_afterM (pb_runV (rC := (RX0, TX0, 7)) (ci := 0) (As := [.int (xs (i + 1))]) (rest := []) C (ct_X0_partner l D dx sg n P a0 a1 a2 a3 a4 sv hn6 hC h0 h1 m0 R0 lo0 hm0 hsv hSX (xs (i + 1))) gw_L_X0_partner hd_X0_partner ⟨rfl, rfl, Nat.le_of_ble_eq_true rfl, Nat.le_of_ble_eq_true rfl⟩ ⟨Nat.le_of_ble_eq_true rfl, Nat.le_of_ble_eq_true rfl⟩ hKx hPx rfl rfl hl.1 rfl (Nat.le_of_ble_eq_true rfl) dL_law_341) hS hsx (fun r1 H locs hq hfr hS => ?_)
        obtain ⟨⟨R, lo, hSol, hSp⟩, a0, a1, a2, a3, a4, sv, hPx, hXR⟩ := hq
        have hPm := pb_keep (k := 3) rfl hmx hfr hPm
        refine lv_aload_n hx hb dL_law_344 rfl (lv_at hl 2 rfl) ?_
        refine lv_aload_n hx hb dL_law_345 rfl (lv_at hl 0 rfl) ?_
        refine lv_iload_n hx hb dL_law_346 rfl (lv_at hl 3 rfl) ?_
        refine lv_iconst (v := nI 1) hx hb dL_law_347 rfl ?_
        refine lv_iadd hx hb dL_law_348 ?_
        refine pb_tup (nI_add _ _) ?_
        refine va_sld hx hb hX hbl hbA hS (vp_in_nI (show i + 1 < L by omega) (by omega)) dL_law_349 ?_
        refine pb_top (xs (i + 1)) (by rw [nI_clamp (by omega)]) ?_
        refine pb_afterM (pb_runV (rC := (RX1, TX1, 3)) (ci := 1) (As := [.int (xs (i + 1))]) (rest := [.int r1]) C (ct_X1_partner l D dm tg n P b0 b1 hn3 hC hb0 R lo hSol (xs (i + 1)) r1 hSp) gw_L_X1_partner hd_X1_partner ⟨rfl, rfl, Nat.le_of_ble_eq_true rfl, Nat.le_of_ble_eq_true rfl⟩ ⟨Nat.le_of_ble_eq_true rfl, Nat.le_of_ble_eq_true rfl⟩ hKm hPm rfl rfl hl.1 rfl (Nat.le_of_ble_eq_true rfl) dL_law_350) hS hsm (fun r2 H locs hq hfr hS => ?_)
        obtain ⟨hr2, b1, hPm⟩ := hq
        have hPx := pb_keep (k := 6) rfl hxm hfr hPx
        refine lv_icmp_eq (tgt := 473) hx hb dL_law_353 (by decide) (fun c353 => ?_) (fun c353 => absurd hr2.symm c353)
        refine lv_iinc (v := nI (i + 4)) (lv' := [(3, .int (nI (i + 4))), (0, .ref b), (1, .ref (sg 0)), (2, .ref (tg 0))]) hx hb dL_law_473 hl (k := 3) rfl (pb_inc4 i) (by decide) rfl (fun ls hl => ?_)
        refine lv_goto (tgt := 18) hx hb dL_law_476 (by decide) ?_
        exact ih (i + 4) n P _ _ _ _ _ _ _ _ _ _ ls (by omega) (by omega) hC hPx hXR hPm hb0 hS (lv_sub hl [1, 2, 3, 0] rfl)
      · refine lv_tableIn (tgt := 358) hx hb dL_law_32 (by decide) (by decide) rfl (by decide) ?_
        refine lv_aload_n hx hb dL_law_358 rfl (lv_at hl 1 rfl) ?_
        refine lv_aload_n hx hb dL_law_359 rfl (lv_at hl 0 rfl) ?_
        refine lv_iload_n hx hb dL_law_360 rfl (lv_at hl 3 rfl) ?_
        refine lv_iconst (v := nI 1) hx hb dL_law_361 rfl ?_
        refine lv_iadd hx hb dL_law_362 ?_
        refine pb_tup (nI_add _ _) ?_
        refine va_sld hx hb hX hbl hbA hS (vp_in_nI (show i + 1 < L by omega) (by omega)) dL_law_363 ?_
        refine pb_top (xs (i + 1)) (by rw [nI_clamp (by omega)]) ?_
        refine pb_afterM (pb_runV (rC := (RX0, TX0, 7)) (ci := 0) (As := [.int (xs (i + 1))]) (rest := []) C (ct_X0_forever l D dx sg n P a0 a1 a2 a3 a4 sv hn6 hC h0 h1 m0 R0 lo0 hm0 hsv hSX (xs (i + 1))) gw_L_X0_forever hd_X0_forever ⟨rfl, rfl, Nat.le_of_ble_eq_true rfl, Nat.le_of_ble_eq_true rfl⟩ ⟨Nat.le_of_ble_eq_true rfl, Nat.le_of_ble_eq_true rfl⟩ hKx hPx rfl rfl hl.1 rfl (Nat.le_of_ble_eq_true rfl) dL_law_364) hS hsx (fun r1 H locs hq hfr hS => ?_)
        obtain ⟨⟨R, lo, hSol, hSp⟩, a0, a1, a2, a3, a4, sv, hPx, hXR⟩ := hq
        have hPm := pb_keep (k := 3) rfl hmx hfr hPm
        refine lv_aload_n hx hb dL_law_367 rfl (lv_at hl 2 rfl) ?_
        refine lv_aload_n hx hb dL_law_368 rfl (lv_at hl 0 rfl) ?_
        refine lv_iload_n hx hb dL_law_369 rfl (lv_at hl 3 rfl) ?_
        refine lv_iconst (v := nI 1) hx hb dL_law_370 rfl ?_
        refine lv_iadd hx hb dL_law_371 ?_
        refine pb_tup (nI_add _ _) ?_
        refine va_sld hx hb hX hbl hbA hS (vp_in_nI (show i + 1 < L by omega) (by omega)) dL_law_372 ?_
        refine pb_top (xs (i + 1)) (by rw [nI_clamp (by omega)]) ?_
        refine pb_afterM (pb_runV (rC := (RX1, TX1, 3)) (ci := 1) (As := [.int (xs (i + 1))]) (rest := [.int r1]) C (ct_X1_forever l D dm tg n P b0 b1 hn3 hC hb0 R lo hSol (xs (i + 1)) r1 hSp) gw_L_X1_forever hd_X1_forever ⟨rfl, rfl, Nat.le_of_ble_eq_true rfl, Nat.le_of_ble_eq_true rfl⟩ ⟨Nat.le_of_ble_eq_true rfl, Nat.le_of_ble_eq_true rfl⟩ hKm hPm rfl rfl hl.1 rfl (Nat.le_of_ble_eq_true rfl) dL_law_373) hS hsm (fun r2 H locs hq hfr hS => ?_)
        obtain ⟨hr2, b1, hPm⟩ := hq
        have hPx := pb_keep (k := 6) rfl hxm hfr hPx
        refine lv_icmp_eq (tgt := 473) hx hb dL_law_376 (by decide) (fun c376 => ?_) (fun c376 => absurd hr2.symm c376)
        refine lv_iinc (v := nI (i + 4)) (lv' := [(3, .int (nI (i + 4))), (0, .ref b), (1, .ref (sg 0)), (2, .ref (tg 0))]) hx hb dL_law_473 hl (k := 3) rfl (pb_inc4 i) (by decide) rfl (fun ls hl => ?_)
        refine lv_goto (tgt := 18) hx hb dL_law_476 (by decide) ?_
        exact ih (i + 4) n P _ _ _ _ _ _ _ _ _ _ ls (by omega) (by omega) hC hPx hXR hPm hb0 hS (lv_sub hl [1, 2, 3, 0] rfl)
      · refine lv_tableIn (tgt := 381) hx hb dL_law_32 (by decide) (by decide) rfl (by decide) ?_
        refine lv_aload_n hx hb dL_law_381 rfl (lv_at hl 1 rfl) ?_
        refine lv_aload_n hx hb dL_law_382 rfl (lv_at hl 0 rfl) ?_
        refine lv_iload_n hx hb dL_law_383 rfl (lv_at hl 3 rfl) ?_
        refine lv_iconst (v := nI 1) hx hb dL_law_384 rfl ?_
        refine lv_iadd hx hb dL_law_385 ?_
        refine pb_tup (nI_add _ _) ?_
        refine va_sld hx hb hX hbl hbA hS (vp_in_nI (show i + 1 < L by omega) (by omega)) dL_law_386 ?_
        refine pb_top (xs (i + 1)) (by rw [nI_clamp (by omega)]) ?_
        refine pb_afterM (pb_runV (rC := (RX0, TX0, 7)) (ci := 0) (As := [.int (xs (i + 1))]) (rest := []) C (ct_X0_longest l D dx sg n P a0 a1 a2 a3 a4 sv hn6 hC h0 h1 m0 R0 lo0 hm0 hsv hSX (xs (i + 1))) gw_L_X0_longest hd_X0_longest ⟨rfl, rfl, Nat.le_of_ble_eq_true rfl, Nat.le_of_ble_eq_true rfl⟩ ⟨Nat.le_of_ble_eq_true rfl, Nat.le_of_ble_eq_true rfl⟩ hKx hPx rfl rfl hl.1 rfl (Nat.le_of_ble_eq_true rfl) dL_law_387) hS hsx (fun r1 H locs hq hfr hS => ?_)
        obtain ⟨⟨R, lo, hSol, hSp⟩, a0, a1, a2, a3, a4, sv, hPx, hXR⟩ := hq
        have hPm := pb_keep (k := 3) rfl hmx hfr hPm
        refine lv_aload_n hx hb dL_law_390 rfl (lv_at hl 2 rfl) ?_
        refine lv_aload_n hx hb dL_law_391 rfl (lv_at hl 0 rfl) ?_
        refine lv_iload_n hx hb dL_law_392 rfl (lv_at hl 3 rfl) ?_
        refine lv_iconst (v := nI 1) hx hb dL_law_393 rfl ?_
        refine lv_iadd hx hb dL_law_394 ?_
        refine pb_tup (nI_add _ _) ?_
        refine va_sld hx hb hX hbl hbA hS (vp_in_nI (show i + 1 < L by omega) (by omega)) dL_law_395 ?_
        refine pb_top (xs (i + 1)) (by rw [nI_clamp (by omega)]) ?_
        refine pb_afterM (pb_runV (rC := (RX1, TX1, 3)) (ci := 1) (As := [.int (xs (i + 1))]) (rest := [.int r1]) C (ct_X1_longest l D dm tg n P b0 b1 hn3 hC hb0 R lo hSol (xs (i + 1)) r1 hSp) gw_L_X1_longest hd_X1_longest ⟨rfl, rfl, Nat.le_of_ble_eq_true rfl, Nat.le_of_ble_eq_true rfl⟩ ⟨Nat.le_of_ble_eq_true rfl, Nat.le_of_ble_eq_true rfl⟩ hKm hPm rfl rfl hl.1 rfl (Nat.le_of_ble_eq_true rfl) dL_law_396) hS hsm (fun r2 H locs hq hfr hS => ?_)
        obtain ⟨hr2, b1, hPm⟩ := hq
        have hPx := pb_keep (k := 6) rfl hxm hfr hPx
        refine lv_icmp_eq (tgt := 473) hx hb dL_law_399 (by decide) (fun c399 => ?_) (fun c399 => absurd hr2.symm c399)
        refine lv_iinc (v := nI (i + 4)) (lv' := [(3, .int (nI (i + 4))), (0, .ref b), (1, .ref (sg 0)), (2, .ref (tg 0))]) hx hb dL_law_473 hl (k := 3) rfl (pb_inc4 i) (by decide) rfl (fun ls hl => ?_)
        refine lv_goto (tgt := 18) hx hb dL_law_476 (by decide) ?_
        exact ih (i + 4) n P _ _ _ _ _ _ _ _ _ _ ls (by omega) (by omega) hC hPx hXR hPm hb0 hS (lv_sub hl [1, 2, 3, 0] rfl)
      · refine lv_tableIn (tgt := 404) hx hb dL_law_32 (by decide) (by decide) rfl (by decide) ?_
        obtain ⟨r, hr9⟩ := pb_EulerS_ex n P (xs (i + 1))
        refine lv_aload_n hx hb dL_law_404 rfl (lv_at hl 1 rfl) ?_
        refine lv_aload_n hx hb dL_law_405 rfl (lv_at hl 0 rfl) ?_
        refine lv_iload_n hx hb dL_law_406 rfl (lv_at hl 3 rfl) ?_
        refine lv_iconst (v := nI 1) hx hb dL_law_407 rfl ?_
        refine lv_iadd hx hb dL_law_408 ?_
        refine pb_tup (nI_add _ _) ?_
        refine va_sld hx hb hX hbl hbA hS (vp_in_nI (show i + 1 < L by omega) (by omega)) dL_law_409 ?_
        refine pb_top (xs (i + 1)) (by rw [nI_clamp (by omega)]) ?_
        refine pb_afterQ (pb_runV (rC := (RX0, TX0, 7)) (ci := 0) (As := [.int (xs (i + 1))]) (rest := []) C (ct_X0_euler l D dx sg n P a0 a1 a2 a3 a4 sv hC h0 h1 (xs (i + 1)) r hr9) gw_L_X0_euler hd_X0_euler ⟨rfl, rfl, Nat.le_of_ble_eq_true rfl, Nat.le_of_ble_eq_true rfl⟩ ⟨Nat.le_of_ble_eq_true rfl, Nat.le_of_ble_eq_true rfl⟩ hKx hPx rfl rfl hl.1 rfl (Nat.le_of_ble_eq_true rfl) dL_law_410) ?_
        refine lv_aload_n hx hb dL_law_413 rfl (lv_at hl 2 rfl) ?_
        refine lv_aload_n hx hb dL_law_414 rfl (lv_at hl 0 rfl) ?_
        refine lv_iload_n hx hb dL_law_415 rfl (lv_at hl 3 rfl) ?_
        refine lv_iconst (v := nI 1) hx hb dL_law_416 rfl ?_
        refine lv_iadd hx hb dL_law_417 ?_
        refine pb_tup (nI_add _ _) ?_
        refine va_sld hx hb hX hbl hbA hS (vp_in_nI (show i + 1 < L by omega) (by omega)) dL_law_418 ?_
        refine pb_top (xs (i + 1)) (by rw [nI_clamp (by omega)]) ?_
        refine pb_afterQ (pb_runV (rC := (RX1, TX1, 3)) (ci := 1) (As := [.int (xs (i + 1))]) (rest := [.int r]) C (ct_X1_euler l D dm tg n P b0 b1 hC hb0 (xs (i + 1)) r hr9) gw_L_X1_euler hd_X1_euler ⟨rfl, rfl, Nat.le_of_ble_eq_true rfl, Nat.le_of_ble_eq_true rfl⟩ ⟨Nat.le_of_ble_eq_true rfl, Nat.le_of_ble_eq_true rfl⟩ hKm hPm rfl rfl hl.1 rfl (Nat.le_of_ble_eq_true rfl) dL_law_419) ?_
        refine lv_icmp_eq (tgt := 473) hx hb dL_law_422 (by decide) (fun c422 => ?_) (fun c422 => absurd rfl c422)
        refine lv_iinc (v := nI (i + 4)) (lv' := [(3, .int (nI (i + 4))), (0, .ref b), (1, .ref (sg 0)), (2, .ref (tg 0))]) hx hb dL_law_473 hl (k := 3) rfl (pb_inc4 i) (by decide) rfl (fun ls hl => ?_)
        refine lv_goto (tgt := 18) hx hb dL_law_476 (by decide) ?_
        exact ih (i + 4) n P _ _ _ _ _ _ _ _ _ _ ls (by omega) (by omega) hC hPx (⟨h0, h1, m0, R0, lo0, hm0, hsv, hSX⟩) hPm hb0 hS (lv_sub hl [1, 2, 3, 0] rfl)
      · refine lv_tableIn (tgt := 427) hx hb dL_law_32 (by decide) (by decide) rfl (by decide) ?_
        obtain ⟨r, hr9⟩ := pb_BorderS_ex hC (xs (i + 1))
        refine lv_aload_n hx hb dL_law_427 rfl (lv_at hl 1 rfl) ?_
        refine lv_aload_n hx hb dL_law_428 rfl (lv_at hl 0 rfl) ?_
        refine lv_iload_n hx hb dL_law_429 rfl (lv_at hl 3 rfl) ?_
        refine lv_iconst (v := nI 1) hx hb dL_law_430 rfl ?_
        refine lv_iadd hx hb dL_law_431 ?_
        refine pb_tup (nI_add _ _) ?_
        refine va_sld hx hb hX hbl hbA hS (vp_in_nI (show i + 1 < L by omega) (by omega)) dL_law_432 ?_
        refine pb_top (xs (i + 1)) (by rw [nI_clamp (by omega)]) ?_
        refine pb_afterQ (pb_runV (rC := (RX0, TX0, 7)) (ci := 0) (As := [.int (xs (i + 1))]) (rest := []) C (ct_X0_border l D dx sg n P a0 a1 a2 a3 a4 sv hC h0 h1 (xs (i + 1)) r hr9) gw_L_X0_border hd_X0_border ⟨rfl, rfl, Nat.le_of_ble_eq_true rfl, Nat.le_of_ble_eq_true rfl⟩ ⟨Nat.le_of_ble_eq_true rfl, Nat.le_of_ble_eq_true rfl⟩ hKx hPx rfl rfl hl.1 rfl (Nat.le_of_ble_eq_true rfl) dL_law_433) ?_
        refine lv_aload_n hx hb dL_law_436 rfl (lv_at hl 2 rfl) ?_
        refine lv_aload_n hx hb dL_law_437 rfl (lv_at hl 0 rfl) ?_
        refine lv_iload_n hx hb dL_law_438 rfl (lv_at hl 3 rfl) ?_
        refine lv_iconst (v := nI 1) hx hb dL_law_439 rfl ?_
        refine lv_iadd hx hb dL_law_440 ?_
        refine pb_tup (nI_add _ _) ?_
        refine va_sld hx hb hX hbl hbA hS (vp_in_nI (show i + 1 < L by omega) (by omega)) dL_law_441 ?_
        refine pb_top (xs (i + 1)) (by rw [nI_clamp (by omega)]) ?_
        refine pb_afterQ (pb_runV (rC := (RX1, TX1, 3)) (ci := 1) (As := [.int (xs (i + 1))]) (rest := [.int r]) C (ct_X1_border l D dm tg n P b0 b1 hC hb0 (xs (i + 1)) r hr9) gw_L_X1_border hd_X1_border ⟨rfl, rfl, Nat.le_of_ble_eq_true rfl, Nat.le_of_ble_eq_true rfl⟩ ⟨Nat.le_of_ble_eq_true rfl, Nat.le_of_ble_eq_true rfl⟩ hKm hPm rfl rfl hl.1 rfl (Nat.le_of_ble_eq_true rfl) dL_law_442) ?_
        refine lv_icmp_eq (tgt := 473) hx hb dL_law_445 (by decide) (fun c445 => ?_) (fun c445 => absurd rfl c445)
        refine lv_iinc (v := nI (i + 4)) (lv' := [(3, .int (nI (i + 4))), (0, .ref b), (1, .ref (sg 0)), (2, .ref (tg 0))]) hx hb dL_law_473 hl (k := 3) rfl (pb_inc4 i) (by decide) rfl (fun ls hl => ?_)
        refine lv_goto (tgt := 18) hx hb dL_law_476 (by decide) ?_
        exact ih (i + 4) n P _ _ _ _ _ _ _ _ _ _ ls (by omega) (by omega) hC hPx (⟨h0, h1, m0, R0, lo0, hm0, hsv, hSX⟩) hPm hb0 hS (lv_sub hl [1, 2, 3, 0] rfl)
      · refine lv_tableIn (tgt := 450) hx hb dL_law_32 (by decide) (by decide) rfl (by decide) ?_
        refine lv_aload_n hx hb dL_law_450 rfl (lv_at hl 1 rfl) ?_
        refine lv_aload_n hx hb dL_law_451 rfl (lv_at hl 0 rfl) ?_
        refine lv_iload_n hx hb dL_law_452 rfl (lv_at hl 3 rfl) ?_
        refine lv_iconst (v := nI 1) hx hb dL_law_453 rfl ?_
        refine lv_iadd hx hb dL_law_454 ?_
        refine pb_tup (nI_add _ _) ?_
        refine va_sld hx hb hX hbl hbA hS (vp_in_nI (show i + 1 < L by omega) (by omega)) dL_law_455 ?_
        refine pb_top (xs (i + 1)) (by rw [nI_clamp (by omega)]) ?_
        refine pb_afterM (pb_runV (rC := (RX0, TX0, 7)) (ci := 0) (As := [.int (xs (i + 1))]) (rest := []) C (ct_X0_bounds l D dx sg n P a0 a1 a2 a3 a4 sv hn6 hC h0 h1 m0 R0 lo0 hm0 hsv hSX (xs (i + 1))) gw_L_X0_bounds hd_X0_bounds ⟨rfl, rfl, Nat.le_of_ble_eq_true rfl, Nat.le_of_ble_eq_true rfl⟩ ⟨Nat.le_of_ble_eq_true rfl, Nat.le_of_ble_eq_true rfl⟩ hKx hPx rfl rfl hl.1 rfl (Nat.le_of_ble_eq_true rfl) dL_law_456) hS hsx (fun r1 H locs hq hfr hS => ?_)
        obtain ⟨⟨R, lo, hSol, hSp⟩, a0, a1, a2, a3, a4, sv, hPx, hXR⟩ := hq
        have hPm := pb_keep (k := 3) rfl hmx hfr hPm
        refine lv_aload_n hx hb dL_law_459 rfl (lv_at hl 2 rfl) ?_
        refine lv_aload_n hx hb dL_law_460 rfl (lv_at hl 0 rfl) ?_
        refine lv_iload_n hx hb dL_law_461 rfl (lv_at hl 3 rfl) ?_
        refine lv_iconst (v := nI 1) hx hb dL_law_462 rfl ?_
        refine lv_iadd hx hb dL_law_463 ?_
        refine pb_tup (nI_add _ _) ?_
        refine va_sld hx hb hX hbl hbA hS (vp_in_nI (show i + 1 < L by omega) (by omega)) dL_law_464 ?_
        refine pb_top (xs (i + 1)) (by rw [nI_clamp (by omega)]) ?_
        refine pb_afterM (pb_runV (rC := (RX1, TX1, 3)) (ci := 1) (As := [.int (xs (i + 1))]) (rest := [.int r1]) C (ct_X1_bounds l D dm tg n P b0 b1 hn3 hC hb0 R lo hSol (xs (i + 1)) r1 hSp) gw_L_X1_bounds hd_X1_bounds ⟨rfl, rfl, Nat.le_of_ble_eq_true rfl, Nat.le_of_ble_eq_true rfl⟩ ⟨Nat.le_of_ble_eq_true rfl, Nat.le_of_ble_eq_true rfl⟩ hKm hPm rfl rfl hl.1 rfl (Nat.le_of_ble_eq_true rfl) dL_law_465) hS hsm (fun r2 H locs hq hfr hS => ?_)
        obtain ⟨hr2, b1, hPm⟩ := hq
        have hPx := pb_keep (k := 6) rfl hxm hfr hPx
        refine lv_icmp_eq (tgt := 473) hx hb dL_law_468 (by decide) (fun c468 => ?_) (fun c468 => absurd hr2.symm c468)
        refine lv_iinc (v := nI (i + 4)) (lv' := [(3, .int (nI (i + 4))), (0, .ref b), (1, .ref (sg 0)), (2, .ref (tg 0))]) hx hb dL_law_473 hl (k := 3) rfl (pb_inc4 i) (by decide) rfl (fun ls hl => ?_)
        refine lv_goto (tgt := 18) hx hb dL_law_476 (by decide) ?_
        exact ih (i + 4) n P _ _ _ _ _ _ _ _ _ _ ls (by omega) (by omega) hC hPx hXR hPm hb0 hS (lv_sub hl [1, 2, 3, 0] rfl)
      · refine lv_tableOut (tgt := 473) hx hb dL_law_32 (Or.inr (by decide)) (by decide) ?_
        refine lv_iinc (v := nI (i + 4)) (lv' := [(3, .int (nI (i + 4))), (0, .ref b), (1, .ref (sg 0)), (2, .ref (tg 0))]) hx hb dL_law_473 hl (k := 3) rfl (pb_inc4 i) (by decide) rfl (fun ls hl => ?_)
        refine lv_goto (tgt := 18) hx hb dL_law_476 (by decide) ?_
        exact ih (i + 4) n P _ _ _ _ _ _ _ _ _ _ ls (by omega) (by omega) hC hPx (⟨h0, h1, m0, R0, lo0, hm0, hsv, hSX⟩) hPm hb0 hS (lv_sub hl [1, 2, 3, 0] rfl)
end
section
/-! the law, from its entry -/
set_option maxRecDepth 100000
def pb_s9 (h q1 q2 q3 q4 q5 g m1 m2 : Nat) : Nat → Nat := fun k => match k with
  | 0 => h
  | 1 => q1
  | 2 => q2
  | 3 => q3
  | 4 => q4
  | 5 => q5
  | 6 => g
  | 7 => m1
  | _ => m2
theorem pb_Nd_of {A : Nat → Prop} {w : va_W} {rg : Nat → Nat} {k : Nat} (hD : va_D A w) (hw : w.map (fun q => q.1) = (List.range k).map rg) : pb_Nd rg k ∧ ∀ i, i < k → A (rg i) := by
  have key : ∀ i, i < k → ∃ q, w[i]? = some q ∧ q.1 = rg i := by
    intro i hi
    have h1 : (w.map (fun q => q.1))[i]? = some (rg i) := by rw [hw, List.getElem?_map, List.getElem?_range hi]; rfl
    rw [List.getElem?_map] at h1
    cases h : w[i]? with
    | none => rw [h] at h1; cases h1
    | some q => rw [h] at h1; exact ⟨q, rfl, Option.some.inj h1⟩
  refine ⟨fun i j hi hj e => ?_, fun i hi => ?_⟩
  · obtain ⟨x, hx, hx2⟩ := key i hi
    obtain ⟨y, hy, hy2⟩ := key j hj
    exact hD.1 i j x y hx hy (by rw [hx2, hy2, e])
  · obtain ⟨x, hx, hx2⟩ := key i hi
    rw [← hx2]
    exact hD.2 i x hx
theorem pb_six {i : Nat} (h : i < 6) : i = 0 ∨ i = 1 ∨ i = 2 ∨ i = 3 ∨ i = 4 ∨ i = 5 := by omega
theorem pb_three {i : Nat} (h : i < 3) : i = 0 ∨ i = 1 ∨ i = 2 := by omega
theorem pb_cx_0 (P : Nat → Nat) : pb_Cx 0 P := ⟨by decide, fun i h => absurd h (Nat.not_lt_zero _), fun i j h => absurd h (Nat.not_lt_zero _), fun i h => absurd h (Nat.not_lt_zero _)⟩
set_option maxHeartbeats 4000000 in
set_option maxRecDepth 100000 in
theorem whole_start {p : Program} {e : Env} {s : State} {m : MethodId} {below : List Frame} {meth : Method} {c : Code} (l : Launch) {b L : Nat} {xs : Nat → Int32} (hL : L ≤ 256) (C0 : lw_At p s m meth c b L xs) : W p l e room_1 s m #[Value.ref b] below meth c s.heap [] 0 0 (lw_Z below #[Value.ref b] s) (entryFrame m ([Value.ref b] : List Value).toArray 4) := by
  obtain ⟨hx, hb, hr, hml, hown, hts0, hX, hbl, hlocks, hgv⟩ := id C0
  have hts : ∀ w ∈ lw_all, w.before #[Value.ref b] s = true := fun w h => hts0 w (lw_all_tbl h)
  have hA : ∀ q : Nat, s.heap.size ≤ q → (fun q : Nat => s.heap.size ≤ q) q := fun _ h => h
  obtain ⟨c0, iS0, hKn0⟩ := u_known (C := RX0) (T := TX0) (N := 7) (n := 7) hts0 (fun w h => lw_all_tbl (in_X0 w h)) (hts _ q32)
  obtain ⟨c1, iS1, hKn1⟩ := u_known (C := RX1) (T := TX1) (N := 3) (n := 3) hts0 (fun w h => lw_all_tbl (in_X1 w h)) (hts _ q172)
  obtain ⟨D, hKc⟩ : ∃ D : va_G, ∀ (k : Nat) (q : vw_C), pb_cl[k]? = some q → u_Kn s q.1 q.2.1 q.2.2 (D.1 k) (D.2 k) := by
    refine ⟨(fun k => if k = 0 then c0 else c1, fun k => if k = 0 then iS0 else iS1), ?_⟩
    intro k q hq
    match k, hq with
    | 0, hq => cases hq; exact hKn0
    | 1, hq => cases hq; exact hKn1
    | k + 2, hq => simp [pb_cl] at hq
  have hS : va_S (fun q : Nat => s.heap.size ≤ q) s.heap s.heap [] := va_S.rf
  have hK : va_K D pb_cl [] s := ⟨hKc, fun k q h => by simp at h⟩
  have hP : va_P D pb_cl [] s.heap := fun k q h => by simp at h
  have hD : va_D (fun q : Nat => s.heap.size ≤ q) [] := ⟨fun i j p q h => by simp at h, fun k q h => by simp at h⟩
  have hl := lv_entry ([.ref b]) (n := 4) (Nat.le_of_ble_eq_true rfl)
  rw [lg_entry_eq]
  generalize (lg_sl ([.ref b]) ++ List.replicate (4 - (lg_sl ([.ref b])).length) Slot.unset).toArray = ls at hl ⊢
  have hl : lv_has ls 4 [(0, .ref b)] := hl
  refine va_new (ci := 0) (fs := [.null, .null, .null, .null, .null, .int 0, .int 0]) (C := RX0) (T := TX0) (N := 7) hx hb hts in_X0 tyX0 tyX0_ok hown (hts _ q31) (hts _ q32) (hts _ q29) hK hP hD hS hA rfl (fun j hj => by rcases (show j = 0 ∨ j = 1 ∨ j = 2 ∨ j = 3 ∨ j = 4 ∨ j = 5 ∨ j = 6 by omega) with rfl | rfl | rfl | rfl | rfl | rfl | rfl <;> rfl) (Nat.le_of_ble_eq_true rfl) (Nat.le_of_ble_eq_true rfl) dL_law_0 (fun qx H hP hD hS => ?_)
  have hP : va_P D pb_cl (pb_x0 qx) H := hP
  have hD : va_D (fun q : Nat => s.heap.size ≤ q) (pb_x0 qx) := hD
  refine W.widen (k := 1) (n := 7) (by omega) (by omega) ?_
  refine lv_dup hx hb dL_law_3 rfl ?_
  have hFc := va_free (wc := pb_x0 qx) hD hS hA [0] rfl
  refine va_callv (va_runI (As := []) (rest := [.ref qx]) ⟨hx, hb, hml, hown, hts⟩ (ct_X0_init l D qx H.size) (cwI 0 hts (lw_meth q35) rfl rfl rfl (hts _ q29) (hts _ q33) (hts _ q34) rfl (by decide +kernel) ⟨Nat.le_of_ble_eq_true rfl, Nat.le_of_ble_eq_true rfl⟩) ⟨fun a U g mk q => by obtain ⟨q0, q1, qP, qK, qD⟩ := q; exact ⟨q0, q1, qP, va_K.moved (u := U) (U := U.calling g mk a) (Vm.Alike.refl U.vm) qK, qD⟩, fun U hU hW => ⟨rfl, by rw [hU], by rw [hU]; exact hP, va_K.moved hW.alike hK, hD.weaken (fun _ _ _ _ => trivial)⟩⟩ rfl rfl hl.1 rfl (lv_room (Nat.le_of_ble_eq_true rfl)) dL_law_4 ⟨Nat.le_of_ble_eq_true rfl, Nat.le_of_ble_eq_true rfl⟩) hS (fun q _ h => hFc q h) hFc (fun u t H1 locs ht hvm hw hB hz1 hk1 hS => ?_)
  obtain ⟨⟨q1, q2, q3, q4, q5⟩, dx, a1⟩ := u
  obtain ⟨hP1, hK1, hD1⟩ := hB
  rw [ht] at hP1
  have hKx : va_K D pb_cl [(dx, .int)] s := va_K.moved hvm.symm hK1
  obtain ⟨hP, hD⟩ := va_join (wr := []) (w1 := pb_xW (pb_s6 qx q1 q2 q3 q4 q5) dx (fun _ => 0) a1 (fun _ => 0) (fun _ => 0) (fun _ => 0) (nI 0) (nI 0)) hP hD [0] [] rfl rfl (by decide) (by decide) hk1 hFc hP1 hD1
  generalize H1 = H at hP hS ⊢
  have hP : va_P D pb_cl (pb_xW (pb_s6 qx q1 q2 q3 q4 q5) dx (fun _ => 0) a1 (fun _ => 0) (fun _ => 0) (fun _ => 0) (nI 0) (nI 0)) H := hP
  have hD : va_D (fun q : Nat => s.heap.size ≤ q) (pb_xW (pb_s6 qx q1 q2 q3 q4 q5) dx (fun _ => 0) a1 (fun _ => 0) (fun _ => 0) (fun _ => 0) (nI 0) (nI 0)) := hD
  refine W.widen (k := 6) (n := 175) (by omega) (by omega) ?_
  refine lv_astore_n (lv' := [(1, .ref qx), (0, .ref b)]) hx hb dL_law_7 rfl hl (by decide) rfl (fun ls hl => ?_)
  refine va_new (ci := 1) (fs := [.int 0, .null, .null]) (C := RX1) (T := TX1) (N := 3) hx hb hts in_X1 tyX1 tyX1_ok hown (hts _ q171) (hts _ q172) (hts _ q30) hK hP hD hS hA rfl (fun j hj => by rcases (show j = 0 ∨ j = 1 ∨ j = 2 by omega) with rfl | rfl | rfl <;> rfl) (Nat.le_of_ble_eq_true rfl) (Nat.le_of_ble_eq_true rfl) dL_law_8 (fun qm H hP hD hS => ?_)
  refine W.widen (k := 7) (n := 178) (by omega) (by omega) ?_
  refine lv_dup hx hb dL_law_11 rfl ?_
  have hPc : va_P D pb_cl (pb_m0 qm) H := hP.sub (ws' := pb_m0 qm) [6] rfl
  have hDc : va_D (fun q : Nat => s.heap.size ≤ q) (pb_m0 qm) := hD.sub (ws' := pb_m0 qm) [6] (by decide) rfl
  have hFc := va_free (wc := pb_m0 qm) hD hS hA [6] rfl
  refine va_callv (va_runI (As := []) (rest := [.ref qm]) ⟨hx, hb, hml, hown, hts⟩ (ct_X1_init l D qm H.size) (cwI 0 hts (lw_meth q175) rfl rfl rfl (hts _ q30) (hts _ q173) (hts _ q174) rfl (by decide +kernel) ⟨Nat.le_of_ble_eq_true rfl, Nat.le_of_ble_eq_true rfl⟩) ⟨fun a U g mk q => by obtain ⟨q0, q1, qP, qK, qD⟩ := q; exact ⟨q0, q1, qP, va_K.moved (u := U) (U := U.calling g mk a) (Vm.Alike.refl U.vm) qK, qD⟩, fun U hU hW => ⟨rfl, by rw [hU], by rw [hU]; exact hPc, va_K.moved hW.alike hK, hDc.weaken (fun _ _ _ _ => trivial)⟩⟩ rfl rfl hl.1 rfl (lv_room (Nat.le_of_ble_eq_true rfl)) dL_law_12 ⟨Nat.le_of_ble_eq_true rfl, Nat.le_of_ble_eq_true rfl⟩) hS (fun q _ h => hFc q h) hFc (fun u t H1 locs ht hvm hw2 hB hz1 hk1 hS => ?_)
  obtain ⟨m1, m2, dm⟩ := u
  obtain ⟨hP1, hK1, hD1⟩ := hB
  rw [ht] at hP1
  have hKm : va_K D pb_cl [(dm, .int)] s := va_K.moved hvm.symm hK1
  obtain ⟨hP, hD⟩ := va_join (wr := pb_xW (pb_s6 qx q1 q2 q3 q4 q5) dx (fun _ => 0) a1 (fun _ => 0) (fun _ => 0) (fun _ => 0) (nI 0) (nI 0)) (w1 := pb_mW (pb_s3 qm m1 m2) dm (nI 0) (fun _ => 0) (fun _ => 0)) hP hD [6] [0, 1, 2, 3, 4, 5] rfl rfl (by decide) (by decide) hk1 hFc hP1 hD1
  generalize H1 = H at hP hS ⊢
  have hPx : va_P D pb_cl (pb_xW (pb_s6 qx q1 q2 q3 q4 q5) dx (fun _ => 0) a1 (fun _ => 0) (fun _ => 0) (fun _ => 0) (nI 0) (nI 0)) H := hP.sub [0, 1, 2, 3, 4, 5] rfl
  have hPm : va_P D pb_cl (pb_mW (pb_s3 qm m1 m2) dm (nI 0) (fun _ => 0) (fun _ => 0)) H := hP.sub [6, 7, 8] rfl
  obtain ⟨hN, hNA⟩ := pb_Nd_of (rg := pb_s9 qx q1 q2 q3 q4 q5 qm m1 m2) (k := 9) hD rfl
  have e6 : ∀ i, i < 6 → pb_s6 qx q1 q2 q3 q4 q5 i = pb_s9 qx q1 q2 q3 q4 q5 qm m1 m2 i := fun i hi => by rcases pb_six hi with rfl | rfl | rfl | rfl | rfl | rfl <;> rfl
  have e3 : ∀ i, i < 3 → pb_s3 qm m1 m2 i = pb_s9 qx q1 q2 q3 q4 q5 qm m1 m2 (i + 6) := fun i hi => by rcases pb_three hi with rfl | rfl | rfl <;> rfl
  refine W.widen (k := 9) (n := 230) (by omega) (by omega) ?_
  refine lv_astore_n (lv' := [(2, .ref qm), (1, .ref qx), (0, .ref b)]) hx hb dL_law_15 rfl hl (by decide) rfl (fun ls hl => ?_)
  refine lv_iconst (v := nI 0) hx hb dL_law_16 rfl ?_
  refine lv_istore_n (lv' := [(3, .int (nI 0)), (2, .ref qm), (1, .ref qx), (0, .ref b)]) hx hb dL_law_17 rfl hl (by decide) rfl (fun ls hl => ?_)
  exact pb_loop l hL C0 D dx dm (pb_s6 qx q1 q2 q3 q4 q5) (pb_s3 qm m1 m2) hKx hKm
    (fun i j hi hj z => hN i j (by omega) (by omega) (by rw [← e6 i hi, ← e6 j hj]; exact z))
    (fun i j hi hj z => by have := hN (i + 6) (j + 6) (by omega) (by omega) (by rw [← e3 i hi, ← e3 j hj]; exact z); omega)
    (fun i j hi hj z => by have := hN i (j + 6) (by omega) (by omega) (by rw [← e6 i hi, ← e3 j hj]; exact z); omega)
    (fun i hi => by rw [e6 i hi]; exact hNA i (by omega))
    (fun i hi => by rw [e3 i hi]; exact hNA (i + 6) (by omega))
    (L + 1) 0 0 (fun _ => 0) _ _ _ _ _ _ _ _ _ _ ls (by omega) (by omega) (pb_cx_0 _) hPx ⟨fun i z => absurd z (Nat.not_lt_zero _), fun q hq => Or.inr ⟨fun i z => absurd z (Nat.not_lt_zero _), hw q hq⟩, 0, fun _ => 0, fun _ => 0, Nat.le_refl 0, rfl, pb_SX_0 _ _ _ _ _ _⟩ hPm (fun i z => absurd z (Nat.not_lt_zero _)) hS (lv_sub hl [3, 2, 1, 0] rfl)
end
section
set_option maxHeartbeats 4000000 in
theorem lw_walk (l : Launch) (b : Addr) (xs : List Int32) : MetFree l x (headSpec (Jvm.Cond.code x code maxLocals ret :: tables_1) room_1) (lw_P b xs) (fun _ _ _ _ _ => True) lw_Q := by
  refine MetFree.of_bodyS (code := code) (maxLocals := maxLocals) (ret := ret) (by decide) ?_ ?_
  · intro args s m h hn
    obtain ⟨meth, c, h1, h2, h3, h4, h5, h6, -, -⟩ := Cond.code_spec hn (atoms_spec (ws := Jvm.Cond.code x code maxLocals ret :: tables_1) h _ List.mem_cons_self)
    exact ⟨meth, c, h1, h2, h3, h4, h5, h6⟩
  · intro p e s m args below meth c s₁ B hml0 hP _
    obtain ⟨rfl, hx, hbd, hgv⟩ := hP
    obtain ⟨scr, harrAt, hlist, hof, hsmall⟩ := hx
    obtain ⟨hcb, hkn, -, -⟩ := State.arrayAt?_spec harrAt
    have hown : s.vm.findClass R_law = some m.cls := findClass_of_methodNamed B.named
    have hts0 : ∀ c ∈ (Jvm.Cond.code x code maxLocals ret :: tables_1), c.before #[Value.ref b] s = true := atoms_spec (ws := Jvm.Cond.code x code maxLocals ret :: tables_1) B.pre
    have hts : ∀ w ∈ lw_tbl, w.before #[Value.ref b] s = true := k2_hts_sels lw_privs (fun w hw => hts0 w (List.mem_cons_of_mem _ hw)) lw_privs_ok
    have hml : c.maxLocals = 4 := B.maxLocals_eq (hts0 _ List.mem_cons_self)
    have X₀ : Stand p l e room_1 s m #[Value.ref b] below meth c s₁ [] 0 0 := Stand.of_body B
    have hh0 : s₁.heap = s.heap := by rw [B.state]; rfl
    have hsz : scr.slots.size = xs.length := by rw [← Array.length_toList, hlist, List.length_map]
    have hval : ∀ j : Nat, j < xs.length → scr.slots[j]? = some (.int (xs.getD j 0)) := fun j hj => by
      rw [← Array.getElem?_toList, hlist]
      simp [hj]
    have hbl : b < s.heap.size := (Array.getElem?_eq_some_iff.mp hcb).1
    have hX : va_X b xs.length (fun j => xs.getD j 0) s s.heap := ⟨scr, hcb, hof, hkn, hsz, hval⟩
    have K : W p l e room_1 s m #[Value.ref b] below meth c s₁.heap [] 0 0 (lw_Z below #[Value.ref b] s) (entryFrame m ([Value.ref b] : List Value).toArray 4) := by
      rw [hh0]
      exact whole_start l hbd ⟨B.exec, B.bytes, B.returns, hml, hown, hts, hX, hbl, B.notSynchronized, hgv⟩
    obtain ⟨t, a1, o, b1, b2, b3⟩ := K s₁ rfl X₀
    exact ⟨t, o, a1, b1, b2, b3⟩
theorem lw_pre_spec {args : Array Value} {s : State} (h : (Jvm.Cond.and given_1 narrow_1).before args s = true) (hr : rest_1_c.before args s = true) : ∃ (b : Addr) (xs : List Int32), lw_P b xs args s := by
  have hs := flat_of_before _ h
  have hq := flat_of_before _ hr
  have hc : (Cond.count 1).before args s = true := hs _ (by decide +kernel)
  have harr : (Cond.arrayOf (.arg 0) .int).before args s = true := hs _ (by decide +kernel)
  have hle : (Cond.le (.length (.arg 0)) (.int 256)).before args s = true := hs _ (by decide +kernel)
  have hlen : (Cond.isInt (.length (.arg 0))).before args s = true := hq _ (by decide +kernel)
  have hall : (Cond.all (.arg 0) (.isInt (.elem (.arg 0) (.index 0)))).before args s = true := hq _ (by decide +kernel)
  obtain ⟨b, xs, hb, hx⟩ := State.ints_of_pre rfl harr hlen hall
  have hsm : xs.length < 2 ^ 31 := hx.choose_spec.2.2.2
  have hev : (Term.length (.arg 0)).eval args s none [] s = some (.int xs.length.toInt32) := hx.length_eval hb
  have hv := Cond.le_ints hev (show (Term.int 256).eval args s none [] s = some (.int 256) from rfl)
  have hd : xs.length.toInt32 ≤ 256 := by
    simpa [Cond.before, Cond.holds, hv] using hle
  have hN : xs.length ≤ 256 := (Int32.ofNat_le_ofNat hsm (by decide)).mp (show Int32.ofNat xs.length ≤ Int32.ofNat 256 from hd)
  exact ⟨b, xs, Cond.one_arg hc (show args[0]? = some (.ref b) from hb), hx, hN, h⟩
theorem lw_comes (l : Launch) : Comes l x (Jvm.Cond.code x code maxLocals ret :: tables_1) room_1 (fun tb e args s => Calls_1 tb e args s ∧ rest_1 tb e args s ∧ Pre_1 tb e args s)
    (fun _ _ args s o t => lw_Q args s o t) := by
  intro p e ha hc hk s m args below hf hfit hheap happ hpre
  obtain ⟨b, xs, hP⟩ := lw_pre_spec hpre.2.2 hpre.2.1
  obtain ⟨k, o, h1, h2, h3, hQ⟩ := lw_walk l b xs p e ha hc hk s m args below hf ((Spec.applies_iff_loose hf).mp happ).1 hP trivial
  exact ⟨k, o, h1, h2, h3, hQ⟩
theorem lw_frame {s t : State} {o : Outcome} {args : Array Value} (h : Framed s o t [] 600000 7290000) :
    Framed s o t (fieldLocs frame_1_writes args s ++ arrayLocs frame_1_arrays args s ++ staticLocs frame_1_statics s) 600000 7290000 := h
theorem lw_limb (L : Cond) (hL : ∀ (args : Array Value) (s t : State), L.after args s (.returned (some (.int 1))) t = true) :
    ArmFor flags0 classFile x code maxLocals ret World_1 tables_1 room_1 Calls_1 rest_1 Pre_1
      (fun tb e a s o t => postC L tb e a s o t ∧ Framed s o t (fieldLocs frame_1_writes a s ++ arrayLocs frame_1_arrays a s ++ staticLocs frame_1_statics s) 600000 7290000) := by
  intro l _ _ _ p e ha hc hk s m args below hf hfit hheap happ hpre
  obtain ⟨k, o, h1, h2, h3, rfl, hF⟩ := lw_comes l p e ha hc hk s m args below hf hfit hheap happ hpre
  exact ⟨k, _, h1, h2, h3, hL args s _, lw_frame hF⟩
theorem i_vc : Claimed_1_1 ∧ Claimed_1_2 := ⟨lw_limb limb_1_1 (fun args s t => by simp [limb_1_1, Cond.after, Cond.holds, Cond.value]), lw_limb limb_1_2 (fun args s t => Cond.after_iff.mpr (by
  first | (rw [show limb_1_2 = Cond.eq .result (.int 1) from rfl, Cond.eq_ints (x := 1) (y := 1) rfl rfl]; simp; done) | (simp [limb_1_2, Cond.value, Term.eval]; done)))⟩
end
