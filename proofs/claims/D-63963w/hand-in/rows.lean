section
-- ===== PART A: goes FIRST, ahead of the names: the tables' words, and 'selects' of the private methods out of them =====
/-- a private method of a class that the tables say can be made, by its rows of tables_1 -/
def lw_okq (q : MethodName × Nat) : Prop := (q.1.cls ≠ "java/lang/invoke/MethodHandle" ∧ q.1.cls ≠ "java/lang/invoke/VarHandle") ∧ Cond.instantiable q.1.cls q.2 ∈ tables_1 ∧ Cond.privateMethod q.1 ∈ tables_1 ∧ Cond.instanceMethod q.1 ∈ tables_1
set_option maxRecDepth 100000
theorem lw_t1 {w : Cond} (h : w ∈ tables_1_1) : w ∈ tables_1 := List.mem_append_left _ h
theorem lw_t2 {w : Cond} (h : w ∈ tables_1_2) : w ∈ tables_1 := List.mem_append_right _ h
theorem lw_p0 : lw_okq (⟨"FloodTerrain", "prepare", "()V"⟩, 11) := ⟨⟨by decide +kernel, by decide +kernel⟩, lw_t1 (List.mem_of_getElem? (i := 4) rfl), lw_t1 (List.mem_of_getElem? (i := 74) rfl), lw_t1 (List.mem_of_getElem? (i := 75) rfl)⟩
theorem lw_p1 : lw_okq (⟨"FloodTerrain", "meet", "(II)V"⟩, 11) := ⟨⟨by decide +kernel, by decide +kernel⟩, lw_t1 (List.mem_of_getElem? (i := 4) rfl), lw_t1 (List.mem_of_getElem? (i := 81) rfl), lw_t1 (List.mem_of_getElem? (i := 82) rfl)⟩
theorem lw_p2 : lw_okq (⟨"FloodTerrain", "push", "(I)V"⟩, 11) := ⟨⟨by decide +kernel, by decide +kernel⟩, lw_t1 (List.mem_of_getElem? (i := 4) rfl), lw_t1 (List.mem_of_getElem? (i := 85) rfl), lw_t1 (List.mem_of_getElem? (i := 86) rfl)⟩
theorem lw_p3 : lw_okq (⟨"FloodTerrain", "lower", "(II)Z"⟩, 11) := ⟨⟨by decide +kernel, by decide +kernel⟩, lw_t1 (List.mem_of_getElem? (i := 4) rfl), lw_t1 (List.mem_of_getElem? (i := 89) rfl), lw_t1 (List.mem_of_getElem? (i := 90) rfl)⟩
theorem lw_p4 : lw_okq (⟨"FloodTerrain", "pop", "()I"⟩, 11) := ⟨⟨by decide +kernel, by decide +kernel⟩, lw_t1 (List.mem_of_getElem? (i := 4) rfl), lw_t1 (List.mem_of_getElem? (i := 93) rfl), lw_t1 (List.mem_of_getElem? (i := 94) rfl)⟩
theorem lw_p5 : lw_okq (⟨"FloodTerrain", "forget", "()V"⟩, 11) := ⟨⟨by decide +kernel, by decide +kernel⟩, lw_t1 (List.mem_of_getElem? (i := 4) rfl), lw_t1 (List.mem_of_getElem? (i := 108) rfl), lw_t1 (List.mem_of_getElem? (i := 109) rfl)⟩
theorem lw_p6 : lw_okq (⟨"FloodTerrain", "walkLake", "(I)I"⟩, 11) := ⟨⟨by decide +kernel, by decide +kernel⟩, lw_t1 (List.mem_of_getElem? (i := 4) rfl), lw_t1 (List.mem_of_getElem? (i := 112) rfl), lw_t1 (List.mem_of_getElem? (i := 113) rfl)⟩
theorem lw_p7 : lw_okq (⟨"FloodTerrain", "startJoining", "()V"⟩, 11) := ⟨⟨by decide +kernel, by decide +kernel⟩, lw_t1 (List.mem_of_getElem? (i := 4) rfl), lw_t1 (List.mem_of_getElem? (i := 124) rfl), lw_t1 (List.mem_of_getElem? (i := 125) rfl)⟩
theorem lw_p8 : lw_okq (⟨"FloodTerrain", "sortCells", "()V"⟩, 11) := ⟨⟨by decide +kernel, by decide +kernel⟩, lw_t1 (List.mem_of_getElem? (i := 4) rfl), lw_t1 (List.mem_of_getElem? (i := 128) rfl), lw_t1 (List.mem_of_getElem? (i := 129) rfl)⟩
theorem lw_p9 : lw_okq (⟨"FloodTerrain", "activate", "(I)V"⟩, 11) := ⟨⟨by decide +kernel, by decide +kernel⟩, lw_t1 (List.mem_of_getElem? (i := 4) rfl), lw_t1 (List.mem_of_getElem? (i := 132) rfl), lw_t1 (List.mem_of_getElem? (i := 133) rfl)⟩
theorem lw_p10 : lw_okq (⟨"FloodTerrain", "find", "(I)I"⟩, 11) := ⟨⟨by decide +kernel, by decide +kernel⟩, lw_t1 (List.mem_of_getElem? (i := 4) rfl), lw_t1 (List.mem_of_getElem? (i := 136) rfl), lw_t1 (List.mem_of_getElem? (i := 137) rfl)⟩
theorem lw_p11 : lw_okq (⟨"FloodTerrain", "summitAt", "(I)Z"⟩, 11) := ⟨⟨by decide +kernel, by decide +kernel⟩, lw_t1 (List.mem_of_getElem? (i := 4) rfl), lw_t1 (List.mem_of_getElem? (i := 152) rfl), lw_t1 (List.mem_of_getElem? (i := 153) rfl)⟩
theorem lw_p12 : lw_okq (⟨"FloodTerrainModel", "bad", "(I)Z"⟩, 2) := ⟨⟨by decide +kernel, by decide +kernel⟩, lw_t1 (List.mem_of_getElem? (i := 156) rfl), lw_t1 (List.mem_of_getElem? (i := 173) rfl), lw_t1 (List.mem_of_getElem? (i := 174) rfl)⟩
theorem lw_p13 : lw_okq (⟨"FloodTerrainModel", "between", "(III)Z"⟩, 2) := ⟨⟨by decide +kernel, by decide +kernel⟩, lw_t1 (List.mem_of_getElem? (i := 156) rfl), lw_t1 (List.mem_of_getElem? (i := 181) rfl), lw_t1 (List.mem_of_getElem? (i := 182) rfl)⟩
theorem lw_p14 : lw_okq (⟨"FloodTerrainModel", "least", "(II)I"⟩, 2) := ⟨⟨by decide +kernel, by decide +kernel⟩, lw_t1 (List.mem_of_getElem? (i := 156) rfl), lw_t1 (List.mem_of_getElem? (i := 185) rfl), lw_t1 (List.mem_of_getElem? (i := 186) rfl)⟩
theorem lw_p15 : lw_okq (⟨"FloodTerrainModel", "most", "(II)I"⟩, 2) := ⟨⟨by decide +kernel, by decide +kernel⟩, lw_t1 (List.mem_of_getElem? (i := 156) rfl), lw_t1 (List.mem_of_getElem? (i := 189) rfl), lw_t1 (List.mem_of_getElem? (i := 190) rfl)⟩
def lw_privs_1 : List (MethodName × Nat) := [(⟨"FloodTerrain", "prepare", "()V"⟩, 11), (⟨"FloodTerrain", "meet", "(II)V"⟩, 11), (⟨"FloodTerrain", "push", "(I)V"⟩, 11), (⟨"FloodTerrain", "lower", "(II)Z"⟩, 11), (⟨"FloodTerrain", "pop", "()I"⟩, 11), (⟨"FloodTerrain", "forget", "()V"⟩, 11), (⟨"FloodTerrain", "walkLake", "(I)I"⟩, 11), (⟨"FloodTerrain", "startJoining", "()V"⟩, 11), (⟨"FloodTerrain", "sortCells", "()V"⟩, 11), (⟨"FloodTerrain", "activate", "(I)V"⟩, 11), (⟨"FloodTerrain", "find", "(I)I"⟩, 11), (⟨"FloodTerrain", "summitAt", "(I)Z"⟩, 11), (⟨"FloodTerrainModel", "bad", "(I)Z"⟩, 2), (⟨"FloodTerrainModel", "between", "(III)Z"⟩, 2), (⟨"FloodTerrainModel", "least", "(II)I"⟩, 2), (⟨"FloodTerrainModel", "most", "(II)I"⟩, 2)]
theorem lw_r1 : ∀ q ∈ lw_privs_1, lw_okq q := List.forall_mem_cons.mpr ⟨lw_p0, List.forall_mem_cons.mpr ⟨lw_p1, List.forall_mem_cons.mpr ⟨lw_p2, List.forall_mem_cons.mpr ⟨lw_p3, List.forall_mem_cons.mpr ⟨lw_p4, List.forall_mem_cons.mpr ⟨lw_p5, List.forall_mem_cons.mpr ⟨lw_p6, List.forall_mem_cons.mpr ⟨lw_p7, List.forall_mem_cons.mpr ⟨lw_p8, List.forall_mem_cons.mpr ⟨lw_p9, List.forall_mem_cons.mpr ⟨lw_p10, List.forall_mem_cons.mpr ⟨lw_p11, List.forall_mem_cons.mpr ⟨lw_p12, List.forall_mem_cons.mpr ⟨lw_p13, List.forall_mem_cons.mpr ⟨lw_p14, List.forall_mem_cons.mpr ⟨lw_p15, fun _ h => absurd h List.not_mem_nil⟩⟩⟩⟩⟩⟩⟩⟩⟩⟩⟩⟩⟩⟩⟩⟩
theorem lw_p16 : lw_okq (⟨"FloodTerrainModel", "levels", "()V"⟩, 2) := ⟨⟨by decide +kernel, by decide +kernel⟩, lw_t1 (List.mem_of_getElem? (i := 156) rfl), lw_t1 (List.mem_of_getElem? (i := 206) rfl), lw_t1 (List.mem_of_getElem? (i := 207) rfl)⟩
theorem lw_p17 : lw_okq (⟨"FloodTerrainModel", "border", "(I)Z"⟩, 2) := ⟨⟨by decide +kernel, by decide +kernel⟩, lw_t1 (List.mem_of_getElem? (i := 156) rfl), lw_t1 (List.mem_of_getElem? (i := 210) rfl), lw_t1 (List.mem_of_getElem? (i := 211) rfl)⟩
theorem lw_p18 : lw_okq (⟨"FloodTerrainModel", "lower", "()V"⟩, 2) := ⟨⟨by decide +kernel, by decide +kernel⟩, lw_t1 (List.mem_of_getElem? (i := 156) rfl), lw_t1 (List.mem_of_getElem? (i := 214) rfl), lw_t1 (List.mem_of_getElem? (i := 215) rfl)⟩
theorem lw_p19 : lw_okq (⟨"FloodTerrainModel", "leastBeside", "(I)I"⟩, 2) := ⟨⟨by decide +kernel, by decide +kernel⟩, lw_t1 (List.mem_of_getElem? (i := 156) rfl), lw_t1 (List.mem_of_getElem? (i := 218) rfl), lw_t1 (List.mem_of_getElem? (i := 219) rfl)⟩
theorem lw_p20 : lw_okq (⟨"FloodTerrainModel", "beside", "(II)I"⟩, 2) := ⟨⟨by decide +kernel, by decide +kernel⟩, lw_t1 (List.mem_of_getElem? (i := 156) rfl), lw_t1 (List.mem_of_getElem? (i := 222) rfl), lw_t1 (List.mem_of_getElem? (i := 223) rfl)⟩
theorem lw_p21 : lw_okq (⟨"FloodTerrainModel", "lakeMarks", "()V"⟩, 2) := ⟨⟨by decide +kernel, by decide +kernel⟩, lw_t1 (List.mem_of_getElem? (i := 156) rfl), lw_t1 (List.mem_of_getElem? (i := 234) rfl), lw_t1 (List.mem_of_getElem? (i := 235) rfl)⟩
theorem lw_p22 : lw_okq (⟨"FloodTerrainModel", "passes", "(I)V"⟩, 2) := ⟨⟨by decide +kernel, by decide +kernel⟩, lw_t1 (List.mem_of_getElem? (i := 156) rfl), lw_t2 (List.mem_of_getElem? (i := 6) rfl), lw_t2 (List.mem_of_getElem? (i := 7) rfl)⟩
theorem lw_p23 : lw_okq (⟨"FloodTerrainModel", "mostBeside", "(I)I"⟩, 2) := ⟨⟨by decide +kernel, by decide +kernel⟩, lw_t1 (List.mem_of_getElem? (i := 156) rfl), lw_t2 (List.mem_of_getElem? (i := 18) rfl), lw_t2 (List.mem_of_getElem? (i := 19) rfl)⟩
theorem lw_p24 : lw_okq (⟨"FloodTerrainModel", "hasHigher", "(I)Z"⟩, 2) := ⟨⟨by decide +kernel, by decide +kernel⟩, lw_t1 (List.mem_of_getElem? (i := 156) rfl), lw_t2 (List.mem_of_getElem? (i := 26) rfl), lw_t2 (List.mem_of_getElem? (i := 27) rfl)⟩
theorem lw_p25 : lw_okq (⟨"FloodTerrainModel", "leastAlike", "(I)I"⟩, 2) := ⟨⟨by decide +kernel, by decide +kernel⟩, lw_t1 (List.mem_of_getElem? (i := 156) rfl), lw_t2 (List.mem_of_getElem? (i := 30) rfl), lw_t2 (List.mem_of_getElem? (i := 31) rfl)⟩
def lw_privs_2 : List (MethodName × Nat) := [(⟨"FloodTerrainModel", "levels", "()V"⟩, 2), (⟨"FloodTerrainModel", "border", "(I)Z"⟩, 2), (⟨"FloodTerrainModel", "lower", "()V"⟩, 2), (⟨"FloodTerrainModel", "leastBeside", "(I)I"⟩, 2), (⟨"FloodTerrainModel", "beside", "(II)I"⟩, 2), (⟨"FloodTerrainModel", "lakeMarks", "()V"⟩, 2), (⟨"FloodTerrainModel", "passes", "(I)V"⟩, 2), (⟨"FloodTerrainModel", "mostBeside", "(I)I"⟩, 2), (⟨"FloodTerrainModel", "hasHigher", "(I)Z"⟩, 2), (⟨"FloodTerrainModel", "leastAlike", "(I)I"⟩, 2)]
theorem lw_r2 : ∀ q ∈ lw_privs_2, lw_okq q := List.forall_mem_cons.mpr ⟨lw_p16, List.forall_mem_cons.mpr ⟨lw_p17, List.forall_mem_cons.mpr ⟨lw_p18, List.forall_mem_cons.mpr ⟨lw_p19, List.forall_mem_cons.mpr ⟨lw_p20, List.forall_mem_cons.mpr ⟨lw_p21, List.forall_mem_cons.mpr ⟨lw_p22, List.forall_mem_cons.mpr ⟨lw_p23, List.forall_mem_cons.mpr ⟨lw_p24, List.forall_mem_cons.mpr ⟨lw_p25, fun _ h => absurd h List.not_mem_nil⟩⟩⟩⟩⟩⟩⟩⟩⟩⟩
def lw_privs : List (MethodName × Nat) := lw_privs_1 ++ (lw_privs_2)
def lw_tbl : List Cond := k2_sels lw_privs ++ tables_1
theorem lw_privs_ok : ∀ q ∈ lw_privs, lw_okq q := by
  show ∀ q ∈ lw_privs_1 ++ (lw_privs_2), lw_okq q
  exact List.forall_mem_append.mpr ⟨lw_r1, lw_r2⟩
-- ===== ONE list of words for every method: the tables' words that hold all through a run =====
def lw_all : List Cond := lw_tbl.filter goodWord
/-- a word of the tables by its place: claim/WORDS.tsv -/
theorem lw_w {w : Cond} (i : Nat) (h : lw_tbl[i]? = some w) (g : goodWord w = true) : w ∈ lw_all := List.mem_filter.mpr ⟨List.mem_of_getElem? h, g⟩
theorem lw_all_tbl {w : Cond} (h : w ∈ lw_all) : w ∈ lw_tbl := (List.mem_filter.mp h).1
theorem lw_self : GoodIn lw_all lw_all := fun w h => ⟨h, good_of_word (List.mem_filter.mp h).2⟩
/-- a class's field words, by their places -/
theorem lw_in (ws : List Cond) (ps : List Nat) (hp : ws = ps.filterMap (fun i => lw_tbl[i]?)) (hg : ws.all goodWord = true) : ∀ w ∈ ws, w ∈ lw_all := by
  intro w h
  have h1 := List.all_eq_true.mp hg w h
  rw [hp] at h
  obtain ⟨i, -, hi⟩ := List.mem_filterMap.mp h
  exact lw_w i hi h1
/-- the words of a contract for the method y with code b, L locals, answer r -/
abbrev ws_ (y : MethodName) (b : ByteArray) (L : Nat) (r : Option FieldType) : List Cond := Cond.code y b L r :: lw_all
theorem lw_meth {y : MethodName} {b : ByteArray} {L : Nat} {r : Option FieldType} (h : Cond.code y b L r ∈ lw_all) : GoodIn lw_all (ws_ y b L r) := by
  intro w hw
  rcases List.mem_cons.mp hw with e | e
  · rw [e]
    exact lw_self _ h
  · exact lw_self _ e
theorem lw_app {a c : List Cond} (ha : ∀ w ∈ a, w ∈ lw_all) (hc : GoodIn lw_all c) : GoodIn lw_all (a ++ c) := by
  intro w hw
  rcases List.mem_append.mp hw with e | e
  · exact lw_self w (ha w e)
  · exact hc w e
/-- what a call through an object asks: cwV n hts (lw_V ..) -/
theorem lw_V {own : String} {idx : Nat} {C : String} {y : MethodName} {b : ByteArray} {L : Nat} {r : Option FieldType} (h1 : Cond.methodLink own idx y ∈ lw_all) (h2 : Cond.instanceMethod y ∈ lw_all) (h3 : Cond.selects C y y ∈ lw_all) (h4 : Cond.initialized C ∈ lw_all) (h5 : Cond.code y b L r ∈ lw_all) : GoodIn lw_all (wsV own idx C y (ws_ y b L r)) := by
  refine lw_app ?_ (lw_meth h5)
  intro w hw
  simp only [List.mem_cons, List.not_mem_nil, or_false] at hw
  rcases hw with e | e | e | e
  · rw [e]; exact h1
  · rw [e]; exact h2
  · rw [e]; exact h3
  · rw [e]; exact h4
/-- what a static call asks: va_cwS n hts (lw_S ..) -/
theorem lw_S {own : String} {idx : Nat} {y : MethodName} {b : ByteArray} {L : Nat} {r : Option FieldType} (h1 : Cond.methodLink own idx y ∈ lw_all) (h2 : Cond.static y ∈ lw_all) (h3 : Cond.initialized y.cls ∈ lw_all) (h4 : Cond.code y b L r ∈ lw_all) : GoodIn lw_all (va_wsS own idx y (ws_ y b L r)) := by
  refine lw_app ?_ (lw_meth h4)
  intro w hw
  simp only [List.mem_cons, List.not_mem_nil, or_false] at hw
  rcases hw with e | e | e
  · rw [e]; exact h1
  · rw [e]; exact h2
  · rw [e]; exact h3
/-- the words of a contract for a method WITH HANDLERS (hh: its table) -/
abbrev wsW_ (y : MethodName) (b : ByteArray) (L : Nat) (r : Option FieldType) (hh : List (Nat × Nat × Nat × Nat)) : List Cond := Cond.codeWith y b L r hh :: lw_all
theorem lw_methW {y : MethodName} {b : ByteArray} {L : Nat} {r : Option FieldType} {hh : List (Nat × Nat × Nat × Nat)} (h : Cond.codeWith y b L r hh ∈ lw_all) : GoodIn lw_all (wsW_ y b L r hh) := by
  intro w hw
  rcases List.mem_cons.mp hw with e | e
  · rw [e]
    exact lw_self _ h
  · exact lw_self _ e
/-- any list of words by their places (lw_in), good -/
theorem lw_good {ws : List Cond} (h : ∀ w ∈ ws, w ∈ lw_all) : GoodIn lw_all ws := fun w hw => lw_self w (h w hw)
/-- what a call of a method with handlers asks: vx_cwVW n hts (lw_VW ..), vx_cwSW n hts (lw_SW ..) -/
theorem lw_VW {own : String} {idx : Nat} {C : String} {y : MethodName} {b : ByteArray} {L : Nat} {r : Option FieldType} {hh : List (Nat × Nat × Nat × Nat)} (h1 : Cond.methodLink own idx y ∈ lw_all) (h2 : Cond.instanceMethod y ∈ lw_all) (h3 : Cond.selects C y y ∈ lw_all) (h4 : Cond.initialized C ∈ lw_all) (h5 : Cond.codeWith y b L r hh ∈ lw_all) : GoodIn lw_all (wsV own idx C y (wsW_ y b L r hh)) := by
  refine lw_app ?_ (lw_methW h5)
  intro w hw
  simp only [List.mem_cons, List.not_mem_nil, or_false] at hw
  rcases hw with e | e | e | e
  · rw [e]; exact h1
  · rw [e]; exact h2
  · rw [e]; exact h3
  · rw [e]; exact h4
theorem lw_SW {own : String} {idx : Nat} {y : MethodName} {b : ByteArray} {L : Nat} {r : Option FieldType} {hh : List (Nat × Nat × Nat × Nat)} (h1 : Cond.methodLink own idx y ∈ lw_all) (h2 : Cond.static y ∈ lw_all) (h3 : Cond.initialized y.cls ∈ lw_all) (h4 : Cond.codeWith y b L r hh ∈ lw_all) : GoodIn lw_all (va_wsS own idx y (wsW_ y b L r hh)) := by
  refine lw_app ?_ (lw_methW h4)
  intro w hw
  simp only [List.mem_cons, List.not_mem_nil, or_false] at hw
  rcases hw with e | e | e
  · rw [e]; exact h1
  · rw [e]; exact h2
  · rw [e]; exact h3
/-- a word by its place in its run of the tables -/
theorem lw_at {r : List Cond} (hr : ∀ w ∈ r, w ∈ lw_tbl) {w : Cond} (i : Nat) (h : r[i]? = some w) : w ∈ lw_tbl := hr w (List.mem_of_getElem? h)
theorem lw_g {w : Cond} (h : w ∈ lw_tbl) (g : goodWord w = true) : w ∈ lw_all := List.mem_filter.mpr ⟨h, g⟩
theorem lw_ms : ∀ w ∈ k2_sels lw_privs, w ∈ lw_tbl := fun w h => show w ∈ k2_sels lw_privs ++ tables_1 from List.mem_append_left _ h
theorem lw_m1 : ∀ w ∈ tables_1_1, w ∈ lw_tbl := fun w h => show w ∈ k2_sels lw_privs ++ tables_1 from List.mem_append_right (k2_sels lw_privs) (show w ∈ tables_1 from List.mem_append_left _ h)
theorem lw_m2 : ∀ w ∈ tables_1_2, w ∈ lw_tbl := fun w h => show w ∈ k2_sels lw_privs ++ tables_1 from List.mem_append_right (k2_sels lw_privs) (show w ∈ tables_1 from List.mem_append_right _ h)
theorem qs0 : (Cond.selects "FloodTerrain" ⟨"FloodTerrain", "prepare", "()V"⟩ ⟨"FloodTerrain", "prepare", "()V"⟩) ∈ lw_all := lw_g (lw_at lw_ms 0 rfl) rfl
theorem qs1 : (Cond.selects "FloodTerrain" ⟨"FloodTerrain", "meet", "(II)V"⟩ ⟨"FloodTerrain", "meet", "(II)V"⟩) ∈ lw_all := lw_g (lw_at lw_ms 1 rfl) rfl
theorem qs2 : (Cond.selects "FloodTerrain" ⟨"FloodTerrain", "push", "(I)V"⟩ ⟨"FloodTerrain", "push", "(I)V"⟩) ∈ lw_all := lw_g (lw_at lw_ms 2 rfl) rfl
theorem qs3 : (Cond.selects "FloodTerrain" ⟨"FloodTerrain", "lower", "(II)Z"⟩ ⟨"FloodTerrain", "lower", "(II)Z"⟩) ∈ lw_all := lw_g (lw_at lw_ms 3 rfl) rfl
theorem qs4 : (Cond.selects "FloodTerrain" ⟨"FloodTerrain", "pop", "()I"⟩ ⟨"FloodTerrain", "pop", "()I"⟩) ∈ lw_all := lw_g (lw_at lw_ms 4 rfl) rfl
theorem qs5 : (Cond.selects "FloodTerrain" ⟨"FloodTerrain", "forget", "()V"⟩ ⟨"FloodTerrain", "forget", "()V"⟩) ∈ lw_all := lw_g (lw_at lw_ms 5 rfl) rfl
theorem qs6 : (Cond.selects "FloodTerrain" ⟨"FloodTerrain", "walkLake", "(I)I"⟩ ⟨"FloodTerrain", "walkLake", "(I)I"⟩) ∈ lw_all := lw_g (lw_at lw_ms 6 rfl) rfl
theorem qs7 : (Cond.selects "FloodTerrain" ⟨"FloodTerrain", "startJoining", "()V"⟩ ⟨"FloodTerrain", "startJoining", "()V"⟩) ∈ lw_all := lw_g (lw_at lw_ms 7 rfl) rfl
theorem qs8 : (Cond.selects "FloodTerrain" ⟨"FloodTerrain", "sortCells", "()V"⟩ ⟨"FloodTerrain", "sortCells", "()V"⟩) ∈ lw_all := lw_g (lw_at lw_ms 8 rfl) rfl
theorem qs9 : (Cond.selects "FloodTerrain" ⟨"FloodTerrain", "activate", "(I)V"⟩ ⟨"FloodTerrain", "activate", "(I)V"⟩) ∈ lw_all := lw_g (lw_at lw_ms 9 rfl) rfl
theorem qs10 : (Cond.selects "FloodTerrain" ⟨"FloodTerrain", "find", "(I)I"⟩ ⟨"FloodTerrain", "find", "(I)I"⟩) ∈ lw_all := lw_g (lw_at lw_ms 10 rfl) rfl
theorem qs11 : (Cond.selects "FloodTerrain" ⟨"FloodTerrain", "summitAt", "(I)Z"⟩ ⟨"FloodTerrain", "summitAt", "(I)Z"⟩) ∈ lw_all := lw_g (lw_at lw_ms 11 rfl) rfl
theorem qs12 : (Cond.selects "FloodTerrainModel" ⟨"FloodTerrainModel", "bad", "(I)Z"⟩ ⟨"FloodTerrainModel", "bad", "(I)Z"⟩) ∈ lw_all := lw_g (lw_at lw_ms 12 rfl) rfl
theorem qs13 : (Cond.selects "FloodTerrainModel" ⟨"FloodTerrainModel", "between", "(III)Z"⟩ ⟨"FloodTerrainModel", "between", "(III)Z"⟩) ∈ lw_all := lw_g (lw_at lw_ms 13 rfl) rfl
theorem qs14 : (Cond.selects "FloodTerrainModel" ⟨"FloodTerrainModel", "least", "(II)I"⟩ ⟨"FloodTerrainModel", "least", "(II)I"⟩) ∈ lw_all := lw_g (lw_at lw_ms 14 rfl) rfl
theorem qs15 : (Cond.selects "FloodTerrainModel" ⟨"FloodTerrainModel", "most", "(II)I"⟩ ⟨"FloodTerrainModel", "most", "(II)I"⟩) ∈ lw_all := lw_g (lw_at lw_ms 15 rfl) rfl
theorem qs16 : (Cond.selects "FloodTerrainModel" ⟨"FloodTerrainModel", "levels", "()V"⟩ ⟨"FloodTerrainModel", "levels", "()V"⟩) ∈ lw_all := lw_g (lw_at lw_ms 16 rfl) rfl
theorem qs17 : (Cond.selects "FloodTerrainModel" ⟨"FloodTerrainModel", "border", "(I)Z"⟩ ⟨"FloodTerrainModel", "border", "(I)Z"⟩) ∈ lw_all := lw_g (lw_at lw_ms 17 rfl) rfl
theorem qs18 : (Cond.selects "FloodTerrainModel" ⟨"FloodTerrainModel", "lower", "()V"⟩ ⟨"FloodTerrainModel", "lower", "()V"⟩) ∈ lw_all := lw_g (lw_at lw_ms 18 rfl) rfl
theorem qs19 : (Cond.selects "FloodTerrainModel" ⟨"FloodTerrainModel", "leastBeside", "(I)I"⟩ ⟨"FloodTerrainModel", "leastBeside", "(I)I"⟩) ∈ lw_all := lw_g (lw_at lw_ms 19 rfl) rfl
theorem qs20 : (Cond.selects "FloodTerrainModel" ⟨"FloodTerrainModel", "beside", "(II)I"⟩ ⟨"FloodTerrainModel", "beside", "(II)I"⟩) ∈ lw_all := lw_g (lw_at lw_ms 20 rfl) rfl
theorem qs21 : (Cond.selects "FloodTerrainModel" ⟨"FloodTerrainModel", "lakeMarks", "()V"⟩ ⟨"FloodTerrainModel", "lakeMarks", "()V"⟩) ∈ lw_all := lw_g (lw_at lw_ms 21 rfl) rfl
theorem qs22 : (Cond.selects "FloodTerrainModel" ⟨"FloodTerrainModel", "passes", "(I)V"⟩ ⟨"FloodTerrainModel", "passes", "(I)V"⟩) ∈ lw_all := lw_g (lw_at lw_ms 22 rfl) rfl
theorem qs23 : (Cond.selects "FloodTerrainModel" ⟨"FloodTerrainModel", "mostBeside", "(I)I"⟩ ⟨"FloodTerrainModel", "mostBeside", "(I)I"⟩) ∈ lw_all := lw_g (lw_at lw_ms 23 rfl) rfl
theorem qs24 : (Cond.selects "FloodTerrainModel" ⟨"FloodTerrainModel", "hasHigher", "(I)Z"⟩ ⟨"FloodTerrainModel", "hasHigher", "(I)Z"⟩) ∈ lw_all := lw_g (lw_at lw_ms 24 rfl) rfl
theorem qs25 : (Cond.selects "FloodTerrainModel" ⟨"FloodTerrainModel", "leastAlike", "(I)I"⟩ ⟨"FloodTerrainModel", "leastAlike", "(I)I"⟩) ∈ lw_all := lw_g (lw_at lw_ms 25 rfl) rfl
end
section
set_option maxRecDepth 100000
/-! FloodTerrain -/
def RX0 : String := "FloodTerrain"
def TX0 : u_T := fun k => match k with
  | 0 => ("FloodTerrain", "heights", "[I", true)
  | 1 => ("FloodTerrain", "ready", "Z", false)
  | 2 => ("FloodTerrain", "levels", "[I", true)
  | 3 => ("FloodTerrain", "heap", "I", false)
  | 4 => ("FloodTerrain", "heapCell", "[I", true)
  | 5 => ("FloodTerrain", "met", "[Z", true)
  | 6 => ("FloodTerrain", "order", "[I", true)
  | 7 => ("FloodTerrain", "leader", "[I", true)
  | 8 => ("FloodTerrain", "top", "[I", true)
  | 9 => ("FloodTerrain", "active", "[Z", true)
  | _ => ("FloodTerrain", "queue", "[I", true)
def tyX0 : Nat → FieldType := fun k => match k with
  | 0 => .array .int
  | 1 => .boolean
  | 2 => .array .int
  | 3 => .int
  | 4 => .array .int
  | 5 => .array .boolean
  | 6 => .array .int
  | 7 => .array .int
  | 8 => .array .int
  | 9 => .array .boolean
  | _ => .array .int
abbrev wsX00 : List Cond := u_ws RX0 TX0 11
theorem nmX0 : ∀ a, a < 11 → ∀ b, b < 11 → a ≠ b → (TX0 a).2.1 ≠ (TX0 b).2.1 := by decide +kernel
theorem tyX0_ok : ∀ k, k < 11 → parseFieldDescriptor (TX0 k).2.2.1 = some (tyX0 k) := by decide +kernel
abbrev cX0_init : ByteArray := prog_1_method_1_code
def yX0_init : MethodName := ⟨RX0, "<init>", "()V"⟩
abbrev cX0_set : ByteArray := prog_1_method_5_code
def yX0_set : MethodName := ⟨RX0, "set", "(II)I"⟩
abbrev cX0_bad : ByteArray := prog_1_method_2_code
def yX0_bad : MethodName := ⟨RX0, "bad", "(I)Z"⟩
abbrev cX0_shift : ByteArray := prog_1_method_7_code
def yX0_shift : MethodName := ⟨RX0, "shift", "(III)I"⟩
abbrev cX0_within : ByteArray := prog_1_method_6_code
def yX0_within : MethodName := ⟨RX0, "within", "(III)I"⟩
abbrev cX0_pattern : ByteArray := prog_1_method_8_code
def yX0_pattern : MethodName := ⟨RX0, "pattern", "(II)V"⟩
abbrev cX0_height : ByteArray := prog_1_method_20_code
def yX0_height : MethodName := ⟨RX0, "height", "(I)I"⟩
abbrev cX0_level : ByteArray := prog_1_method_21_code
def yX0_level : MethodName := ⟨RX0, "level", "(I)I"⟩
abbrev cX0_prepare : ByteArray := prog_1_method_13_code
def yX0_prepare : MethodName := ⟨RX0, "prepare", "()V"⟩
abbrev cX0_border : ByteArray := prog_1_method_3_code
def yX0_border : MethodName := ⟨RX0, "border", "(I)Z"⟩
abbrev cX0_meet : ByteArray := prog_1_method_12_code
def yX0_meet : MethodName := ⟨RX0, "meet", "(II)V"⟩
abbrev cX0_push : ByteArray := prog_1_method_10_code
def yX0_push : MethodName := ⟨RX0, "push", "(I)V"⟩
abbrev cX0_lower : ByteArray := prog_1_method_9_code
def yX0_lower : MethodName := ⟨RX0, "lower", "(II)Z"⟩
abbrev cX0_pop : ByteArray := prog_1_method_11_code
def yX0_pop : MethodName := ⟨RX0, "pop", "()I"⟩
abbrev cX0_neighbour : ByteArray := prog_1_method_4_code
def yX0_neighbour : MethodName := ⟨RX0, "neighbour", "(II)I"⟩
abbrev cX0_volume : ByteArray := prog_1_method_22_code
def yX0_volume : MethodName := ⟨RX0, "volume", "()I"⟩
abbrev cX0_lakes : ByteArray := prog_1_method_23_code
def yX0_lakes : MethodName := ⟨RX0, "lakes", "()I"⟩
abbrev cX0_forget : ByteArray := prog_1_method_19_code
def yX0_forget : MethodName := ⟨RX0, "forget", "()V"⟩
abbrev cX0_walkLake : ByteArray := prog_1_method_18_code
def yX0_walkLake : MethodName := ⟨RX0, "walkLake", "(I)I"⟩
abbrev cX0_lakeSize : ByteArray := prog_1_method_24_code
def yX0_lakeSize : MethodName := ⟨RX0, "lakeSize", "(I)I"⟩
abbrev cX0_pass : ByteArray := prog_1_method_25_code
def yX0_pass : MethodName := ⟨RX0, "pass", "(II)I"⟩
abbrev cX0_startJoining : ByteArray := prog_1_method_15_code
def yX0_startJoining : MethodName := ⟨RX0, "startJoining", "()V"⟩
abbrev cX0_sortCells : ByteArray := prog_1_method_14_code
def yX0_sortCells : MethodName := ⟨RX0, "sortCells", "()V"⟩
abbrev cX0_activate : ByteArray := prog_1_method_17_code
def yX0_activate : MethodName := ⟨RX0, "activate", "(I)V"⟩
abbrev cX0_find : ByteArray := prog_1_method_16_code
def yX0_find : MethodName := ⟨RX0, "find", "(I)I"⟩
abbrev cX0_reach : ByteArray := prog_1_method_26_code
def yX0_reach : MethodName := ⟨RX0, "reach", "(II)I"⟩
abbrev cX0_prominence : ByteArray := prog_1_method_27_code
def yX0_prominence : MethodName := ⟨RX0, "prominence", "(I)I"⟩
abbrev cX0_summits : ByteArray := prog_1_method_29_code
def yX0_summits : MethodName := ⟨RX0, "summits", "()I"⟩
abbrev cX0_summitAt : ByteArray := prog_1_method_28_code
def yX0_summitAt : MethodName := ⟨RX0, "summitAt", "(I)Z"⟩
theorem q27 : (Jvm.Cond.initialized "FloodTerrain") ∈ lw_all := lw_g (lw_at lw_m1 1 rfl) rfl
theorem q30 : (Jvm.Cond.instantiable "FloodTerrain" (11 : Nat)) ∈ lw_all := lw_g (lw_at lw_m1 4 rfl) rfl
theorem q32 : (Jvm.Cond.instanceMethod ({ cls := "FloodTerrain", name := "<init>", desc := "()V" } : Jvm.MethodName)) ∈ lw_all := lw_g (lw_at lw_m1 6 rfl) rfl
theorem q33 : (Jvm.Cond.code ({ cls := "FloodTerrain", name := "<init>", desc := "()V" } : Jvm.MethodName) prog_1_method_1_code (1 : Nat) (Option.none : Option Jvm.ClassFile.FieldType)) ∈ lw_all := lw_g (lw_at lw_m1 7 rfl) rfl
theorem q34 : (Jvm.Cond.methodLink "FloodTerrain" (1 : Nat) ({ cls := "java/lang/Object", name := "<init>", desc := "()V" } : Jvm.MethodName)) ∈ lw_all := lw_g (lw_at lw_m1 8 rfl) rfl
theorem q37 : (Jvm.Cond.fieldLink "FloodTerrain" (7 : Nat) "FloodTerrain" "heights" "[I") ∈ lw_all := lw_g (lw_at lw_m1 11 rfl) rfl
theorem q38 : (Jvm.Cond.fieldLink "FloodTerrain" (38 : Nat) "FloodTerrain" "ready" "Z") ∈ lw_all := lw_g (lw_at lw_m1 12 rfl) rfl
theorem q39 : (Jvm.Cond.fieldLink "FloodTerrain" (13 : Nat) "FloodTerrain" "levels" "[I") ∈ lw_all := lw_g (lw_at lw_m1 13 rfl) rfl
theorem q40 : (Jvm.Cond.fieldLink "FloodTerrain" (50 : Nat) "FloodTerrain" "heap" "I") ∈ lw_all := lw_g (lw_at lw_m1 14 rfl) rfl
theorem q41 : (Jvm.Cond.fieldLink "FloodTerrain" (16 : Nat) "FloodTerrain" "heapCell" "[I") ∈ lw_all := lw_g (lw_at lw_m1 15 rfl) rfl
theorem q42 : (Jvm.Cond.fieldLink "FloodTerrain" (19 : Nat) "FloodTerrain" "met" "[Z") ∈ lw_all := lw_g (lw_at lw_m1 16 rfl) rfl
theorem q43 : (Jvm.Cond.fieldLink "FloodTerrain" (23 : Nat) "FloodTerrain" "order" "[I") ∈ lw_all := lw_g (lw_at lw_m1 17 rfl) rfl
theorem q44 : (Jvm.Cond.fieldLink "FloodTerrain" (26 : Nat) "FloodTerrain" "leader" "[I") ∈ lw_all := lw_g (lw_at lw_m1 18 rfl) rfl
theorem q45 : (Jvm.Cond.fieldLink "FloodTerrain" (29 : Nat) "FloodTerrain" "top" "[I") ∈ lw_all := lw_g (lw_at lw_m1 19 rfl) rfl
theorem q46 : (Jvm.Cond.fieldLink "FloodTerrain" (32 : Nat) "FloodTerrain" "active" "[Z") ∈ lw_all := lw_g (lw_at lw_m1 20 rfl) rfl
theorem q47 : (Jvm.Cond.fieldLink "FloodTerrain" (35 : Nat) "FloodTerrain" "queue" "[I") ∈ lw_all := lw_g (lw_at lw_m1 21 rfl) rfl
theorem q48 : (Jvm.Cond.laysFinal "FloodTerrain" "FloodTerrain" "heights" "[I") ∈ lw_all := lw_g (lw_at lw_m1 22 rfl) rfl
theorem q49 : (Jvm.Cond.soleField "FloodTerrain" "heights") ∈ lw_all := lw_g (lw_at lw_m1 23 rfl) rfl
theorem q50 : (Jvm.Cond.lays "FloodTerrain" "FloodTerrain" "ready" "Z") ∈ lw_all := lw_g (lw_at lw_m1 24 rfl) rfl
theorem q51 : (Jvm.Cond.soleField "FloodTerrain" "ready") ∈ lw_all := lw_g (lw_at lw_m1 25 rfl) rfl
theorem q52 : (Jvm.Cond.laysFinal "FloodTerrain" "FloodTerrain" "levels" "[I") ∈ lw_all := lw_g (lw_at lw_m1 26 rfl) rfl
theorem q53 : (Jvm.Cond.soleField "FloodTerrain" "levels") ∈ lw_all := lw_g (lw_at lw_m1 27 rfl) rfl
theorem q54 : (Jvm.Cond.lays "FloodTerrain" "FloodTerrain" "heap" "I") ∈ lw_all := lw_g (lw_at lw_m1 28 rfl) rfl
theorem q55 : (Jvm.Cond.soleField "FloodTerrain" "heap") ∈ lw_all := lw_g (lw_at lw_m1 29 rfl) rfl
theorem q56 : (Jvm.Cond.laysFinal "FloodTerrain" "FloodTerrain" "heapCell" "[I") ∈ lw_all := lw_g (lw_at lw_m1 30 rfl) rfl
theorem q57 : (Jvm.Cond.soleField "FloodTerrain" "heapCell") ∈ lw_all := lw_g (lw_at lw_m1 31 rfl) rfl
theorem q58 : (Jvm.Cond.laysFinal "FloodTerrain" "FloodTerrain" "met" "[Z") ∈ lw_all := lw_g (lw_at lw_m1 32 rfl) rfl
theorem q59 : (Jvm.Cond.soleField "FloodTerrain" "met") ∈ lw_all := lw_g (lw_at lw_m1 33 rfl) rfl
theorem q60 : (Jvm.Cond.laysFinal "FloodTerrain" "FloodTerrain" "order" "[I") ∈ lw_all := lw_g (lw_at lw_m1 34 rfl) rfl
theorem q61 : (Jvm.Cond.soleField "FloodTerrain" "order") ∈ lw_all := lw_g (lw_at lw_m1 35 rfl) rfl
theorem q62 : (Jvm.Cond.laysFinal "FloodTerrain" "FloodTerrain" "leader" "[I") ∈ lw_all := lw_g (lw_at lw_m1 36 rfl) rfl
theorem q63 : (Jvm.Cond.soleField "FloodTerrain" "leader") ∈ lw_all := lw_g (lw_at lw_m1 37 rfl) rfl
theorem q64 : (Jvm.Cond.laysFinal "FloodTerrain" "FloodTerrain" "top" "[I") ∈ lw_all := lw_g (lw_at lw_m1 38 rfl) rfl
theorem q65 : (Jvm.Cond.soleField "FloodTerrain" "top") ∈ lw_all := lw_g (lw_at lw_m1 39 rfl) rfl
theorem q66 : (Jvm.Cond.laysFinal "FloodTerrain" "FloodTerrain" "active" "[Z") ∈ lw_all := lw_g (lw_at lw_m1 40 rfl) rfl
theorem q67 : (Jvm.Cond.soleField "FloodTerrain" "active") ∈ lw_all := lw_g (lw_at lw_m1 41 rfl) rfl
theorem q68 : (Jvm.Cond.laysFinal "FloodTerrain" "FloodTerrain" "queue" "[I") ∈ lw_all := lw_g (lw_at lw_m1 42 rfl) rfl
theorem q69 : (Jvm.Cond.soleField "FloodTerrain" "queue") ∈ lw_all := lw_g (lw_at lw_m1 43 rfl) rfl
theorem q70 : (Jvm.Cond.superclass "FloodTerrain" "java/lang/Object") ∈ lw_all := lw_g (lw_at lw_m1 44 rfl) rfl
theorem q74 : (Jvm.Cond.instanceMethod ({ cls := "FloodTerrain", name := "set", desc := "(II)I" } : Jvm.MethodName)) ∈ lw_all := lw_g (lw_at lw_m1 48 rfl) rfl
theorem q75 : (Jvm.Cond.selects "FloodTerrain" ({ cls := "FloodTerrain", name := "set", desc := "(II)I" } : Jvm.MethodName) ({ cls := "FloodTerrain", name := "set", desc := "(II)I" } : Jvm.MethodName)) ∈ lw_all := lw_g (lw_at lw_m1 49 rfl) rfl
theorem q76 : (Jvm.Cond.code ({ cls := "FloodTerrain", name := "set", desc := "(II)I" } : Jvm.MethodName) prog_1_method_5_code (4 : Nat) (Option.some Jvm.ClassFile.FieldType.int)) ∈ lw_all := lw_g (lw_at lw_m1 50 rfl) rfl
theorem q77 : (Jvm.Cond.methodLink "FloodTerrain" (42 : Nat) ({ cls := "FloodTerrain", name := "bad", desc := "(I)Z" } : Jvm.MethodName)) ∈ lw_all := lw_g (lw_at lw_m1 51 rfl) rfl
theorem q78 : (Jvm.Cond.static ({ cls := "FloodTerrain", name := "bad", desc := "(I)Z" } : Jvm.MethodName)) ∈ lw_all := lw_g (lw_at lw_m1 52 rfl) rfl
theorem q79 : (Jvm.Cond.code ({ cls := "FloodTerrain", name := "bad", desc := "(I)Z" } : Jvm.MethodName) prog_1_method_2_code (1 : Nat) (Option.some Jvm.ClassFile.FieldType.boolean)) ∈ lw_all := lw_g (lw_at lw_m1 53 rfl) rfl
theorem q81 : (Jvm.Cond.instanceMethod ({ cls := "FloodTerrain", name := "shift", desc := "(III)I" } : Jvm.MethodName)) ∈ lw_all := lw_g (lw_at lw_m1 55 rfl) rfl
theorem q82 : (Jvm.Cond.selects "FloodTerrain" ({ cls := "FloodTerrain", name := "shift", desc := "(III)I" } : Jvm.MethodName) ({ cls := "FloodTerrain", name := "shift", desc := "(III)I" } : Jvm.MethodName)) ∈ lw_all := lw_g (lw_at lw_m1 56 rfl) rfl
theorem q83 : (Jvm.Cond.code ({ cls := "FloodTerrain", name := "shift", desc := "(III)I" } : Jvm.MethodName) prog_1_method_7_code (14 : Nat) (Option.some Jvm.ClassFile.FieldType.int)) ∈ lw_all := lw_g (lw_at lw_m1 57 rfl) rfl
theorem q84 : (Jvm.Cond.methodLink "FloodTerrain" (46 : Nat) ({ cls := "FloodTerrain", name := "within", desc := "(III)I" } : Jvm.MethodName)) ∈ lw_all := lw_g (lw_at lw_m1 58 rfl) rfl
theorem q85 : (Jvm.Cond.static ({ cls := "FloodTerrain", name := "within", desc := "(III)I" } : Jvm.MethodName)) ∈ lw_all := lw_g (lw_at lw_m1 59 rfl) rfl
theorem q86 : (Jvm.Cond.code ({ cls := "FloodTerrain", name := "within", desc := "(III)I" } : Jvm.MethodName) prog_1_method_6_code (3 : Nat) (Option.some Jvm.ClassFile.FieldType.int)) ∈ lw_all := lw_g (lw_at lw_m1 60 rfl) rfl
theorem q88 : (Jvm.Cond.instanceMethod ({ cls := "FloodTerrain", name := "pattern", desc := "(II)V" } : Jvm.MethodName)) ∈ lw_all := lw_g (lw_at lw_m1 62 rfl) rfl
theorem q89 : (Jvm.Cond.selects "FloodTerrain" ({ cls := "FloodTerrain", name := "pattern", desc := "(II)V" } : Jvm.MethodName) ({ cls := "FloodTerrain", name := "pattern", desc := "(II)V" } : Jvm.MethodName)) ∈ lw_all := lw_g (lw_at lw_m1 63 rfl) rfl
theorem q90 : (Jvm.Cond.code ({ cls := "FloodTerrain", name := "pattern", desc := "(II)V" } : Jvm.MethodName) prog_1_method_8_code (4 : Nat) (Option.none : Option Jvm.ClassFile.FieldType)) ∈ lw_all := lw_g (lw_at lw_m1 64 rfl) rfl
theorem q92 : (Jvm.Cond.instanceMethod ({ cls := "FloodTerrain", name := "height", desc := "(I)I" } : Jvm.MethodName)) ∈ lw_all := lw_g (lw_at lw_m1 66 rfl) rfl
theorem q93 : (Jvm.Cond.selects "FloodTerrain" ({ cls := "FloodTerrain", name := "height", desc := "(I)I" } : Jvm.MethodName) ({ cls := "FloodTerrain", name := "height", desc := "(I)I" } : Jvm.MethodName)) ∈ lw_all := lw_g (lw_at lw_m1 67 rfl) rfl
theorem q94 : (Jvm.Cond.code ({ cls := "FloodTerrain", name := "height", desc := "(I)I" } : Jvm.MethodName) prog_1_method_20_code (2 : Nat) (Option.some Jvm.ClassFile.FieldType.int)) ∈ lw_all := lw_g (lw_at lw_m1 68 rfl) rfl
theorem q96 : (Jvm.Cond.instanceMethod ({ cls := "FloodTerrain", name := "level", desc := "(I)I" } : Jvm.MethodName)) ∈ lw_all := lw_g (lw_at lw_m1 70 rfl) rfl
theorem q97 : (Jvm.Cond.selects "FloodTerrain" ({ cls := "FloodTerrain", name := "level", desc := "(I)I" } : Jvm.MethodName) ({ cls := "FloodTerrain", name := "level", desc := "(I)I" } : Jvm.MethodName)) ∈ lw_all := lw_g (lw_at lw_m1 71 rfl) rfl
theorem q98 : (Jvm.Cond.code ({ cls := "FloodTerrain", name := "level", desc := "(I)I" } : Jvm.MethodName) prog_1_method_21_code (2 : Nat) (Option.some Jvm.ClassFile.FieldType.int)) ∈ lw_all := lw_g (lw_at lw_m1 72 rfl) rfl
theorem q99 : (Jvm.Cond.methodLink "FloodTerrain" (84 : Nat) ({ cls := "FloodTerrain", name := "prepare", desc := "()V" } : Jvm.MethodName)) ∈ lw_all := lw_g (lw_at lw_m1 73 rfl) rfl
theorem q100 : (Jvm.Cond.privateMethod ({ cls := "FloodTerrain", name := "prepare", desc := "()V" } : Jvm.MethodName)) ∈ lw_tbl := lw_at lw_m1 74 rfl
theorem q101 : (Jvm.Cond.instanceMethod ({ cls := "FloodTerrain", name := "prepare", desc := "()V" } : Jvm.MethodName)) ∈ lw_all := lw_g (lw_at lw_m1 75 rfl) rfl
theorem q102 : (Jvm.Cond.code ({ cls := "FloodTerrain", name := "prepare", desc := "()V" } : Jvm.MethodName) prog_1_method_13_code (4 : Nat) (Option.none : Option Jvm.ClassFile.FieldType)) ∈ lw_all := lw_g (lw_at lw_m1 76 rfl) rfl
theorem q103 : (Jvm.Cond.methodLink "FloodTerrain" (62 : Nat) ({ cls := "FloodTerrain", name := "border", desc := "(I)Z" } : Jvm.MethodName)) ∈ lw_all := lw_g (lw_at lw_m1 77 rfl) rfl
theorem q104 : (Jvm.Cond.static ({ cls := "FloodTerrain", name := "border", desc := "(I)Z" } : Jvm.MethodName)) ∈ lw_all := lw_g (lw_at lw_m1 78 rfl) rfl
theorem q105 : (Jvm.Cond.code ({ cls := "FloodTerrain", name := "border", desc := "(I)Z" } : Jvm.MethodName) prog_1_method_3_code (3 : Nat) (Option.some Jvm.ClassFile.FieldType.boolean)) ∈ lw_all := lw_g (lw_at lw_m1 79 rfl) rfl
theorem q106 : (Jvm.Cond.methodLink "FloodTerrain" (65 : Nat) ({ cls := "FloodTerrain", name := "meet", desc := "(II)V" } : Jvm.MethodName)) ∈ lw_all := lw_g (lw_at lw_m1 80 rfl) rfl
theorem q107 : (Jvm.Cond.privateMethod ({ cls := "FloodTerrain", name := "meet", desc := "(II)V" } : Jvm.MethodName)) ∈ lw_tbl := lw_at lw_m1 81 rfl
theorem q108 : (Jvm.Cond.instanceMethod ({ cls := "FloodTerrain", name := "meet", desc := "(II)V" } : Jvm.MethodName)) ∈ lw_all := lw_g (lw_at lw_m1 82 rfl) rfl
theorem q109 : (Jvm.Cond.code ({ cls := "FloodTerrain", name := "meet", desc := "(II)V" } : Jvm.MethodName) prog_1_method_12_code (3 : Nat) (Option.none : Option Jvm.ClassFile.FieldType)) ∈ lw_all := lw_g (lw_at lw_m1 83 rfl) rfl
theorem q110 : (Jvm.Cond.methodLink "FloodTerrain" (58 : Nat) ({ cls := "FloodTerrain", name := "push", desc := "(I)V" } : Jvm.MethodName)) ∈ lw_all := lw_g (lw_at lw_m1 84 rfl) rfl
theorem q111 : (Jvm.Cond.privateMethod ({ cls := "FloodTerrain", name := "push", desc := "(I)V" } : Jvm.MethodName)) ∈ lw_tbl := lw_at lw_m1 85 rfl
theorem q112 : (Jvm.Cond.instanceMethod ({ cls := "FloodTerrain", name := "push", desc := "(I)V" } : Jvm.MethodName)) ∈ lw_all := lw_g (lw_at lw_m1 86 rfl) rfl
theorem q113 : (Jvm.Cond.code ({ cls := "FloodTerrain", name := "push", desc := "(I)V" } : Jvm.MethodName) prog_1_method_10_code (3 : Nat) (Option.none : Option Jvm.ClassFile.FieldType)) ∈ lw_all := lw_g (lw_at lw_m1 87 rfl) rfl
theorem q114 : (Jvm.Cond.methodLink "FloodTerrain" (54 : Nat) ({ cls := "FloodTerrain", name := "lower", desc := "(II)Z" } : Jvm.MethodName)) ∈ lw_all := lw_g (lw_at lw_m1 88 rfl) rfl
theorem q115 : (Jvm.Cond.privateMethod ({ cls := "FloodTerrain", name := "lower", desc := "(II)Z" } : Jvm.MethodName)) ∈ lw_tbl := lw_at lw_m1 89 rfl
theorem q116 : (Jvm.Cond.instanceMethod ({ cls := "FloodTerrain", name := "lower", desc := "(II)Z" } : Jvm.MethodName)) ∈ lw_all := lw_g (lw_at lw_m1 90 rfl) rfl
theorem q117 : (Jvm.Cond.code ({ cls := "FloodTerrain", name := "lower", desc := "(II)Z" } : Jvm.MethodName) prog_1_method_9_code (3 : Nat) (Option.some Jvm.ClassFile.FieldType.boolean)) ∈ lw_all := lw_g (lw_at lw_m1 91 rfl) rfl
theorem q118 : (Jvm.Cond.methodLink "FloodTerrain" (69 : Nat) ({ cls := "FloodTerrain", name := "pop", desc := "()I" } : Jvm.MethodName)) ∈ lw_all := lw_g (lw_at lw_m1 92 rfl) rfl
theorem q119 : (Jvm.Cond.privateMethod ({ cls := "FloodTerrain", name := "pop", desc := "()I" } : Jvm.MethodName)) ∈ lw_tbl := lw_at lw_m1 93 rfl
theorem q120 : (Jvm.Cond.instanceMethod ({ cls := "FloodTerrain", name := "pop", desc := "()I" } : Jvm.MethodName)) ∈ lw_all := lw_g (lw_at lw_m1 94 rfl) rfl
theorem q121 : (Jvm.Cond.code ({ cls := "FloodTerrain", name := "pop", desc := "()I" } : Jvm.MethodName) prog_1_method_11_code (5 : Nat) (Option.some Jvm.ClassFile.FieldType.int)) ∈ lw_all := lw_g (lw_at lw_m1 95 rfl) rfl
theorem q122 : (Jvm.Cond.methodLink "FloodTerrain" (73 : Nat) ({ cls := "FloodTerrain", name := "neighbour", desc := "(II)I" } : Jvm.MethodName)) ∈ lw_all := lw_g (lw_at lw_m1 96 rfl) rfl
theorem q123 : (Jvm.Cond.static ({ cls := "FloodTerrain", name := "neighbour", desc := "(II)I" } : Jvm.MethodName)) ∈ lw_all := lw_g (lw_at lw_m1 97 rfl) rfl
theorem q124 : (Jvm.Cond.code ({ cls := "FloodTerrain", name := "neighbour", desc := "(II)I" } : Jvm.MethodName) prog_1_method_4_code (4 : Nat) (Option.some Jvm.ClassFile.FieldType.int)) ∈ lw_all := lw_g (lw_at lw_m1 98 rfl) rfl
theorem q126 : (Jvm.Cond.instanceMethod ({ cls := "FloodTerrain", name := "volume", desc := "()I" } : Jvm.MethodName)) ∈ lw_all := lw_g (lw_at lw_m1 100 rfl) rfl
theorem q127 : (Jvm.Cond.selects "FloodTerrain" ({ cls := "FloodTerrain", name := "volume", desc := "()I" } : Jvm.MethodName) ({ cls := "FloodTerrain", name := "volume", desc := "()I" } : Jvm.MethodName)) ∈ lw_all := lw_g (lw_at lw_m1 101 rfl) rfl
theorem q128 : (Jvm.Cond.code ({ cls := "FloodTerrain", name := "volume", desc := "()I" } : Jvm.MethodName) prog_1_method_22_code (3 : Nat) (Option.some Jvm.ClassFile.FieldType.int)) ∈ lw_all := lw_g (lw_at lw_m1 102 rfl) rfl
theorem q130 : (Jvm.Cond.instanceMethod ({ cls := "FloodTerrain", name := "lakes", desc := "()I" } : Jvm.MethodName)) ∈ lw_all := lw_g (lw_at lw_m1 104 rfl) rfl
theorem q131 : (Jvm.Cond.selects "FloodTerrain" ({ cls := "FloodTerrain", name := "lakes", desc := "()I" } : Jvm.MethodName) ({ cls := "FloodTerrain", name := "lakes", desc := "()I" } : Jvm.MethodName)) ∈ lw_all := lw_g (lw_at lw_m1 105 rfl) rfl
theorem q132 : (Jvm.Cond.code ({ cls := "FloodTerrain", name := "lakes", desc := "()I" } : Jvm.MethodName) prog_1_method_23_code (3 : Nat) (Option.some Jvm.ClassFile.FieldType.int)) ∈ lw_all := lw_g (lw_at lw_m1 106 rfl) rfl
theorem q133 : (Jvm.Cond.methodLink "FloodTerrain" (87 : Nat) ({ cls := "FloodTerrain", name := "forget", desc := "()V" } : Jvm.MethodName)) ∈ lw_all := lw_g (lw_at lw_m1 107 rfl) rfl
theorem q134 : (Jvm.Cond.privateMethod ({ cls := "FloodTerrain", name := "forget", desc := "()V" } : Jvm.MethodName)) ∈ lw_tbl := lw_at lw_m1 108 rfl
theorem q135 : (Jvm.Cond.instanceMethod ({ cls := "FloodTerrain", name := "forget", desc := "()V" } : Jvm.MethodName)) ∈ lw_all := lw_g (lw_at lw_m1 109 rfl) rfl
theorem q136 : (Jvm.Cond.code ({ cls := "FloodTerrain", name := "forget", desc := "()V" } : Jvm.MethodName) prog_1_method_19_code (2 : Nat) (Option.none : Option Jvm.ClassFile.FieldType)) ∈ lw_all := lw_g (lw_at lw_m1 110 rfl) rfl
theorem q137 : (Jvm.Cond.methodLink "FloodTerrain" (90 : Nat) ({ cls := "FloodTerrain", name := "walkLake", desc := "(I)I" } : Jvm.MethodName)) ∈ lw_all := lw_g (lw_at lw_m1 111 rfl) rfl
theorem q138 : (Jvm.Cond.privateMethod ({ cls := "FloodTerrain", name := "walkLake", desc := "(I)I" } : Jvm.MethodName)) ∈ lw_tbl := lw_at lw_m1 112 rfl
theorem q139 : (Jvm.Cond.instanceMethod ({ cls := "FloodTerrain", name := "walkLake", desc := "(I)I" } : Jvm.MethodName)) ∈ lw_all := lw_g (lw_at lw_m1 113 rfl) rfl
theorem q140 : (Jvm.Cond.code ({ cls := "FloodTerrain", name := "walkLake", desc := "(I)I" } : Jvm.MethodName) prog_1_method_18_code (6 : Nat) (Option.some Jvm.ClassFile.FieldType.int)) ∈ lw_all := lw_g (lw_at lw_m1 114 rfl) rfl
theorem q142 : (Jvm.Cond.instanceMethod ({ cls := "FloodTerrain", name := "lakeSize", desc := "(I)I" } : Jvm.MethodName)) ∈ lw_all := lw_g (lw_at lw_m1 116 rfl) rfl
theorem q143 : (Jvm.Cond.selects "FloodTerrain" ({ cls := "FloodTerrain", name := "lakeSize", desc := "(I)I" } : Jvm.MethodName) ({ cls := "FloodTerrain", name := "lakeSize", desc := "(I)I" } : Jvm.MethodName)) ∈ lw_all := lw_g (lw_at lw_m1 117 rfl) rfl
theorem q144 : (Jvm.Cond.code ({ cls := "FloodTerrain", name := "lakeSize", desc := "(I)I" } : Jvm.MethodName) prog_1_method_24_code (2 : Nat) (Option.some Jvm.ClassFile.FieldType.int)) ∈ lw_all := lw_g (lw_at lw_m1 118 rfl) rfl
theorem q146 : (Jvm.Cond.instanceMethod ({ cls := "FloodTerrain", name := "pass", desc := "(II)I" } : Jvm.MethodName)) ∈ lw_all := lw_g (lw_at lw_m1 120 rfl) rfl
theorem q147 : (Jvm.Cond.selects "FloodTerrain" ({ cls := "FloodTerrain", name := "pass", desc := "(II)I" } : Jvm.MethodName) ({ cls := "FloodTerrain", name := "pass", desc := "(II)I" } : Jvm.MethodName)) ∈ lw_all := lw_g (lw_at lw_m1 121 rfl) rfl
theorem q148 : (Jvm.Cond.code ({ cls := "FloodTerrain", name := "pass", desc := "(II)I" } : Jvm.MethodName) prog_1_method_25_code (6 : Nat) (Option.some Jvm.ClassFile.FieldType.int)) ∈ lw_all := lw_g (lw_at lw_m1 122 rfl) rfl
theorem q149 : (Jvm.Cond.methodLink "FloodTerrain" (93 : Nat) ({ cls := "FloodTerrain", name := "startJoining", desc := "()V" } : Jvm.MethodName)) ∈ lw_all := lw_g (lw_at lw_m1 123 rfl) rfl
theorem q150 : (Jvm.Cond.privateMethod ({ cls := "FloodTerrain", name := "startJoining", desc := "()V" } : Jvm.MethodName)) ∈ lw_tbl := lw_at lw_m1 124 rfl
theorem q151 : (Jvm.Cond.instanceMethod ({ cls := "FloodTerrain", name := "startJoining", desc := "()V" } : Jvm.MethodName)) ∈ lw_all := lw_g (lw_at lw_m1 125 rfl) rfl
theorem q152 : (Jvm.Cond.code ({ cls := "FloodTerrain", name := "startJoining", desc := "()V" } : Jvm.MethodName) prog_1_method_15_code (2 : Nat) (Option.none : Option Jvm.ClassFile.FieldType)) ∈ lw_all := lw_g (lw_at lw_m1 126 rfl) rfl
theorem q153 : (Jvm.Cond.methodLink "FloodTerrain" (77 : Nat) ({ cls := "FloodTerrain", name := "sortCells", desc := "()V" } : Jvm.MethodName)) ∈ lw_all := lw_g (lw_at lw_m1 127 rfl) rfl
theorem q154 : (Jvm.Cond.privateMethod ({ cls := "FloodTerrain", name := "sortCells", desc := "()V" } : Jvm.MethodName)) ∈ lw_tbl := lw_at lw_m1 128 rfl
theorem q155 : (Jvm.Cond.instanceMethod ({ cls := "FloodTerrain", name := "sortCells", desc := "()V" } : Jvm.MethodName)) ∈ lw_all := lw_g (lw_at lw_m1 129 rfl) rfl
theorem q156 : (Jvm.Cond.code ({ cls := "FloodTerrain", name := "sortCells", desc := "()V" } : Jvm.MethodName) prog_1_method_14_code (3 : Nat) (Option.none : Option Jvm.ClassFile.FieldType)) ∈ lw_all := lw_g (lw_at lw_m1 130 rfl) rfl
theorem q157 : (Jvm.Cond.methodLink "FloodTerrain" (96 : Nat) ({ cls := "FloodTerrain", name := "activate", desc := "(I)V" } : Jvm.MethodName)) ∈ lw_all := lw_g (lw_at lw_m1 131 rfl) rfl
theorem q158 : (Jvm.Cond.privateMethod ({ cls := "FloodTerrain", name := "activate", desc := "(I)V" } : Jvm.MethodName)) ∈ lw_tbl := lw_at lw_m1 132 rfl
theorem q159 : (Jvm.Cond.instanceMethod ({ cls := "FloodTerrain", name := "activate", desc := "(I)V" } : Jvm.MethodName)) ∈ lw_all := lw_g (lw_at lw_m1 133 rfl) rfl
theorem q160 : (Jvm.Cond.code ({ cls := "FloodTerrain", name := "activate", desc := "(I)V" } : Jvm.MethodName) prog_1_method_17_code (6 : Nat) (Option.none : Option Jvm.ClassFile.FieldType)) ∈ lw_all := lw_g (lw_at lw_m1 134 rfl) rfl
theorem q161 : (Jvm.Cond.methodLink "FloodTerrain" (80 : Nat) ({ cls := "FloodTerrain", name := "find", desc := "(I)I" } : Jvm.MethodName)) ∈ lw_all := lw_g (lw_at lw_m1 135 rfl) rfl
theorem q162 : (Jvm.Cond.privateMethod ({ cls := "FloodTerrain", name := "find", desc := "(I)I" } : Jvm.MethodName)) ∈ lw_tbl := lw_at lw_m1 136 rfl
theorem q163 : (Jvm.Cond.instanceMethod ({ cls := "FloodTerrain", name := "find", desc := "(I)I" } : Jvm.MethodName)) ∈ lw_all := lw_g (lw_at lw_m1 137 rfl) rfl
theorem q164 : (Jvm.Cond.code ({ cls := "FloodTerrain", name := "find", desc := "(I)I" } : Jvm.MethodName) prog_1_method_16_code (3 : Nat) (Option.some Jvm.ClassFile.FieldType.int)) ∈ lw_all := lw_g (lw_at lw_m1 138 rfl) rfl
theorem q166 : (Jvm.Cond.instanceMethod ({ cls := "FloodTerrain", name := "reach", desc := "(II)I" } : Jvm.MethodName)) ∈ lw_all := lw_g (lw_at lw_m1 140 rfl) rfl
theorem q167 : (Jvm.Cond.selects "FloodTerrain" ({ cls := "FloodTerrain", name := "reach", desc := "(II)I" } : Jvm.MethodName) ({ cls := "FloodTerrain", name := "reach", desc := "(II)I" } : Jvm.MethodName)) ∈ lw_all := lw_g (lw_at lw_m1 141 rfl) rfl
theorem q168 : (Jvm.Cond.code ({ cls := "FloodTerrain", name := "reach", desc := "(II)I" } : Jvm.MethodName) prog_1_method_26_code (7 : Nat) (Option.some Jvm.ClassFile.FieldType.int)) ∈ lw_all := lw_g (lw_at lw_m1 142 rfl) rfl
theorem q170 : (Jvm.Cond.instanceMethod ({ cls := "FloodTerrain", name := "prominence", desc := "(I)I" } : Jvm.MethodName)) ∈ lw_all := lw_g (lw_at lw_m1 144 rfl) rfl
theorem q171 : (Jvm.Cond.selects "FloodTerrain" ({ cls := "FloodTerrain", name := "prominence", desc := "(I)I" } : Jvm.MethodName) ({ cls := "FloodTerrain", name := "prominence", desc := "(I)I" } : Jvm.MethodName)) ∈ lw_all := lw_g (lw_at lw_m1 145 rfl) rfl
theorem q172 : (Jvm.Cond.code ({ cls := "FloodTerrain", name := "prominence", desc := "(I)I" } : Jvm.MethodName) prog_1_method_27_code (4 : Nat) (Option.some Jvm.ClassFile.FieldType.int)) ∈ lw_all := lw_g (lw_at lw_m1 146 rfl) rfl
theorem q174 : (Jvm.Cond.instanceMethod ({ cls := "FloodTerrain", name := "summits", desc := "()I" } : Jvm.MethodName)) ∈ lw_all := lw_g (lw_at lw_m1 148 rfl) rfl
theorem q175 : (Jvm.Cond.selects "FloodTerrain" ({ cls := "FloodTerrain", name := "summits", desc := "()I" } : Jvm.MethodName) ({ cls := "FloodTerrain", name := "summits", desc := "()I" } : Jvm.MethodName)) ∈ lw_all := lw_g (lw_at lw_m1 149 rfl) rfl
theorem q176 : (Jvm.Cond.code ({ cls := "FloodTerrain", name := "summits", desc := "()I" } : Jvm.MethodName) prog_1_method_29_code (4 : Nat) (Option.some Jvm.ClassFile.FieldType.int)) ∈ lw_all := lw_g (lw_at lw_m1 150 rfl) rfl
theorem q177 : (Jvm.Cond.methodLink "FloodTerrain" (99 : Nat) ({ cls := "FloodTerrain", name := "summitAt", desc := "(I)Z" } : Jvm.MethodName)) ∈ lw_all := lw_g (lw_at lw_m1 151 rfl) rfl
theorem q178 : (Jvm.Cond.privateMethod ({ cls := "FloodTerrain", name := "summitAt", desc := "(I)Z" } : Jvm.MethodName)) ∈ lw_tbl := lw_at lw_m1 152 rfl
theorem q179 : (Jvm.Cond.instanceMethod ({ cls := "FloodTerrain", name := "summitAt", desc := "(I)Z" } : Jvm.MethodName)) ∈ lw_all := lw_g (lw_at lw_m1 153 rfl) rfl
theorem q180 : (Jvm.Cond.code ({ cls := "FloodTerrain", name := "summitAt", desc := "(I)Z" } : Jvm.MethodName) prog_1_method_28_code (7 : Nat) (Option.some Jvm.ClassFile.FieldType.boolean)) ∈ lw_all := lw_g (lw_at lw_m1 154 rfl) rfl
theorem in_X0 : ∀ w ∈ wsX00, w ∈ lw_all := lw_in wsX00 [48, 50, 52, 54, 56, 58, 60, 62, 64, 66, 68] (by decide +kernel) (by decide +kernel)

/-! FloodTerrainModel -/
def RX1 : String := "FloodTerrainModel"
def TX1 : u_T := fun k => match k with
  | 0 => ("FloodTerrainModel", "heights", "[I", true)
  | _ => ("FloodTerrainModel", "marks", "[I", true)
def tyX1 : Nat → FieldType := fun k => match k with
  | 0 => .array .int
  | _ => .array .int
abbrev wsX10 : List Cond := u_ws RX1 TX1 2
theorem nmX1 : ∀ a, a < 2 → ∀ b, b < 2 → a ≠ b → (TX1 a).2.1 ≠ (TX1 b).2.1 := by decide +kernel
theorem tyX1_ok : ∀ k, k < 2 → parseFieldDescriptor (TX1 k).2.2.1 = some (tyX1 k) := by decide +kernel
abbrev cX1_init : ByteArray := prog_3_method_1_code
def yX1_init : MethodName := ⟨RX1, "<init>", "()V"⟩
abbrev cX1_set : ByteArray := prog_3_method_5_code
def yX1_set : MethodName := ⟨RX1, "set", "(II)I"⟩
abbrev cX1_bad : ByteArray := prog_3_method_2_code
def yX1_bad : MethodName := ⟨RX1, "bad", "(I)Z"⟩
abbrev cX1_shift : ByteArray := prog_3_method_7_code
def yX1_shift : MethodName := ⟨RX1, "shift", "(III)I"⟩
abbrev cX1_between : ByteArray := prog_3_method_6_code
def yX1_between : MethodName := ⟨RX1, "between", "(III)Z"⟩
abbrev cX1_least : ByteArray := prog_3_method_3_code
def yX1_least : MethodName := ⟨RX1, "least", "(II)I"⟩
abbrev cX1_most : ByteArray := prog_3_method_4_code
def yX1_most : MethodName := ⟨RX1, "most", "(II)I"⟩
abbrev cX1_pattern : ByteArray := prog_3_method_8_code
def yX1_pattern : MethodName := ⟨RX1, "pattern", "(II)V"⟩
abbrev cX1_height : ByteArray := prog_3_method_9_code
def yX1_height : MethodName := ⟨RX1, "height", "(I)I"⟩
abbrev cX1_level : ByteArray := prog_3_method_17_code
def yX1_level : MethodName := ⟨RX1, "level", "(I)I"⟩
abbrev cX1_levels : ByteArray := prog_3_method_15_code
def yX1_levels : MethodName := ⟨RX1, "levels", "()V"⟩
abbrev cX1_border : ByteArray := prog_3_method_10_code
def yX1_border : MethodName := ⟨RX1, "border", "(I)Z"⟩
abbrev cX1_lower : ByteArray := prog_3_method_14_code
def yX1_lower : MethodName := ⟨RX1, "lower", "()V"⟩
abbrev cX1_leastBeside : ByteArray := prog_3_method_12_code
def yX1_leastBeside : MethodName := ⟨RX1, "leastBeside", "(I)I"⟩
abbrev cX1_beside : ByteArray := prog_3_method_11_code
def yX1_beside : MethodName := ⟨RX1, "beside", "(II)I"⟩
abbrev cX1_volume : ByteArray := prog_3_method_18_code
def yX1_volume : MethodName := ⟨RX1, "volume", "()I"⟩
abbrev cX1_lakes : ByteArray := prog_3_method_20_code
def yX1_lakes : MethodName := ⟨RX1, "lakes", "()I"⟩
abbrev cX1_lakeMarks : ByteArray := prog_3_method_19_code
def yX1_lakeMarks : MethodName := ⟨RX1, "lakeMarks", "()V"⟩
abbrev cX1_lakeSize : ByteArray := prog_3_method_21_code
def yX1_lakeSize : MethodName := ⟨RX1, "lakeSize", "(I)I"⟩
abbrev cX1_pass : ByteArray := prog_3_method_22_code
def yX1_pass : MethodName := ⟨RX1, "pass", "(II)I"⟩
abbrev cX1_passes : ByteArray := prog_3_method_16_code
def yX1_passes : MethodName := ⟨RX1, "passes", "(I)V"⟩
abbrev cX1_reach : ByteArray := prog_3_method_23_code
def yX1_reach : MethodName := ⟨RX1, "reach", "(II)I"⟩
abbrev cX1_prominence : ByteArray := prog_3_method_24_code
def yX1_prominence : MethodName := ⟨RX1, "prominence", "(I)I"⟩
abbrev cX1_mostBeside : ByteArray := prog_3_method_13_code
def yX1_mostBeside : MethodName := ⟨RX1, "mostBeside", "(I)I"⟩
abbrev cX1_summits : ByteArray := prog_3_method_27_code
def yX1_summits : MethodName := ⟨RX1, "summits", "()I"⟩
abbrev cX1_hasHigher : ByteArray := prog_3_method_26_code
def yX1_hasHigher : MethodName := ⟨RX1, "hasHigher", "(I)Z"⟩
abbrev cX1_leastAlike : ByteArray := prog_3_method_25_code
def yX1_leastAlike : MethodName := ⟨RX1, "leastAlike", "(I)I"⟩
theorem q28 : (Jvm.Cond.initialized "FloodTerrainModel") ∈ lw_all := lw_g (lw_at lw_m1 2 rfl) rfl
theorem q182 : (Jvm.Cond.instantiable "FloodTerrainModel" (2 : Nat)) ∈ lw_all := lw_g (lw_at lw_m1 156 rfl) rfl
theorem q184 : (Jvm.Cond.instanceMethod ({ cls := "FloodTerrainModel", name := "<init>", desc := "()V" } : Jvm.MethodName)) ∈ lw_all := lw_g (lw_at lw_m1 158 rfl) rfl
theorem q185 : (Jvm.Cond.code ({ cls := "FloodTerrainModel", name := "<init>", desc := "()V" } : Jvm.MethodName) prog_3_method_1_code (1 : Nat) (Option.none : Option Jvm.ClassFile.FieldType)) ∈ lw_all := lw_g (lw_at lw_m1 159 rfl) rfl
theorem q186 : (Jvm.Cond.methodLink "FloodTerrainModel" (1 : Nat) ({ cls := "java/lang/Object", name := "<init>", desc := "()V" } : Jvm.MethodName)) ∈ lw_all := lw_g (lw_at lw_m1 160 rfl) rfl
theorem q187 : (Jvm.Cond.fieldLink "FloodTerrainModel" (7 : Nat) "FloodTerrainModel" "heights" "[I") ∈ lw_all := lw_g (lw_at lw_m1 161 rfl) rfl
theorem q188 : (Jvm.Cond.fieldLink "FloodTerrainModel" (13 : Nat) "FloodTerrainModel" "marks" "[I") ∈ lw_all := lw_g (lw_at lw_m1 162 rfl) rfl
theorem q189 : (Jvm.Cond.laysFinal "FloodTerrainModel" "FloodTerrainModel" "heights" "[I") ∈ lw_all := lw_g (lw_at lw_m1 163 rfl) rfl
theorem q190 : (Jvm.Cond.soleField "FloodTerrainModel" "heights") ∈ lw_all := lw_g (lw_at lw_m1 164 rfl) rfl
theorem q191 : (Jvm.Cond.laysFinal "FloodTerrainModel" "FloodTerrainModel" "marks" "[I") ∈ lw_all := lw_g (lw_at lw_m1 165 rfl) rfl
theorem q192 : (Jvm.Cond.soleField "FloodTerrainModel" "marks") ∈ lw_all := lw_g (lw_at lw_m1 166 rfl) rfl
theorem q193 : (Jvm.Cond.superclass "FloodTerrainModel" "java/lang/Object") ∈ lw_all := lw_g (lw_at lw_m1 167 rfl) rfl
theorem q195 : (Jvm.Cond.instanceMethod ({ cls := "FloodTerrainModel", name := "set", desc := "(II)I" } : Jvm.MethodName)) ∈ lw_all := lw_g (lw_at lw_m1 169 rfl) rfl
theorem q196 : (Jvm.Cond.selects "FloodTerrainModel" ({ cls := "FloodTerrainModel", name := "set", desc := "(II)I" } : Jvm.MethodName) ({ cls := "FloodTerrainModel", name := "set", desc := "(II)I" } : Jvm.MethodName)) ∈ lw_all := lw_g (lw_at lw_m1 170 rfl) rfl
theorem q197 : (Jvm.Cond.code ({ cls := "FloodTerrainModel", name := "set", desc := "(II)I" } : Jvm.MethodName) prog_3_method_5_code (4 : Nat) (Option.some Jvm.ClassFile.FieldType.int)) ∈ lw_all := lw_g (lw_at lw_m1 171 rfl) rfl
theorem q198 : (Jvm.Cond.methodLink "FloodTerrainModel" (16 : Nat) ({ cls := "FloodTerrainModel", name := "bad", desc := "(I)Z" } : Jvm.MethodName)) ∈ lw_all := lw_g (lw_at lw_m1 172 rfl) rfl
theorem q199 : (Jvm.Cond.privateMethod ({ cls := "FloodTerrainModel", name := "bad", desc := "(I)Z" } : Jvm.MethodName)) ∈ lw_tbl := lw_at lw_m1 173 rfl
theorem q200 : (Jvm.Cond.instanceMethod ({ cls := "FloodTerrainModel", name := "bad", desc := "(I)Z" } : Jvm.MethodName)) ∈ lw_all := lw_g (lw_at lw_m1 174 rfl) rfl
theorem q201 : (Jvm.Cond.code ({ cls := "FloodTerrainModel", name := "bad", desc := "(I)Z" } : Jvm.MethodName) prog_3_method_2_code (2 : Nat) (Option.some Jvm.ClassFile.FieldType.boolean)) ∈ lw_all := lw_g (lw_at lw_m1 175 rfl) rfl
theorem q203 : (Jvm.Cond.instanceMethod ({ cls := "FloodTerrainModel", name := "shift", desc := "(III)I" } : Jvm.MethodName)) ∈ lw_all := lw_g (lw_at lw_m1 177 rfl) rfl
theorem q204 : (Jvm.Cond.selects "FloodTerrainModel" ({ cls := "FloodTerrainModel", name := "shift", desc := "(III)I" } : Jvm.MethodName) ({ cls := "FloodTerrainModel", name := "shift", desc := "(III)I" } : Jvm.MethodName)) ∈ lw_all := lw_g (lw_at lw_m1 178 rfl) rfl
theorem q205 : (Jvm.Cond.code ({ cls := "FloodTerrainModel", name := "shift", desc := "(III)I" } : Jvm.MethodName) prog_3_method_7_code (9 : Nat) (Option.some Jvm.ClassFile.FieldType.int)) ∈ lw_all := lw_g (lw_at lw_m1 179 rfl) rfl
theorem q206 : (Jvm.Cond.methodLink "FloodTerrainModel" (27 : Nat) ({ cls := "FloodTerrainModel", name := "between", desc := "(III)Z" } : Jvm.MethodName)) ∈ lw_all := lw_g (lw_at lw_m1 180 rfl) rfl
theorem q207 : (Jvm.Cond.privateMethod ({ cls := "FloodTerrainModel", name := "between", desc := "(III)Z" } : Jvm.MethodName)) ∈ lw_tbl := lw_at lw_m1 181 rfl
theorem q208 : (Jvm.Cond.instanceMethod ({ cls := "FloodTerrainModel", name := "between", desc := "(III)Z" } : Jvm.MethodName)) ∈ lw_all := lw_g (lw_at lw_m1 182 rfl) rfl
theorem q209 : (Jvm.Cond.code ({ cls := "FloodTerrainModel", name := "between", desc := "(III)Z" } : Jvm.MethodName) prog_3_method_6_code (4 : Nat) (Option.some Jvm.ClassFile.FieldType.boolean)) ∈ lw_all := lw_g (lw_at lw_m1 183 rfl) rfl
theorem q210 : (Jvm.Cond.methodLink "FloodTerrainModel" (20 : Nat) ({ cls := "FloodTerrainModel", name := "least", desc := "(II)I" } : Jvm.MethodName)) ∈ lw_all := lw_g (lw_at lw_m1 184 rfl) rfl
theorem q211 : (Jvm.Cond.privateMethod ({ cls := "FloodTerrainModel", name := "least", desc := "(II)I" } : Jvm.MethodName)) ∈ lw_tbl := lw_at lw_m1 185 rfl
theorem q212 : (Jvm.Cond.instanceMethod ({ cls := "FloodTerrainModel", name := "least", desc := "(II)I" } : Jvm.MethodName)) ∈ lw_all := lw_g (lw_at lw_m1 186 rfl) rfl
theorem q213 : (Jvm.Cond.code ({ cls := "FloodTerrainModel", name := "least", desc := "(II)I" } : Jvm.MethodName) prog_3_method_3_code (3 : Nat) (Option.some Jvm.ClassFile.FieldType.int)) ∈ lw_all := lw_g (lw_at lw_m1 187 rfl) rfl
theorem q214 : (Jvm.Cond.methodLink "FloodTerrainModel" (24 : Nat) ({ cls := "FloodTerrainModel", name := "most", desc := "(II)I" } : Jvm.MethodName)) ∈ lw_all := lw_g (lw_at lw_m1 188 rfl) rfl
theorem q215 : (Jvm.Cond.privateMethod ({ cls := "FloodTerrainModel", name := "most", desc := "(II)I" } : Jvm.MethodName)) ∈ lw_tbl := lw_at lw_m1 189 rfl
theorem q216 : (Jvm.Cond.instanceMethod ({ cls := "FloodTerrainModel", name := "most", desc := "(II)I" } : Jvm.MethodName)) ∈ lw_all := lw_g (lw_at lw_m1 190 rfl) rfl
theorem q217 : (Jvm.Cond.code ({ cls := "FloodTerrainModel", name := "most", desc := "(II)I" } : Jvm.MethodName) prog_3_method_4_code (3 : Nat) (Option.some Jvm.ClassFile.FieldType.int)) ∈ lw_all := lw_g (lw_at lw_m1 191 rfl) rfl
theorem q218 : (Jvm.Cond.constantLong "FloodTerrainModel" (31 : Nat) (99 : Int64)) ∈ lw_all := lw_g (lw_at lw_m1 192 rfl) rfl
theorem q220 : (Jvm.Cond.instanceMethod ({ cls := "FloodTerrainModel", name := "pattern", desc := "(II)V" } : Jvm.MethodName)) ∈ lw_all := lw_g (lw_at lw_m1 194 rfl) rfl
theorem q221 : (Jvm.Cond.selects "FloodTerrainModel" ({ cls := "FloodTerrainModel", name := "pattern", desc := "(II)V" } : Jvm.MethodName) ({ cls := "FloodTerrainModel", name := "pattern", desc := "(II)V" } : Jvm.MethodName)) ∈ lw_all := lw_g (lw_at lw_m1 195 rfl) rfl
theorem q222 : (Jvm.Cond.code ({ cls := "FloodTerrainModel", name := "pattern", desc := "(II)V" } : Jvm.MethodName) prog_3_method_8_code (4 : Nat) (Option.none : Option Jvm.ClassFile.FieldType)) ∈ lw_all := lw_g (lw_at lw_m1 196 rfl) rfl
theorem q224 : (Jvm.Cond.instanceMethod ({ cls := "FloodTerrainModel", name := "height", desc := "(I)I" } : Jvm.MethodName)) ∈ lw_all := lw_g (lw_at lw_m1 198 rfl) rfl
theorem q225 : (Jvm.Cond.selects "FloodTerrainModel" ({ cls := "FloodTerrainModel", name := "height", desc := "(I)I" } : Jvm.MethodName) ({ cls := "FloodTerrainModel", name := "height", desc := "(I)I" } : Jvm.MethodName)) ∈ lw_all := lw_g (lw_at lw_m1 199 rfl) rfl
theorem q226 : (Jvm.Cond.code ({ cls := "FloodTerrainModel", name := "height", desc := "(I)I" } : Jvm.MethodName) prog_3_method_9_code (2 : Nat) (Option.some Jvm.ClassFile.FieldType.int)) ∈ lw_all := lw_g (lw_at lw_m1 200 rfl) rfl
theorem q228 : (Jvm.Cond.instanceMethod ({ cls := "FloodTerrainModel", name := "level", desc := "(I)I" } : Jvm.MethodName)) ∈ lw_all := lw_g (lw_at lw_m1 202 rfl) rfl
theorem q229 : (Jvm.Cond.selects "FloodTerrainModel" ({ cls := "FloodTerrainModel", name := "level", desc := "(I)I" } : Jvm.MethodName) ({ cls := "FloodTerrainModel", name := "level", desc := "(I)I" } : Jvm.MethodName)) ∈ lw_all := lw_g (lw_at lw_m1 203 rfl) rfl
theorem q230 : (Jvm.Cond.code ({ cls := "FloodTerrainModel", name := "level", desc := "(I)I" } : Jvm.MethodName) prog_3_method_17_code (2 : Nat) (Option.some Jvm.ClassFile.FieldType.int)) ∈ lw_all := lw_g (lw_at lw_m1 204 rfl) rfl
theorem q231 : (Jvm.Cond.methodLink "FloodTerrainModel" (46 : Nat) ({ cls := "FloodTerrainModel", name := "levels", desc := "()V" } : Jvm.MethodName)) ∈ lw_all := lw_g (lw_at lw_m1 205 rfl) rfl
theorem q232 : (Jvm.Cond.privateMethod ({ cls := "FloodTerrainModel", name := "levels", desc := "()V" } : Jvm.MethodName)) ∈ lw_tbl := lw_at lw_m1 206 rfl
theorem q233 : (Jvm.Cond.instanceMethod ({ cls := "FloodTerrainModel", name := "levels", desc := "()V" } : Jvm.MethodName)) ∈ lw_all := lw_g (lw_at lw_m1 207 rfl) rfl
theorem q234 : (Jvm.Cond.code ({ cls := "FloodTerrainModel", name := "levels", desc := "()V" } : Jvm.MethodName) prog_3_method_15_code (2 : Nat) (Option.none : Option Jvm.ClassFile.FieldType)) ∈ lw_all := lw_g (lw_at lw_m1 208 rfl) rfl
theorem q235 : (Jvm.Cond.methodLink "FloodTerrainModel" (40 : Nat) ({ cls := "FloodTerrainModel", name := "border", desc := "(I)Z" } : Jvm.MethodName)) ∈ lw_all := lw_g (lw_at lw_m1 209 rfl) rfl
theorem q236 : (Jvm.Cond.privateMethod ({ cls := "FloodTerrainModel", name := "border", desc := "(I)Z" } : Jvm.MethodName)) ∈ lw_tbl := lw_at lw_m1 210 rfl
theorem q237 : (Jvm.Cond.instanceMethod ({ cls := "FloodTerrainModel", name := "border", desc := "(I)Z" } : Jvm.MethodName)) ∈ lw_all := lw_g (lw_at lw_m1 211 rfl) rfl
theorem q238 : (Jvm.Cond.code ({ cls := "FloodTerrainModel", name := "border", desc := "(I)Z" } : Jvm.MethodName) prog_3_method_10_code (2 : Nat) (Option.some Jvm.ClassFile.FieldType.boolean)) ∈ lw_all := lw_g (lw_at lw_m1 212 rfl) rfl
theorem q239 : (Jvm.Cond.methodLink "FloodTerrainModel" (43 : Nat) ({ cls := "FloodTerrainModel", name := "lower", desc := "()V" } : Jvm.MethodName)) ∈ lw_all := lw_g (lw_at lw_m1 213 rfl) rfl
theorem q240 : (Jvm.Cond.privateMethod ({ cls := "FloodTerrainModel", name := "lower", desc := "()V" } : Jvm.MethodName)) ∈ lw_tbl := lw_at lw_m1 214 rfl
theorem q241 : (Jvm.Cond.instanceMethod ({ cls := "FloodTerrainModel", name := "lower", desc := "()V" } : Jvm.MethodName)) ∈ lw_all := lw_g (lw_at lw_m1 215 rfl) rfl
theorem q242 : (Jvm.Cond.code ({ cls := "FloodTerrainModel", name := "lower", desc := "()V" } : Jvm.MethodName) prog_3_method_14_code (5 : Nat) (Option.none : Option Jvm.ClassFile.FieldType)) ∈ lw_all := lw_g (lw_at lw_m1 216 rfl) rfl
theorem q243 : (Jvm.Cond.methodLink "FloodTerrainModel" (36 : Nat) ({ cls := "FloodTerrainModel", name := "leastBeside", desc := "(I)I" } : Jvm.MethodName)) ∈ lw_all := lw_g (lw_at lw_m1 217 rfl) rfl
theorem q244 : (Jvm.Cond.privateMethod ({ cls := "FloodTerrainModel", name := "leastBeside", desc := "(I)I" } : Jvm.MethodName)) ∈ lw_tbl := lw_at lw_m1 218 rfl
theorem q245 : (Jvm.Cond.instanceMethod ({ cls := "FloodTerrainModel", name := "leastBeside", desc := "(I)I" } : Jvm.MethodName)) ∈ lw_all := lw_g (lw_at lw_m1 219 rfl) rfl
theorem q246 : (Jvm.Cond.code ({ cls := "FloodTerrainModel", name := "leastBeside", desc := "(I)I" } : Jvm.MethodName) prog_3_method_12_code (5 : Nat) (Option.some Jvm.ClassFile.FieldType.int)) ∈ lw_all := lw_g (lw_at lw_m1 220 rfl) rfl
theorem q247 : (Jvm.Cond.methodLink "FloodTerrainModel" (33 : Nat) ({ cls := "FloodTerrainModel", name := "beside", desc := "(II)I" } : Jvm.MethodName)) ∈ lw_all := lw_g (lw_at lw_m1 221 rfl) rfl
theorem q248 : (Jvm.Cond.privateMethod ({ cls := "FloodTerrainModel", name := "beside", desc := "(II)I" } : Jvm.MethodName)) ∈ lw_tbl := lw_at lw_m1 222 rfl
theorem q249 : (Jvm.Cond.instanceMethod ({ cls := "FloodTerrainModel", name := "beside", desc := "(II)I" } : Jvm.MethodName)) ∈ lw_all := lw_g (lw_at lw_m1 223 rfl) rfl
theorem q250 : (Jvm.Cond.code ({ cls := "FloodTerrainModel", name := "beside", desc := "(II)I" } : Jvm.MethodName) prog_3_method_11_code (3 : Nat) (Option.some Jvm.ClassFile.FieldType.int)) ∈ lw_all := lw_g (lw_at lw_m1 224 rfl) rfl
theorem q252 : (Jvm.Cond.instanceMethod ({ cls := "FloodTerrainModel", name := "volume", desc := "()I" } : Jvm.MethodName)) ∈ lw_all := lw_g (lw_at lw_m1 226 rfl) rfl
theorem q253 : (Jvm.Cond.selects "FloodTerrainModel" ({ cls := "FloodTerrainModel", name := "volume", desc := "()I" } : Jvm.MethodName) ({ cls := "FloodTerrainModel", name := "volume", desc := "()I" } : Jvm.MethodName)) ∈ lw_all := lw_g (lw_at lw_m1 227 rfl) rfl
theorem q254 : (Jvm.Cond.code ({ cls := "FloodTerrainModel", name := "volume", desc := "()I" } : Jvm.MethodName) prog_3_method_18_code (3 : Nat) (Option.some Jvm.ClassFile.FieldType.int)) ∈ lw_all := lw_g (lw_at lw_m1 228 rfl) rfl
theorem q256 : (Jvm.Cond.instanceMethod ({ cls := "FloodTerrainModel", name := "lakes", desc := "()I" } : Jvm.MethodName)) ∈ lw_all := lw_g (lw_at lw_m1 230 rfl) rfl
theorem q257 : (Jvm.Cond.selects "FloodTerrainModel" ({ cls := "FloodTerrainModel", name := "lakes", desc := "()I" } : Jvm.MethodName) ({ cls := "FloodTerrainModel", name := "lakes", desc := "()I" } : Jvm.MethodName)) ∈ lw_all := lw_g (lw_at lw_m1 231 rfl) rfl
theorem q258 : (Jvm.Cond.code ({ cls := "FloodTerrainModel", name := "lakes", desc := "()I" } : Jvm.MethodName) prog_3_method_20_code (3 : Nat) (Option.some Jvm.ClassFile.FieldType.int)) ∈ lw_all := lw_g (lw_at lw_m1 232 rfl) rfl
theorem q259 : (Jvm.Cond.methodLink "FloodTerrainModel" (49 : Nat) ({ cls := "FloodTerrainModel", name := "lakeMarks", desc := "()V" } : Jvm.MethodName)) ∈ lw_all := lw_g (lw_at lw_m1 233 rfl) rfl
theorem q260 : (Jvm.Cond.privateMethod ({ cls := "FloodTerrainModel", name := "lakeMarks", desc := "()V" } : Jvm.MethodName)) ∈ lw_tbl := lw_at lw_m1 234 rfl
theorem q261 : (Jvm.Cond.instanceMethod ({ cls := "FloodTerrainModel", name := "lakeMarks", desc := "()V" } : Jvm.MethodName)) ∈ lw_all := lw_g (lw_at lw_m1 235 rfl) rfl
theorem q262 : (Jvm.Cond.code ({ cls := "FloodTerrainModel", name := "lakeMarks", desc := "()V" } : Jvm.MethodName) prog_3_method_19_code (4 : Nat) (Option.none : Option Jvm.ClassFile.FieldType)) ∈ lw_all := lw_g (lw_at lw_m1 236 rfl) rfl
theorem q264 : (Jvm.Cond.instanceMethod ({ cls := "FloodTerrainModel", name := "lakeSize", desc := "(I)I" } : Jvm.MethodName)) ∈ lw_all := lw_g (lw_at lw_m1 238 rfl) rfl
theorem q265 : (Jvm.Cond.selects "FloodTerrainModel" ({ cls := "FloodTerrainModel", name := "lakeSize", desc := "(I)I" } : Jvm.MethodName) ({ cls := "FloodTerrainModel", name := "lakeSize", desc := "(I)I" } : Jvm.MethodName)) ∈ lw_all := lw_g (lw_at lw_m1 239 rfl) rfl
theorem q266 : (Jvm.Cond.code ({ cls := "FloodTerrainModel", name := "lakeSize", desc := "(I)I" } : Jvm.MethodName) prog_3_method_21_code (4 : Nat) (Option.some Jvm.ClassFile.FieldType.int)) ∈ lw_all := lw_g (lw_at lw_m2 0 rfl) rfl
theorem q268 : (Jvm.Cond.instanceMethod ({ cls := "FloodTerrainModel", name := "pass", desc := "(II)I" } : Jvm.MethodName)) ∈ lw_all := lw_g (lw_at lw_m2 2 rfl) rfl
theorem q269 : (Jvm.Cond.selects "FloodTerrainModel" ({ cls := "FloodTerrainModel", name := "pass", desc := "(II)I" } : Jvm.MethodName) ({ cls := "FloodTerrainModel", name := "pass", desc := "(II)I" } : Jvm.MethodName)) ∈ lw_all := lw_g (lw_at lw_m2 3 rfl) rfl
theorem q270 : (Jvm.Cond.code ({ cls := "FloodTerrainModel", name := "pass", desc := "(II)I" } : Jvm.MethodName) prog_3_method_22_code (3 : Nat) (Option.some Jvm.ClassFile.FieldType.int)) ∈ lw_all := lw_g (lw_at lw_m2 4 rfl) rfl
theorem q271 : (Jvm.Cond.methodLink "FloodTerrainModel" (52 : Nat) ({ cls := "FloodTerrainModel", name := "passes", desc := "(I)V" } : Jvm.MethodName)) ∈ lw_all := lw_g (lw_at lw_m2 5 rfl) rfl
theorem q272 : (Jvm.Cond.privateMethod ({ cls := "FloodTerrainModel", name := "passes", desc := "(I)V" } : Jvm.MethodName)) ∈ lw_tbl := lw_at lw_m2 6 rfl
theorem q273 : (Jvm.Cond.instanceMethod ({ cls := "FloodTerrainModel", name := "passes", desc := "(I)V" } : Jvm.MethodName)) ∈ lw_all := lw_g (lw_at lw_m2 7 rfl) rfl
theorem q274 : (Jvm.Cond.code ({ cls := "FloodTerrainModel", name := "passes", desc := "(I)V" } : Jvm.MethodName) prog_3_method_16_code (3 : Nat) (Option.none : Option Jvm.ClassFile.FieldType)) ∈ lw_all := lw_g (lw_at lw_m2 8 rfl) rfl
theorem q276 : (Jvm.Cond.instanceMethod ({ cls := "FloodTerrainModel", name := "reach", desc := "(II)I" } : Jvm.MethodName)) ∈ lw_all := lw_g (lw_at lw_m2 10 rfl) rfl
theorem q277 : (Jvm.Cond.selects "FloodTerrainModel" ({ cls := "FloodTerrainModel", name := "reach", desc := "(II)I" } : Jvm.MethodName) ({ cls := "FloodTerrainModel", name := "reach", desc := "(II)I" } : Jvm.MethodName)) ∈ lw_all := lw_g (lw_at lw_m2 11 rfl) rfl
theorem q278 : (Jvm.Cond.code ({ cls := "FloodTerrainModel", name := "reach", desc := "(II)I" } : Jvm.MethodName) prog_3_method_23_code (5 : Nat) (Option.some Jvm.ClassFile.FieldType.int)) ∈ lw_all := lw_g (lw_at lw_m2 12 rfl) rfl
theorem q280 : (Jvm.Cond.instanceMethod ({ cls := "FloodTerrainModel", name := "prominence", desc := "(I)I" } : Jvm.MethodName)) ∈ lw_all := lw_g (lw_at lw_m2 14 rfl) rfl
theorem q281 : (Jvm.Cond.selects "FloodTerrainModel" ({ cls := "FloodTerrainModel", name := "prominence", desc := "(I)I" } : Jvm.MethodName) ({ cls := "FloodTerrainModel", name := "prominence", desc := "(I)I" } : Jvm.MethodName)) ∈ lw_all := lw_g (lw_at lw_m2 15 rfl) rfl
theorem q282 : (Jvm.Cond.code ({ cls := "FloodTerrainModel", name := "prominence", desc := "(I)I" } : Jvm.MethodName) prog_3_method_24_code (6 : Nat) (Option.some Jvm.ClassFile.FieldType.int)) ∈ lw_all := lw_g (lw_at lw_m2 16 rfl) rfl
theorem q283 : (Jvm.Cond.methodLink "FloodTerrainModel" (56 : Nat) ({ cls := "FloodTerrainModel", name := "mostBeside", desc := "(I)I" } : Jvm.MethodName)) ∈ lw_all := lw_g (lw_at lw_m2 17 rfl) rfl
theorem q284 : (Jvm.Cond.privateMethod ({ cls := "FloodTerrainModel", name := "mostBeside", desc := "(I)I" } : Jvm.MethodName)) ∈ lw_tbl := lw_at lw_m2 18 rfl
theorem q285 : (Jvm.Cond.instanceMethod ({ cls := "FloodTerrainModel", name := "mostBeside", desc := "(I)I" } : Jvm.MethodName)) ∈ lw_all := lw_g (lw_at lw_m2 19 rfl) rfl
theorem q286 : (Jvm.Cond.code ({ cls := "FloodTerrainModel", name := "mostBeside", desc := "(I)I" } : Jvm.MethodName) prog_3_method_13_code (5 : Nat) (Option.some Jvm.ClassFile.FieldType.int)) ∈ lw_all := lw_g (lw_at lw_m2 20 rfl) rfl
theorem q288 : (Jvm.Cond.instanceMethod ({ cls := "FloodTerrainModel", name := "summits", desc := "()I" } : Jvm.MethodName)) ∈ lw_all := lw_g (lw_at lw_m2 22 rfl) rfl
theorem q289 : (Jvm.Cond.selects "FloodTerrainModel" ({ cls := "FloodTerrainModel", name := "summits", desc := "()I" } : Jvm.MethodName) ({ cls := "FloodTerrainModel", name := "summits", desc := "()I" } : Jvm.MethodName)) ∈ lw_all := lw_g (lw_at lw_m2 23 rfl) rfl
theorem q290 : (Jvm.Cond.code ({ cls := "FloodTerrainModel", name := "summits", desc := "()I" } : Jvm.MethodName) prog_3_method_27_code (3 : Nat) (Option.some Jvm.ClassFile.FieldType.int)) ∈ lw_all := lw_g (lw_at lw_m2 24 rfl) rfl
theorem q291 : (Jvm.Cond.methodLink "FloodTerrainModel" (59 : Nat) ({ cls := "FloodTerrainModel", name := "hasHigher", desc := "(I)Z" } : Jvm.MethodName)) ∈ lw_all := lw_g (lw_at lw_m2 25 rfl) rfl
theorem q292 : (Jvm.Cond.privateMethod ({ cls := "FloodTerrainModel", name := "hasHigher", desc := "(I)Z" } : Jvm.MethodName)) ∈ lw_tbl := lw_at lw_m2 26 rfl
theorem q293 : (Jvm.Cond.instanceMethod ({ cls := "FloodTerrainModel", name := "hasHigher", desc := "(I)Z" } : Jvm.MethodName)) ∈ lw_all := lw_g (lw_at lw_m2 27 rfl) rfl
theorem q294 : (Jvm.Cond.code ({ cls := "FloodTerrainModel", name := "hasHigher", desc := "(I)Z" } : Jvm.MethodName) prog_3_method_26_code (4 : Nat) (Option.some Jvm.ClassFile.FieldType.boolean)) ∈ lw_all := lw_g (lw_at lw_m2 28 rfl) rfl
theorem q295 : (Jvm.Cond.methodLink "FloodTerrainModel" (62 : Nat) ({ cls := "FloodTerrainModel", name := "leastAlike", desc := "(I)I" } : Jvm.MethodName)) ∈ lw_all := lw_g (lw_at lw_m2 29 rfl) rfl
theorem q296 : (Jvm.Cond.privateMethod ({ cls := "FloodTerrainModel", name := "leastAlike", desc := "(I)I" } : Jvm.MethodName)) ∈ lw_tbl := lw_at lw_m2 30 rfl
theorem q297 : (Jvm.Cond.instanceMethod ({ cls := "FloodTerrainModel", name := "leastAlike", desc := "(I)I" } : Jvm.MethodName)) ∈ lw_all := lw_g (lw_at lw_m2 31 rfl) rfl
theorem q298 : (Jvm.Cond.code ({ cls := "FloodTerrainModel", name := "leastAlike", desc := "(I)I" } : Jvm.MethodName) prog_3_method_25_code (5 : Nat) (Option.some Jvm.ClassFile.FieldType.int)) ∈ lw_all := lw_g (lw_at lw_m2 32 rfl) rfl
theorem in_X1 : ∀ w ∈ wsX10, w ∈ lw_all := lw_in wsX10 [189, 191] (by decide +kernel) (by decide +kernel)

/-! java/lang/Object -/
def RJ0 : String := "java/lang/Object"
abbrev cJ0_init : ByteArray := object_method_1_code
def yJ0_init : MethodName := ⟨RJ0, "<init>", "()V"⟩
theorem q35 : (Jvm.Cond.instanceMethod ({ cls := "java/lang/Object", name := "<init>", desc := "()V" } : Jvm.MethodName)) ∈ lw_all := lw_g (lw_at lw_m1 9 rfl) rfl
theorem q36 : (Jvm.Cond.code ({ cls := "java/lang/Object", name := "<init>", desc := "()V" } : Jvm.MethodName) object_method_1_code (1 : Nat) (Option.none : Option Jvm.ClassFile.FieldType)) ∈ lw_all := lw_g (lw_at lw_m1 10 rfl) rfl

/-! the law's own entry -/
abbrev cL_law : ByteArray := code
theorem dL_law_0 : decode cL_law 0 = .ok (.new 7, 3) := by decide +kernel
theorem dL_law_3 : decode cL_law 3 = .ok (.dup, 1) := by decide +kernel
theorem dL_law_4 : decode cL_law 4 = .ok (.invokespecial 9, 3) := by decide +kernel
theorem dL_law_7 : decode cL_law 7 = .ok (.astore_n 1, 1) := by decide +kernel
theorem dL_law_8 : decode cL_law 8 = .ok (.new 10, 3) := by decide +kernel
theorem dL_law_11 : decode cL_law 11 = .ok (.dup, 1) := by decide +kernel
theorem dL_law_12 : decode cL_law 12 = .ok (.invokespecial 12, 3) := by decide +kernel
theorem dL_law_15 : decode cL_law 15 = .ok (.astore_n 2, 1) := by decide +kernel
theorem dL_law_16 : decode cL_law 16 = .ok (.iconst 0, 1) := by decide +kernel
theorem dL_law_17 : decode cL_law 17 = .ok (.istore_n 3, 1) := by decide +kernel
theorem dL_law_18 : decode cL_law 18 = .ok (.iload_n 3, 1) := by decide +kernel
theorem dL_law_19 : decode cL_law 19 = .ok (.aload_n 0, 1) := by decide +kernel
theorem dL_law_20 : decode cL_law 20 = .ok (.arraylength, 1) := by decide +kernel
theorem dL_law_21 : decode cL_law 21 = .ok (.iconst 4, 1) := by decide +kernel
theorem dL_law_22 : decode cL_law 22 = .ok (.isub, 1) := by decide +kernel
theorem dL_law_23 : decode cL_law 23 = .ok (.if_icmp .gt 383, 3) := by decide +kernel
theorem dL_law_26 : decode cL_law 26 = .ok (.aload_n 0, 1) := by decide +kernel
theorem dL_law_27 : decode cL_law 27 = .ok (.iload_n 3, 1) := by decide +kernel
theorem dL_law_28 : decode cL_law 28 = .ok (.iaload, 1) := by decide +kernel
theorem dL_law_29 : decode cL_law 29 = .ok (.bipush 15, 2) := by decide +kernel
theorem dL_law_31 : decode cL_law 31 = .ok (.iand, 1) := by decide +kernel
theorem dL_law_32 : decode cL_law 32 = .ok (.tableswitch 368 0 11 #[64, 97, 140, 171, 194, 217, 230, 243, 266, 299, 332, 355], 64) := by decide +kernel
theorem dL_law_96 : decode cL_law 96 = .ok (.aload_n 1, 1) := by decide +kernel
theorem dL_law_97 : decode cL_law 97 = .ok (.aload_n 0, 1) := by decide +kernel
theorem dL_law_98 : decode cL_law 98 = .ok (.iload_n 3, 1) := by decide +kernel
theorem dL_law_99 : decode cL_law 99 = .ok (.iconst 1, 1) := by decide +kernel
theorem dL_law_100 : decode cL_law 100 = .ok (.iadd, 1) := by decide +kernel
theorem dL_law_101 : decode cL_law 101 = .ok (.iaload, 1) := by decide +kernel
theorem dL_law_102 : decode cL_law 102 = .ok (.aload_n 0, 1) := by decide +kernel
theorem dL_law_103 : decode cL_law 103 = .ok (.iload_n 3, 1) := by decide +kernel
theorem dL_law_104 : decode cL_law 104 = .ok (.iconst 2, 1) := by decide +kernel
theorem dL_law_105 : decode cL_law 105 = .ok (.iadd, 1) := by decide +kernel
theorem dL_law_106 : decode cL_law 106 = .ok (.iaload, 1) := by decide +kernel
theorem dL_law_107 : decode cL_law 107 = .ok (.invokevirtual 13, 3) := by decide +kernel
theorem dL_law_110 : decode cL_law 110 = .ok (.aload_n 2, 1) := by decide +kernel
theorem dL_law_111 : decode cL_law 111 = .ok (.aload_n 0, 1) := by decide +kernel
theorem dL_law_112 : decode cL_law 112 = .ok (.iload_n 3, 1) := by decide +kernel
theorem dL_law_113 : decode cL_law 113 = .ok (.iconst 1, 1) := by decide +kernel
theorem dL_law_114 : decode cL_law 114 = .ok (.iadd, 1) := by decide +kernel
theorem dL_law_115 : decode cL_law 115 = .ok (.iaload, 1) := by decide +kernel
theorem dL_law_116 : decode cL_law 116 = .ok (.aload_n 0, 1) := by decide +kernel
theorem dL_law_117 : decode cL_law 117 = .ok (.iload_n 3, 1) := by decide +kernel
theorem dL_law_118 : decode cL_law 118 = .ok (.iconst 2, 1) := by decide +kernel
theorem dL_law_119 : decode cL_law 119 = .ok (.iadd, 1) := by decide +kernel
theorem dL_law_120 : decode cL_law 120 = .ok (.iaload, 1) := by decide +kernel
theorem dL_law_121 : decode cL_law 121 = .ok (.invokevirtual 17, 3) := by decide +kernel
theorem dL_law_124 : decode cL_law 124 = .ok (.if_icmp .eq 276, 3) := by decide +kernel
theorem dL_law_127 : decode cL_law 127 = .ok (.iconst 0, 1) := by decide +kernel
theorem dL_law_128 : decode cL_law 128 = .ok (.ireturn, 1) := by decide +kernel
theorem dL_law_129 : decode cL_law 129 = .ok (.aload_n 1, 1) := by decide +kernel
theorem dL_law_130 : decode cL_law 130 = .ok (.aload_n 0, 1) := by decide +kernel
theorem dL_law_131 : decode cL_law 131 = .ok (.iload_n 3, 1) := by decide +kernel
theorem dL_law_132 : decode cL_law 132 = .ok (.iconst 1, 1) := by decide +kernel
theorem dL_law_133 : decode cL_law 133 = .ok (.iadd, 1) := by decide +kernel
theorem dL_law_134 : decode cL_law 134 = .ok (.iaload, 1) := by decide +kernel
theorem dL_law_135 : decode cL_law 135 = .ok (.aload_n 0, 1) := by decide +kernel
theorem dL_law_136 : decode cL_law 136 = .ok (.iload_n 3, 1) := by decide +kernel
theorem dL_law_137 : decode cL_law 137 = .ok (.iconst 2, 1) := by decide +kernel
theorem dL_law_138 : decode cL_law 138 = .ok (.iadd, 1) := by decide +kernel
theorem dL_law_139 : decode cL_law 139 = .ok (.iaload, 1) := by decide +kernel
theorem dL_law_140 : decode cL_law 140 = .ok (.aload_n 0, 1) := by decide +kernel
theorem dL_law_141 : decode cL_law 141 = .ok (.iload_n 3, 1) := by decide +kernel
theorem dL_law_142 : decode cL_law 142 = .ok (.iconst 3, 1) := by decide +kernel
theorem dL_law_143 : decode cL_law 143 = .ok (.iadd, 1) := by decide +kernel
theorem dL_law_144 : decode cL_law 144 = .ok (.iaload, 1) := by decide +kernel
theorem dL_law_145 : decode cL_law 145 = .ok (.invokevirtual 18, 3) := by decide +kernel
theorem dL_law_148 : decode cL_law 148 = .ok (.aload_n 2, 1) := by decide +kernel
theorem dL_law_149 : decode cL_law 149 = .ok (.aload_n 0, 1) := by decide +kernel
theorem dL_law_150 : decode cL_law 150 = .ok (.iload_n 3, 1) := by decide +kernel
theorem dL_law_151 : decode cL_law 151 = .ok (.iconst 1, 1) := by decide +kernel
theorem dL_law_152 : decode cL_law 152 = .ok (.iadd, 1) := by decide +kernel
theorem dL_law_153 : decode cL_law 153 = .ok (.iaload, 1) := by decide +kernel
theorem dL_law_154 : decode cL_law 154 = .ok (.aload_n 0, 1) := by decide +kernel
theorem dL_law_155 : decode cL_law 155 = .ok (.iload_n 3, 1) := by decide +kernel
theorem dL_law_156 : decode cL_law 156 = .ok (.iconst 2, 1) := by decide +kernel
theorem dL_law_157 : decode cL_law 157 = .ok (.iadd, 1) := by decide +kernel
theorem dL_law_158 : decode cL_law 158 = .ok (.iaload, 1) := by decide +kernel
theorem dL_law_159 : decode cL_law 159 = .ok (.aload_n 0, 1) := by decide +kernel
theorem dL_law_160 : decode cL_law 160 = .ok (.iload_n 3, 1) := by decide +kernel
theorem dL_law_161 : decode cL_law 161 = .ok (.iconst 3, 1) := by decide +kernel
theorem dL_law_162 : decode cL_law 162 = .ok (.iadd, 1) := by decide +kernel
theorem dL_law_163 : decode cL_law 163 = .ok (.iaload, 1) := by decide +kernel
theorem dL_law_164 : decode cL_law 164 = .ok (.invokevirtual 22, 3) := by decide +kernel
theorem dL_law_167 : decode cL_law 167 = .ok (.if_icmp .eq 233, 3) := by decide +kernel
theorem dL_law_170 : decode cL_law 170 = .ok (.iconst 0, 1) := by decide +kernel
theorem dL_law_171 : decode cL_law 171 = .ok (.ireturn, 1) := by decide +kernel
theorem dL_law_172 : decode cL_law 172 = .ok (.aload_n 1, 1) := by decide +kernel
theorem dL_law_173 : decode cL_law 173 = .ok (.aload_n 0, 1) := by decide +kernel
theorem dL_law_174 : decode cL_law 174 = .ok (.iload_n 3, 1) := by decide +kernel
theorem dL_law_175 : decode cL_law 175 = .ok (.iconst 1, 1) := by decide +kernel
theorem dL_law_176 : decode cL_law 176 = .ok (.iadd, 1) := by decide +kernel
theorem dL_law_177 : decode cL_law 177 = .ok (.iaload, 1) := by decide +kernel
theorem dL_law_178 : decode cL_law 178 = .ok (.aload_n 0, 1) := by decide +kernel
theorem dL_law_179 : decode cL_law 179 = .ok (.iload_n 3, 1) := by decide +kernel
theorem dL_law_180 : decode cL_law 180 = .ok (.iconst 2, 1) := by decide +kernel
theorem dL_law_181 : decode cL_law 181 = .ok (.iadd, 1) := by decide +kernel
theorem dL_law_182 : decode cL_law 182 = .ok (.iaload, 1) := by decide +kernel
theorem dL_law_183 : decode cL_law 183 = .ok (.invokevirtual 23, 3) := by decide +kernel
theorem dL_law_186 : decode cL_law 186 = .ok (.aload_n 2, 1) := by decide +kernel
theorem dL_law_187 : decode cL_law 187 = .ok (.aload_n 0, 1) := by decide +kernel
theorem dL_law_188 : decode cL_law 188 = .ok (.iload_n 3, 1) := by decide +kernel
theorem dL_law_189 : decode cL_law 189 = .ok (.iconst 1, 1) := by decide +kernel
theorem dL_law_190 : decode cL_law 190 = .ok (.iadd, 1) := by decide +kernel
theorem dL_law_191 : decode cL_law 191 = .ok (.iaload, 1) := by decide +kernel
theorem dL_law_192 : decode cL_law 192 = .ok (.aload_n 0, 1) := by decide +kernel
theorem dL_law_193 : decode cL_law 193 = .ok (.iload_n 3, 1) := by decide +kernel
theorem dL_law_194 : decode cL_law 194 = .ok (.iconst 2, 1) := by decide +kernel
theorem dL_law_195 : decode cL_law 195 = .ok (.iadd, 1) := by decide +kernel
theorem dL_law_196 : decode cL_law 196 = .ok (.iaload, 1) := by decide +kernel
theorem dL_law_197 : decode cL_law 197 = .ok (.invokevirtual 27, 3) := by decide +kernel
theorem dL_law_200 : decode cL_law 200 = .ok (.goto 200, 3) := by decide +kernel
theorem dL_law_203 : decode cL_law 203 = .ok (.aload_n 1, 1) := by decide +kernel
theorem dL_law_204 : decode cL_law 204 = .ok (.aload_n 0, 1) := by decide +kernel
theorem dL_law_205 : decode cL_law 205 = .ok (.iload_n 3, 1) := by decide +kernel
theorem dL_law_206 : decode cL_law 206 = .ok (.iconst 1, 1) := by decide +kernel
theorem dL_law_207 : decode cL_law 207 = .ok (.iadd, 1) := by decide +kernel
theorem dL_law_208 : decode cL_law 208 = .ok (.iaload, 1) := by decide +kernel
theorem dL_law_209 : decode cL_law 209 = .ok (.invokevirtual 28, 3) := by decide +kernel
theorem dL_law_212 : decode cL_law 212 = .ok (.aload_n 2, 1) := by decide +kernel
theorem dL_law_213 : decode cL_law 213 = .ok (.aload_n 0, 1) := by decide +kernel
theorem dL_law_214 : decode cL_law 214 = .ok (.iload_n 3, 1) := by decide +kernel
theorem dL_law_215 : decode cL_law 215 = .ok (.iconst 1, 1) := by decide +kernel
theorem dL_law_216 : decode cL_law 216 = .ok (.iadd, 1) := by decide +kernel
theorem dL_law_217 : decode cL_law 217 = .ok (.iaload, 1) := by decide +kernel
theorem dL_law_218 : decode cL_law 218 = .ok (.invokevirtual 32, 3) := by decide +kernel
theorem dL_law_221 : decode cL_law 221 = .ok (.if_icmp .eq 179, 3) := by decide +kernel
theorem dL_law_224 : decode cL_law 224 = .ok (.iconst 0, 1) := by decide +kernel
theorem dL_law_225 : decode cL_law 225 = .ok (.ireturn, 1) := by decide +kernel
theorem dL_law_226 : decode cL_law 226 = .ok (.aload_n 1, 1) := by decide +kernel
theorem dL_law_227 : decode cL_law 227 = .ok (.aload_n 0, 1) := by decide +kernel
theorem dL_law_228 : decode cL_law 228 = .ok (.iload_n 3, 1) := by decide +kernel
theorem dL_law_229 : decode cL_law 229 = .ok (.iconst 1, 1) := by decide +kernel
theorem dL_law_230 : decode cL_law 230 = .ok (.iadd, 1) := by decide +kernel
theorem dL_law_231 : decode cL_law 231 = .ok (.iaload, 1) := by decide +kernel
theorem dL_law_232 : decode cL_law 232 = .ok (.invokevirtual 33, 3) := by decide +kernel
theorem dL_law_235 : decode cL_law 235 = .ok (.aload_n 2, 1) := by decide +kernel
theorem dL_law_236 : decode cL_law 236 = .ok (.aload_n 0, 1) := by decide +kernel
theorem dL_law_237 : decode cL_law 237 = .ok (.iload_n 3, 1) := by decide +kernel
theorem dL_law_238 : decode cL_law 238 = .ok (.iconst 1, 1) := by decide +kernel
theorem dL_law_239 : decode cL_law 239 = .ok (.iadd, 1) := by decide +kernel
theorem dL_law_240 : decode cL_law 240 = .ok (.iaload, 1) := by decide +kernel
theorem dL_law_241 : decode cL_law 241 = .ok (.invokevirtual 36, 3) := by decide +kernel
theorem dL_law_244 : decode cL_law 244 = .ok (.if_icmp .eq 156, 3) := by decide +kernel
theorem dL_law_247 : decode cL_law 247 = .ok (.iconst 0, 1) := by decide +kernel
theorem dL_law_248 : decode cL_law 248 = .ok (.ireturn, 1) := by decide +kernel
theorem dL_law_249 : decode cL_law 249 = .ok (.aload_n 1, 1) := by decide +kernel
theorem dL_law_250 : decode cL_law 250 = .ok (.invokevirtual 37, 3) := by decide +kernel
theorem dL_law_253 : decode cL_law 253 = .ok (.aload_n 2, 1) := by decide +kernel
theorem dL_law_254 : decode cL_law 254 = .ok (.invokevirtual 41, 3) := by decide +kernel
theorem dL_law_257 : decode cL_law 257 = .ok (.if_icmp .eq 143, 3) := by decide +kernel
theorem dL_law_260 : decode cL_law 260 = .ok (.iconst 0, 1) := by decide +kernel
theorem dL_law_261 : decode cL_law 261 = .ok (.ireturn, 1) := by decide +kernel
theorem dL_law_262 : decode cL_law 262 = .ok (.aload_n 1, 1) := by decide +kernel
theorem dL_law_263 : decode cL_law 263 = .ok (.invokevirtual 42, 3) := by decide +kernel
theorem dL_law_266 : decode cL_law 266 = .ok (.aload_n 2, 1) := by decide +kernel
theorem dL_law_267 : decode cL_law 267 = .ok (.invokevirtual 45, 3) := by decide +kernel
theorem dL_law_270 : decode cL_law 270 = .ok (.if_icmp .eq 130, 3) := by decide +kernel
theorem dL_law_273 : decode cL_law 273 = .ok (.iconst 0, 1) := by decide +kernel
theorem dL_law_274 : decode cL_law 274 = .ok (.ireturn, 1) := by decide +kernel
theorem dL_law_275 : decode cL_law 275 = .ok (.aload_n 1, 1) := by decide +kernel
theorem dL_law_276 : decode cL_law 276 = .ok (.aload_n 0, 1) := by decide +kernel
theorem dL_law_277 : decode cL_law 277 = .ok (.iload_n 3, 1) := by decide +kernel
theorem dL_law_278 : decode cL_law 278 = .ok (.iconst 1, 1) := by decide +kernel
theorem dL_law_279 : decode cL_law 279 = .ok (.iadd, 1) := by decide +kernel
theorem dL_law_280 : decode cL_law 280 = .ok (.iaload, 1) := by decide +kernel
theorem dL_law_281 : decode cL_law 281 = .ok (.invokevirtual 46, 3) := by decide +kernel
theorem dL_law_284 : decode cL_law 284 = .ok (.aload_n 2, 1) := by decide +kernel
theorem dL_law_285 : decode cL_law 285 = .ok (.aload_n 0, 1) := by decide +kernel
theorem dL_law_286 : decode cL_law 286 = .ok (.iload_n 3, 1) := by decide +kernel
theorem dL_law_287 : decode cL_law 287 = .ok (.iconst 1, 1) := by decide +kernel
theorem dL_law_288 : decode cL_law 288 = .ok (.iadd, 1) := by decide +kernel
theorem dL_law_289 : decode cL_law 289 = .ok (.iaload, 1) := by decide +kernel
theorem dL_law_290 : decode cL_law 290 = .ok (.invokevirtual 49, 3) := by decide +kernel
theorem dL_law_293 : decode cL_law 293 = .ok (.if_icmp .eq 107, 3) := by decide +kernel
theorem dL_law_296 : decode cL_law 296 = .ok (.iconst 0, 1) := by decide +kernel
theorem dL_law_297 : decode cL_law 297 = .ok (.ireturn, 1) := by decide +kernel
theorem dL_law_298 : decode cL_law 298 = .ok (.aload_n 1, 1) := by decide +kernel
theorem dL_law_299 : decode cL_law 299 = .ok (.aload_n 0, 1) := by decide +kernel
theorem dL_law_300 : decode cL_law 300 = .ok (.iload_n 3, 1) := by decide +kernel
theorem dL_law_301 : decode cL_law 301 = .ok (.iconst 1, 1) := by decide +kernel
theorem dL_law_302 : decode cL_law 302 = .ok (.iadd, 1) := by decide +kernel
theorem dL_law_303 : decode cL_law 303 = .ok (.iaload, 1) := by decide +kernel
theorem dL_law_304 : decode cL_law 304 = .ok (.aload_n 0, 1) := by decide +kernel
theorem dL_law_305 : decode cL_law 305 = .ok (.iload_n 3, 1) := by decide +kernel
theorem dL_law_306 : decode cL_law 306 = .ok (.iconst 2, 1) := by decide +kernel
theorem dL_law_307 : decode cL_law 307 = .ok (.iadd, 1) := by decide +kernel
theorem dL_law_308 : decode cL_law 308 = .ok (.iaload, 1) := by decide +kernel
theorem dL_law_309 : decode cL_law 309 = .ok (.invokevirtual 50, 3) := by decide +kernel
theorem dL_law_312 : decode cL_law 312 = .ok (.aload_n 2, 1) := by decide +kernel
theorem dL_law_313 : decode cL_law 313 = .ok (.aload_n 0, 1) := by decide +kernel
theorem dL_law_314 : decode cL_law 314 = .ok (.iload_n 3, 1) := by decide +kernel
theorem dL_law_315 : decode cL_law 315 = .ok (.iconst 1, 1) := by decide +kernel
theorem dL_law_316 : decode cL_law 316 = .ok (.iadd, 1) := by decide +kernel
theorem dL_law_317 : decode cL_law 317 = .ok (.iaload, 1) := by decide +kernel
theorem dL_law_318 : decode cL_law 318 = .ok (.aload_n 0, 1) := by decide +kernel
theorem dL_law_319 : decode cL_law 319 = .ok (.iload_n 3, 1) := by decide +kernel
theorem dL_law_320 : decode cL_law 320 = .ok (.iconst 2, 1) := by decide +kernel
theorem dL_law_321 : decode cL_law 321 = .ok (.iadd, 1) := by decide +kernel
theorem dL_law_322 : decode cL_law 322 = .ok (.iaload, 1) := by decide +kernel
theorem dL_law_323 : decode cL_law 323 = .ok (.invokevirtual 53, 3) := by decide +kernel
theorem dL_law_326 : decode cL_law 326 = .ok (.if_icmp .eq 74, 3) := by decide +kernel
theorem dL_law_329 : decode cL_law 329 = .ok (.iconst 0, 1) := by decide +kernel
theorem dL_law_330 : decode cL_law 330 = .ok (.ireturn, 1) := by decide +kernel
theorem dL_law_331 : decode cL_law 331 = .ok (.aload_n 1, 1) := by decide +kernel
theorem dL_law_332 : decode cL_law 332 = .ok (.aload_n 0, 1) := by decide +kernel
theorem dL_law_333 : decode cL_law 333 = .ok (.iload_n 3, 1) := by decide +kernel
theorem dL_law_334 : decode cL_law 334 = .ok (.iconst 1, 1) := by decide +kernel
theorem dL_law_335 : decode cL_law 335 = .ok (.iadd, 1) := by decide +kernel
theorem dL_law_336 : decode cL_law 336 = .ok (.iaload, 1) := by decide +kernel
theorem dL_law_337 : decode cL_law 337 = .ok (.aload_n 0, 1) := by decide +kernel
theorem dL_law_338 : decode cL_law 338 = .ok (.iload_n 3, 1) := by decide +kernel
theorem dL_law_339 : decode cL_law 339 = .ok (.iconst 2, 1) := by decide +kernel
theorem dL_law_340 : decode cL_law 340 = .ok (.iadd, 1) := by decide +kernel
theorem dL_law_341 : decode cL_law 341 = .ok (.iaload, 1) := by decide +kernel
theorem dL_law_342 : decode cL_law 342 = .ok (.invokevirtual 54, 3) := by decide +kernel
theorem dL_law_345 : decode cL_law 345 = .ok (.aload_n 2, 1) := by decide +kernel
theorem dL_law_346 : decode cL_law 346 = .ok (.aload_n 0, 1) := by decide +kernel
theorem dL_law_347 : decode cL_law 347 = .ok (.iload_n 3, 1) := by decide +kernel
theorem dL_law_348 : decode cL_law 348 = .ok (.iconst 1, 1) := by decide +kernel
theorem dL_law_349 : decode cL_law 349 = .ok (.iadd, 1) := by decide +kernel
theorem dL_law_350 : decode cL_law 350 = .ok (.iaload, 1) := by decide +kernel
theorem dL_law_351 : decode cL_law 351 = .ok (.aload_n 0, 1) := by decide +kernel
theorem dL_law_352 : decode cL_law 352 = .ok (.iload_n 3, 1) := by decide +kernel
theorem dL_law_353 : decode cL_law 353 = .ok (.iconst 2, 1) := by decide +kernel
theorem dL_law_354 : decode cL_law 354 = .ok (.iadd, 1) := by decide +kernel
theorem dL_law_355 : decode cL_law 355 = .ok (.iaload, 1) := by decide +kernel
theorem dL_law_356 : decode cL_law 356 = .ok (.invokevirtual 57, 3) := by decide +kernel
theorem dL_law_359 : decode cL_law 359 = .ok (.if_icmp .eq 41, 3) := by decide +kernel
theorem dL_law_362 : decode cL_law 362 = .ok (.iconst 0, 1) := by decide +kernel
theorem dL_law_363 : decode cL_law 363 = .ok (.ireturn, 1) := by decide +kernel
theorem dL_law_364 : decode cL_law 364 = .ok (.aload_n 1, 1) := by decide +kernel
theorem dL_law_365 : decode cL_law 365 = .ok (.aload_n 0, 1) := by decide +kernel
theorem dL_law_366 : decode cL_law 366 = .ok (.iload_n 3, 1) := by decide +kernel
theorem dL_law_367 : decode cL_law 367 = .ok (.iconst 1, 1) := by decide +kernel
theorem dL_law_368 : decode cL_law 368 = .ok (.iadd, 1) := by decide +kernel
theorem dL_law_369 : decode cL_law 369 = .ok (.iaload, 1) := by decide +kernel
theorem dL_law_370 : decode cL_law 370 = .ok (.invokevirtual 58, 3) := by decide +kernel
theorem dL_law_373 : decode cL_law 373 = .ok (.aload_n 2, 1) := by decide +kernel
theorem dL_law_374 : decode cL_law 374 = .ok (.aload_n 0, 1) := by decide +kernel
theorem dL_law_375 : decode cL_law 375 = .ok (.iload_n 3, 1) := by decide +kernel
theorem dL_law_376 : decode cL_law 376 = .ok (.iconst 1, 1) := by decide +kernel
theorem dL_law_377 : decode cL_law 377 = .ok (.iadd, 1) := by decide +kernel
theorem dL_law_378 : decode cL_law 378 = .ok (.iaload, 1) := by decide +kernel
theorem dL_law_379 : decode cL_law 379 = .ok (.invokevirtual 61, 3) := by decide +kernel
theorem dL_law_382 : decode cL_law 382 = .ok (.if_icmp .eq 18, 3) := by decide +kernel
theorem dL_law_385 : decode cL_law 385 = .ok (.iconst 0, 1) := by decide +kernel
theorem dL_law_386 : decode cL_law 386 = .ok (.ireturn, 1) := by decide +kernel
theorem dL_law_387 : decode cL_law 387 = .ok (.aload_n 1, 1) := by decide +kernel
theorem dL_law_388 : decode cL_law 388 = .ok (.invokevirtual 62, 3) := by decide +kernel
theorem dL_law_391 : decode cL_law 391 = .ok (.aload_n 2, 1) := by decide +kernel
theorem dL_law_392 : decode cL_law 392 = .ok (.invokevirtual 65, 3) := by decide +kernel
theorem dL_law_395 : decode cL_law 395 = .ok (.if_icmp .eq 5, 3) := by decide +kernel
theorem dL_law_398 : decode cL_law 398 = .ok (.iconst 0, 1) := by decide +kernel
theorem dL_law_399 : decode cL_law 399 = .ok (.ireturn, 1) := by decide +kernel
theorem dL_law_400 : decode cL_law 400 = .ok (.iinc 3 4, 3) := by decide +kernel
theorem dL_law_403 : decode cL_law 403 = .ok (.goto (-385), 3) := by decide +kernel
theorem dL_law_406 : decode cL_law 406 = .ok (.iconst 1, 1) := by decide +kernel
theorem dL_law_407 : decode cL_law 407 = .ok (.ireturn, 1) := by decide +kernel

theorem q26 : (Jvm.Cond.initialized "FloodTerrainLaw") ∈ lw_all := lw_g (lw_at lw_m1 0 rfl) rfl
theorem q29 : (Jvm.Cond.classLink "FloodTerrainLaw" (7 : Nat) "FloodTerrain") ∈ lw_all := lw_g (lw_at lw_m1 3 rfl) rfl
theorem q31 : (Jvm.Cond.methodLink "FloodTerrainLaw" (9 : Nat) ({ cls := "FloodTerrain", name := "<init>", desc := "()V" } : Jvm.MethodName)) ∈ lw_all := lw_g (lw_at lw_m1 5 rfl) rfl
theorem q73 : (Jvm.Cond.methodLink "FloodTerrainLaw" (13 : Nat) ({ cls := "FloodTerrain", name := "set", desc := "(II)I" } : Jvm.MethodName)) ∈ lw_all := lw_g (lw_at lw_m1 47 rfl) rfl
theorem q80 : (Jvm.Cond.methodLink "FloodTerrainLaw" (18 : Nat) ({ cls := "FloodTerrain", name := "shift", desc := "(III)I" } : Jvm.MethodName)) ∈ lw_all := lw_g (lw_at lw_m1 54 rfl) rfl
theorem q87 : (Jvm.Cond.methodLink "FloodTerrainLaw" (23 : Nat) ({ cls := "FloodTerrain", name := "pattern", desc := "(II)V" } : Jvm.MethodName)) ∈ lw_all := lw_g (lw_at lw_m1 61 rfl) rfl
theorem q91 : (Jvm.Cond.methodLink "FloodTerrainLaw" (28 : Nat) ({ cls := "FloodTerrain", name := "height", desc := "(I)I" } : Jvm.MethodName)) ∈ lw_all := lw_g (lw_at lw_m1 65 rfl) rfl
theorem q95 : (Jvm.Cond.methodLink "FloodTerrainLaw" (33 : Nat) ({ cls := "FloodTerrain", name := "level", desc := "(I)I" } : Jvm.MethodName)) ∈ lw_all := lw_g (lw_at lw_m1 69 rfl) rfl
theorem q125 : (Jvm.Cond.methodLink "FloodTerrainLaw" (37 : Nat) ({ cls := "FloodTerrain", name := "volume", desc := "()I" } : Jvm.MethodName)) ∈ lw_all := lw_g (lw_at lw_m1 99 rfl) rfl
theorem q129 : (Jvm.Cond.methodLink "FloodTerrainLaw" (42 : Nat) ({ cls := "FloodTerrain", name := "lakes", desc := "()I" } : Jvm.MethodName)) ∈ lw_all := lw_g (lw_at lw_m1 103 rfl) rfl
theorem q141 : (Jvm.Cond.methodLink "FloodTerrainLaw" (46 : Nat) ({ cls := "FloodTerrain", name := "lakeSize", desc := "(I)I" } : Jvm.MethodName)) ∈ lw_all := lw_g (lw_at lw_m1 115 rfl) rfl
theorem q145 : (Jvm.Cond.methodLink "FloodTerrainLaw" (50 : Nat) ({ cls := "FloodTerrain", name := "pass", desc := "(II)I" } : Jvm.MethodName)) ∈ lw_all := lw_g (lw_at lw_m1 119 rfl) rfl
theorem q165 : (Jvm.Cond.methodLink "FloodTerrainLaw" (54 : Nat) ({ cls := "FloodTerrain", name := "reach", desc := "(II)I" } : Jvm.MethodName)) ∈ lw_all := lw_g (lw_at lw_m1 139 rfl) rfl
theorem q169 : (Jvm.Cond.methodLink "FloodTerrainLaw" (58 : Nat) ({ cls := "FloodTerrain", name := "prominence", desc := "(I)I" } : Jvm.MethodName)) ∈ lw_all := lw_g (lw_at lw_m1 143 rfl) rfl
theorem q173 : (Jvm.Cond.methodLink "FloodTerrainLaw" (62 : Nat) ({ cls := "FloodTerrain", name := "summits", desc := "()I" } : Jvm.MethodName)) ∈ lw_all := lw_g (lw_at lw_m1 147 rfl) rfl
theorem q181 : (Jvm.Cond.classLink "FloodTerrainLaw" (10 : Nat) "FloodTerrainModel") ∈ lw_all := lw_g (lw_at lw_m1 155 rfl) rfl
theorem q183 : (Jvm.Cond.methodLink "FloodTerrainLaw" (12 : Nat) ({ cls := "FloodTerrainModel", name := "<init>", desc := "()V" } : Jvm.MethodName)) ∈ lw_all := lw_g (lw_at lw_m1 157 rfl) rfl
theorem q194 : (Jvm.Cond.methodLink "FloodTerrainLaw" (17 : Nat) ({ cls := "FloodTerrainModel", name := "set", desc := "(II)I" } : Jvm.MethodName)) ∈ lw_all := lw_g (lw_at lw_m1 168 rfl) rfl
theorem q202 : (Jvm.Cond.methodLink "FloodTerrainLaw" (22 : Nat) ({ cls := "FloodTerrainModel", name := "shift", desc := "(III)I" } : Jvm.MethodName)) ∈ lw_all := lw_g (lw_at lw_m1 176 rfl) rfl
theorem q219 : (Jvm.Cond.methodLink "FloodTerrainLaw" (27 : Nat) ({ cls := "FloodTerrainModel", name := "pattern", desc := "(II)V" } : Jvm.MethodName)) ∈ lw_all := lw_g (lw_at lw_m1 193 rfl) rfl
theorem q223 : (Jvm.Cond.methodLink "FloodTerrainLaw" (32 : Nat) ({ cls := "FloodTerrainModel", name := "height", desc := "(I)I" } : Jvm.MethodName)) ∈ lw_all := lw_g (lw_at lw_m1 197 rfl) rfl
theorem q227 : (Jvm.Cond.methodLink "FloodTerrainLaw" (36 : Nat) ({ cls := "FloodTerrainModel", name := "level", desc := "(I)I" } : Jvm.MethodName)) ∈ lw_all := lw_g (lw_at lw_m1 201 rfl) rfl
theorem q251 : (Jvm.Cond.methodLink "FloodTerrainLaw" (41 : Nat) ({ cls := "FloodTerrainModel", name := "volume", desc := "()I" } : Jvm.MethodName)) ∈ lw_all := lw_g (lw_at lw_m1 225 rfl) rfl
theorem q255 : (Jvm.Cond.methodLink "FloodTerrainLaw" (45 : Nat) ({ cls := "FloodTerrainModel", name := "lakes", desc := "()I" } : Jvm.MethodName)) ∈ lw_all := lw_g (lw_at lw_m1 229 rfl) rfl
theorem q263 : (Jvm.Cond.methodLink "FloodTerrainLaw" (49 : Nat) ({ cls := "FloodTerrainModel", name := "lakeSize", desc := "(I)I" } : Jvm.MethodName)) ∈ lw_all := lw_g (lw_at lw_m1 237 rfl) rfl
theorem q267 : (Jvm.Cond.methodLink "FloodTerrainLaw" (53 : Nat) ({ cls := "FloodTerrainModel", name := "pass", desc := "(II)I" } : Jvm.MethodName)) ∈ lw_all := lw_g (lw_at lw_m2 1 rfl) rfl
theorem q275 : (Jvm.Cond.methodLink "FloodTerrainLaw" (57 : Nat) ({ cls := "FloodTerrainModel", name := "reach", desc := "(II)I" } : Jvm.MethodName)) ∈ lw_all := lw_g (lw_at lw_m2 9 rfl) rfl
theorem q279 : (Jvm.Cond.methodLink "FloodTerrainLaw" (61 : Nat) ({ cls := "FloodTerrainModel", name := "prominence", desc := "(I)I" } : Jvm.MethodName)) ∈ lw_all := lw_g (lw_at lw_m2 13 rfl) rfl
theorem q287 : (Jvm.Cond.methodLink "FloodTerrainLaw" (65 : Nat) ({ cls := "FloodTerrainModel", name := "summits", desc := "()I" } : Jvm.MethodName)) ∈ lw_all := lw_g (lw_at lw_m2 21 rfl) rfl

theorem q71 : (Jvm.Cond.arrayClass Jvm.ClassFile.FieldType.int) ∈ lw_all := lw_g (lw_at lw_m1 45 rfl) rfl
theorem q72 : (Jvm.Cond.arrayClass Jvm.ClassFile.FieldType.boolean) ∈ lw_all := lw_g (lw_at lw_m1 46 rfl) rfl

abbrev vwCl : List vw_C := [(RX0, TX0, 11), (RX1, TX1, 2)]
end
section
/-! A small judgement over the kit's W: the state of an object with arrays of 64 ints as a mathematical memory, ints as Int in range, runs of instructions by computation -/
set_option maxRecDepth 100000
abbrev xAV : Type := Int ⊕ Int ⊕ Option Nat
abbrev xMem : Type := Nat → Int → Int
abbrev xTb : Type := List (Nat × Instr × Nat × Nat)
abbrev xMd : Type := MethodName × ByteArray × Nat × Option FieldType × xTb
abbrev xKl : Type := Nat × vw_C × Nat × (Nat → Bool) × List (Nat × Nat) × List (Nat ⊕ (Nat × Int)) × List (Nat × Int)
abbrev xG : Type := va_G × (Nat → Nat) × (Nat → ClassId)
def xrg (x : Int) : Prop := -2147483648 ≤ x ∧ x ≤ 2147483647
def xrl (x : Int) : Prop := -9223372036854775808 ≤ x ∧ x ≤ 9223372036854775807
theorem xt32 {x : Int} (h : xrg x) : (Int32.ofInt x).toInt = x := Int32.toInt_ofInt_of_le (by have := h.1; omega) (by have := h.2; omega)
theorem xt64 {x : Int} (h : xrl x) : (Int64.ofInt x).toInt = x := Int64.toInt_ofInt_of_le (by have := h.1; omega) (by have := h.2; omega)
theorem xeq {x y : Int} (hx : xrg x) (hy : xrg y) : Int32.ofInt x = Int32.ofInt y ↔ x = y := by
  rw [← Int32.toInt_inj, xt32 hx, xt32 hy]
theorem xlt {x y : Int} (hx : xrg x) (hy : xrg y) : Int32.ofInt x < Int32.ofInt y ↔ x < y := by
  rw [Int32.lt_iff_toInt_lt, xt32 hx, xt32 hy]
theorem xle {x y : Int} (hx : xrg x) (hy : xrg y) : Int32.ofInt x ≤ Int32.ofInt y ↔ x ≤ y := by
  rw [Int32.le_iff_toInt_le, xt32 hx, xt32 hy]
theorem xrg0 : xrg 0 := ⟨by decide, by decide⟩
theorem xz : (0 : Int32) = Int32.ofInt 0 := by decide
theorem xnI (a : Nat) : nI a = Int32.ofInt (a : Int) := by
  first
    | exact (Int32.ofInt_eq_ofNat).symm
    | exact Int32.ofInt_eq_ofNat.symm
    | (unfold nI; simp)
theorem xdiv {x y : Int} (hx : xrg x) (hy : xrg y) (h0 : 0 ≤ x) (h1 : 0 < y) : Int32.ofInt x / Int32.ofInt y = Int32.ofInt (x / y) := by
  have a1 := hx.2
  have a2 := hy.2
  obtain ⟨a, rfl⟩ := Int.eq_ofNat_of_zero_le h0
  obtain ⟨b, rfl⟩ := Int.eq_ofNat_of_zero_le (Int.le_of_lt h1)
  have e : ((a : Int) / (b : Int)) = ((a / b : Nat) : Int) := by
    first | exact (Int.natCast_ediv a b).symm | rfl | simp
  rw [e, ← xnI, ← xnI, ← xnI]
  exact pk_div (by omega) (by omega) (by omega)
theorem xrem {x y : Int} (hx : xrg x) (hy : xrg y) (h0 : 0 ≤ x) (h1 : 0 < y) : Int32.ofInt x - Int32.ofInt x / Int32.ofInt y * Int32.ofInt y = Int32.ofInt (x % y) := by
  have a1 := hx.2
  have a2 := hy.2
  obtain ⟨a, rfl⟩ := Int.eq_ofNat_of_zero_le h0
  obtain ⟨b, rfl⟩ := Int.eq_ofNat_of_zero_le (Int.le_of_lt h1)
  have e : ((a : Int) % (b : Int)) = ((a % b : Nat) : Int) := by
    first | exact (Int.natCast_emod a b).symm | rfl | simp
  rw [e, ← xnI, ← xnI, ← xnI]
  exact pk_rem (by omega) (by omega) (by omega)
theorem xrg_div {x y : Int} (hx : xrg x) (h0 : 0 ≤ x) (h1 : 0 < y) : xrg (x / y) := by
  have h2 := hx.2
  have h3 : x / y ≤ x := Int.ediv_le_self y h0
  have h4 : 0 ≤ x / y := Int.ediv_nonneg h0 (Int.le_of_lt h1)
  exact ⟨by omega, by omega⟩
theorem xrg_mod {x y : Int} (hy : xrg y) (h1 : 0 < y) : xrg (x % y) := by
  have h2 := hy.2
  have h3 : x % y < y := Int.emod_lt_of_pos x h1
  have h4 : 0 ≤ x % y := Int.emod_nonneg x (by omega)
  exact ⟨by omega, by omega⟩
/-- the wrapped value of a number -/
def xwr (x : Int) : Int := (Int32.ofInt x).toInt
theorem xrg_i (a : Int32) : xrg a.toInt := ⟨by have := Int32.le_toInt a; omega, by have := Int32.toInt_lt a; omega⟩
theorem xrg_wr (x : Int) : xrg (xwr x) := xrg_i _
theorem xwr_of (x : Int) : Int32.ofInt (xwr x) = Int32.ofInt x := by unfold xwr; exact Int32.ofInt_toInt _
theorem xand63 (x : Int) : Int32.ofInt x &&& Int32.ofInt 63 = Int32.ofInt (x % 64) := by
  rw [pk_and (Int32.ofInt x) (m := Int32.ofInt 63) 6 (by decide), xnI]
  congr 1
  have h1 : (Int32.ofInt x).toBitVec = BitVec.ofInt 32 x := by first | rfl | simp
  rw [h1]
  have h2 : ((BitVec.ofInt 32 x).toNat : Int) = x % 4294967296 := by
    first | (rw [BitVec.toNat_ofInt]; omega) | (simp [BitVec.toNat_ofInt]; omega)
  have h3 : (((BitVec.ofInt 32 x).toNat % 2 ^ 6 : Nat) : Int) = ((BitVec.ofInt 32 x).toNat : Int) % 64 := by omega
  rw [h3, h2]
  omega
theorem xnar {x : Int} (h : x = 0 ∨ x = 1) : narrow .boolean (.int (Int32.ofInt x)) = .int (Int32.ofInt x) ∧ fits .boolean (.int (Int32.ofInt x)) = true ∧ vp_nar .boolean (Int32.ofInt x) = Int32.ofInt x := by
  rcases h with rfl | rfl <;> exact ⟨by decide, by decide, by decide⟩
/-- one place of one array is changed -/
def xup (f : Int → Int) (i v : Int) : Int → Int := fun j => if j = i then v else f j
def xset (M : xMem) (k : Nat) (i v : Int) : xMem := fun k' => if k' = k then xup (M k) i v else M k'
theorem xup_s (f : Int → Int) (i v : Int) : xup f i v i = v := if_pos rfl
theorem xup_n (f : Int → Int) {i j : Int} (v : Int) (h : j ≠ i) : xup f i v j = f j := if_neg h
theorem xset_s (M : xMem) (k : Nat) (i v : Int) : xset M k i v k = xup (M k) i v := if_pos rfl
theorem xset_n (M : xMem) {k k' : Nat} (i v : Int) (h : k' ≠ k) : xset M k i v k' = M k' := if_neg h
def xrM (M : xMem) : Prop := ∀ k i, xrg (M k i)
theorem xrM_set {M : xMem} {k : Nat} {i v : Int} (h : xrM M) (hv : xrg v) : xrM (xset M k i v) := by
  intro k' j
  by_cases hk : k' = k
  · subst hk
    rw [xset_s]
    by_cases hj : j = i
    · rw [hj, xup_s]
      exact hv
    · rw [xup_n _ _ hj]
      exact h k' j
  · rw [xset_n _ _ _ hk]
    exact h k' j
def xrv : xAV → Prop
  | .inl x => xrg x
  | .inr (.inl x) => xrl x
  | .inr (.inr _) => True
def xcv (G : xG) : xAV → Value
  | .inl x => .int (Int32.ofInt x)
  | .inr (.inl x) => .long (Int64.ofInt x)
  | .inr (.inr none) => .ref (G.2.1 0)
  | .inr (.inr (some k)) => .ref (G.2.1 (k + 1))
def xrL (lv : List (Option xAV)) : Prop := ∀ (i : Nat) (v : xAV), lv[i]? = some (some v) → xrv v
def xrS (st : List xAV) : Prop := ∀ v ∈ st, xrv v
/-- the locals of a frame -/
def xlh (G : xG) (ls : Array Slot) (nL : Nat) (lv : List (Option xAV)) : Prop := ls.size = nL ∧ lv_wf ls ∧ lv.length = nL ∧ ∀ (i : Nat) (v : xAV), lv[i]? = some (some v) → ls[i]? = some (.val (xcv G v))
def xfv (G : xG) (M : xMem) : Nat ⊕ (Nat × Int) → Value
  | .inl k => .ref (G.2.1 (k + 1))
  | .inr j => .int (Int32.ofInt (M j.1 j.2))
def xar (M : xMem) (k : Nat) : Nat → Int32 := fun j => Int32.ofInt (M k (j : Int))
def xce (G : xG) (M : xMem) (k : Nat) : Nat × va_E := (G.2.1 (k + 1), .inl (G.2.2 k, 64, .inl (xar M k)))
/-- the picture of an object -/
def xpx (K : xKl) (G : xG) (M : xMem) : va_W := (G.2.1 0, .inr (K.1, K.2.2.2.2.2.1.map (xfv G M))) :: (List.range K.2.2.1).map (xce G M)
def xty (K : xKl) (G : xG) : List (ClassId × FieldType) := (List.range K.2.2.1).map (fun k => (G.2.2 k, if K.2.2.2.1 k = true then FieldType.boolean else FieldType.int))
theorem xpx_a {K : xKl} {G : xG} {M : xMem} {k : Nat} (h : k < K.2.2.1) : (xpx K G M)[k + 1]? = some (xce G M k) := by
  unfold xpx
  rw [List.getElem?_cons_succ, List.getElem?_map, List.getElem?_range h]
  rfl
theorem xty_a {K : xKl} {G : xG} {k : Nat} (h : k < K.2.2.1) : (xty K G)[k]? = some (G.2.2 k, if K.2.2.2.1 k = true then FieldType.boolean else FieldType.int) := by
  unfold xty
  rw [List.getElem?_map, List.getElem?_range h]
  rfl
theorem xar_set {M : xMem} {k : Nat} {i v : Int} (h0 : 0 ≤ i) : upd (xar M k) i.toNat (Int32.ofInt v) = xar (xset M k i v) k := by
  funext j
  unfold upd xar
  rw [xset_s]
  unfold xup
  by_cases h : j = i.toNat
  · rw [if_pos h, if_pos (by omega)]
  · rw [if_neg h, if_neg (by omega)]
theorem xpx_set {K : xKl} {G : xG} {M : xMem} {k : Nat} {i v : Int} (hn : ∀ q, Sum.inr q ∈ K.2.2.2.2.2.1 → K.2.2.1 ≤ q.1) (h : k < K.2.2.1) (h0 : 0 ≤ i) : (xpx K G M).set (k + 1) (G.2.1 (k + 1), .inl (G.2.2 k, 64, .inl (upd (xar M k) i.toNat (Int32.ofInt v)))) = xpx K G (xset M k i v) := by
  rw [xar_set h0]
  unfold xpx
  rw [List.set_cons_succ]
  congr 1
  · congr 2
    refine congrArg (Prod.mk K.1) ?_
    apply List.map_congr_left
    intro q hq
    cases q with
    | inl a => rfl
    | inr j =>
      have h2 := hn j hq
      show Value.int (Int32.ofInt (M j.1 j.2)) = Value.int (Int32.ofInt (xset M k i v j.1 j.2))
      rw [xset_n _ _ _ (by omega)]
  · apply List.ext_getElem?
    intro j
    by_cases hj : j = k
    · subst hj
      rw [List.getElem?_set_self (by simpa using h), List.getElem?_map, List.getElem?_range h]
      rfl
    · rw [List.getElem?_set_ne (Ne.symm hj), List.getElem?_map, List.getElem?_map]
      by_cases hb : j < K.2.2.1
      · rw [List.getElem?_range hb]
        have e : xar M j = xar (xset M k i v) j := by
          funext q
          unfold xar
          rw [xset_n _ _ _ hj]
        simp only [Option.map_some, xce, e]
      · rw [List.getElem?_eq_none (by simpa using hb)]
        rfl
/-- a number field is changed -/
theorem xpx_put {K : xKl} {G : xG} {M : xMem} {f : Nat} {j : Nat × Int} {v : Int} (hb : ∀ q, Sum.inr q ∈ K.2.2.2.2.2.1 → K.2.2.1 ≤ q.1) (hf : K.2.2.2.2.2.1[f]? = some (.inr j)) (hn : K.2.2.2.2.2.1.Nodup) : (xpx K G M).set 0 (G.2.1 0, .inr (K.1, (K.2.2.2.2.2.1.map (xfv G M)).set f (.int (Int32.ofInt v)))) = xpx K G (xset M j.1 j.2 v) := by
  have hj1 := hb j (List.mem_of_getElem? hf)
  unfold xpx
  rw [List.set_cons_zero]
  congr 1
  · congr 2
    refine congrArg (Prod.mk K.1) ?_
    apply List.ext_getElem?
    intro q
    have hl := (List.getElem?_eq_some_iff.mp hf).1
    by_cases hq : q = f
    · subst hq
      rw [List.getElem?_set_self (by simpa using hl), List.getElem?_map, hf]
      show some _ = some (Value.int (Int32.ofInt (xset M j.1 j.2 v j.1 j.2)))
      rw [xset_s, xup_s]
    · rw [List.getElem?_set_ne (Ne.symm hq), List.getElem?_map, List.getElem?_map]
      cases hc : K.2.2.2.2.2.1[q]? with
      | none => rfl
      | some w =>
        cases w with
        | inl a => rfl
        | inr j' =>
          have hj : j' ≠ j := by
            intro e
            subst e
            exact hq ((List.getElem?_inj (List.getElem?_eq_some_iff.mp hc).1 hn).mp (hc.trans hf.symm))
          show some (Value.int (Int32.ofInt (M j'.1 j'.2))) = some (Value.int (Int32.ofInt (xset M j.1 j.2 v j'.1 j'.2)))
          by_cases e1 : j'.1 = j.1
          · have e2 : j'.2 ≠ j.2 := fun e2 => hj (Prod.ext e1 e2)
            rw [e1, xset_s, xup_n _ _ e2]
          · rw [xset_n _ _ _ e1]
  · apply List.map_congr_left
    intro q hq
    have hq : q < K.2.2.1 := List.mem_range.mp hq
    have e : xar M q = xar (xset M j.1 j.2 v) q := by
      funext z
      unfold xar
      rw [xset_n _ _ _ (by omega)]
    simp only [xce, e]

/-- what is known of a kind of object -/
def xKok (K : xKl) : Prop :=
  vwCl[K.1]? = some K.2.1 ∧ (∀ w ∈ u_ws K.2.1.1 K.2.1.2.1 K.2.1.2.2, w ∈ lw_all) ∧ K.2.2.2.2.2.1.length = K.2.1.2.2 ∧ K.2.2.2.2.2.1.Nodup ∧
  (∀ q ∈ K.2.2.2.2.1, q.2 < K.2.1.2.2 ∧ Cond.fieldLink K.2.1.1 q.1 K.2.1.1 (K.2.1.2.1 q.2).2.1 (K.2.1.2.1 q.2).2.2.1 ∈ lw_all ∧ (K.2.1.2.1 q.2).1 = K.2.1.1) ∧
  (∀ (f : Nat) (j : Nat × Int), K.2.2.2.2.2.1[f]? = some (.inr j) → (K.2.1.2.1 f).2.2.2 = false ∧ (parseFieldDescriptor (K.2.1.2.1 f).2.2.1 = some .int ∨ parseFieldDescriptor (K.2.1.2.1 f).2.2.1 = some .boolean)) ∧
  (∃ ty0 : Nat → FieldType, ∀ k, k < K.2.1.2.2 → parseFieldDescriptor (K.2.1.2.1 k).2.2.1 = some (ty0 k)) ∧
  (∀ a, a < K.2.1.2.2 → ∀ b, b < K.2.1.2.2 → a ≠ b → (K.2.1.2.1 a).2.1 ≠ (K.2.1.2.1 b).2.1) ∧
  (∀ q ∈ K.2.2.2.2.2.2, Cond.constantLong K.2.1.1 q.1 (Int64.ofInt q.2) ∈ lw_all ∧ xrl q.2) ∧ (∀ q, Sum.inr q ∈ K.2.2.2.2.2.1 → K.2.2.1 ≤ q.1) ∧ (∀ f, K.2.2.2.1 (f + 100) = true → parseFieldDescriptor (K.2.1.2.1 f).2.2.1 = some .int)
/-- how long an instruction is -/
def xsz : Instr → Nat
  | .bipush _ => 2
  | .iload _ => 2
  | .istore _ => 2
  | .lload _ => 2
  | .lstore _ => 2
  | .getfield _ => 3
  | .putfield _ => 3
  | .goto _ => 3
  | .ifCond _ _ => 3
  | .if_icmp _ _ => 3
  | .iinc _ _ => 3
  | .invokestatic _ => 3
  | .invokevirtual _ => 3
  | .ldc2_w _ => 3
  | _ => 1
/-- an entry of an instruction table is right -/
def xchk (cc : ByteArray) (q : Nat × Instr × Nat × Nat) : Bool :=
  decide (decode cc q.1 = .ok (q.2.1, xsz q.2.1)) && decide (q.2.2.1 = q.1 + xsz q.2.1) && (match q.2.1 with
    | .goto o => decide ((q.1 : Int) + o = (q.2.2.2 : Int))
    | .ifCond _ o => decide ((q.1 : Int) + o = (q.2.2.2 : Int))
    | .if_icmp _ o => decide ((q.1 : Int) + o = (q.2.2.2 : Int))
    | .iconst n => decide (-128 ≤ n ∧ n ≤ 127)
    | .bipush n => decide (-128 ≤ n ∧ n ≤ 127)
    | _ => true)
def xMok (μ : xMd) : Prop := (∀ q ∈ μ.2.2.2.2, xchk μ.2.1 q = true) ∧ μ.2.2.1 ≤ 14 ∧ plainName μ.1.cls = true
theorem xMok_of {μ : xMd} (h1 : (μ.2.2.2.2.all (xchk μ.2.1)) = true) (h2 : μ.2.2.1 ≤ 14) (h3 : plainName μ.1.cls = true) : xMok μ := ⟨fun q hq => List.all_eq_true.mp h1 q hq, h2, h3⟩
def xrm (k : Nat) : Room := { frames := k, cells := 0, slots := 0, locals := 33 * k }
def xEnv (K : xKl) (μ : xMd) (p : Program) (s : State) (m : MethodId) (args : Array Value) (meth : Method) (c : Code) (G : xG) (A : Nat → Prop) : Prop :=
  p.tables.exec = Jvm.exec ∧ c.code = μ.2.1 ∧ c.maxLocals = μ.2.2.1 ∧ meth.sig.returnType = μ.2.2.2.1 ∧ meth.locks = false ∧ s.vm.findClass K.2.1.1 = some m.cls ∧
  (∀ w ∈ lw_all, w.before args s = true) ∧ (∀ q, s.heap.size ≤ q → A q) ∧ va_K G.1 vwCl (xty K G) s
def xB (K : xKl) (G : xG) (A : Nat → Prop) (M : xMem) (t : State) : Prop := va_P G.1 vwCl (xpx K G M) t.heap ∧ va_K G.1 vwCl (xty K G) t ∧ va_D A (xpx K G M)
def xQ (K : xKl) (μ : xMd) (G : xG) (A : Nat → Prop) (post : Int → xMem → Prop) : Array Value → State → Outcome → State → Prop :=
  match μ.2.2.2.1 with
  | none => va_Qv (fun M' : xMem => xrM M' ∧ post 0 M') (xB K G A) A
  | some _ => va_Qi (fun (r : Int32) (M' : xMem) => ∃ z : Int, r = Int32.ofInt z ∧ xrg z ∧ xrM M' ∧ post z M') (xB K G A) A
def xAt (K : xKl) (μ : xMd) (p : Program) (s : State) (m : MethodId) (args : Array Value) (meth : Method) (c : Code) (G : xG) (A : Nat → Prop) (H : Heap) (locs : List Loc) (ls : Array Slot) (M : xMem) (lv : List (Option xAV)) (st : List xAV) : Prop :=
  xKok K ∧ xMok μ ∧ xEnv K μ p s m args meth c G A ∧ xrM M ∧ xrL lv ∧ xrS st ∧ va_P G.1 vwCl (xpx K G M) H ∧ va_D A (xpx K G M) ∧ va_S A s.heap H locs ∧ xlh G ls μ.2.2.1 lv
/-- THE JUDGEMENT: the method μ at pc, with memory M, locals lv, stack st and room for k frames, comes to its end with 'post answer memory' -/
def xV (K : xKl) (μ : xMd) (k : Nat) (post : Int → xMem → Prop) (M : xMem) (pc : Nat) (lv : List (Option xAV)) (st : List xAV) : Prop :=
  ∀ (p : Program) (l : Launch) (e : Env) (s : State) (m : MethodId) (args : Array Value) (below : List Frame) (meth : Method) (c : Code) (G : xG) (A : Nat → Prop) (H : Heap) (locs : List Loc) (ls : Array Slot),
    xAt K μ p s m args meth c G A H locs ls M lv st →
    W p l e (xrm k) s m args below meth c H locs 0 0 (MQ below (xQ K μ G A post) args s 0 0 A) (F0 m pc ls (st.map (xcv G)))
def xavs (o : Bool) (as : List Int) : List xAV := (if o = true then [.inr (.inr none)] else []) ++ as.map .inl
/-- THE CONTRACT: from memory M with the arguments as, the method μ (of an object if o) ends with 'post answer memory' -/
def xMet (K : xKl) (μ : xMd) (k : Nat) (o : Bool) (M : xMem) (as : List Int) (post : Int → xMem → Prop) : Prop :=
  xrM M → (∀ z ∈ as, xrg z) → ∀ (l : Launch) (G : xG) (sz : Nat),
    Met l μ.1 (ws_ μ.1 μ.2.1 μ.2.2.1 μ.2.2.2.1) (xrm k) (va_Pc ((xavs o as).map (xcv G)) (fun U => U.heap.size = sz ∧ va_P G.1 vwCl (xpx K G M) U.heap ∧ va_K G.1 vwCl (xty K G) U ∧ va_D (fun _ => True) (xpx K G M)))
      (xQ K μ G (va_A (xpx K G M) sz) post) 0 0 (va_A (xpx K G M) sz)
end
section
set_option maxRecDepth 100000
theorem xdec {μ : xMd} (h : xMok μ) {pc nx tg : Nat} {i : Instr} (hq : (pc, i, nx, tg) ∈ μ.2.2.2.2) : decode μ.2.1 pc = .ok (i, xsz i) ∧ nx = pc + xsz i := by
  have h1 := h.1 _ hq
  unfold xchk at h1
  simp only [Bool.and_eq_true, decide_eq_true_eq] at h1
  exact ⟨h1.1.1, h1.1.2⟩
theorem xdec_goto {μ : xMd} (h : xMok μ) {pc nx tg : Nat} {o : Int} (hq : (pc, .goto o, nx, tg) ∈ μ.2.2.2.2) : (pc : Int) + o = (tg : Int) := by
  have h1 := h.1 _ hq
  unfold xchk at h1
  simp only [Bool.and_eq_true, decide_eq_true_eq] at h1
  exact h1.2
theorem xdec_if {μ : xMd} (h : xMok μ) {pc nx tg : Nat} {b : Jvm.ClassFile.Cond} {o : Int} (hq : (pc, .ifCond b o, nx, tg) ∈ μ.2.2.2.2) : (pc : Int) + o = (tg : Int) := by
  have h1 := h.1 _ hq
  unfold xchk at h1
  simp only [Bool.and_eq_true, decide_eq_true_eq] at h1
  exact h1.2
theorem xdec_icmp {μ : xMd} (h : xMok μ) {pc nx tg : Nat} {b : Jvm.ClassFile.Cond} {o : Int} (hq : (pc, .if_icmp b o, nx, tg) ∈ μ.2.2.2.2) : (pc : Int) + o = (tg : Int) := by
  have h1 := h.1 _ hq
  unfold xchk at h1
  simp only [Bool.and_eq_true, decide_eq_true_eq] at h1
  exact h1.2
theorem xdec_iconst {μ : xMd} (h : xMok μ) {pc nx tg : Nat} {n : Int} (hq : (pc, .iconst n, nx, tg) ∈ μ.2.2.2.2) : -128 ≤ n ∧ n ≤ 127 := by
  have h1 := h.1 _ hq
  unfold xchk at h1
  simp only [Bool.and_eq_true, decide_eq_true_eq] at h1
  exact h1.2
theorem xdec_bipush {μ : xMd} (h : xMok μ) {pc nx tg : Nat} {n : Int} (hq : (pc, .bipush n, nx, tg) ∈ μ.2.2.2.2) : -128 ≤ n ∧ n ≤ 127 := by
  have h1 := h.1 _ hq
  unfold xchk at h1
  simp only [Bool.and_eq_true, decide_eq_true_eq] at h1
  exact h1.2
theorem xi8 {n : Int} (h1 : -128 ≤ n) (h2 : n ≤ 127) : (Int8.ofInt n).toInt32 = Int32.ofInt n := by
  rw [← Int32.toInt_inj, xt32 ⟨by omega, by omega⟩]
  first
    | (rw [Int8.toInt_toInt32, Int8.toInt_ofInt_of_le (by omega) (by omega)])
    | simp [Int8.toInt_ofInt_of_le (show -2 ^ 7 ≤ n by omega) (show n < 2 ^ 7 by omega)]
theorem xrS_p {v : xAV} {st : List xAV} (h : xrv v) (hs : xrS st) : xrS (v :: st) := by
  intro w hw
  rcases List.mem_cons.mp hw with e | e
  · rw [e]; exact h
  · exact hs w e
theorem xrS_t {v : xAV} {st : List xAV} (hs : xrS (v :: st)) : xrS st := fun w hw => hs w (List.mem_cons_of_mem _ hw)
theorem xrS_h {v : xAV} {st : List xAV} (hs : xrS (v :: st)) : xrv v := hs v List.mem_cons_self
theorem xrL_s {lv : List (Option xAV)} {i : Nat} {v : xAV} (h : xrL lv) (hv : xrv v) : xrL (lv.set i (some v)) := by
  intro j w hw
  by_cases e : j = i
  · subst e
    by_cases hl : j < lv.length
    · rw [List.getElem?_set_self hl] at hw
      cases hw
      exact hv
    · rw [List.getElem?_eq_none (by simpa using hl)] at hw
      cases hw
  · rw [List.getElem?_set_ne (Ne.symm e)] at hw
    exact h j w hw
theorem xrL_n {lv : List (Option xAV)} {i : Nat} (h : xrL lv) : xrL (lv.set i none) := by
  intro j w hw
  by_cases e : j = i
  · subst e
    by_cases hl : j < lv.length
    · rw [List.getElem?_set_self hl] at hw
      cases hw
    · rw [List.getElem?_eq_none (by simpa using hl)] at hw
      cases hw
  · rw [List.getElem?_set_ne (Ne.symm e)] at hw
    exact h j w hw
/-- the locals as the kit lists them -/
def xkl (G : xG) (lv : List (Option xAV)) : List (Nat × Value) := (List.range lv.length).filterMap (fun i => match lv[i]? with
  | some (some v) => some (i, xcv G v)
  | _ => none)
theorem xkl_in {G : xG} {lv : List (Option xAV)} {i : Nat} {v : xAV} (h : lv[i]? = some (some v)) : (i, xcv G v) ∈ xkl G lv := by
  unfold xkl
  refine List.mem_filterMap.mpr ⟨i, List.mem_range.mpr (List.getElem?_eq_some_iff.mp h).1, ?_⟩
  rw [h]
theorem xkl_of {G : xG} {lv : List (Option xAV)} {q : Nat × Value} (h : q ∈ xkl G lv) : ∃ v, lv[q.1]? = some (some v) ∧ q.2 = xcv G v := by
  unfold xkl at h
  obtain ⟨i, -, hi⟩ := List.mem_filterMap.mp h
  split at hi
  · rename_i v hv
    cases hi
    exact ⟨v, hv, rfl⟩
  · cases hi
theorem xlh_has {G : xG} {ls : Array Slot} {nL : Nat} {lv : List (Option xAV)} (h : xlh G ls nL lv) : lv_has ls nL (xkl G lv) := by
  refine ⟨h.1, h.2.1, fun q hq => ?_⟩
  obtain ⟨v, h1, h2⟩ := xkl_of hq
  rw [h2]
  exact h.2.2.2 _ _ h1
/-- no long value starts just ahead of the place i -/
def xnl (lv : List (Option xAV)) : Nat → Bool
  | 0 => true
  | j + 1 => match lv[j]? with
    | some (some (.inr (.inl _))) => false
    | _ => true
theorem xcat {G : xG} {v : xAV} (h : ∀ x, v ≠ .inr (.inl x)) : (xcv G v).category = 1 := by
  match v with
  | .inl x => rfl
  | .inr (.inl x) => exact absurd rfl (h x)
  | .inr (.inr none) => rfl
  | .inr (.inr (some k)) => rfl
theorem xnl_ok {lv : List (Option xAV)} {i j : Nat} {v : xAV} (h : xnl lv i = true) (hj : j + 1 = i) (hv : lv[j]? = some (some v)) : ∀ x, v ≠ .inr (.inl x) := by
  subst hj
  intro x e
  subst e
  simp [xnl, hv] at h
theorem xlh_1 {G : xG} {ls ls' : Array Slot} {nL i : Nat} {lv : List (Option xAV)} {v : xAV} (h : xlh G ls nL lv) (hn : xnl lv i = true) (hi : i < nL) (h' : lv_has ls' nL ((i, xcv G v) :: (xkl G lv).filter (fun q => !(q.1 == i) && !(q.1 + 1 == i && q.2.category == 2)))) : xlh G ls' nL (lv.set i (some v)) := by
  refine ⟨h'.1, h'.2.1, by rw [List.length_set]; exact h.2.2.1, fun j w hw => ?_⟩
  by_cases e : j = i
  · subst e
    rw [List.getElem?_set_self (by rw [h.2.2.1]; exact hi)] at hw
    cases hw
    exact h'.2.2 _ List.mem_cons_self
  · rw [List.getElem?_set_ne (Ne.symm e)] at hw
    refine h'.2.2 (j, xcv G w) (List.mem_cons_of_mem _ (List.mem_filter.mpr ⟨xkl_in hw, ?_⟩))
    by_cases e2 : j + 1 = i
    · have := xcat (G := G) (xnl_ok hn e2 hw)
      simp [e, this]
    · simp [e, e2]
theorem xlh_2 {G : xG} {ls ls' : Array Slot} {nL i : Nat} {lv : List (Option xAV)} {v : xAV} (h : xlh G ls nL lv) (hn : xnl lv i = true) (hi : i + 1 < nL) (h' : lv_has ls' nL ((i, xcv G v) :: (xkl G lv).filter (fun q => !(q.1 == i) && (!(q.1 == i + 1) && !(q.1 + 1 == i && q.2.category == 2))))) : xlh G ls' nL ((lv.set i (some v)).set (i + 1) none) := by
  refine ⟨h'.1, h'.2.1, by rw [List.length_set, List.length_set]; exact h.2.2.1, fun j w hw => ?_⟩
  have e3 : j ≠ i + 1 := by
    intro e3
    subst e3
    rw [List.getElem?_set_self (by rw [List.length_set, h.2.2.1]; exact hi)] at hw
    cases hw
  rw [List.getElem?_set_ne (Ne.symm e3)] at hw
  by_cases e : j = i
  · subst e
    rw [List.getElem?_set_self (by rw [h.2.2.1]; omega)] at hw
    cases hw
    exact h'.2.2 _ List.mem_cons_self
  · rw [List.getElem?_set_ne (Ne.symm e)] at hw
    refine h'.2.2 (j, xcv G w) (List.mem_cons_of_mem _ (List.mem_filter.mpr ⟨xkl_in hw, ?_⟩))
    by_cases e2 : j + 1 = i
    · have := xcat (G := G) (xnl_ok hn e2 hw)
      simp [e, e3, this]
    · simp [e, e2, e3]
theorem xin64 {x : Int} (h0 : 0 ≤ x) (h1 : x < 64) : vp_in (Int32.ofInt x) 64 ∧ (Int32.ofInt x).toNatClampNeg = x.toNat ∧ ((x.toNat : Nat) : Int) = x := by
  have e : (Int32.ofInt x).toInt = x := xt32 ⟨by omega, by omega⟩
  refine ⟨vp_in_iff.mpr ⟨by omega, by omega⟩, ?_, Int.toNat_of_nonneg h0⟩
  show (Int32.ofInt x).toInt.toNat = x.toNat
  rw [e]
section RULES
variable {K : xKl} {μ : xMd} {k : Nat} {post : Int → xMem → Prop} {M : xMem} {pc nx tg : Nat} {lv : List (Option xAV)} {st : List xAV}
theorem xr_iconst {n : Int} (hq : (pc, .iconst n, nx, tg) ∈ μ.2.2.2.2) (kk : xV K μ k post M nx lv (.inl n :: st)) : xV K μ k post M pc lv st := by
  intro p l e s m args below meth c G A H locs ls X
  obtain ⟨hK, hμ, E, hM, hL, hS, hP, hD, hSS, hl⟩ := X
  obtain ⟨hd, rfl⟩ := xdec hμ hq
  have hr := xdec_iconst hμ hq
  refine lv_iconst E.1 E.2.1 hd rfl ?_
  exact kk p l e s m args below meth c G A H locs ls ⟨hK, hμ, E, hM, hL, xrS_p ⟨by omega, by omega⟩ hS, hP, hD, hSS, hl⟩
theorem xr_bipush {n : Int} (hq : (pc, .bipush n, nx, tg) ∈ μ.2.2.2.2) (kk : xV K μ k post M nx lv (.inl n :: st)) : xV K μ k post M pc lv st := by
  intro p l e s m args below meth c G A H locs ls X
  obtain ⟨hK, hμ, E, hM, hL, hS, hP, hD, hSS, hl⟩ := X
  obtain ⟨hd, rfl⟩ := xdec hμ hq
  have hr := xdec_bipush hμ hq
  refine lv_bipush E.1 E.2.1 hd (xi8 hr.1 hr.2) ?_
  exact kk p l e s m args below meth c G A H locs ls ⟨hK, hμ, E, hM, hL, xrS_p ⟨by omega, by omega⟩ hS, hP, hD, hSS, hl⟩
theorem xr_iload_n {n : Fin 4} {x : Int} (hq : (pc, .iload_n n, nx, tg) ∈ μ.2.2.2.2) (hx : lv[(n : Nat)]? = some (some (.inl x))) (kk : xV K μ k post M nx lv (.inl x :: st)) : xV K μ k post M pc lv st := by
  intro p l e s m args below meth c G A H locs ls X
  obtain ⟨hK, hμ, E, hM, hL, hS, hP, hD, hSS, hl⟩ := X
  obtain ⟨hd, rfl⟩ := xdec hμ hq
  refine lv_iload_n E.1 E.2.1 hd rfl (hl.2.2.2 _ _ hx) ?_
  exact kk p l e s m args below meth c G A H locs ls ⟨hK, hμ, E, hM, hL, xrS_p (hL _ _ hx) hS, hP, hD, hSS, hl⟩
theorem xr_iload {n : Nat} {x : Int} (hq : (pc, .iload n, nx, tg) ∈ μ.2.2.2.2) (hx : lv[n]? = some (some (.inl x))) (kk : xV K μ k post M nx lv (.inl x :: st)) : xV K μ k post M pc lv st := by
  intro p l e s m args below meth c G A H locs ls X
  obtain ⟨hK, hμ, E, hM, hL, hS, hP, hD, hSS, hl⟩ := X
  obtain ⟨hd, rfl⟩ := xdec hμ hq
  refine lv_iload E.1 E.2.1 hd (hl.2.2.2 _ _ hx) ?_
  exact kk p l e s m args below meth c G A H locs ls ⟨hK, hμ, E, hM, hL, xrS_p (hL _ _ hx) hS, hP, hD, hSS, hl⟩
theorem xr_aload_n {n : Fin 4} {x : Option Nat} (hq : (pc, .aload_n n, nx, tg) ∈ μ.2.2.2.2) (hx : lv[(n : Nat)]? = some (some (.inr (.inr x)))) (kk : xV K μ k post M nx lv (.inr (.inr x) :: st)) : xV K μ k post M pc lv st := by
  intro p l e s m args below meth c G A H locs ls X
  obtain ⟨hK, hμ, E, hM, hL, hS, hP, hD, hSS, hl⟩ := X
  obtain ⟨hd, rfl⟩ := xdec hμ hq
  have h0 := hl.2.2.2 _ _ hx
  have k0 := kk p l e s m args below meth c G A H locs ls ⟨hK, hμ, E, hM, hL, xrS_p (hL _ _ hx) hS, hP, hD, hSS, hl⟩
  cases x with
  | none => exact lv_aload_n E.1 E.2.1 hd rfl h0 k0
  | some a => exact lv_aload_n E.1 E.2.1 hd rfl h0 k0
theorem xr_lload {n : Nat} {x : Int} (hq : (pc, .lload n, nx, tg) ∈ μ.2.2.2.2) (hx : lv[n]? = some (some (.inr (.inl x)))) (kk : xV K μ k post M nx lv (.inr (.inl x) :: st)) : xV K μ k post M pc lv st := by
  intro p l e s m args below meth c G A H locs ls X
  obtain ⟨hK, hμ, E, hM, hL, hS, hP, hD, hSS, hl⟩ := X
  obtain ⟨hd, rfl⟩ := xdec hμ hq
  refine lv_lload E.1 E.2.1 hd (hl.2.2.2 _ _ hx) ?_
  exact kk p l e s m args below meth c G A H locs ls ⟨hK, hμ, E, hM, hL, xrS_p (hL _ _ hx) hS, hP, hD, hSS, hl⟩
theorem xr_istore_n {n : Fin 4} {x : Int} {o : Option xAV} (hq : (pc, .istore_n n, nx, tg) ∈ μ.2.2.2.2) (hi : lv[(n : Nat)]? = some o) (hn : xnl lv n = true) (kk : xV K μ k post M nx (lv.set n (some (.inl x))) st) : xV K μ k post M pc lv (.inl x :: st) := by
  intro p l e s m args below meth c G A H locs ls X
  obtain ⟨hK, hμ, E, hM, hL, hS, hP, hD, hSS, hl⟩ := X
  obtain ⟨hd, rfl⟩ := xdec hμ hq
  have hlt : (n : Nat) < μ.2.2.1 := by rw [← hl.2.2.1]; exact (List.getElem?_eq_some_iff.mp hi).1
  refine lv_istore_n E.1 E.2.1 hd rfl (xlh_has hl) hlt rfl (fun ls' h' => ?_)
  exact kk p l e s m args below meth c G A H locs ls' ⟨hK, hμ, E, hM, xrL_s hL (xrS_h hS), xrS_t hS, hP, hD, hSS, xlh_1 hl hn hlt h'⟩
theorem xr_istore {n : Nat} {x : Int} {o : Option xAV} (hq : (pc, .istore n, nx, tg) ∈ μ.2.2.2.2) (hi : lv[n]? = some o) (hn : xnl lv n = true) (kk : xV K μ k post M nx (lv.set n (some (.inl x))) st) : xV K μ k post M pc lv (.inl x :: st) := by
  intro p l e s m args below meth c G A H locs ls X
  obtain ⟨hK, hμ, E, hM, hL, hS, hP, hD, hSS, hl⟩ := X
  obtain ⟨hd, rfl⟩ := xdec hμ hq
  have hlt : (n : Nat) < μ.2.2.1 := by rw [← hl.2.2.1]; exact (List.getElem?_eq_some_iff.mp hi).1
  refine lv_istore E.1 E.2.1 hd (xlh_has hl) hlt rfl (fun ls' h' => ?_)
  exact kk p l e s m args below meth c G A H locs ls' ⟨hK, hμ, E, hM, xrL_s hL (xrS_h hS), xrS_t hS, hP, hD, hSS, xlh_1 hl hn hlt h'⟩
theorem xr_lstore {n : Nat} {x : Int} {o : Option xAV} (hq : (pc, .lstore n, nx, tg) ∈ μ.2.2.2.2) (hi : lv[n + 1]? = some o) (hn : xnl lv n = true) (kk : xV K μ k post M nx ((lv.set n (some (.inr (.inl x)))).set (n + 1) none) st) : xV K μ k post M pc lv (.inr (.inl x) :: st) := by
  intro p l e s m args below meth c G A H locs ls X
  obtain ⟨hK, hμ, E, hM, hL, hS, hP, hD, hSS, hl⟩ := X
  obtain ⟨hd, rfl⟩ := xdec hμ hq
  have hlt : n + 1 < μ.2.2.1 := by rw [← hl.2.2.1]; exact (List.getElem?_eq_some_iff.mp hi).1
  refine lv_lstore E.1 E.2.1 hd (xlh_has hl) hlt rfl (fun ls' h' => ?_)
  exact kk p l e s m args below meth c G A H locs ls' ⟨hK, hμ, E, hM, xrL_n (xrL_s hL (xrS_h hS)), xrS_t hS, hP, hD, hSS, xlh_2 hl hn hlt h'⟩
theorem xr_iinc {n : Nat} {a x : Int} (hq : (pc, .iinc n a, nx, tg) ∈ μ.2.2.2.2) (hx : lv[n]? = some (some (.inl x))) (hn : xnl lv n = true) (hc : xrg (x + a)) (kk : xV K μ k post M nx (lv.set n (some (.inl (x + a)))) st) : xV K μ k post M pc lv st := by
  intro p l e s m args below meth c G A H locs ls X
  obtain ⟨hK, hμ, E, hM, hL, hS, hP, hD, hSS, hl⟩ := X
  obtain ⟨hd, rfl⟩ := xdec hμ hq
  have hlt : (n : Nat) < μ.2.2.1 := by rw [← hl.2.2.1]; exact (List.getElem?_eq_some_iff.mp hx).1
  obtain ⟨j, hj⟩ := List.getElem?_of_mem (xkl_in (G := G) hx)
  refine lv_iinc E.1 E.2.1 hd (xlh_has hl) hj (Int32.ofInt_add x a).symm hlt rfl (fun ls' h' => ?_)
  exact kk p l e s m args below meth c G A H locs ls' ⟨hK, hμ, E, hM, xrL_s hL hc, hS, hP, hD, hSS, xlh_1 (v := .inl (x + a)) hl hn hlt h'⟩
theorem xr_iadd {x y : Int} (hq : (pc, .iadd, nx, tg) ∈ μ.2.2.2.2) (hc : xrg (x + y)) (kk : xV K μ k post M nx lv (.inl (x + y) :: st)) : xV K μ k post M pc lv (.inl y :: .inl x :: st) := by
  intro p l e s m args below meth c G A H locs ls X
  obtain ⟨hK, hμ, E, hM, hL, hS, hP, hD, hSS, hl⟩ := X
  obtain ⟨hd, rfl⟩ := xdec hμ hq
  refine lv_iadd E.1 E.2.1 hd ?_
  rw [← Int32.ofInt_add]
  exact kk p l e s m args below meth c G A H locs ls ⟨hK, hμ, E, hM, hL, xrS_p hc (xrS_t (xrS_t hS)), hP, hD, hSS, hl⟩
theorem xr_iaddw {x y : Int} (hq : (pc, .iadd, nx, tg) ∈ μ.2.2.2.2) (kk : xV K μ k post M nx lv (.inl (xwr (x + y)) :: st)) : xV K μ k post M pc lv (.inl y :: .inl x :: st) := by
  intro p l e s m args below meth c G A H locs ls X
  obtain ⟨hK, hμ, E, hM, hL, hS, hP, hD, hSS, hl⟩ := X
  obtain ⟨hd, rfl⟩ := xdec hμ hq
  refine lv_iadd E.1 E.2.1 hd ?_
  rw [← Int32.ofInt_add, ← xwr_of]
  exact kk p l e s m args below meth c G A H locs ls ⟨hK, hμ, E, hM, hL, xrS_p (xrg_wr _) (xrS_t (xrS_t hS)), hP, hD, hSS, hl⟩
theorem xr_isub {x y : Int} (hq : (pc, .isub, nx, tg) ∈ μ.2.2.2.2) (hc : xrg (x - y)) (kk : xV K μ k post M nx lv (.inl (x - y) :: st)) : xV K μ k post M pc lv (.inl y :: .inl x :: st) := by
  intro p l e s m args below meth c G A H locs ls X
  obtain ⟨hK, hμ, E, hM, hL, hS, hP, hD, hSS, hl⟩ := X
  obtain ⟨hd, rfl⟩ := xdec hμ hq
  refine lv_isub E.1 E.2.1 hd ?_
  rw [← Int32.ofInt_sub]
  exact kk p l e s m args below meth c G A H locs ls ⟨hK, hμ, E, hM, hL, xrS_p hc (xrS_t (xrS_t hS)), hP, hD, hSS, hl⟩
theorem xr_imul {x y : Int} (hq : (pc, .imul, nx, tg) ∈ μ.2.2.2.2) (hc : xrg (x * y)) (kk : xV K μ k post M nx lv (.inl (x * y) :: st)) : xV K μ k post M pc lv (.inl y :: .inl x :: st) := by
  intro p l e s m args below meth c G A H locs ls X
  obtain ⟨hK, hμ, E, hM, hL, hS, hP, hD, hSS, hl⟩ := X
  obtain ⟨hd, rfl⟩ := xdec hμ hq
  refine lv_imul E.1 E.2.1 hd ?_
  rw [← Int32.ofInt_mul]
  exact kk p l e s m args below meth c G A H locs ls ⟨hK, hμ, E, hM, hL, xrS_p hc (xrS_t (xrS_t hS)), hP, hD, hSS, hl⟩
theorem xr_imulw {x y : Int} (hq : (pc, .imul, nx, tg) ∈ μ.2.2.2.2) (kk : xV K μ k post M nx lv (.inl (xwr (x * y)) :: st)) : xV K μ k post M pc lv (.inl y :: .inl x :: st) := by
  intro p l e s m args below meth c G A H locs ls X
  obtain ⟨hK, hμ, E, hM, hL, hS, hP, hD, hSS, hl⟩ := X
  obtain ⟨hd, rfl⟩ := xdec hμ hq
  refine lv_imul E.1 E.2.1 hd ?_
  rw [← Int32.ofInt_mul, ← xwr_of]
  exact kk p l e s m args below meth c G A H locs ls ⟨hK, hμ, E, hM, hL, xrS_p (xrg_wr _) (xrS_t (xrS_t hS)), hP, hD, hSS, hl⟩
theorem xr_idiv {x y : Int} (hq : (pc, .idiv, nx, tg) ∈ μ.2.2.2.2) (hc : 0 ≤ x ∧ 0 < y) (kk : xV K μ k post M nx lv (.inl (x / y) :: st)) : xV K μ k post M pc lv (.inl y :: .inl x :: st) := by
  intro p l e s m args below meth c G A H locs ls X
  obtain ⟨hK, hμ, E, hM, hL, hS, hP, hD, hSS, hl⟩ := X
  obtain ⟨hd, rfl⟩ := xdec hμ hq
  have hy : xrg y := xrS_h hS
  have hx : xrg x := xrS_h (xrS_t hS)
  refine lv_idiv E.1 E.2.1 hd (fun h => ?_) ?_
  · rw [xz, xeq hy xrg0] at h
    omega
  · rw [xdiv hx hy hc.1 hc.2]
    exact kk p l e s m args below meth c G A H locs ls ⟨hK, hμ, E, hM, hL, xrS_p (xrg_div hx hc.1 hc.2) (xrS_t (xrS_t hS)), hP, hD, hSS, hl⟩
theorem xr_irem {x y : Int} (hq : (pc, .irem, nx, tg) ∈ μ.2.2.2.2) (hc : 0 ≤ x ∧ 0 < y) (kk : xV K μ k post M nx lv (.inl (x % y) :: st)) : xV K μ k post M pc lv (.inl y :: .inl x :: st) := by
  intro p l e s m args below meth c G A H locs ls X
  obtain ⟨hK, hμ, E, hM, hL, hS, hP, hD, hSS, hl⟩ := X
  obtain ⟨hd, rfl⟩ := xdec hμ hq
  have hy : xrg y := xrS_h hS
  have hx : xrg x := xrS_h (xrS_t hS)
  refine lv_irem E.1 E.2.1 hd (fun h => ?_) ?_
  · rw [xz, xeq hy xrg0] at h
    omega
  · rw [xrem hx hy hc.1 hc.2]
    exact kk p l e s m args below meth c G A H locs ls ⟨hK, hμ, E, hM, hL, xrS_p (xrg_mod hy hc.2) (xrS_t (xrS_t hS)), hP, hD, hSS, hl⟩
theorem xr_iand {x y : Int} (hq : (pc, .iand, nx, tg) ∈ μ.2.2.2.2) (hc : y = 63) (kk : xV K μ k post M nx lv (.inl (x % 64) :: st)) : xV K μ k post M pc lv (.inl y :: .inl x :: st) := by
  intro p l e s m args below meth c G A H locs ls X
  obtain ⟨hK, hμ, E, hM, hL, hS, hP, hD, hSS, hl⟩ := X
  obtain ⟨hd, rfl⟩ := xdec hμ hq
  subst hc
  refine lv_iand E.1 E.2.1 hd ?_
  rw [xand63]
  exact kk p l e s m args below meth c G A H locs ls ⟨hK, hμ, E, hM, hL, xrS_p ⟨by omega, by omega⟩ (xrS_t (xrS_t hS)), hP, hD, hSS, hl⟩
theorem xr_goto {o : Int} (hq : (pc, .goto o, nx, tg) ∈ μ.2.2.2.2) (kk : xV K μ k post M tg lv st) : xV K μ k post M pc lv st := by
  intro p l e s m args below meth c G A H locs ls X
  obtain ⟨hK, hμ, E, hM, hL, hS, hP, hD, hSS, hl⟩ := X
  obtain ⟨hd, rfl⟩ := xdec hμ hq
  refine lv_goto (tgt := tg) E.1 E.2.1 hd (xdec_goto hμ hq) ?_
  exact kk p l e s m args below meth c G A H locs ls ⟨hK, hμ, E, hM, hL, hS, hP, hD, hSS, hl⟩
theorem xr_pop {x : Int} (hq : (pc, .pop, nx, tg) ∈ μ.2.2.2.2) (kk : xV K μ k post M nx lv st) : xV K μ k post M pc lv (.inl x :: st) := by
  intro p l e s m args below meth c G A H locs ls X
  obtain ⟨hK, hμ, E, hM, hL, hS, hP, hD, hSS, hl⟩ := X
  obtain ⟨hd, rfl⟩ := xdec hμ hq
  refine lv_pop (va := .int (Int32.ofInt x)) E.1 E.2.1 hd rfl ?_
  exact kk p l e s m args below meth c G A H locs ls ⟨hK, hμ, E, hM, hL, xrS_t hS, hP, hD, hSS, hl⟩
theorem xr_dup (hq : (pc, .dup, nx, tg) ∈ μ.2.2.2.2) (kk : xV K μ k post M nx lv (.inr (.inr none) :: .inr (.inr none) :: st)) : xV K μ k post M pc lv (.inr (.inr none) :: st) := by
  intro p l e s m args below meth c G A H locs ls X
  obtain ⟨hK, hμ, E, hM, hL, hS, hP, hD, hSS, hl⟩ := X
  obtain ⟨hd, rfl⟩ := xdec hμ hq
  refine lv_dup (va := .ref (G.2.1 0)) E.1 E.2.1 hd rfl ?_
  exact kk p l e s m args below meth c G A H locs ls ⟨hK, hμ, E, hM, hL, xrS_p trivial hS, hP, hD, hSS, hl⟩
theorem xr_i2l {x : Int} (hq : (pc, .i2l, nx, tg) ∈ μ.2.2.2.2) (kk : xV K μ k post M nx lv (.inr (.inl x) :: st)) : xV K μ k post M pc lv (.inl x :: st) := by
  intro p l e s m args below meth c G A H locs ls X
  obtain ⟨hK, hμ, E, hM, hL, hS, hP, hD, hSS, hl⟩ := X
  obtain ⟨hd, rfl⟩ := xdec hμ hq
  have hx : xrg x := xrS_h hS
  have hx2 : xrl x := ⟨by have := hx.1; omega, by have := hx.2; omega⟩
  refine lv_i2l (v := Int64.ofInt x) E.1 E.2.1 hd ?_ ?_
  · rw [← Int64.toInt_inj, Int32.toInt_toInt64, xt32 hx, xt64 hx2]
  · exact kk p l e s m args below meth c G A H locs ls ⟨hK, hμ, E, hM, hL, xrS_p hx2 (xrS_t hS), hP, hD, hSS, hl⟩
theorem xr_l2i {x : Int} (hq : (pc, .l2i, nx, tg) ∈ μ.2.2.2.2) (hc : xrg x) (kk : xV K μ k post M nx lv (.inl x :: st)) : xV K μ k post M pc lv (.inr (.inl x) :: st) := by
  intro p l e s m args below meth c G A H locs ls X
  obtain ⟨hK, hμ, E, hM, hL, hS, hP, hD, hSS, hl⟩ := X
  obtain ⟨hd, rfl⟩ := xdec hμ hq
  have hx2 : xrl x := ⟨by have := hc.1; omega, by have := hc.2; omega⟩
  refine lv_l2i (v := Int32.ofInt x) E.1 E.2.1 hd ?_ ?_
  · have e : Int64.ofInt x = (Int32.ofInt x).toInt64 := by
      rw [← Int64.toInt_inj, Int32.toInt_toInt64, xt32 hc, xt64 hx2]
    rw [e]
    exact Int32.toInt32_toInt64 _
  · exact kk p l e s m args below meth c G A H locs ls ⟨hK, hμ, E, hM, hL, xrS_p hc (xrS_t hS), hP, hD, hSS, hl⟩
theorem xr_ladd {x y : Int} (hq : (pc, .ladd, nx, tg) ∈ μ.2.2.2.2) (hc : xrl (x + y)) (kk : xV K μ k post M nx lv (.inr (.inl (x + y)) :: st)) : xV K μ k post M pc lv (.inr (.inl y) :: .inr (.inl x) :: st) := by
  intro p l e s m args below meth c G A H locs ls X
  obtain ⟨hK, hμ, E, hM, hL, hS, hP, hD, hSS, hl⟩ := X
  obtain ⟨hd, rfl⟩ := xdec hμ hq
  refine lv_ladd E.1 E.2.1 hd ?_
  rw [← Int64.ofInt_add]
  exact kk p l e s m args below meth c G A H locs ls ⟨hK, hμ, E, hM, hL, xrS_p hc (xrS_t (xrS_t hS)), hP, hD, hSS, hl⟩
theorem xr_lconst {n : Fin 2} (hq : (pc, .lconst n, nx, tg) ∈ μ.2.2.2.2) (kk : xV K μ k post M nx lv (.inr (.inl ((n : Nat) : Int)) :: st)) : xV K μ k post M pc lv st := by
  intro p l e s m args below meth c G A H locs ls X
  obtain ⟨hK, hμ, E, hM, hL, hS, hP, hD, hSS, hl⟩ := X
  obtain ⟨hd, rfl⟩ := xdec hμ hq
  have hn : (n : Nat) < 2 := n.2
  refine lv_lconst (v := Int64.ofInt ((n : Nat) : Int)) E.1 E.2.1 hd ?_ ?_
  · first | exact (Int64.ofInt_eq_ofNat).symm | (simp)
  · exact kk p l e s m args below meth c G A H locs ls ⟨hK, hμ, E, hM, hL, xrS_p ⟨by omega, by omega⟩ hS, hP, hD, hSS, hl⟩
theorem xr_ldc2 {n : Nat} {x : Int} (hq : (pc, .ldc2_w n, nx, tg) ∈ μ.2.2.2.2) (hx : (n, x) ∈ K.2.2.2.2.2.2) (kk : xV K μ k post M nx lv (.inr (.inl x) :: st)) : xV K μ k post M pc lv st := by
  intro p l e s m args below meth c G A H locs ls X
  obtain ⟨hK, hμ, E, hM, hL, hS, hP, hD, hSS, hl⟩ := X
  obtain ⟨hd, rfl⟩ := xdec hμ hq
  obtain ⟨h1, h2⟩ := hK.2.2.2.2.2.2.2.2.1 _ hx
  refine lv_ldc2 E.1 E.2.1 E.2.2.2.2.2.1 (E.2.2.2.2.2.2.1 _ h1) hd ?_
  exact kk p l e s m args below meth c G A H locs ls ⟨hK, hμ, E, hM, hL, xrS_p h2 hS, hP, hD, hSS, hl⟩
theorem xr_lcmp {x y : Int} (hq : (pc, .lcmp, nx, tg) ∈ μ.2.2.2.2) (kk : xV K μ k post M nx lv (.inl (if y < x then 1 else if x = y then 0 else -1) :: st)) : xV K μ k post M pc lv (.inr (.inl y) :: .inr (.inl x) :: st) := by
  intro p l e s m args below meth c G A H locs ls X
  obtain ⟨hK, hμ, E, hM, hL, hS, hP, hD, hSS, hl⟩ := X
  obtain ⟨hd, rfl⟩ := xdec hμ hq
  have hy : xrl y := xrS_h hS
  have hx : xrl x := xrS_h (xrS_t hS)
  refine W.lcmp E.1 E.2.1 hd ?_
  have e1 : lg_cmp (Int64.ofInt x) (Int64.ofInt y) = Int32.ofInt (if y < x then 1 else if x = y then 0 else -1) := by
    unfold lg_cmp
    simp only [gt_iff_lt, Int64.lt_iff_toInt_lt, ← Int64.toInt_inj, xt64 hx, xt64 hy]
    by_cases h1 : y < x
    · simp only [h1, if_true]; decide
    · by_cases h2 : x = y
      · simp only [h1, h2, if_true, if_false]; simp
      · simp only [h1, h2, if_false]; decide
  rw [e1]
  exact kk p l e s m args below meth c G A H locs ls ⟨hK, hμ, E, hM, hL, xrS_p (by
    show xrg _
    split
    · exact ⟨by decide, by decide⟩
    · split
      · exact ⟨by decide, by decide⟩
      · exact ⟨by decide, by decide⟩) (xrS_t (xrS_t hS)), hP, hD, hSS, hl⟩
end RULES
end
section
set_option maxRecDepth 100000
section RULES
variable {K : xKl} {μ : xMd} {k : Nat} {post : Int → xMem → Prop} {M : xMem} {pc nx tg : Nat} {lv : List (Option xAV)} {st : List xAV}
/-- what a field holds -/
def xfa (M : xMem) : Nat ⊕ (Nat × Int) → xAV
  | .inl k => .inr (.inr (some k))
  | .inr j => .inl (M j.1 j.2)
theorem xfa_v (G : xG) (M : xMem) (q : Nat ⊕ (Nat × Int)) : xfv G M q = xcv G (xfa M q) := by cases q <;> rfl
theorem xr_getf {n f : Nat} {w : Nat ⊕ (Nat × Int)} (hq : (pc, .getfield n, nx, tg) ∈ μ.2.2.2.2) (hn : (n, f) ∈ K.2.2.2.2.1) (hw : K.2.2.2.2.2.1[f]? = some w) (kk : xV K μ k post M nx lv (xfa M w :: st)) : xV K μ k post M pc lv (.inr (.inr none) :: st) := by
  intro p l e s m args below meth c G A H locs ls X
  obtain ⟨hK, hμ, E, hM, hL, hS, hP, hD, hSS, hl⟩ := X
  obtain ⟨hd, rfl⟩ := xdec hμ hq
  obtain ⟨k1, k2, k3, k4, k5, k6, k7, k8, k9, k10, k11⟩ := hK
  obtain ⟨f1, f2, f3⟩ := k5 _ hn
  have hv : (K.2.2.2.2.2.1.map (xfv G M))[f]? = some (xcv G (xfa M w)) := by
    rw [List.getElem?_map, hw, ← xfa_v]
    rfl
  refine va_get (own := K.2.1.1) (ref := K.2.1.1) (C := K.2.1.1) (T := K.2.1.2.1) (N := K.2.1.2.2) E.1 E.2.1 E.2.2.2.2.2.2.1 k2 E.2.2.2.2.2.1 E.2.2.2.2.2.2.2.2 hP 0 rfl k1 f f1 (E.2.2.2.2.2.2.1 _ f2) (fun x h => by rw [f3] at h; exact h) hv hd ?_
  refine kk p l e s m args below meth c G A H locs ls ⟨⟨k1, k2, k3, k4, k5, k6, k7, k8, k9, k10, k11⟩, hμ, E, hM, hL, xrS_p ?_ (xrS_t hS), hP, hD, hSS, hl⟩
  cases w with
  | inl a => trivial
  | inr j => exact hM _ _
theorem xr_putf {n f : Nat} {j : Nat × Int} {x : Int} (hq : (pc, .putfield n, nx, tg) ∈ μ.2.2.2.2) (hn : (n, f) ∈ K.2.2.2.2.1) (hw : K.2.2.2.2.2.1[f]? = some (.inr j)) (hc : K.2.2.2.1 (f + 100) = true ∨ (x = 0 ∨ x = 1)) (kk : xV K μ k post (xset M j.1 j.2 x) nx lv st) : xV K μ k post M pc lv (.inl x :: .inr (.inr none) :: st) := by
  intro p l e s m args below meth c G A H locs ls X
  obtain ⟨hK, hμ, E, hM, hL, hS, hP, hD, hSS, hl⟩ := X
  obtain ⟨hd, rfl⟩ := xdec hμ hq
  obtain ⟨k1, k2, k3, k4, k5, k6, k7, k8, k9, k10, k11⟩ := hK
  obtain ⟨f1, f2, f3⟩ := k5 _ hn
  obtain ⟨g1, g2⟩ := k6 _ _ hw
  obtain ⟨ty0, h0⟩ := k7
  have hlen : f < (K.2.2.2.2.2.1.map (xfv G M)).length := by rw [List.length_map, k3]; exact f1
  have key : ∀ ty : FieldType, parseFieldDescriptor (K.2.1.2.1 f).2.2.1 = some ty → narrow ty (.int (Int32.ofInt x)) = .int (Int32.ofInt x) → fits ty (.int (Int32.ofInt x)) = true → W p l e (xrm k) s m args below meth c H locs 0 0 (MQ below (xQ K μ G A post) args s 0 0 A) (F0 m pc ls ((Sum.inl x :: Sum.inr (Sum.inr none) :: st).map (xcv G))) := by
    intro ty e1 e2 e3
    refine va_put (own := K.2.1.1) (ref := K.2.1.1) (C := K.2.1.1) (T := K.2.1.2.1) (N := K.2.1.2.2) E.1 E.2.1 E.2.2.2.2.2.2.1 k2 ty0 h0 k8 E.2.2.2.2.2.1 E.2.2.2.2.2.2.2.2 hP hD hSS 0 rfl k1 f f1 (E.2.2.2.2.2.2.1 _ f2) (fun x h => by rw [f3] at h; exact h) g1 e1 e2 e3 hlen hd (fun H1 locs1 p1 d1 s1 => ?_)
    have ep := xpx_put (K := K) (G := G) (M := M) (v := x) k10 hw k4
    exact kk p l e s m args below meth c G A H1 locs1 ls ⟨⟨k1, k2, k3, k4, k5, k6, ⟨ty0, h0⟩, k8, k9, k10, k11⟩, hμ, E, xrM_set hM (xrS_h hS), hL, xrS_t (xrS_t hS), ep ▸ p1, ep ▸ d1, s1, hl⟩
  rcases hc with hc | hc
  · exact key _ (k11 f hc) rfl rfl
  · rcases g2 with g2 | g2
    · exact key _ g2 rfl rfl
    · exact key _ g2 (xnar hc).1 (xnar hc).2.1
theorem xr_iald {a : Nat} {x : Int} (hq : (pc, .iaload, nx, tg) ∈ μ.2.2.2.2) (ha : a < K.2.2.1) (hz : K.2.2.2.1 a = false) (hc : 0 ≤ x ∧ x < 64) (kk : xV K μ k post M nx lv (.inl (M a x) :: st)) : xV K μ k post M pc lv (.inl x :: .inr (.inr (some a)) :: st) := by
  intro p l e s m args below meth c G A H locs ls X
  obtain ⟨hK, hμ, E, hM, hL, hS, hP, hD, hSS, hl⟩ := X
  obtain ⟨hd, rfl⟩ := xdec hμ hq
  obtain ⟨i1, i2, i3⟩ := xin64 hc.1 hc.2
  have ht : (xty K G)[a]? = some (G.2.2 a, .int) := by rw [xty_a ha, hz]; rfl
  refine va_iald E.1 E.2.1 E.2.2.2.2.2.2.2.2 hP (a + 1) a (xpx_a ha) ht i1 hd ?_
  have ev : xar M a (Int32.ofInt x).toNatClampNeg = Int32.ofInt (M a x) := by rw [i2]; unfold xar; rw [i3]
  rw [ev]
  exact kk p l e s m args below meth c G A H locs ls ⟨hK, hμ, E, hM, hL, xrS_p (hM _ _) (xrS_t (xrS_t hS)), hP, hD, hSS, hl⟩
theorem xr_bald {a : Nat} {x : Int} (hq : (pc, .baload, nx, tg) ∈ μ.2.2.2.2) (ha : a < K.2.2.1) (hz : K.2.2.2.1 a = true) (hc : 0 ≤ x ∧ x < 64) (kk : xV K μ k post M nx lv (.inl (M a x) :: st)) : xV K μ k post M pc lv (.inl x :: .inr (.inr (some a)) :: st) := by
  intro p l e s m args below meth c G A H locs ls X
  obtain ⟨hK, hμ, E, hM, hL, hS, hP, hD, hSS, hl⟩ := X
  obtain ⟨hd, rfl⟩ := xdec hμ hq
  obtain ⟨i1, i2, i3⟩ := xin64 hc.1 hc.2
  have ht : (xty K G)[a]? = some (G.2.2 a, .boolean) := by rw [xty_a ha, hz]; rfl
  refine va_zald E.1 E.2.1 E.2.2.2.2.2.2.2.2 hP (a + 1) a (xpx_a ha) ht i1 hd ?_
  have ev : xar M a (Int32.ofInt x).toNatClampNeg = Int32.ofInt (M a x) := by rw [i2]; unfold xar; rw [i3]
  rw [ev]
  exact kk p l e s m args below meth c G A H locs ls ⟨hK, hμ, E, hM, hL, xrS_p (hM _ _) (xrS_t (xrS_t hS)), hP, hD, hSS, hl⟩
theorem xr_iast {a : Nat} {x v : Int} (hq : (pc, .iastore, nx, tg) ∈ μ.2.2.2.2) (ha : a < K.2.2.1) (hz : K.2.2.2.1 a = false) (hc : 0 ≤ x ∧ x < 64) (kk : xV K μ k post (xset M a x v) nx lv st) : xV K μ k post M pc lv (.inl v :: .inl x :: .inr (.inr (some a)) :: st) := by
  intro p l e s m args below meth c G A H locs ls X
  obtain ⟨hK, hμ, E, hM, hL, hS, hP, hD, hSS, hl⟩ := X
  obtain ⟨hd, rfl⟩ := xdec hμ hq
  obtain ⟨i1, i2, i3⟩ := xin64 hc.1 hc.2
  have ht : (xty K G)[a]? = some (G.2.2 a, .int) := by rw [xty_a ha, hz]; rfl
  refine va_iast (x := Int32.ofInt v) E.1 E.2.1 E.2.2.2.2.2.2.2.2 hP hD hSS (a + 1) a (xpx_a ha) ht i1 hd (fun H1 locs1 p1 d1 s1 => ?_)
  rw [i2, xpx_set hK.2.2.2.2.2.2.2.2.2.1 ha hc.1] at p1 d1
  exact kk p l e s m args below meth c G A H1 locs1 ls ⟨hK, hμ, E, xrM_set hM (xrS_h hS), hL, xrS_t (xrS_t (xrS_t hS)), p1, d1, s1, hl⟩
theorem xr_bast {a : Nat} {x v : Int} (hq : (pc, .bastore, nx, tg) ∈ μ.2.2.2.2) (ha : a < K.2.2.1) (hz : K.2.2.2.1 a = true) (hc : (0 ≤ x ∧ x < 64) ∧ (v = 0 ∨ v = 1)) (kk : xV K μ k post (xset M a x v) nx lv st) : xV K μ k post M pc lv (.inl v :: .inl x :: .inr (.inr (some a)) :: st) := by
  intro p l e s m args below meth c G A H locs ls X
  obtain ⟨hK, hμ, E, hM, hL, hS, hP, hD, hSS, hl⟩ := X
  obtain ⟨hd, rfl⟩ := xdec hμ hq
  obtain ⟨i1, i2, i3⟩ := xin64 hc.1.1 hc.1.2
  have ht : (xty K G)[a]? = some (G.2.2 a, .boolean) := by rw [xty_a ha, hz]; rfl
  refine va_zast (x := Int32.ofInt v) E.1 E.2.1 E.2.2.2.2.2.2.2.2 hP hD hSS (a + 1) a (xpx_a ha) ht i1 hd (fun H1 locs1 p1 d1 s1 => ?_)
  rw [(xnar hc.2).2.2, i2, xpx_set hK.2.2.2.2.2.2.2.2.2.1 ha hc.1.1] at p1 d1
  exact kk p l e s m args below meth c G A H1 locs1 ls ⟨hK, hμ, E, xrM_set hM (xrS_h hS), hL, xrS_t (xrS_t (xrS_t hS)), p1, d1, s1, hl⟩
def xcmp (o : Jvm.ClassFile.Cond) (x y : Int) : Prop := match o with
  | .eq => x = y
  | .ne => ¬ x = y
  | .lt => x < y
  | .ge => y ≤ x
  | .gt => y < x
  | .le => x ≤ y
theorem xr_icmp {o : Jvm.ClassFile.Cond} {off x y : Int} (hq : (pc, .if_icmp o off, nx, tg) ∈ μ.2.2.2.2) (kt : xcmp o x y → xV K μ k post M tg lv st) (kf : ¬ xcmp o x y → xV K μ k post M nx lv st) : xV K μ k post M pc lv (.inl y :: .inl x :: st) := by
  intro p l e s m args below meth c G A H locs ls X
  obtain ⟨hK, hμ, E, hM, hL, hS, hP, hD, hSS, hl⟩ := X
  obtain ⟨hd, rfl⟩ := xdec hμ hq
  have hg := xdec_icmp hμ hq
  have hy : xrg y := xrS_h hS
  have hx : xrg x := xrS_h (xrS_t hS)
  have X' : xAt K μ p s m args meth c G A H locs ls M lv st := ⟨hK, hμ, E, hM, hL, xrS_t (xrS_t hS), hP, hD, hSS, hl⟩
  cases o with
  | eq => exact lv_icmp_eq (tgt := tg) E.1 E.2.1 hd hg (fun h => kt ((xeq hx hy).mp h) p l e s m args below meth c G A H locs ls X') (fun h => kf (fun h2 => h ((xeq hx hy).mpr h2)) p l e s m args below meth c G A H locs ls X')
  | ne => exact lv_icmp_ne (tgt := tg) E.1 E.2.1 hd hg (fun h => kt (fun h2 => h ((xeq hx hy).mpr h2)) p l e s m args below meth c G A H locs ls X') (fun h => kf (fun h2 => h2 ((xeq hx hy).mp h)) p l e s m args below meth c G A H locs ls X')
  | lt => exact lv_icmp_lt (tgt := tg) E.1 E.2.1 hd hg (fun h => kt ((xlt hx hy).mp h) p l e s m args below meth c G A H locs ls X') (fun h => kf (fun h2 => h ((xlt hx hy).mpr h2)) p l e s m args below meth c G A H locs ls X')
  | ge => exact lv_icmp_ge (tgt := tg) E.1 E.2.1 hd hg (fun h => kt ((xle hy hx).mp h) p l e s m args below meth c G A H locs ls X') (fun h => kf (fun h2 => h ((xle hy hx).mpr h2)) p l e s m args below meth c G A H locs ls X')
  | gt => exact lv_icmp_gt (tgt := tg) E.1 E.2.1 hd hg (fun h => kt ((xlt hy hx).mp h) p l e s m args below meth c G A H locs ls X') (fun h => kf (fun h2 => h ((xlt hy hx).mpr h2)) p l e s m args below meth c G A H locs ls X')
  | le => exact lv_icmp_le (tgt := tg) E.1 E.2.1 hd hg (fun h => kt ((xle hx hy).mp h) p l e s m args below meth c G A H locs ls X') (fun h => kf (fun h2 => h ((xle hx hy).mpr h2)) p l e s m args below meth c G A H locs ls X')
theorem xr_if {o : Jvm.ClassFile.Cond} {off x : Int} (hq : (pc, .ifCond o off, nx, tg) ∈ μ.2.2.2.2) (kt : xcmp o x 0 → xV K μ k post M tg lv st) (kf : ¬ xcmp o x 0 → xV K μ k post M nx lv st) : xV K μ k post M pc lv (.inl x :: st) := by
  intro p l e s m args below meth c G A H locs ls X
  obtain ⟨hK, hμ, E, hM, hL, hS, hP, hD, hSS, hl⟩ := X
  obtain ⟨hd, rfl⟩ := xdec hμ hq
  have hg := xdec_if hμ hq
  have hx : xrg x := xrS_h hS
  have X' : xAt K μ p s m args meth c G A H locs ls M lv st := ⟨hK, hμ, E, hM, hL, xrS_t hS, hP, hD, hSS, hl⟩
  have z0 := xz
  cases o with
  | eq => exact lv_if_eq (tgt := tg) E.1 E.2.1 hd hg (fun h => kt ((xeq hx xrg0).mp (z0 ▸ h)) p l e s m args below meth c G A H locs ls X') (fun h => kf (fun h2 => h (by rw [z0]; exact (xeq hx xrg0).mpr h2)) p l e s m args below meth c G A H locs ls X')
  | ne => exact lv_if_ne (tgt := tg) E.1 E.2.1 hd hg (fun h => kt (fun h2 => h (by rw [z0]; exact (xeq hx xrg0).mpr h2)) p l e s m args below meth c G A H locs ls X') (fun h => kf (fun h2 => h2 ((xeq hx xrg0).mp (by rw [← z0]; exact h))) p l e s m args below meth c G A H locs ls X')
  | lt => exact lv_if_lt (tgt := tg) E.1 E.2.1 hd hg (fun h => kt ((xlt hx xrg0).mp (by rw [← z0]; exact h)) p l e s m args below meth c G A H locs ls X') (fun h => kf (fun h2 => h (by rw [z0]; exact (xlt hx xrg0).mpr h2)) p l e s m args below meth c G A H locs ls X')
  | ge => exact lv_if_ge (tgt := tg) E.1 E.2.1 hd hg (fun h => kt ((xle xrg0 hx).mp (by rw [← z0]; exact h)) p l e s m args below meth c G A H locs ls X') (fun h => kf (fun h2 => h (by rw [z0]; exact (xle xrg0 hx).mpr h2)) p l e s m args below meth c G A H locs ls X')
  | gt => exact lv_if_gt (tgt := tg) E.1 E.2.1 hd hg (fun h => kt ((xlt xrg0 hx).mp (by rw [← z0]; exact h)) p l e s m args below meth c G A H locs ls X') (fun h => kf (fun h2 => h (by rw [z0]; exact (xlt xrg0 hx).mpr h2)) p l e s m args below meth c G A H locs ls X')
  | le => exact lv_if_le (tgt := tg) E.1 E.2.1 hd hg (fun h => kt ((xle hx xrg0).mp (by rw [← z0]; exact h)) p l e s m args below meth c G A H locs ls X') (fun h => kf (fun h2 => h (by rw [z0]; exact (xle hx xrg0).mpr h2)) p l e s m args below meth c G A H locs ls X')
theorem xr_ret {x : Int} {ty : FieldType} (hq : (pc, .ireturn, nx, tg) ∈ μ.2.2.2.2) (hr : μ.2.2.2.1 = some ty) (hz : ty = .int ∨ (ty = .boolean ∧ (x = 0 ∨ x = 1))) (hp : post x M) : xV K μ k post M pc lv [.inl x] := by
  intro p l e s m args below meth c G A H locs ls X
  obtain ⟨hK, hμ, E, hM, hL, hS, hP, hD, hSS, hl⟩ := X
  obtain ⟨hd, rfl⟩ := xdec hμ hq
  have hlocks := E.2.2.2.2.1
  have hn : narrow ty (.int (Int32.ofInt x)) = .int (Int32.ofInt x) := by
    rcases hz with rfl | ⟨rfl, hz⟩
    · rfl
    · exact (xnar hz).1
  have hrt : meth.sig.returnType = some ty := E.2.2.2.1.trans hr
  refine W.zret (v := Int32.ofInt x) E.1 E.2.1 hrt hn (fun t ht hW => ?_) hSS.2.2 hd
  unfold xQ
  rw [hr]
  refine ⟨⟨Int32.ofInt x, M, rfl, ⟨x, rfl, xrS_h hS, hM, hp⟩, ⟨by rw [ht]; exact hP, va_K.moved hW.alike E.2.2.2.2.2.2.2.2, hD⟩⟩, hSS.F ht⟩
theorem xr_retv (hq : (pc, .return_, nx, tg) ∈ μ.2.2.2.2) (hr : μ.2.2.2.1 = none) (hp : post 0 M) : xV K μ k post M pc lv [] := by
  intro p l e s m args below meth c G A H locs ls X
  obtain ⟨hK, hμ, E, hM, hL, hS, hP, hD, hSS, hl⟩ := X
  obtain ⟨hd, rfl⟩ := xdec hμ hq
  have hlocks := E.2.2.2.2.1
  have hrt : meth.sig.returnType = none := E.2.2.2.1.trans hr
  refine W.vret E.1 E.2.1 hrt (fun t ht hW => ?_) hSS.2.2 hd
  unfold xQ
  rw [hr]
  refine ⟨⟨M, rfl, ⟨hM, hp⟩, ⟨by rw [ht]; exact hP, va_K.moved hW.alike E.2.2.2.2.2.2.2.2, hD⟩⟩, hSS.F ht⟩
end RULES
end
section
set_option maxRecDepth 100000
theorem xl_len (G : xG) : ∀ (avs : List xAV), (∀ v ∈ avs, ∀ x, v ≠ .inr (.inl x)) → (lg_sl (avs.map (xcv G))).length = avs.length
  | [], _ => rfl
  | v :: r, h => by
    have h1 := xcat (G := G) (h v List.mem_cons_self)
    have h2 := xl_len G r (fun w hw => h w (List.mem_cons_of_mem _ hw))
    unfold lg_sl at h2 ⊢
    rw [List.map_cons, List.flatMap_cons, List.length_append, h2, if_neg (by rw [h1]; decide)]
    simp [Nat.add_comm]
theorem xl_arg (G : xG) : ∀ (avs : List xAV) (j : Nat), (∀ v ∈ avs, ∀ x, v ≠ .inr (.inl x)) → ∀ (i : Nat) (v : xAV), avs[i]? = some v → (j + i, xcv G v) ∈ lv_args j (avs.map (xcv G))
  | [], j, _, i, v, hi => by simp at hi
  | w :: r, j, h, i, v, hi => by
    have h1 := xcat (G := G) (h w List.mem_cons_self)
    rw [List.map_cons]
    unfold lv_args
    rw [if_neg (by rw [h1]; decide)]
    cases i with
    | zero =>
      rw [List.getElem?_cons_zero] at hi
      cases hi
      exact List.mem_cons_self
    | succ i =>
      rw [List.getElem?_cons_succ] at hi
      have h2 := xl_arg G r (j + 1) (fun w hw => h w (List.mem_cons_of_mem _ hw)) i v hi
      rw [show j + (i + 1) = j + 1 + i by omega]
      exact List.mem_cons_of_mem _ h2
/-- the locals with which a method begins -/
def xent (o : Bool) (as : List Int) (n : Nat) : List (Option xAV) := (xavs o as).map some ++ List.replicate (n - (xavs o as).length) none
theorem xavs_nl (o : Bool) (as : List Int) : ∀ v ∈ xavs o as, ∀ x, v ≠ .inr (.inl x) := by
  intro v hv x e
  subst e
  unfold xavs at hv
  rcases List.mem_append.mp hv with h | h
  · cases o <;> simp at h
  · obtain ⟨z, -, hz⟩ := List.mem_map.mp h
    cases hz
theorem xavs_rg {o : Bool} {as : List Int} (h : ∀ z ∈ as, xrg z) : ∀ v ∈ xavs o as, xrv v := by
  intro v hv
  unfold xavs at hv
  rcases List.mem_append.mp hv with h1 | h1
  · cases o
    · simp at h1
    · simp at h1
      subst h1
      trivial
  · obtain ⟨z, hz, rfl⟩ := List.mem_map.mp h1
    exact h z hz
theorem xent_h {G : xG} {o : Bool} {as : List Int} {n : Nat} (h : (xavs o as).length ≤ n) : xlh G ((lg_sl ((xavs o as).map (xcv G)) ++ List.replicate (n - (lg_sl ((xavs o as).map (xcv G))).length) Slot.unset).toArray) n (xent o as n) := by
  have hn := xavs_nl o as
  have hl := lv_entry ((xavs o as).map (xcv G)) (n := n) (by rw [xl_len G _ hn]; exact h)
  refine ⟨hl.1, hl.2.1, ?_, fun i v hi => ?_⟩
  · unfold xent
    rw [List.length_append, List.length_map, List.length_replicate]
    omega
  · unfold xent at hi
    by_cases hlt : i < (xavs o as).length
    · rw [List.getElem?_append_left (by rw [List.length_map]; exact hlt), List.getElem?_map] at hi
      obtain ⟨w, hw, e⟩ := Option.map_eq_some_iff.mp hi
      cases e
      have h3 := xl_arg G (xavs o as) 0 hn i v hw
      rw [Nat.zero_add] at h3
      exact hl.2.2 _ h3
    · rw [List.getElem?_append_right (by rw [List.length_map]; omega), List.getElem?_replicate] at hi
      split at hi <;> cases hi
theorem xent_r {o : Bool} {as : List Int} {n : Nat} (h : ∀ z ∈ as, xrg z) : xrL (xent o as n) := by
  intro i v hi
  have hm := List.mem_of_getElem? hi
  unfold xent at hm
  rcases List.mem_append.mp hm with h1 | h1
  · obtain ⟨w, hw, e⟩ := List.mem_map.mp h1
    cases e
    exact xavs_rg h _ hw
  · have := (List.mem_replicate.mp h1).2
    cases this
theorem xMet_of {K : xKl} {μ : xMd} {k : Nat} {o : Bool} {M : xMem} {as : List Int} {post : Int → xMem → Prop} (hK : xKok K) (hμ : xMok μ) (hc : μ.1.cls = K.2.1.1) (hn : (xavs o as).length ≤ μ.2.2.1) (kk : xrM M → (∀ z ∈ as, xrg z) → xV K μ k post M 0 (xent o as μ.2.2.1) []) : xMet K μ k o M as post := by
  intro hM hz l G sz
  refine Met.ofW (cc := μ.2.1) (maxL := μ.2.2.1) (ret := μ.2.2.2.1) hμ.2.2 rfl ?_
  intro p e s m args below meth c s₁ B hml hv
  obtain ⟨rfl, hsz, hP, hKK, hD0⟩ := hv
  have hts := atoms_spec (ws := ws_ μ.1 μ.2.1 μ.2.2.1 μ.2.2.2.1) B.pre
  have hts : ∀ w ∈ lw_all, w.before _ s = true := fun w h => hts w (List.mem_cons_of_mem _ h)
  have hown : s.vm.findClass μ.1.cls = some m.cls := findClass_of_methodNamed B.named
  rw [hc] at hown
  subst hsz
  have hD := hD0.self (sz := s.heap.size)
  rw [lg_entry_eq]
  exact kk hM hz p l e s m _ below meth c G _ s.heap [] _ ⟨hK, hμ, ⟨B.exec, B.bytes, hml, B.returns, B.notSynchronized, hown, hts, fun q h => Or.inr h, hKK⟩, hM, xent_r hz, (fun v hv => by cases hv), hP, hD, va_S.rf, xent_h hn⟩
theorem xsum (G : xG) : ∀ (st : List xAV), (((st.map (xcv G)).map fun v => v.category)).sum ≤ 2 * st.length
  | [] => by simp
  | v :: r => by
    have h1 := xsum G r
    have h2 := lv_cat (xcv G v)
    rw [List.map_cons, List.map_cons, List.sum_cons, List.length_cons]
    rcases h2 with h2 | h2 <;> rw [h2] <;> omega
/-- what a call asks of the tables -/
def xLk (K : xKl) (n : Nat) (μ : xMd) (na : Nat) : Prop := GoodIn lw_all (wsV K.2.1.1 n K.2.1.1 μ.1 (ws_ μ.1 μ.2.1 μ.2.2.1 μ.2.2.2.1)) ∧ (μ.1.cls = K.2.1.1 ∧ μ.1.cls ≠ "java/lang/invoke/MethodHandle" ∧ μ.1.cls ≠ "java/lang/invoke/VarHandle" ∧ (parseMethodDescriptor μ.1.desc).map (fun d => d.parameters.length) = some na) ∧ μ.2.2.1 ≤ 14
def xLs (K : xKl) (n : Nat) (μ : xMd) (na : Nat) : Prop := GoodIn lw_all (va_wsS K.2.1.1 n μ.1 (ws_ μ.1 μ.2.1 μ.2.2.1 μ.2.2.2.1)) ∧ (μ.1.cls ≠ "java/lang/invoke/MethodHandle" ∧ μ.1.cls ≠ "java/lang/invoke/VarHandle" ∧ (parseMethodDescriptor μ.1.desc).map (fun d => d.parameters.length) = some na) ∧ μ.2.2.1 ≤ 14
section CALLS
variable {K : xKl} {μ : xMd} {k : Nat} {post : Int → xMem → Prop} {M : xMem} {pc nx tg : Nat} {lv : List (Option xAV)} {st : List xAV}
theorem xblind {G : xG} {K : xKl} {M : xMem} {av : List Value} {sz : Nat} : FrameBlind (va_Pc av (fun U => U.heap.size = sz ∧ va_P G.1 vwCl (xpx K G M) U.heap ∧ va_K G.1 vwCl (xty K G) U ∧ va_D (fun _ => True) (xpx K G M))) := by
  intro a U g mk q
  obtain ⟨q0, q1, qP, qK, qD⟩ := q
  exact ⟨q0, q1, qP, va_K.moved (u := U) (U := U.calling g mk a) (Vm.Alike.refl U.vm) qK, qD⟩
theorem xr_callV {n k' : Nat} {μ' : xMd} {as : List Int} {post' : Int → xMem → Prop} (hq : (pc, .invokevirtual n, nx, tg) ∈ μ.2.2.2.2) (hlk : xLk K n μ' as.length) (hm : xMet K μ' k' true M as post') (hkk : k' + 1 ≤ k) (hrest : st.length ≤ 4) (hr : μ'.2.2.2.1 ≠ none) (kk : ∀ r M', post' r M' → xV K μ k post M' nx lv (.inl r :: st)) : xV K μ k post M pc lv ((as.map Sum.inl).reverse ++ .inr (.inr none) :: st) := by
  intro p l e s m args below meth c G A H locs ls X
  obtain ⟨hK, hμ, E, hM, hL, hS, hP, hD, hSS, hl⟩ := X
  obtain ⟨hd, rfl⟩ := xdec hμ hq
  have hz : ∀ z ∈ as, xrg z := fun z hz => hS (.inl z) (List.mem_append_left _ (List.mem_reverse.mpr (List.mem_map.mpr ⟨z, hz, rfl⟩)))
  have hrs : xrS st := fun v hv => hS v (List.mem_append_right _ (List.mem_cons_of_mem _ hv))
  have hFc : ∀ q, va_A (xpx K G M) H.size q → A q := by
    intro q h
    rcases h with ⟨i, x, h⟩ | h
    · exact hD.2 i _ h
    · exact E.2.2.2.2.2.2.2.1 q (Nat.le_trans hSS.1 h)
  have hmet := hm hM hz l G H.size
  cases hret : μ'.2.2.2.1 with
  | none => exact absurd hret hr
  | some ty =>
    have hQ : xQ K μ' G (va_A (xpx K G M) H.size) post' = va_Qi (fun (r : Int32) (M' : xMem) => ∃ z : Int, r = Int32.ofInt z ∧ xrg z ∧ xrM M' ∧ post' z M') (xB K G (va_A (xpx K G M) H.size)) (va_A (xpx K G M) H.size) := by unfold xQ; rw [hret]
    rw [hQ] at hmet
    have hrm : (xrm k').frames + 1 ≤ (xrm k).frames ∧ 8 + (μ'.2.2.1 + 11) + (xrm k').locals ≤ (xrm k).locals := by
      have := hlk.2.2
      refine ⟨hkk, ?_⟩
      show 8 + (μ'.2.2.1 + 11) + 33 * k' ≤ 33 * k
      omega
    have hst : (((as.map Sum.inl).reverse ++ Sum.inr (Sum.inr none) :: st).map (xcv G)) = ((as.map Sum.inl).map (xcv G)).reverse ++ Value.ref (G.2.1 0) :: st.map (xcv G) := by
      rw [List.map_append, List.map_reverse, List.map_cons]
      rfl
    refine va_calli (va_runV (C := K.2.1.1) (b := G.2.1 0) (As := (as.map Sum.inl).map (xcv G)) (rest := st.map (xcv G)) ⟨E.1, E.2.1, E.2.2.1, E.2.2.2.2.2.1, E.2.2.2.2.2.2.1⟩ hmet (cwV as.length E.2.2.2.2.2.2.1 hlk.1 rfl rfl rfl hlk.2.1 hrm) ⟨xblind, va_recv E.2.2.2.2.2.2.2.2 hP hK.1 (q0 := 0) rfl, fun U hU hW => ⟨rfl, by rw [hU], by rw [hU]; exact hP, va_K.moved hW.alike E.2.2.2.2.2.2.2.2, hD.weaken (fun _ _ _ _ => trivial)⟩⟩ rfl (by rw [List.length_map, List.length_map]) hl.1 hst (lv_room (Nat.le_trans (xsum G st) (by omega))) hd ⟨Nat.zero_le _, Nat.zero_le _⟩) hSS (fun q _ h => hFc q h) hFc (fun r M' t H1 locs1 ht hvm hpost hB hz1 hk1 hS1 => ?_)
    obtain ⟨z, rfl, hzr, hM', hp⟩ := hpost
    obtain ⟨hP1, hK1, hD1⟩ := hB
    rw [ht] at hP1
    exact kk z M' hp p l e s m args below meth c G A H1 locs1 ls ⟨hK, hμ, E, hM', hL, xrS_p hzr hrs, hP1, hD1.weaken (fun _ _ _ h => hFc _ h), hS1, hl⟩
theorem xr_callVv {n k' : Nat} {μ' : xMd} {as : List Int} {post' : Int → xMem → Prop} (hq : (pc, .invokevirtual n, nx, tg) ∈ μ.2.2.2.2) (hlk : xLk K n μ' as.length) (hm : xMet K μ' k' true M as post') (hkk : k' + 1 ≤ k) (hrest : st.length ≤ 4) (hr : μ'.2.2.2.1 = none) (kk : ∀ M', post' 0 M' → xV K μ k post M' nx lv st) : xV K μ k post M pc lv ((as.map Sum.inl).reverse ++ .inr (.inr none) :: st) := by
  intro p l e s m args below meth c G A H locs ls X
  obtain ⟨hK, hμ, E, hM, hL, hS, hP, hD, hSS, hl⟩ := X
  obtain ⟨hd, rfl⟩ := xdec hμ hq
  have hz : ∀ z ∈ as, xrg z := fun z hz => hS (.inl z) (List.mem_append_left _ (List.mem_reverse.mpr (List.mem_map.mpr ⟨z, hz, rfl⟩)))
  have hrs : xrS st := fun v hv => hS v (List.mem_append_right _ (List.mem_cons_of_mem _ hv))
  have hFc : ∀ q, va_A (xpx K G M) H.size q → A q := by
    intro q h
    rcases h with ⟨i, x, h⟩ | h
    · exact hD.2 i _ h
    · exact E.2.2.2.2.2.2.2.1 q (Nat.le_trans hSS.1 h)
  have hmet := hm hM hz l G H.size
  have hQ : xQ K μ' G (va_A (xpx K G M) H.size) post' = va_Qv (fun (M' : xMem) => xrM M' ∧ post' 0 M') (xB K G (va_A (xpx K G M) H.size)) (va_A (xpx K G M) H.size) := by unfold xQ; rw [hr]
  rw [hQ] at hmet
  have hrm : (xrm k').frames + 1 ≤ (xrm k).frames ∧ 8 + (μ'.2.2.1 + 11) + (xrm k').locals ≤ (xrm k).locals := by
    have := hlk.2.2
    refine ⟨hkk, ?_⟩
    show 8 + (μ'.2.2.1 + 11) + 33 * k' ≤ 33 * k
    omega
  have hst : (((as.map Sum.inl).reverse ++ Sum.inr (Sum.inr none) :: st).map (xcv G)) = ((as.map Sum.inl).map (xcv G)).reverse ++ Value.ref (G.2.1 0) :: st.map (xcv G) := by
    rw [List.map_append, List.map_reverse, List.map_cons]
    rfl
  refine va_callv (va_runV (C := K.2.1.1) (b := G.2.1 0) (As := (as.map Sum.inl).map (xcv G)) (rest := st.map (xcv G)) ⟨E.1, E.2.1, E.2.2.1, E.2.2.2.2.2.1, E.2.2.2.2.2.2.1⟩ hmet (cwV as.length E.2.2.2.2.2.2.1 hlk.1 rfl rfl rfl hlk.2.1 hrm) ⟨xblind, va_recv E.2.2.2.2.2.2.2.2 hP hK.1 (q0 := 0) rfl, fun U hU hW => ⟨rfl, by rw [hU], by rw [hU]; exact hP, va_K.moved hW.alike E.2.2.2.2.2.2.2.2, hD.weaken (fun _ _ _ _ => trivial)⟩⟩ rfl (by rw [List.length_map, List.length_map]) hl.1 hst (lv_room (Nat.le_trans (xsum G st) (by omega))) hd ⟨Nat.zero_le _, Nat.zero_le _⟩) hSS (fun q _ h => hFc q h) hFc (fun M' t H1 locs1 ht hvm hpost hB hz1 hk1 hS1 => ?_)
  obtain ⟨hM', hp⟩ := hpost
  obtain ⟨hP1, hK1, hD1⟩ := hB
  rw [ht] at hP1
  exact kk M' hp p l e s m args below meth c G A H1 locs1 ls ⟨hK, hμ, E, hM', hL, hrs, hP1, hD1.weaken (fun _ _ _ h => hFc _ h), hS1, hl⟩
theorem xr_callS {n k' : Nat} {μ' : xMd} {as : List Int} {post' : Int → xMem → Prop} (hq : (pc, .invokestatic n, nx, tg) ∈ μ.2.2.2.2) (hlk : xLs K n μ' as.length) (hm : xMet K μ' k' false M as post') (hkk : k' + 1 ≤ k) (hrest : st.length ≤ 4) (hr : μ'.2.2.2.1 ≠ none) (kk : ∀ r M', post' r M' → xV K μ k post M' nx lv (.inl r :: st)) : xV K μ k post M pc lv ((as.map Sum.inl).reverse ++ st) := by
  intro p l e s m args below meth c G A H locs ls X
  obtain ⟨hK, hμ, E, hM, hL, hS, hP, hD, hSS, hl⟩ := X
  obtain ⟨hd, rfl⟩ := xdec hμ hq
  have hz : ∀ z ∈ as, xrg z := fun z hz => hS (.inl z) (List.mem_append_left _ (List.mem_reverse.mpr (List.mem_map.mpr ⟨z, hz, rfl⟩)))
  have hrs : xrS st := fun v hv => hS v (List.mem_append_right _ hv)
  have hFc : ∀ q, va_A (xpx K G M) H.size q → A q := by
    intro q h
    rcases h with ⟨i, x, h⟩ | h
    · exact hD.2 i _ h
    · exact E.2.2.2.2.2.2.2.1 q (Nat.le_trans hSS.1 h)
  have hmet := hm hM hz l G H.size
  cases hret : μ'.2.2.2.1 with
  | none => exact absurd hret hr
  | some ty =>
    have hQ : xQ K μ' G (va_A (xpx K G M) H.size) post' = va_Qi (fun (r : Int32) (M' : xMem) => ∃ z : Int, r = Int32.ofInt z ∧ xrg z ∧ xrM M' ∧ post' z M') (xB K G (va_A (xpx K G M) H.size)) (va_A (xpx K G M) H.size) := by unfold xQ; rw [hret]
    rw [hQ] at hmet
    have hrm : (xrm k').frames + 1 ≤ (xrm k).frames ∧ 8 + (μ'.2.2.1 + 11) + (xrm k').locals ≤ (xrm k).locals := by
      have := hlk.2.2
      refine ⟨hkk, ?_⟩
      show 8 + (μ'.2.2.1 + 11) + 33 * k' ≤ 33 * k
      omega
    have hst : (((as.map Sum.inl).reverse ++ st).map (xcv G)) = ((as.map Sum.inl).map (xcv G)).reverse ++ st.map (xcv G) := by
      rw [List.map_append, List.map_reverse]
    refine va_calli (va_runS (As := (as.map Sum.inl).map (xcv G)) (rest := st.map (xcv G)) ⟨E.1, E.2.1, E.2.2.1, E.2.2.2.2.2.1, E.2.2.2.2.2.2.1⟩ hmet (va_cwS as.length E.2.2.2.2.2.2.1 hlk.1 rfl rfl rfl hlk.2.1 hrm) ⟨xblind, fun U hU hW => ⟨rfl, by rw [hU], by rw [hU]; exact hP, va_K.moved hW.alike E.2.2.2.2.2.2.2.2, hD.weaken (fun _ _ _ _ => trivial)⟩⟩ rfl (by rw [List.length_map, List.length_map]) hl.1 hst (lv_room (Nat.le_trans (xsum G st) (by omega))) hd ⟨Nat.zero_le _, Nat.zero_le _⟩) hSS (fun q _ h => hFc q h) hFc (fun r M' t H1 locs1 ht hvm hpost hB hz1 hk1 hS1 => ?_)
    obtain ⟨z, rfl, hzr, hM', hp⟩ := hpost
    obtain ⟨hP1, hK1, hD1⟩ := hB
    rw [ht] at hP1
    exact kk z M' hp p l e s m args below meth c G A H1 locs1 ls ⟨hK, hμ, E, hM', hL, xrS_p hzr hrs, hP1, hD1.weaken (fun _ _ _ h => hFc _ h), hS1, hl⟩
end CALLS
end
section
set_option maxRecDepth 100000
/-- the table's entry at pc -/
def xlk : xTb → Nat → Option (Instr × Nat × Nat)
  | [], _ => none
  | q :: r, pc => bif Nat.beq q.1 pc then some q.2 else xlk r pc
theorem xlk_mem : ∀ (L : xTb) (pc : Nat) (i : Instr) (nx tg : Nat), xlk L pc = some (i, nx, tg) → (pc, i, nx, tg) ∈ L
  | [], _, _, _, _, h => by cases h
  | q :: r, pc, i, nx, tg, h => by
    unfold xlk at h
    cases hb : Nat.beq q.1 pc with
    | true =>
      rw [hb] at h
      have e : q.1 = pc := Nat.eq_of_beq_eq_true hb
      have e2 : q.2 = (i, nx, tg) := Option.some.inj h
      have e3 : q = (pc, i, nx, tg) := Prod.ext e e2
      rw [e3]
      exact List.mem_cons_self
    | false =>
      rw [hb] at h
      exact List.mem_cons_of_mem _ (xlk_mem r pc i nx tg h)
def xlf {α : Type} : List (Nat × α) → Nat → Option α
  | [], _ => none
  | q :: r, n => bif Nat.beq q.1 n then some q.2 else xlf r n
theorem xlf_mem {α : Type} : ∀ (L : List (Nat × α)) (n : Nat) (f : α), xlf L n = some f → (n, f) ∈ L
  | [], _, _, h => by cases h
  | q :: r, n, f, h => by
    unfold xlf at h
    cases hb : Nat.beq q.1 n with
    | true =>
      rw [hb] at h
      have e : q.1 = n := Nat.eq_of_beq_eq_true hb
      have e2 : q.2 = f := Option.some.inj h
      have e3 : q = (n, f) := Prod.ext e e2
      rw [e3]
      exact List.mem_cons_self
    | false =>
      rw [hb] at h
      exact List.mem_cons_of_mem _ (xlf_mem r n f h)
abbrev xRs : Type := Option Prop × xMem × Nat × List (Option xAV) × List xAV
/-- one instruction: the condition under which it goes on, and where -/
def xstp (K : xKl) (w : Bool) (M : xMem) (lv : List (Option xAV)) (st : List xAV) (i : Instr) (nx tg : Nat) : Option xRs :=
  match i with
  | .iconst n => some (none, M, nx, lv, .inl n :: st)
  | .bipush n => some (none, M, nx, lv, .inl n :: st)
  | .iload_n n => match lv[(n : Nat)]? with
    | some (some (.inl x)) => some (none, M, nx, lv, .inl x :: st)
    | _ => none
  | .iload n => match lv[n]? with
    | some (some (.inl x)) => some (none, M, nx, lv, .inl x :: st)
    | _ => none
  | .aload_n n => match lv[(n : Nat)]? with
    | some (some (.inr (.inr x))) => some (none, M, nx, lv, .inr (.inr x) :: st)
    | _ => none
  | .lload n => match lv[n]? with
    | some (some (.inr (.inl x))) => some (none, M, nx, lv, .inr (.inl x) :: st)
    | _ => none
  | .istore_n n => match lv[(n : Nat)]?, xnl lv n, st with
    | some _, true, .inl x :: r => some (none, M, nx, lv.set n (some (.inl x)), r)
    | _, _, _ => none
  | .istore n => match lv[n]?, xnl lv n, st with
    | some _, true, .inl x :: r => some (none, M, nx, lv.set n (some (.inl x)), r)
    | _, _, _ => none
  | .lstore n => match lv[n + 1]?, xnl lv n, st with
    | some _, true, .inr (.inl x) :: r => some (none, M, nx, (lv.set n (some (.inr (.inl x)))).set (n + 1) none, r)
    | _, _, _ => none
  | .iinc n a => match lv[n]?, xnl lv n with
    | some (some (.inl x)), true => some (some (-2147483648 ≤ x + a ∧ x + a ≤ 2147483647), M, nx, lv.set n (some (.inl (x + a))), st)
    | _, _ => none
  | .iadd => match st with
    | .inl y :: .inl x :: r => match w with
      | true => some (none, M, nx, lv, .inl (xwr (x + y)) :: r)
      | false => some (some (-2147483648 ≤ x + y ∧ x + y ≤ 2147483647), M, nx, lv, .inl (x + y) :: r)
    | _ => none
  | .imul => match st with
    | .inl y :: .inl x :: r => match w with
      | true => some (none, M, nx, lv, .inl (xwr (x * y)) :: r)
      | false => some (some (-2147483648 ≤ x * y ∧ x * y ≤ 2147483647), M, nx, lv, .inl (x * y) :: r)
    | _ => none
  | .isub => match st with
    | .inl y :: .inl x :: r => some (some (-2147483648 ≤ x - y ∧ x - y ≤ 2147483647), M, nx, lv, .inl (x - y) :: r)
    | _ => none
  | .idiv => match st with
    | .inl y :: .inl x :: r => some (some (0 ≤ x ∧ 0 < y), M, nx, lv, .inl (x / y) :: r)
    | _ => none
  | .irem => match st with
    | .inl y :: .inl x :: r => some (some (0 ≤ x ∧ 0 < y), M, nx, lv, .inl (x % y) :: r)
    | _ => none
  | .iand => match st with
    | .inl y :: .inl x :: r => some (some (y = 63), M, nx, lv, .inl (x % 64) :: r)
    | _ => none
  | .goto _ => some (none, M, tg, lv, st)
  | .pop => match st with
    | .inl _ :: r => some (none, M, nx, lv, r)
    | _ => none
  | .dup => match st with
    | .inr (.inr none) :: r => some (none, M, nx, lv, .inr (.inr none) :: .inr (.inr none) :: r)
    | _ => none
  | .i2l => match st with
    | .inl x :: r => some (none, M, nx, lv, .inr (.inl x) :: r)
    | _ => none
  | .l2i => match st with
    | .inr (.inl x) :: r => some (some (-2147483648 ≤ x ∧ x ≤ 2147483647), M, nx, lv, .inl x :: r)
    | _ => none
  | .ladd => match st with
    | .inr (.inl y) :: .inr (.inl x) :: r => some (some (-9223372036854775808 ≤ x + y ∧ x + y ≤ 9223372036854775807), M, nx, lv, .inr (.inl (x + y)) :: r)
    | _ => none
  | .lconst n => some (none, M, nx, lv, .inr (.inl ((n : Nat) : Int)) :: st)
  | .ldc2_w n => match xlf K.2.2.2.2.2.2 n with
    | some x => some (none, M, nx, lv, .inr (.inl x) :: st)
    | none => none
  | .lcmp => match st with
    | .inr (.inl y) :: .inr (.inl x) :: r => some (none, M, nx, lv, .inl (if y < x then 1 else if x = y then 0 else -1) :: r)
    | _ => none
  | .getfield n => match st, xlf K.2.2.2.2.1 n with
    | .inr (.inr none) :: r, some f => match K.2.2.2.2.2.1[f]? with
      | some (.inl a) => some (none, M, nx, lv, .inr (.inr (some a)) :: r)
      | some (.inr (a, j)) => some (none, M, nx, lv, .inl (M a j) :: r)
      | none => none
    | _, _ => none
  | .putfield n => match st, xlf K.2.2.2.2.1 n with
    | .inl x :: .inr (.inr none) :: r, some f => match K.2.2.2.2.2.1[f]? with
      | some (.inr (a, j)) => match K.2.2.2.1 (f + 100) with
        | true => some (none, xset M a j x, nx, lv, r)
        | false => some (some (x = 0 ∨ x = 1), xset M a j x, nx, lv, r)
      | _ => none
    | _, _ => none
  | .iaload => match st with
    | .inl x :: .inr (.inr (some a)) :: r => match Nat.blt a K.2.2.1, K.2.2.2.1 a with
      | true, false => some (some (0 ≤ x ∧ x < 64), M, nx, lv, .inl (M a x) :: r)
      | _, _ => none
    | _ => none
  | .baload => match st with
    | .inl x :: .inr (.inr (some a)) :: r => match Nat.blt a K.2.2.1, K.2.2.2.1 a with
      | true, true => some (some (0 ≤ x ∧ x < 64), M, nx, lv, .inl (M a x) :: r)
      | _, _ => none
    | _ => none
  | .iastore => match st with
    | .inl v :: .inl x :: .inr (.inr (some a)) :: r => match Nat.blt a K.2.2.1, K.2.2.2.1 a with
      | true, false => some (some (0 ≤ x ∧ x < 64), xset M a x v, nx, lv, r)
      | _, _ => none
    | _ => none
  | .bastore => match st with
    | .inl v :: .inl x :: .inr (.inr (some a)) :: r => match Nat.blt a K.2.2.1, K.2.2.2.1 a with
      | true, true => some (some ((0 ≤ x ∧ x < 64) ∧ (v = 0 ∨ v = 1)), xset M a x v, nx, lv, r)
      | _, _ => none
    | _ => none
  | _ => none
def xcj (o : Option Prop) (P : Prop) : Prop := match o with
  | none => P
  | some c => c ∧ P
set_option maxHeartbeats 4000000 in
theorem xstp_ok {K : xKl} {μ : xMd} {k : Nat} {post : Int → xMem → Prop} {w : Bool} {M : xMem} {pc : Nat} {lv : List (Option xAV)} {st : List xAV} {i : Instr} {nx tg : Nat} {oc : Option Prop} {M' : xMem} {pc' : Nat} {lv' : List (Option xAV)} {st' : List xAV}
    (hq : (pc, i, nx, tg) ∈ μ.2.2.2.2) (h : xstp K w M lv st i nx tg = some (oc, M', pc', lv', st')) (hc : xcj oc (xV K μ k post M' pc' lv' st')) : xV K μ k post M pc lv st := by
  unfold xstp at h
  split at h
  · cases h; exact xr_iconst hq hc
  · cases h; exact xr_bipush hq hc
  · split at h
    · cases h; exact xr_iload_n hq (by assumption) hc
    · cases h
  · split at h
    · cases h; exact xr_iload hq (by assumption) hc
    · cases h
  · split at h
    · cases h; exact xr_aload_n hq (by assumption) hc
    · cases h
  · split at h
    · cases h; exact xr_lload hq (by assumption) hc
    · cases h
  · split at h
    · cases h; exact xr_istore_n hq (by assumption) (by assumption) hc
    · cases h
  · split at h
    · cases h; exact xr_istore hq (by assumption) (by assumption) hc
    · cases h
  · split at h
    · cases h; exact xr_lstore hq (by assumption) (by assumption) hc
    · cases h
  · split at h
    · cases h; exact xr_iinc hq (by assumption) (by assumption) hc.1 hc.2
    · cases h
  · split at h
    · split at h
      · cases h; exact xr_iaddw hq hc
      · cases h; exact xr_iadd hq hc.1 hc.2
    · cases h
  · split at h
    · split at h
      · cases h; exact xr_imulw hq hc
      · cases h; exact xr_imul hq hc.1 hc.2
    · cases h
  · split at h
    · cases h; exact xr_isub hq hc.1 hc.2
    · cases h
  · split at h
    · cases h; exact xr_idiv hq hc.1 hc.2
    · cases h
  · split at h
    · cases h; exact xr_irem hq hc.1 hc.2
    · cases h
  · split at h
    · cases h; exact xr_iand hq hc.1 hc.2
    · cases h
  · cases h; exact xr_goto hq hc
  · split at h
    · cases h; exact xr_pop hq hc
    · cases h
  · split at h
    · cases h; exact xr_dup hq hc
    · cases h
  · split at h
    · cases h; exact xr_i2l hq hc
    · cases h
  · split at h
    · cases h; exact xr_l2i hq hc.1 hc.2
    · cases h
  · split at h
    · cases h; exact xr_ladd hq hc.1 hc.2
    · cases h
  · cases h; exact xr_lconst hq hc
  · split at h
    · rename_i hx
      cases h; exact xr_ldc2 hq (xlf_mem _ _ _ hx) hc
    · cases h
  · split at h
    · cases h; exact xr_lcmp hq hc
    · cases h
  · split at h
    · rename_i hx
      split at h
      · rename_i hy
        cases h; exact xr_getf hq (xlf_mem _ _ _ hx) hy hc
      · rename_i hy
        cases h; exact xr_getf hq (xlf_mem _ _ _ hx) hy hc
      · cases h
    · cases h
  · split at h
    · rename_i hx
      split at h
      · rename_i hy
        split at h
        · rename_i hz
          cases h; exact xr_putf hq (xlf_mem _ _ _ hx) hy (Or.inl hz) hc
        · cases h; exact xr_putf hq (xlf_mem _ _ _ hx) hy (Or.inr hc.1) hc.2
      · cases h
    · cases h
  · split at h
    · split at h
      · rename_i h1 h2
        cases h; exact xr_iald hq (Nat.blt_eq.mp h1) h2 hc.1 hc.2
      · cases h
    · cases h
  · split at h
    · split at h
      · rename_i h1 h2
        cases h; exact xr_bald hq (Nat.blt_eq.mp h1) h2 hc.1 hc.2
      · cases h
    · cases h
  · split at h
    · split at h
      · rename_i h1 h2
        cases h; exact xr_iast hq (Nat.blt_eq.mp h1) h2 hc.1 hc.2
      · cases h
    · cases h
  · split at h
    · split at h
      · rename_i h1 h2
        cases h; exact xr_bast hq (Nat.blt_eq.mp h1) h2 hc.1 hc.2
      · cases h
    · cases h
  · cases h
/-- runs from pc to the first time at tg -/
def xrun (K : xKl) (μ : xMd) (w : Bool) (tg : Nat) : Nat → Option Prop → xMem → Nat → List (Option xAV) → List xAV → Option xRs
  | 0, _, _, _, _, _ => none
  | n + 1, a, M, pc, lv, st => match Nat.beq pc tg with
    | true => some (a, M, tg, lv, st)
    | false => match xlk μ.2.2.2.2 pc with
      | none => none
      | some (i, nx, tg') => match xstp K w M lv st i nx tg' with
        | none => none
        | some (none, M', pc', lv', st') => xrun K μ w tg n a M' pc' lv' st'
        | some (some c, M', pc', lv', st') => match a with
          | none => xrun K μ w tg n (some c) M' pc' lv' st'
          | some b => xrun K μ w tg n (some (b ∧ c)) M' pc' lv' st'
def xtr (o : Option Prop) : Prop := match o with
  | none => True
  | some c => c
theorem xrun_ok {K : xKl} {μ : xMd} {k : Nat} {post : Int → xMem → Prop} {w : Bool} {tg : Nat} {oc : Option Prop} {M' : xMem} {pc' : Nat} {lv' : List (Option xAV)} {st' : List xAV} (kk : xV K μ k post M' pc' lv' st') (hc : xtr oc) :
    ∀ (n : Nat) (a : Option Prop) (M : xMem) (pc : Nat) (lv : List (Option xAV)) (st : List xAV), xrun K μ w tg n a M pc lv st = some (oc, M', pc', lv', st') → xtr a ∧ xV K μ k post M pc lv st
  | 0, a, M, pc, lv, st, h => by
    unfold xrun at h
    cases h
  | n + 1, a, M, pc, lv, st, h => by
    unfold xrun at h
    split at h
    · rename_i hb
      have e : pc = tg := Nat.eq_of_beq_eq_true hb
      cases h
      rw [e]
      exact ⟨hc, kk⟩
    · split at h
      · cases h
      · rename_i i nx tg hl
        have hq := xlk_mem _ _ _ _ _ hl
        split at h
        · cases h
        · rename_i hs
          obtain ⟨h1, h2⟩ := xrun_ok kk hc n _ _ _ _ _ h
          exact ⟨h1, xstp_ok hq hs h2⟩
        · rename_i hs
          split at h
          · obtain ⟨h1, h2⟩ := xrun_ok kk hc n _ _ _ _ _ h
            exact ⟨trivial, xstp_ok hq hs ⟨h1, h2⟩⟩
          · obtain ⟨h1, h2⟩ := xrun_ok kk hc n _ _ _ _ _ h
            exact ⟨h1.1, xstp_ok hq hs ⟨h1.2, h2⟩⟩
section GO
variable {K : xKl} {μ : xMd} {k : Nat} {post : Int → xMem → Prop} {M : xMem} {pc nx tg : Nat} {lv : List (Option xAV)} {st : List xAV} {M' : xMem} {pc' : Nat} {lv' : List (Option xAV)} {st' : List xAV}
/-- on to pc', no condition -/
theorem xgo (tg : Nat) (h : xrun K μ false tg 100 none M pc lv st = some (none, M', pc', lv', st')) (kk : xV K μ k post M' pc' lv' st') : xV K μ k post M pc lv st := (xrun_ok (oc := none) kk trivial 100 none M pc lv st h).2
/-- on to pc' under a condition -/
theorem xgc (tg : Nat) {c : Prop} (h : xrun K μ false tg 100 none M pc lv st = some (some c, M', pc', lv', st')) (hc : c) (kk : xV K μ k post M' pc' lv' st') : xV K μ k post M pc lv st := (xrun_ok (oc := some c) kk hc 100 none M pc lv st h).2
/-- on to pc', sums and products wrap -/
theorem xgw (tg : Nat) {c : Prop} (h : xrun K μ true tg 100 none M pc lv st = some (some c, M', pc', lv', st')) (hc : c) (kk : xV K μ k post M' pc' lv' st') : xV K μ k post M pc lv st := (xrun_ok (oc := some c) kk hc 100 none M pc lv st h).2
def xbf (μ : xMd) (pc : Nat) (st : List xAV) : Option (Prop × Prop × Nat × Nat × List xAV) :=
  match xlk μ.2.2.2.2 pc with
  | some (.if_icmp o _, nx, tg) => match st with
    | .inl y :: .inl x :: r => match o with
      | .eq => some (x = y, ¬ x = y, tg, nx, r)
      | .ne => some (¬ x = y, x = y, tg, nx, r)
      | .lt => some (x < y, y ≤ x, tg, nx, r)
      | .ge => some (y ≤ x, x < y, tg, nx, r)
      | .gt => some (y < x, x ≤ y, tg, nx, r)
      | .le => some (x ≤ y, y < x, tg, nx, r)
    | _ => none
  | some (.ifCond o _, nx, tg) => match st with
    | .inl x :: r => match o with
      | .eq => some (x = 0, ¬ x = 0, tg, nx, r)
      | .ne => some (¬ x = 0, x = 0, tg, nx, r)
      | .lt => some (x < 0, 0 ≤ x, tg, nx, r)
      | .ge => some (0 ≤ x, x < 0, tg, nx, r)
      | .gt => some (0 < x, x ≤ 0, tg, nx, r)
      | .le => some (x ≤ 0, 0 < x, tg, nx, r)
    | _ => none
  | _ => none
/-- a branch: tc where it goes to if the condition holds -/
theorem xbr {tg nx : Nat} {c d : Prop} {r : List xAV} (h : xbf μ pc st = some (c, d, tg, nx, r)) (kt : c → xV K μ k post M tg lv r) (kf : d → xV K μ k post M nx lv r) : xV K μ k post M pc lv st := by
  unfold xbf at h
  split at h
  · rename_i o _ _ _ hl
    have hq := xlk_mem _ _ _ _ _ hl
    split at h
    · split at h
      · cases h; exact xr_icmp hq kt kf
      · cases h; exact xr_icmp hq kt (fun h => kf (Decidable.not_not.mp h))
      · cases h; exact xr_icmp hq kt (fun h => kf (Int.not_lt.mp h))
      · cases h; exact xr_icmp hq kt (fun h => kf (Int.not_le.mp h))
      · cases h; exact xr_icmp hq kt (fun h => kf (Int.not_lt.mp h))
      · cases h; exact xr_icmp hq kt (fun h => kf (Int.not_le.mp h))
    · cases h
  · rename_i o _ _ _ hl
    have hq := xlk_mem _ _ _ _ _ hl
    split at h
    · split at h
      · cases h; exact xr_if hq kt kf
      · cases h; exact xr_if hq kt (fun h => kf (Decidable.not_not.mp h))
      · cases h; exact xr_if hq kt (fun h => kf (Int.not_lt.mp h))
      · cases h; exact xr_if hq kt (fun h => kf (Int.not_le.mp h))
      · cases h; exact xr_if hq kt (fun h => kf (Int.not_lt.mp h))
      · cases h; exact xr_if hq kt (fun h => kf (Int.not_le.mp h))
    · cases h
  · cases h
theorem xret {x : Int} (h : xlk μ.2.2.2.2 pc = some (.ireturn, nx, tg)) (hr : μ.2.2.2.1 = some .int) (hp : post x M) : xV K μ k post M pc lv [.inl x] := xr_ret (xlk_mem _ _ _ _ _ h) hr (Or.inl rfl) hp
theorem xretz {x : Int} (h : xlk μ.2.2.2.2 pc = some (.ireturn, nx, tg)) (hr : μ.2.2.2.1 = some .boolean) (hx : x = 0 ∨ x = 1) (hp : post x M) : xV K μ k post M pc lv [.inl x] := xr_ret (xlk_mem _ _ _ _ _ h) hr (Or.inr ⟨rfl, hx⟩) hp
theorem xretv (h : xlk μ.2.2.2.2 pc = some (.return_, nx, tg)) (hr : μ.2.2.2.1 = none) (hp : post 0 M) : xV K μ k post M pc lv [] := xr_retv (xlk_mem _ _ _ _ _ h) hr hp
theorem xcall {n k' : Nat} {μ' : xMd} {as : List Int} {st0 : List xAV} {post' : Int → xMem → Prop} (hm : xMet K μ' k' true M as post') (h : xlk μ.2.2.2.2 pc = some (.invokevirtual n, nx, tg)) (hst : st0 = (as.map Sum.inl).reverse ++ .inr (.inr none) :: st) (hlk : xLk K n μ' as.length) (hkk : Nat.ble (k' + 1) k = true) (hrest : Nat.ble st.length 4 = true) (hr : μ'.2.2.2.1.isSome = true) (kk : ∀ r M', post' r M' → xV K μ k post M' nx lv (.inl r :: st)) : xV K μ k post M pc lv st0 := by
  subst hst
  exact xr_callV (xlk_mem _ _ _ _ _ h) hlk hm (Nat.le_of_ble_eq_true hkk) (Nat.le_of_ble_eq_true hrest) (fun e => by rw [e] at hr; cases hr) kk
theorem xcallv {n k' : Nat} {μ' : xMd} {as : List Int} {st0 : List xAV} {post' : Int → xMem → Prop} (hm : xMet K μ' k' true M as post') (h : xlk μ.2.2.2.2 pc = some (.invokevirtual n, nx, tg)) (hst : st0 = (as.map Sum.inl).reverse ++ .inr (.inr none) :: st) (hlk : xLk K n μ' as.length) (hkk : Nat.ble (k' + 1) k = true) (hrest : Nat.ble st.length 4 = true) (hr : μ'.2.2.2.1 = none) (kk : ∀ M', post' 0 M' → xV K μ k post M' nx lv st) : xV K μ k post M pc lv st0 := by
  subst hst
  exact xr_callVv (xlk_mem _ _ _ _ _ h) hlk hm (Nat.le_of_ble_eq_true hkk) (Nat.le_of_ble_eq_true hrest) hr kk
theorem xcalls {n k' : Nat} {μ' : xMd} {as : List Int} {st0 : List xAV} {post' : Int → xMem → Prop} (hm : xMet K μ' k' false M as post') (h : xlk μ.2.2.2.2 pc = some (.invokestatic n, nx, tg)) (hst : st0 = (as.map Sum.inl).reverse ++ st) (hlk : xLs K n μ' as.length) (hkk : Nat.ble (k' + 1) k = true) (hrest : Nat.ble st.length 4 = true) (hr : μ'.2.2.2.1.isSome = true) (kk : ∀ r M', post' r M' → xV K μ k post M' nx lv (.inl r :: st)) : xV K μ k post M pc lv st0 := by
  subst hst
  exact xr_callS (xlk_mem _ _ _ _ _ h) hlk hm (Nat.le_of_ble_eq_true hkk) (Nat.le_of_ble_eq_true hrest) (fun e => by rw [e] at hr; cases hr) kk
/-- the range facts of a state may be used -/
theorem xfacts (kk : xrM M → xrL lv → xrS st → xV K μ k post M pc lv st) : xV K μ k post M pc lv st := by
  intro p l e s m args below meth c G A H locs ls X
  exact kk X.2.2.2.1 X.2.2.2.2.1 X.2.2.2.2.2.1 p l e s m args below meth c G A H locs ls X
/-- a local is forgotten -/
theorem xfg (i : Nat) (kk : xV K μ k post M pc (lv.set i none) st) : xV K μ k post M pc lv st := by
  intro p l e s m args below meth c G A H locs ls X
  obtain ⟨hK, hμ, E, hM, hL, hS, hP, hD, hSS, hl⟩ := X
  refine kk p l e s m args below meth c G A H locs ls ⟨hK, hμ, E, hM, xrL_n hL, hS, hP, hD, hSS, hl.1, hl.2.1, by rw [List.length_set]; exact hl.2.2.1, fun j v hj => ?_⟩
  by_cases e : j = i
  · subst e
    by_cases hb : j < lv.length
    · rw [List.getElem?_set_self hb] at hj
      cases hj
    · rw [List.getElem?_eq_none (by simpa using hb)] at hj
      cases hj
  · rw [List.getElem?_set_ne (Ne.symm e)] at hj
    exact hl.2.2.2 j v hj
end GO
theorem xloop1 {σ : Type} {J : σ → Prop} (I : σ → Prop) (f : σ → Nat) (hs : ∀ s, I s → (∀ s', I s' → f s' < f s → J s') → J s) (s : σ) (h : I s) : J s := by
  have key : ∀ (n : Nat) (s : σ), f s < n → I s → J s := by
    intro n
    induction n with
    | zero => intro s h1; exact absurd h1 (Nat.not_lt_zero _)
    | succ n ih => intro s h1 h2; exact hs s h2 (fun s' h3 h4 => ih s' (by omega) h3)
  exact key _ s (Nat.lt_succ_self _) h
theorem xloop2 {α β : Type} {J : α → β → Prop} (I : α → β → Prop) (f : α → β → Nat) (hs : ∀ a b, I a b → (∀ a' b', I a' b' → f a' b' < f a b → J a' b') → J a b) (a : α) (b : β) (h : I a b) : J a b :=
  xloop1 (σ := α × β) (J := fun s => J s.1 s.2) (fun s => I s.1 s.2) (fun s => f s.1 s.2) (fun s h1 h2 => hs s.1 s.2 h1 (fun a' b' h3 h4 => h2 (a', b') h3 h4)) (a, b) h
theorem xloop3 {α β γ : Type} {J : α → β → γ → Prop} (I : α → β → γ → Prop) (f : α → β → γ → Nat) (hs : ∀ a b c, I a b c → (∀ a' b' c', I a' b' c' → f a' b' c' < f a b c → J a' b' c') → J a b c) (a : α) (b : β) (c : γ) (h : I a b c) : J a b c :=
  xloop1 (σ := α × β × γ) (J := fun s => J s.1 s.2.1 s.2.2) (fun s => I s.1 s.2.1 s.2.2) (fun s => f s.1 s.2.1 s.2.2) (fun s h1 h2 => hs s.1 s.2.1 s.2.2 h1 (fun a' b' c' h3 h4 => h2 (a', b', c') h3 h4)) (a, b, c) h
theorem xloop4 {α β γ δ : Type} {J : α → β → γ → δ → Prop} (I : α → β → γ → δ → Prop) (f : α → β → γ → δ → Nat) (hs : ∀ a b c d, I a b c d → (∀ a' b' c' d', I a' b' c' d' → f a' b' c' d' < f a b c d → J a' b' c' d') → J a b c d) (a : α) (b : β) (c : γ) (d : δ) (h : I a b c d) : J a b c d :=
  xloop1 (σ := α × β × γ × δ) (J := fun s => J s.1 s.2.1 s.2.2.1 s.2.2.2) (fun s => I s.1 s.2.1 s.2.2.1 s.2.2.2) (fun s => f s.1 s.2.1 s.2.2.1 s.2.2.2) (fun s h1 h2 => hs s.1 s.2.1 s.2.2.1 s.2.2.2 h1 (fun a' b' c' d' h3 h4 => h2 (a', b', c', d') h3 h4)) (a, b, c, d) h
end
section
set_option maxRecDepth 100000
def kX0 : xKl := (0, (RX0, TX0, 11), 9, (fun k => k == 3 || k == 7 || k == 103), [(7, 0), (38, 1), (13, 2), (50, 3), (16, 4), (19, 5), (23, 6), (26, 7), (29, 8), (32, 9), (35, 10)], [.inl 0, .inr (9, 0), .inl 1, .inr (9, 1), .inl 2, .inl 3, .inl 4, .inl 5, .inl 6, .inl 7, .inl 8], [])
def kX1 : xKl := (1, (RX1, TX1, 2), 2, (fun _ => false), [(7, 0), (13, 1)], [.inl 0, .inl 1], [(31, 99)])
theorem kX0_ok : xKok kX0 := by
  refine ⟨rfl, in_X0, rfl, by decide, ?_, ?_, ⟨tyX0, tyX0_ok⟩, nmX0, ?_, ?_, ?_⟩
  · intro q hq
    simp only [kX0, List.mem_cons, List.not_mem_nil, or_false] at hq
    rcases hq with rfl | rfl | rfl | rfl | rfl | rfl | rfl | rfl | rfl | rfl | rfl
    · exact ⟨by decide, q37, rfl⟩
    · exact ⟨by decide, q38, rfl⟩
    · exact ⟨by decide, q39, rfl⟩
    · exact ⟨by decide, q40, rfl⟩
    · exact ⟨by decide, q41, rfl⟩
    · exact ⟨by decide, q42, rfl⟩
    · exact ⟨by decide, q43, rfl⟩
    · exact ⟨by decide, q44, rfl⟩
    · exact ⟨by decide, q45, rfl⟩
    · exact ⟨by decide, q46, rfl⟩
    · exact ⟨by decide, q47, rfl⟩
  · intro f j h
    match f, h with
    | 0, h => cases h
    | 1, h => exact ⟨rfl, Or.inr (by decide +kernel)⟩
    | 2, h => cases h
    | 3, h => exact ⟨rfl, Or.inl (by decide +kernel)⟩
    | 4, h => cases h
    | 5, h => cases h
    | 6, h => cases h
    | 7, h => cases h
    | 8, h => cases h
    | 9, h => cases h
    | 10, h => cases h
    | n + 11, h => simp [kX0] at h
  · intro q hq
    cases hq
  · intro q hq
    simp [kX0] at hq
    rcases hq with rfl | rfl <;> decide
  · intro f hf
    have e : f = 3 := by
      simp [kX0] at hf
      omega
    subst e
    decide +kernel
theorem kX1_ok : xKok kX1 := by
  refine ⟨rfl, in_X1, rfl, by decide, ?_, ?_, ⟨tyX1, tyX1_ok⟩, nmX1, ?_, ?_, ?_⟩
  · intro q hq
    simp only [kX1, List.mem_cons, List.not_mem_nil, or_false] at hq
    rcases hq with rfl | rfl
    · exact ⟨by decide, q187, rfl⟩
    · exact ⟨by decide, q188, rfl⟩
  · intro f j h
    match f, h with
    | 0, h => cases h
    | 1, h => cases h
    | n + 2, h => simp [kX1] at h
  · intro q hq
    simp only [kX1, List.mem_cons, List.not_mem_nil, or_false] at hq
    subst hq
    exact ⟨q218, ⟨by decide, by decide⟩⟩
  · intro q hq
    simp [kX1] at hq
  · intro f hf
    simp [kX1] at hf
def tX0_set : xTb := [(0, .iload_n 1, 1, 0), (1, .invokestatic 42, 4, 0), (4, .ifCond .eq 5, 7, 9), (7, .iconst (-1), 8, 0), (8, .ireturn, 9, 0), (9, .iload_n 2, 10, 0), (10, .ifCond .lt 9, 13, 19), (13, .iload_n 2, 14, 0), (14, .bipush 99, 16, 0), (16, .if_icmp .le 6, 19, 22), (19, .bipush (-2), 21, 0), (21, .ireturn, 22, 0), (22, .aload_n 0, 23, 0), (23, .getfield 7, 26, 0), (26, .iload_n 1, 27, 0), (27, .iaload, 28, 0), (28, .istore_n 3, 29, 0), (29, .aload_n 0, 30, 0), (30, .getfield 7, 33, 0), (33, .iload_n 1, 34, 0), (34, .iload_n 2, 35, 0), (35, .iastore, 36, 0), (36, .aload_n 0, 37, 0), (37, .iconst 0, 38, 0), (38, .putfield 38, 41, 0), (41, .iload_n 3, 42, 0), (42, .ireturn, 43, 0)]
def mX0_set : xMd := (yX0_set, cX0_set, 4, some .int, tX0_set)
theorem oX0_set : xMok mX0_set := xMok_of (by decide +kernel) (by decide +kernel) (by decide +kernel)
def tX0_bad : xTb := [(0, .iload_n 0, 1, 0), (1, .ifCond .lt 9, 4, 10), (4, .iload_n 0, 5, 0), (5, .bipush 64, 7, 0), (7, .if_icmp .lt 7, 10, 14), (10, .iconst 1, 11, 0), (11, .goto 4, 14, 15), (14, .iconst 0, 15, 0), (15, .ireturn, 16, 0)]
def mX0_bad : xMd := (yX0_bad, cX0_bad, 1, some .boolean, tX0_bad)
theorem oX0_bad : xMok mX0_bad := xMok_of (by decide +kernel) (by decide +kernel) (by decide +kernel)
def tX0_shift : xTb := [(0, .iload_n 1, 1, 0), (1, .invokestatic 42, 4, 0), (4, .ifCond .ne 10, 7, 14), (7, .iload_n 2, 8, 0), (8, .invokestatic 42, 11, 0), (11, .ifCond .eq 5, 14, 16), (14, .iconst (-1), 15, 0), (15, .ireturn, 16, 0), (16, .iload_n 3, 17, 0), (17, .bipush (-99), 19, 0), (19, .bipush 99, 21, 0), (21, .invokestatic 46, 24, 0), (24, .istore 4, 26, 0), (26, .iload_n 1, 27, 0), (27, .bipush 8, 29, 0), (29, .idiv, 30, 0), (30, .iload_n 2, 31, 0), (31, .bipush 8, 33, 0), (33, .idiv, 34, 0), (34, .if_icmp .ge 10, 37, 44), (37, .iload_n 1, 38, 0), (38, .bipush 8, 40, 0), (40, .idiv, 41, 0), (41, .goto 7, 44, 48), (44, .iload_n 2, 45, 0), (45, .bipush 8, 47, 0), (47, .idiv, 48, 0), (48, .istore 5, 50, 0), (50, .iload_n 1, 51, 0), (51, .bipush 8, 53, 0), (53, .idiv, 54, 0), (54, .iload_n 2, 55, 0), (55, .bipush 8, 57, 0), (57, .idiv, 58, 0), (58, .if_icmp .ge 10, 61, 68), (61, .iload_n 2, 62, 0), (62, .bipush 8, 64, 0), (64, .idiv, 65, 0), (65, .goto 7, 68, 72), (68, .iload_n 1, 69, 0), (69, .bipush 8, 71, 0), (71, .idiv, 72, 0), (72, .istore 6, 74, 0), (74, .iload_n 1, 75, 0), (75, .bipush 8, 77, 0), (77, .irem, 78, 0), (78, .iload_n 2, 79, 0), (79, .bipush 8, 81, 0), (81, .irem, 82, 0), (82, .if_icmp .ge 10, 85, 92), (85, .iload_n 1, 86, 0), (86, .bipush 8, 88, 0), (88, .irem, 89, 0), (89, .goto 7, 92, 96), (92, .iload_n 2, 93, 0), (93, .bipush 8, 95, 0), (95, .irem, 96, 0), (96, .istore 7, 98, 0), (98, .iload_n 1, 99, 0), (99, .bipush 8, 101, 0), (101, .irem, 102, 0), (102, .iload_n 2, 103, 0), (103, .bipush 8, 105, 0), (105, .irem, 106, 0), (106, .if_icmp .ge 10, 109, 116), (109, .iload_n 2, 110, 0), (110, .bipush 8, 112, 0), (112, .irem, 113, 0), (113, .goto 7, 116, 120), (116, .iload_n 1, 117, 0), (117, .bipush 8, 119, 0), (119, .irem, 120, 0), (120, .istore 8, 122, 0), (122, .iconst 0, 123, 0), (123, .istore 9, 125, 0), (125, .iload 5, 127, 0), (127, .istore 10, 129, 0), (129, .iload 10, 131, 0), (131, .iload 6, 133, 0), (133, .if_icmp .gt 78, 136, 211), (136, .iload 7, 138, 0), (138, .istore 11, 140, 0), (140, .iload 11, 142, 0), (142, .iload 8, 144, 0), (144, .if_icmp .gt 61, 147, 205), (147, .iload 10, 149, 0), (149, .bipush 8, 151, 0), (151, .imul, 152, 0), (152, .iload 11, 154, 0), (154, .iadd, 155, 0), (155, .istore 12, 157, 0), (157, .aload_n 0, 158, 0), (158, .getfield 7, 161, 0), (161, .iload 12, 163, 0), (163, .iaload, 164, 0), (164, .iload 4, 166, 0), (166, .iadd, 167, 0), (167, .iconst 0, 168, 0), (168, .bipush 99, 170, 0), (170, .invokestatic 46, 173, 0), (173, .istore 13, 175, 0), (175, .iload 13, 177, 0), (177, .aload_n 0, 178, 0), (178, .getfield 7, 181, 0), (181, .iload 12, 183, 0), (183, .iaload, 184, 0), (184, .if_icmp .eq 6, 187, 190), (187, .iinc 9 1, 190, 0), (190, .aload_n 0, 191, 0), (191, .getfield 7, 194, 0), (194, .iload 12, 196, 0), (196, .iload 13, 198, 0), (198, .iastore, 199, 0), (199, .iinc 11 1, 202, 0), (202, .goto (-62), 205, 140), (205, .iinc 10 1, 208, 0), (208, .goto (-79), 211, 129), (211, .aload_n 0, 212, 0), (212, .iconst 0, 213, 0), (213, .putfield 38, 216, 0), (216, .iload 9, 218, 0), (218, .ireturn, 219, 0)]
def mX0_shift : xMd := (yX0_shift, cX0_shift, 14, some .int, tX0_shift)
theorem oX0_shift : xMok mX0_shift := xMok_of (by decide +kernel) (by decide +kernel) (by decide +kernel)
def tX0_within : xTb := [(0, .iload_n 0, 1, 0), (1, .iload_n 1, 2, 0), (2, .if_icmp .ge 5, 5, 7), (5, .iload_n 1, 6, 0), (6, .ireturn, 7, 0), (7, .iload_n 0, 8, 0), (8, .iload_n 2, 9, 0), (9, .if_icmp .le 7, 12, 16), (12, .iload_n 2, 13, 0), (13, .goto 4, 16, 17), (16, .iload_n 0, 17, 0), (17, .ireturn, 18, 0)]
def mX0_within : xMd := (yX0_within, cX0_within, 3, some .int, tX0_within)
theorem oX0_within : xMok mX0_within := xMok_of (by decide +kernel) (by decide +kernel) (by decide +kernel)
def tX0_pattern : xTb := [(0, .iconst 0, 1, 0), (1, .istore_n 3, 2, 0), (2, .iload_n 3, 3, 0), (3, .bipush 64, 5, 0), (5, .if_icmp .ge 23, 8, 28), (8, .aload_n 0, 9, 0), (9, .getfield 7, 12, 0), (12, .iload_n 3, 13, 0), (13, .iload_n 3, 14, 0), (14, .iload_n 1, 15, 0), (15, .imul, 16, 0), (16, .iload_n 2, 17, 0), (17, .iadd, 18, 0), (18, .bipush 63, 20, 0), (20, .iand, 21, 0), (21, .iastore, 22, 0), (22, .iinc 3 1, 25, 0), (25, .goto (-23), 28, 2), (28, .aload_n 0, 29, 0), (29, .iconst 0, 30, 0), (30, .putfield 38, 33, 0), (33, .return_, 34, 0)]
def mX0_pattern : xMd := (yX0_pattern, cX0_pattern, 4, none, tX0_pattern)
theorem oX0_pattern : xMok mX0_pattern := xMok_of (by decide +kernel) (by decide +kernel) (by decide +kernel)
def tX0_height : xTb := [(0, .iload_n 1, 1, 0), (1, .invokestatic 42, 4, 0), (4, .ifCond .eq 7, 7, 11), (7, .iconst (-1), 8, 0), (8, .goto 9, 11, 17), (11, .aload_n 0, 12, 0), (12, .getfield 7, 15, 0), (15, .iload_n 1, 16, 0), (16, .iaload, 17, 0), (17, .ireturn, 18, 0)]
def mX0_height : xMd := (yX0_height, cX0_height, 2, some .int, tX0_height)
theorem oX0_height : xMok mX0_height := xMok_of (by decide +kernel) (by decide +kernel) (by decide +kernel)
def tX0_level : xTb := [(0, .iload_n 1, 1, 0), (1, .invokestatic 42, 4, 0), (4, .ifCond .eq 5, 7, 9), (7, .iconst (-1), 8, 0), (8, .ireturn, 9, 0), (9, .aload_n 0, 10, 0), (10, .invokevirtual 84, 13, 0), (13, .aload_n 0, 14, 0), (14, .getfield 13, 17, 0), (17, .iload_n 1, 18, 0), (18, .iaload, 19, 0), (19, .ireturn, 20, 0)]
def mX0_level : xMd := (yX0_level, cX0_level, 2, some .int, tX0_level)
theorem oX0_level : xMok mX0_level := xMok_of (by decide +kernel) (by decide +kernel) (by decide +kernel)
def tX0_prepare : xTb := [(0, .aload_n 0, 1, 0), (1, .getfield 38, 4, 0), (4, .ifCond .eq 4, 7, 8), (7, .return_, 8, 0), (8, .aload_n 0, 9, 0), (9, .iconst 1, 10, 0), (10, .putfield 38, 13, 0), (13, .aload_n 0, 14, 0), (14, .iconst 0, 15, 0), (15, .putfield 50, 18, 0), (18, .iconst 0, 19, 0), (19, .istore_n 1, 20, 0), (20, .iload_n 1, 21, 0), (21, .bipush 64, 23, 0), (23, .if_icmp .ge 16, 26, 39), (26, .aload_n 0, 27, 0), (27, .getfield 19, 30, 0), (30, .iload_n 1, 31, 0), (31, .iconst 0, 32, 0), (32, .bastore, 33, 0), (33, .iinc 1 1, 36, 0), (36, .goto (-16), 39, 20), (39, .iconst 0, 40, 0), (40, .istore_n 1, 41, 0), (41, .iload_n 1, 42, 0), (42, .bipush 64, 44, 0), (44, .if_icmp .ge 22, 47, 66), (47, .iload_n 1, 48, 0), (48, .invokestatic 62, 51, 0), (51, .ifCond .eq 9, 54, 60), (54, .aload_n 0, 55, 0), (55, .iload_n 1, 56, 0), (56, .iconst 0, 57, 0), (57, .invokevirtual 65, 60, 0), (60, .iinc 1 1, 63, 0), (63, .goto (-22), 66, 41), (66, .aload_n 0, 67, 0), (67, .getfield 50, 70, 0), (70, .ifCond .le 54, 73, 124), (73, .aload_n 0, 74, 0), (74, .invokevirtual 69, 77, 0), (77, .istore_n 1, 78, 0), (78, .iconst 0, 79, 0), (79, .istore_n 2, 80, 0), (80, .iload_n 2, 81, 0), (81, .iconst 4, 82, 0), (82, .if_icmp .ge 39, 85, 121), (85, .iload_n 1, 86, 0), (86, .iload_n 2, 87, 0), (87, .invokestatic 73, 90, 0), (90, .istore_n 3, 91, 0), (91, .iload_n 3, 92, 0), (92, .ifCond .lt 23, 95, 115), (95, .aload_n 0, 96, 0), (96, .getfield 19, 99, 0), (99, .iload_n 3, 100, 0), (100, .baload, 101, 0), (101, .ifCond .ne 14, 104, 115), (104, .aload_n 0, 105, 0), (105, .iload_n 3, 106, 0), (106, .aload_n 0, 107, 0), (107, .getfield 13, 110, 0), (110, .iload_n 1, 111, 0), (111, .iaload, 112, 0), (112, .invokevirtual 65, 115, 0), (115, .iinc 2 1, 118, 0), (118, .goto (-38), 121, 80), (121, .goto (-55), 124, 66), (124, .return_, 125, 0)]
def mX0_prepare : xMd := (yX0_prepare, cX0_prepare, 4, none, tX0_prepare)
theorem oX0_prepare : xMok mX0_prepare := xMok_of (by decide +kernel) (by decide +kernel) (by decide +kernel)
def tX0_border : xTb := [(0, .iload_n 0, 1, 0), (1, .bipush 8, 3, 0), (3, .idiv, 4, 0), (4, .istore_n 1, 5, 0), (5, .iload_n 0, 6, 0), (6, .bipush 8, 8, 0), (8, .irem, 9, 0), (9, .istore_n 2, 10, 0), (10, .iload_n 1, 11, 0), (11, .ifCond .eq 19, 14, 30), (14, .iload_n 1, 15, 0), (15, .bipush 7, 17, 0), (17, .if_icmp .eq 13, 20, 30), (20, .iload_n 2, 21, 0), (21, .ifCond .eq 9, 24, 30), (24, .iload_n 2, 25, 0), (25, .bipush 7, 27, 0), (27, .if_icmp .ne 7, 30, 34), (30, .iconst 1, 31, 0), (31, .goto 4, 34, 35), (34, .iconst 0, 35, 0), (35, .ireturn, 36, 0)]
def mX0_border : xMd := (yX0_border, cX0_border, 3, some .boolean, tX0_border)
theorem oX0_border : xMok mX0_border := xMok_of (by decide +kernel) (by decide +kernel) (by decide +kernel)
def tX0_meet : xTb := [(0, .aload_n 0, 1, 0), (1, .getfield 19, 4, 0), (4, .iload_n 1, 5, 0), (5, .iconst 1, 6, 0), (6, .bastore, 7, 0), (7, .aload_n 0, 8, 0), (8, .getfield 13, 11, 0), (11, .iload_n 1, 12, 0), (12, .iload_n 2, 13, 0), (13, .aload_n 0, 14, 0), (14, .getfield 7, 17, 0), (17, .iload_n 1, 18, 0), (18, .iaload, 19, 0), (19, .if_icmp .le 7, 22, 26), (22, .iload_n 2, 23, 0), (23, .goto 9, 26, 32), (26, .aload_n 0, 27, 0), (27, .getfield 7, 30, 0), (30, .iload_n 1, 31, 0), (31, .iaload, 32, 0), (32, .iastore, 33, 0), (33, .aload_n 0, 34, 0), (34, .iload_n 1, 35, 0), (35, .invokevirtual 58, 38, 0), (38, .return_, 39, 0)]
def mX0_meet : xMd := (yX0_meet, cX0_meet, 3, none, tX0_meet)
theorem oX0_meet : xMok mX0_meet := xMok_of (by decide +kernel) (by decide +kernel) (by decide +kernel)
def tX0_push : xTb := [(0, .aload_n 0, 1, 0), (1, .getfield 50, 4, 0), (4, .istore_n 2, 5, 0), (5, .aload_n 0, 6, 0), (6, .dup, 7, 0), (7, .getfield 50, 10, 0), (10, .iconst 1, 11, 0), (11, .iadd, 12, 0), (12, .putfield 50, 15, 0), (15, .iload_n 2, 16, 0), (16, .ifCond .le 46, 19, 62), (19, .aload_n 0, 20, 0), (20, .iload_n 1, 21, 0), (21, .aload_n 0, 22, 0), (22, .getfield 16, 25, 0), (25, .iload_n 2, 26, 0), (26, .iconst 1, 27, 0), (27, .isub, 28, 0), (28, .iconst 2, 29, 0), (29, .idiv, 30, 0), (30, .iaload, 31, 0), (31, .invokevirtual 54, 34, 0), (34, .ifCond .eq 28, 37, 62), (37, .aload_n 0, 38, 0), (38, .getfield 16, 41, 0), (41, .iload_n 2, 42, 0), (42, .aload_n 0, 43, 0), (43, .getfield 16, 46, 0), (46, .iload_n 2, 47, 0), (47, .iconst 1, 48, 0), (48, .isub, 49, 0), (49, .iconst 2, 50, 0), (50, .idiv, 51, 0), (51, .iaload, 52, 0), (52, .iastore, 53, 0), (53, .iload_n 2, 54, 0), (54, .iconst 1, 55, 0), (55, .isub, 56, 0), (56, .iconst 2, 57, 0), (57, .idiv, 58, 0), (58, .istore_n 2, 59, 0), (59, .goto (-44), 62, 15), (62, .aload_n 0, 63, 0), (63, .getfield 16, 66, 0), (66, .iload_n 2, 67, 0), (67, .iload_n 1, 68, 0), (68, .iastore, 69, 0), (69, .return_, 70, 0)]
def mX0_push : xMd := (yX0_push, cX0_push, 3, none, tX0_push)
theorem oX0_push : xMok mX0_push := xMok_of (by decide +kernel) (by decide +kernel) (by decide +kernel)
def tX0_lower : xTb := [(0, .aload_n 0, 1, 0), (1, .getfield 13, 4, 0), (4, .iload_n 1, 5, 0), (5, .iaload, 6, 0), (6, .aload_n 0, 7, 0), (7, .getfield 13, 10, 0), (10, .iload_n 2, 11, 0), (11, .iaload, 12, 0), (12, .if_icmp .lt 23, 15, 35), (15, .aload_n 0, 16, 0), (16, .getfield 13, 19, 0), (19, .iload_n 1, 20, 0), (20, .iaload, 21, 0), (21, .aload_n 0, 22, 0), (22, .getfield 13, 25, 0), (25, .iload_n 2, 26, 0), (26, .iaload, 27, 0), (27, .if_icmp .ne 12, 30, 39), (30, .iload_n 1, 31, 0), (31, .iload_n 2, 32, 0), (32, .if_icmp .ge 7, 35, 39), (35, .iconst 1, 36, 0), (36, .goto 4, 39, 40), (39, .iconst 0, 40, 0), (40, .ireturn, 41, 0)]
def mX0_lower : xMd := (yX0_lower, cX0_lower, 3, some .boolean, tX0_lower)
theorem oX0_lower : xMok mX0_lower := xMok_of (by decide +kernel) (by decide +kernel) (by decide +kernel)
def tX0_pop : xTb := [(0, .aload_n 0, 1, 0), (1, .getfield 16, 4, 0), (4, .iconst 0, 5, 0), (5, .iaload, 6, 0), (6, .istore_n 1, 7, 0), (7, .aload_n 0, 8, 0), (8, .dup, 9, 0), (9, .getfield 50, 12, 0), (12, .iconst 1, 13, 0), (13, .isub, 14, 0), (14, .putfield 50, 17, 0), (17, .aload_n 0, 18, 0), (18, .getfield 16, 21, 0), (21, .aload_n 0, 22, 0), (22, .getfield 50, 25, 0), (25, .iaload, 26, 0), (26, .istore_n 2, 27, 0), (27, .iconst 0, 28, 0), (28, .istore_n 3, 29, 0), (29, .iconst 1, 30, 0), (30, .istore 4, 32, 0), (32, .iload 4, 34, 0), (34, .aload_n 0, 35, 0), (35, .getfield 50, 38, 0), (38, .if_icmp .ge 90, 41, 128), (41, .iload 4, 43, 0), (43, .iconst 1, 44, 0), (44, .iadd, 45, 0), (45, .aload_n 0, 46, 0), (46, .getfield 50, 49, 0), (49, .if_icmp .ge 29, 52, 78), (52, .aload_n 0, 53, 0), (53, .aload_n 0, 54, 0), (54, .getfield 16, 57, 0), (57, .iload 4, 59, 0), (59, .iconst 1, 60, 0), (60, .iadd, 61, 0), (61, .iaload, 62, 0), (62, .aload_n 0, 63, 0), (63, .getfield 16, 66, 0), (66, .iload 4, 68, 0), (68, .iaload, 69, 0), (69, .invokevirtual 54, 72, 0), (72, .ifCond .eq 6, 75, 78), (75, .iinc 4 1, 78, 0), (78, .aload_n 0, 79, 0), (79, .aload_n 0, 80, 0), (80, .getfield 16, 83, 0), (83, .iload 4, 85, 0), (85, .iaload, 86, 0), (86, .iload_n 2, 87, 0), (87, .invokevirtual 54, 90, 0), (90, .ifCond .eq 29, 93, 119), (93, .aload_n 0, 94, 0), (94, .getfield 16, 97, 0), (97, .iload_n 3, 98, 0), (98, .aload_n 0, 99, 0), (99, .getfield 16, 102, 0), (102, .iload 4, 104, 0), (104, .iaload, 105, 0), (105, .iastore, 106, 0), (106, .iload 4, 108, 0), (108, .istore_n 3, 109, 0), (109, .iconst 2, 110, 0), (110, .iload_n 3, 111, 0), (111, .imul, 112, 0), (112, .iconst 1, 113, 0), (113, .iadd, 114, 0), (114, .istore 4, 116, 0), (116, .goto (-84), 119, 32), (119, .aload_n 0, 120, 0), (120, .getfield 50, 123, 0), (123, .istore 4, 125, 0), (125, .goto (-93), 128, 32), (128, .aload_n 0, 129, 0), (129, .getfield 16, 132, 0), (132, .iload_n 3, 133, 0), (133, .iload_n 2, 134, 0), (134, .iastore, 135, 0), (135, .iload_n 1, 136, 0), (136, .ireturn, 137, 0)]
def mX0_pop : xMd := (yX0_pop, cX0_pop, 5, some .int, tX0_pop)
theorem oX0_pop : xMok mX0_pop := xMok_of (by decide +kernel) (by decide +kernel) (by decide +kernel)
def tX0_neighbour : xTb := [(0, .iload_n 0, 1, 0), (1, .bipush 8, 3, 0), (3, .idiv, 4, 0), (4, .istore_n 2, 5, 0), (5, .iload_n 0, 6, 0), (6, .bipush 8, 8, 0), (8, .irem, 9, 0), (9, .istore_n 3, 10, 0), (10, .iload_n 1, 11, 0), (11, .ifCond .ne 19, 14, 30), (14, .iload_n 3, 15, 0), (15, .iconst 1, 16, 0), (16, .iadd, 17, 0), (17, .bipush 8, 19, 0), (19, .if_icmp .ge 9, 22, 28), (22, .iload_n 0, 23, 0), (23, .iconst 1, 24, 0), (24, .iadd, 25, 0), (25, .goto 4, 28, 29), (28, .iconst (-1), 29, 0), (29, .ireturn, 30, 0), (30, .iload_n 1, 31, 0), (31, .iconst 1, 32, 0), (32, .if_icmp .ne 15, 35, 47), (35, .iload_n 3, 36, 0), (36, .ifCond .le 9, 39, 45), (39, .iload_n 0, 40, 0), (40, .iconst 1, 41, 0), (41, .isub, 42, 0), (42, .goto 4, 45, 46), (45, .iconst (-1), 46, 0), (46, .ireturn, 47, 0), (47, .iload_n 1, 48, 0), (48, .iconst 2, 49, 0), (49, .if_icmp .ne 20, 52, 69), (52, .iload_n 2, 53, 0), (53, .iconst 1, 54, 0), (54, .iadd, 55, 0), (55, .bipush 8, 57, 0), (57, .if_icmp .ge 10, 60, 67), (60, .iload_n 0, 61, 0), (61, .bipush 8, 63, 0), (63, .iadd, 64, 0), (64, .goto 4, 67, 68), (67, .iconst (-1), 68, 0), (68, .ireturn, 69, 0), (69, .iload_n 2, 70, 0), (70, .ifCond .le 10, 73, 80), (73, .iload_n 0, 74, 0), (74, .bipush 8, 76, 0), (76, .isub, 77, 0), (77, .goto 4, 80, 81), (80, .iconst (-1), 81, 0), (81, .ireturn, 82, 0)]
def mX0_neighbour : xMd := (yX0_neighbour, cX0_neighbour, 4, some .int, tX0_neighbour)
theorem oX0_neighbour : xMok mX0_neighbour := xMok_of (by decide +kernel) (by decide +kernel) (by decide +kernel)
def tX0_volume : xTb := [(0, .aload_n 0, 1, 0), (1, .invokevirtual 84, 4, 0), (4, .iconst 0, 5, 0), (5, .istore_n 1, 6, 0), (6, .iconst 0, 7, 0), (7, .istore_n 2, 8, 0), (8, .iload_n 2, 9, 0), (9, .bipush 64, 11, 0), (11, .if_icmp .ge 25, 14, 36), (14, .iload_n 1, 15, 0), (15, .aload_n 0, 16, 0), (16, .getfield 13, 19, 0), (19, .iload_n 2, 20, 0), (20, .iaload, 21, 0), (21, .aload_n 0, 22, 0), (22, .getfield 7, 25, 0), (25, .iload_n 2, 26, 0), (26, .iaload, 27, 0), (27, .isub, 28, 0), (28, .iadd, 29, 0), (29, .istore_n 1, 30, 0), (30, .iinc 2 1, 33, 0), (33, .goto (-25), 36, 8), (36, .iload_n 1, 37, 0), (37, .ireturn, 38, 0)]
def mX0_volume : xMd := (yX0_volume, cX0_volume, 3, some .int, tX0_volume)
theorem oX0_volume : xMok mX0_volume := xMok_of (by decide +kernel) (by decide +kernel) (by decide +kernel)
def tX0_lakes : xTb := [(0, .aload_n 0, 1, 0), (1, .invokevirtual 84, 4, 0), (4, .aload_n 0, 5, 0), (5, .invokevirtual 87, 8, 0), (8, .iconst 0, 9, 0), (9, .istore_n 1, 10, 0), (10, .iconst 0, 11, 0), (11, .istore_n 2, 12, 0), (12, .iload_n 2, 13, 0), (13, .bipush 64, 15, 0), (15, .if_icmp .ge 42, 18, 57), (18, .aload_n 0, 19, 0), (19, .getfield 19, 22, 0), (22, .iload_n 2, 23, 0), (23, .baload, 24, 0), (24, .ifCond .ne 27, 27, 51), (27, .aload_n 0, 28, 0), (28, .getfield 13, 31, 0), (31, .iload_n 2, 32, 0), (32, .iaload, 33, 0), (33, .aload_n 0, 34, 0), (34, .getfield 7, 37, 0), (37, .iload_n 2, 38, 0), (38, .iaload, 39, 0), (39, .if_icmp .le 12, 42, 51), (42, .aload_n 0, 43, 0), (43, .iload_n 2, 44, 0), (44, .invokevirtual 90, 47, 0), (47, .pop, 48, 0), (48, .iinc 1 1, 51, 0), (51, .iinc 2 1, 54, 0), (54, .goto (-42), 57, 12), (57, .iload_n 1, 58, 0), (58, .ireturn, 59, 0)]
def mX0_lakes : xMd := (yX0_lakes, cX0_lakes, 3, some .int, tX0_lakes)
theorem oX0_lakes : xMok mX0_lakes := xMok_of (by decide +kernel) (by decide +kernel) (by decide +kernel)
def tX0_forget : xTb := [(0, .iconst 0, 1, 0), (1, .istore_n 1, 2, 0), (2, .iload_n 1, 3, 0), (3, .bipush 64, 5, 0), (5, .if_icmp .ge 16, 8, 21), (8, .aload_n 0, 9, 0), (9, .getfield 19, 12, 0), (12, .iload_n 1, 13, 0), (13, .iconst 0, 14, 0), (14, .bastore, 15, 0), (15, .iinc 1 1, 18, 0), (18, .goto (-16), 21, 2), (21, .return_, 22, 0)]
def mX0_forget : xMd := (yX0_forget, cX0_forget, 2, none, tX0_forget)
theorem oX0_forget : xMok mX0_forget := xMok_of (by decide +kernel) (by decide +kernel) (by decide +kernel)
def tX0_walkLake : xTb := [(0, .aload_n 0, 1, 0), (1, .getfield 19, 4, 0), (4, .iload_n 1, 5, 0), (5, .iconst 1, 6, 0), (6, .bastore, 7, 0), (7, .aload_n 0, 8, 0), (8, .getfield 35, 11, 0), (11, .iconst 0, 12, 0), (12, .iload_n 1, 13, 0), (13, .iastore, 14, 0), (14, .iconst 1, 15, 0), (15, .istore_n 2, 16, 0), (16, .iconst 0, 17, 0), (17, .istore_n 3, 18, 0), (18, .iload_n 3, 19, 0), (19, .iload_n 2, 20, 0), (20, .if_icmp .ge 88, 23, 108), (23, .iconst 0, 24, 0), (24, .istore 4, 26, 0), (26, .iload 4, 28, 0), (28, .iconst 4, 29, 0), (29, .if_icmp .ge 73, 32, 102), (32, .aload_n 0, 33, 0), (33, .getfield 35, 36, 0), (36, .iload_n 3, 37, 0), (37, .iaload, 38, 0), (38, .iload 4, 40, 0), (40, .invokestatic 73, 43, 0), (43, .istore 5, 45, 0), (45, .iload 5, 47, 0), (47, .ifCond .lt 49, 50, 96), (50, .aload_n 0, 51, 0), (51, .getfield 19, 54, 0), (54, .iload 5, 56, 0), (56, .baload, 57, 0), (57, .ifCond .ne 39, 60, 96), (60, .aload_n 0, 61, 0), (61, .getfield 13, 64, 0), (64, .iload 5, 66, 0), (66, .iaload, 67, 0), (67, .aload_n 0, 68, 0), (68, .getfield 7, 71, 0), (71, .iload 5, 73, 0), (73, .iaload, 74, 0), (74, .if_icmp .le 22, 77, 96), (77, .aload_n 0, 78, 0), (78, .getfield 19, 81, 0), (81, .iload 5, 83, 0), (83, .iconst 1, 84, 0), (84, .bastore, 85, 0), (85, .aload_n 0, 86, 0), (86, .getfield 35, 89, 0), (89, .iload_n 2, 90, 0), (90, .iload 5, 92, 0), (92, .iastore, 93, 0), (93, .iinc 2 1, 96, 0), (96, .iinc 4 1, 99, 0), (99, .goto (-73), 102, 26), (102, .iinc 3 1, 105, 0), (105, .goto (-87), 108, 18), (108, .iload_n 2, 109, 0), (109, .ireturn, 110, 0)]
def mX0_walkLake : xMd := (yX0_walkLake, cX0_walkLake, 6, some .int, tX0_walkLake)
theorem oX0_walkLake : xMok mX0_walkLake := xMok_of (by decide +kernel) (by decide +kernel) (by decide +kernel)
def tX0_lakeSize : xTb := [(0, .iload_n 1, 1, 0), (1, .invokestatic 42, 4, 0), (4, .ifCond .eq 5, 7, 9), (7, .iconst (-1), 8, 0), (8, .ireturn, 9, 0), (9, .aload_n 0, 10, 0), (10, .invokevirtual 84, 13, 0), (13, .aload_n 0, 14, 0), (14, .getfield 13, 17, 0), (17, .iload_n 1, 18, 0), (18, .iaload, 19, 0), (19, .aload_n 0, 20, 0), (20, .getfield 7, 23, 0), (23, .iload_n 1, 24, 0), (24, .iaload, 25, 0), (25, .if_icmp .ne 5, 28, 30), (28, .iconst 0, 29, 0), (29, .ireturn, 30, 0), (30, .aload_n 0, 31, 0), (31, .invokevirtual 87, 34, 0), (34, .aload_n 0, 35, 0), (35, .iload_n 1, 36, 0), (36, .invokevirtual 90, 39, 0), (39, .ireturn, 40, 0)]
def mX0_lakeSize : xMd := (yX0_lakeSize, cX0_lakeSize, 2, some .int, tX0_lakeSize)
theorem oX0_lakeSize : xMok mX0_lakeSize := xMok_of (by decide +kernel) (by decide +kernel) (by decide +kernel)
def tX0_pass : xTb := [(0, .iload_n 1, 1, 0), (1, .invokestatic 42, 4, 0), (4, .ifCond .ne 10, 7, 14), (7, .iload_n 2, 8, 0), (8, .invokestatic 42, 11, 0), (11, .ifCond .eq 5, 14, 16), (14, .iconst (-1), 15, 0), (15, .ireturn, 16, 0), (16, .aload_n 0, 17, 0), (17, .invokevirtual 93, 20, 0), (20, .iconst 0, 21, 0), (21, .istore_n 3, 22, 0), (22, .iload_n 3, 23, 0), (23, .bipush 64, 25, 0), (25, .if_icmp .ge 70, 28, 95), (28, .aload_n 0, 29, 0), (29, .aload_n 0, 30, 0), (30, .getfield 23, 33, 0), (33, .iload_n 3, 34, 0), (34, .iaload, 35, 0), (35, .invokevirtual 96, 38, 0), (38, .aload_n 0, 39, 0), (39, .getfield 32, 42, 0), (42, .iload_n 1, 43, 0), (43, .baload, 44, 0), (44, .ifCond .eq 45, 47, 89), (47, .aload_n 0, 48, 0), (48, .getfield 32, 51, 0), (51, .iload_n 2, 52, 0), (52, .baload, 53, 0), (53, .ifCond .eq 36, 56, 89), (56, .aload_n 0, 57, 0), (57, .iload_n 1, 58, 0), (58, .invokevirtual 80, 61, 0), (61, .istore 4, 63, 0), (63, .aload_n 0, 64, 0), (64, .iload_n 2, 65, 0), (65, .invokevirtual 80, 68, 0), (68, .istore 5, 70, 0), (70, .iload 4, 72, 0), (72, .iload 5, 74, 0), (74, .if_icmp .ne 15, 77, 89), (77, .aload_n 0, 78, 0), (78, .getfield 7, 81, 0), (81, .aload_n 0, 82, 0), (82, .getfield 23, 85, 0), (85, .iload_n 3, 86, 0), (86, .iaload, 87, 0), (87, .iaload, 88, 0), (88, .ireturn, 89, 0), (89, .iinc 3 1, 92, 0), (92, .goto (-70), 95, 22), (95, .iconst 0, 96, 0), (96, .ireturn, 97, 0)]
def mX0_pass : xMd := (yX0_pass, cX0_pass, 6, some .int, tX0_pass)
theorem oX0_pass : xMok mX0_pass := xMok_of (by decide +kernel) (by decide +kernel) (by decide +kernel)
def tX0_startJoining : xTb := [(0, .aload_n 0, 1, 0), (1, .invokevirtual 77, 4, 0), (4, .iconst 0, 5, 0), (5, .istore_n 1, 6, 0), (6, .iload_n 1, 7, 0), (7, .bipush 64, 9, 0), (9, .if_icmp .ge 35, 12, 44), (12, .aload_n 0, 13, 0), (13, .getfield 26, 16, 0), (16, .iload_n 1, 17, 0), (17, .iload_n 1, 18, 0), (18, .iastore, 19, 0), (19, .aload_n 0, 20, 0), (20, .getfield 29, 23, 0), (23, .iload_n 1, 24, 0), (24, .aload_n 0, 25, 0), (25, .getfield 7, 28, 0), (28, .iload_n 1, 29, 0), (29, .iaload, 30, 0), (30, .iastore, 31, 0), (31, .aload_n 0, 32, 0), (32, .getfield 32, 35, 0), (35, .iload_n 1, 36, 0), (36, .iconst 0, 37, 0), (37, .bastore, 38, 0), (38, .iinc 1 1, 41, 0), (41, .goto (-35), 44, 6), (44, .return_, 45, 0)]
def mX0_startJoining : xMd := (yX0_startJoining, cX0_startJoining, 2, none, tX0_startJoining)
theorem oX0_startJoining : xMok mX0_startJoining := xMok_of (by decide +kernel) (by decide +kernel) (by decide +kernel)
def tX0_sortCells : xTb := [(0, .iconst 0, 1, 0), (1, .istore_n 1, 2, 0), (2, .iload_n 1, 3, 0), (3, .bipush 64, 5, 0), (5, .if_icmp .ge 64, 8, 69), (8, .iload_n 1, 9, 0), (9, .istore_n 2, 10, 0), (10, .iload_n 2, 11, 0), (11, .ifCond .le 45, 14, 56), (14, .aload_n 0, 15, 0), (15, .getfield 7, 18, 0), (18, .aload_n 0, 19, 0), (19, .getfield 23, 22, 0), (22, .iload_n 2, 23, 0), (23, .iconst 1, 24, 0), (24, .isub, 25, 0), (25, .iaload, 26, 0), (26, .iaload, 27, 0), (27, .aload_n 0, 28, 0), (28, .getfield 7, 31, 0), (31, .iload_n 1, 32, 0), (32, .iaload, 33, 0), (33, .if_icmp .le 23, 36, 56), (36, .aload_n 0, 37, 0), (37, .getfield 23, 40, 0), (40, .iload_n 2, 41, 0), (41, .aload_n 0, 42, 0), (42, .getfield 23, 45, 0), (45, .iload_n 2, 46, 0), (46, .iconst 1, 47, 0), (47, .isub, 48, 0), (48, .iaload, 49, 0), (49, .iastore, 50, 0), (50, .iinc 2 (-1), 53, 0), (53, .goto (-43), 56, 10), (56, .aload_n 0, 57, 0), (57, .getfield 23, 60, 0), (60, .iload_n 2, 61, 0), (61, .iload_n 1, 62, 0), (62, .iastore, 63, 0), (63, .iinc 1 1, 66, 0), (66, .goto (-64), 69, 2), (69, .return_, 70, 0)]
def mX0_sortCells : xMd := (yX0_sortCells, cX0_sortCells, 3, none, tX0_sortCells)
theorem oX0_sortCells : xMok mX0_sortCells := xMok_of (by decide +kernel) (by decide +kernel) (by decide +kernel)
def tX0_activate : xTb := [(0, .aload_n 0, 1, 0), (1, .getfield 32, 4, 0), (4, .iload_n 1, 5, 0), (5, .iconst 1, 6, 0), (6, .bastore, 7, 0), (7, .iconst 0, 8, 0), (8, .istore_n 2, 9, 0), (9, .iload_n 2, 10, 0), (10, .iconst 4, 11, 0), (11, .if_icmp .ge 82, 14, 93), (14, .iload_n 1, 15, 0), (15, .iload_n 2, 16, 0), (16, .invokestatic 73, 19, 0), (19, .istore_n 3, 20, 0), (20, .iload_n 3, 21, 0), (21, .ifCond .lt 66, 24, 87), (24, .aload_n 0, 25, 0), (25, .getfield 32, 28, 0), (28, .iload_n 3, 29, 0), (29, .baload, 30, 0), (30, .ifCond .eq 57, 33, 87), (33, .aload_n 0, 34, 0), (34, .iload_n 1, 35, 0), (35, .invokevirtual 80, 38, 0), (38, .istore 4, 40, 0), (40, .aload_n 0, 41, 0), (41, .iload_n 3, 42, 0), (42, .invokevirtual 80, 45, 0), (45, .istore 5, 47, 0), (47, .aload_n 0, 48, 0), (48, .getfield 26, 51, 0), (51, .iload 5, 53, 0), (53, .iload 4, 55, 0), (55, .iastore, 56, 0), (56, .aload_n 0, 57, 0), (57, .getfield 29, 60, 0), (60, .iload 5, 62, 0), (62, .iaload, 63, 0), (63, .aload_n 0, 64, 0), (64, .getfield 29, 67, 0), (67, .iload 4, 69, 0), (69, .iaload, 70, 0), (70, .if_icmp .le 17, 73, 87), (73, .aload_n 0, 74, 0), (74, .getfield 29, 77, 0), (77, .iload 4, 79, 0), (79, .aload_n 0, 80, 0), (80, .getfield 29, 83, 0), (83, .iload 5, 85, 0), (85, .iaload, 86, 0), (86, .iastore, 87, 0), (87, .iinc 2 1, 90, 0), (90, .goto (-81), 93, 9), (93, .return_, 94, 0)]
def mX0_activate : xMd := (yX0_activate, cX0_activate, 6, none, tX0_activate)
theorem oX0_activate : xMok mX0_activate := xMok_of (by decide +kernel) (by decide +kernel) (by decide +kernel)
def tX0_find : xTb := [(0, .iload_n 1, 1, 0), (1, .istore_n 2, 2, 0), (2, .aload_n 0, 3, 0), (3, .getfield 26, 6, 0), (6, .iload_n 2, 7, 0), (7, .iaload, 8, 0), (8, .iload_n 2, 9, 0), (9, .if_icmp .eq 30, 12, 39), (12, .aload_n 0, 13, 0), (13, .getfield 26, 16, 0), (16, .iload_n 2, 17, 0), (17, .aload_n 0, 18, 0), (18, .getfield 26, 21, 0), (21, .aload_n 0, 22, 0), (22, .getfield 26, 25, 0), (25, .iload_n 2, 26, 0), (26, .iaload, 27, 0), (27, .iaload, 28, 0), (28, .iastore, 29, 0), (29, .aload_n 0, 30, 0), (30, .getfield 26, 33, 0), (33, .iload_n 2, 34, 0), (34, .iaload, 35, 0), (35, .istore_n 2, 36, 0), (36, .goto (-34), 39, 2), (39, .iload_n 2, 40, 0), (40, .ireturn, 41, 0)]
def mX0_find : xMd := (yX0_find, cX0_find, 3, some .int, tX0_find)
theorem oX0_find : xMok mX0_find := xMok_of (by decide +kernel) (by decide +kernel) (by decide +kernel)
def tX0_reach : xTb := [(0, .iload_n 1, 1, 0), (1, .invokestatic 42, 4, 0), (4, .ifCond .eq 5, 7, 9), (7, .iconst (-1), 8, 0), (8, .ireturn, 9, 0), (9, .iload_n 2, 10, 0), (10, .aload_n 0, 11, 0), (11, .getfield 7, 14, 0), (14, .iload_n 1, 15, 0), (15, .iaload, 16, 0), (16, .if_icmp .ge 5, 19, 21), (19, .iconst 0, 20, 0), (20, .ireturn, 21, 0), (21, .aload_n 0, 22, 0), (22, .invokevirtual 93, 25, 0), (25, .iconst 0, 26, 0), (26, .istore_n 3, 27, 0), (27, .iload_n 3, 28, 0), (28, .bipush 64, 30, 0), (30, .if_icmp .ge 34, 33, 64), (33, .aload_n 0, 34, 0), (34, .getfield 7, 37, 0), (37, .aload_n 0, 38, 0), (38, .getfield 23, 41, 0), (41, .iload_n 3, 42, 0), (42, .iaload, 43, 0), (43, .iaload, 44, 0), (44, .iload_n 2, 45, 0), (45, .if_icmp .gt 19, 48, 64), (48, .aload_n 0, 49, 0), (49, .aload_n 0, 50, 0), (50, .getfield 23, 53, 0), (53, .iload_n 3, 54, 0), (54, .iaload, 55, 0), (55, .invokevirtual 96, 58, 0), (58, .iinc 3 1, 61, 0), (61, .goto (-34), 64, 27), (64, .aload_n 0, 65, 0), (65, .iload_n 1, 66, 0), (66, .invokevirtual 80, 69, 0), (69, .istore_n 3, 70, 0), (70, .iconst 0, 71, 0), (71, .istore 4, 73, 0), (73, .iconst 0, 74, 0), (74, .istore 5, 76, 0), (76, .iload 5, 78, 0), (78, .bipush 64, 80, 0), (80, .if_icmp .ge 36, 83, 116), (83, .aload_n 0, 84, 0), (84, .iload 5, 86, 0), (86, .invokevirtual 80, 89, 0), (89, .istore 6, 91, 0), (91, .aload_n 0, 92, 0), (92, .getfield 32, 95, 0), (95, .iload 5, 97, 0), (97, .baload, 98, 0), (98, .ifCond .eq 12, 101, 110), (101, .iload 6, 103, 0), (103, .iload_n 3, 104, 0), (104, .if_icmp .ne 6, 107, 110), (107, .iinc 4 1, 110, 0), (110, .iinc 5 1, 113, 0), (113, .goto (-37), 116, 76), (116, .iload 4, 118, 0), (118, .ireturn, 119, 0)]
def mX0_reach : xMd := (yX0_reach, cX0_reach, 7, some .int, tX0_reach)
theorem oX0_reach : xMok mX0_reach := xMok_of (by decide +kernel) (by decide +kernel) (by decide +kernel)
def tX0_prominence : xTb := [(0, .iload_n 1, 1, 0), (1, .invokestatic 42, 4, 0), (4, .ifCond .eq 5, 7, 9), (7, .iconst (-1), 8, 0), (8, .ireturn, 9, 0), (9, .aload_n 0, 10, 0), (10, .invokevirtual 93, 13, 0), (13, .bipush 63, 15, 0), (15, .istore_n 2, 16, 0), (16, .iload_n 2, 17, 0), (17, .ifCond .lt 68, 20, 85), (20, .aload_n 0, 21, 0), (21, .aload_n 0, 22, 0), (22, .getfield 23, 25, 0), (25, .iload_n 2, 26, 0), (26, .iaload, 27, 0), (27, .invokevirtual 96, 30, 0), (30, .aload_n 0, 31, 0), (31, .getfield 32, 34, 0), (34, .iload_n 1, 35, 0), (35, .baload, 36, 0), (36, .ifCond .eq 43, 39, 79), (39, .aload_n 0, 40, 0), (40, .iload_n 1, 41, 0), (41, .invokevirtual 80, 44, 0), (44, .istore_n 3, 45, 0), (45, .aload_n 0, 46, 0), (46, .getfield 29, 49, 0), (49, .iload_n 3, 50, 0), (50, .iaload, 51, 0), (51, .aload_n 0, 52, 0), (52, .getfield 7, 55, 0), (55, .iload_n 1, 56, 0), (56, .iaload, 57, 0), (57, .if_icmp .le 22, 60, 79), (60, .aload_n 0, 61, 0), (61, .getfield 7, 64, 0), (64, .iload_n 1, 65, 0), (65, .iaload, 66, 0), (66, .aload_n 0, 67, 0), (67, .getfield 7, 70, 0), (70, .aload_n 0, 71, 0), (71, .getfield 23, 74, 0), (74, .iload_n 2, 75, 0), (75, .iaload, 76, 0), (76, .iaload, 77, 0), (77, .isub, 78, 0), (78, .ireturn, 79, 0), (79, .iinc 2 (-1), 82, 0), (82, .goto (-66), 85, 16), (85, .aload_n 0, 86, 0), (86, .getfield 7, 89, 0), (89, .iload_n 1, 90, 0), (90, .iaload, 91, 0), (91, .aload_n 0, 92, 0), (92, .getfield 7, 95, 0), (95, .aload_n 0, 96, 0), (96, .getfield 23, 99, 0), (99, .iconst 0, 100, 0), (100, .iaload, 101, 0), (101, .iaload, 102, 0), (102, .isub, 103, 0), (103, .ireturn, 104, 0)]
def mX0_prominence : xMd := (yX0_prominence, cX0_prominence, 4, some .int, tX0_prominence)
theorem oX0_prominence : xMok mX0_prominence := xMok_of (by decide +kernel) (by decide +kernel) (by decide +kernel)
def tX0_summits : xTb := [(0, .aload_n 0, 1, 0), (1, .invokevirtual 87, 4, 0), (4, .iconst 0, 5, 0), (5, .istore_n 1, 6, 0), (6, .iconst 0, 7, 0), (7, .istore_n 2, 8, 0), (8, .iload_n 2, 9, 0), (9, .bipush 64, 11, 0), (11, .if_icmp .ge 31, 14, 42), (14, .aload_n 0, 15, 0), (15, .getfield 19, 18, 0), (18, .iload_n 2, 19, 0), (19, .baload, 20, 0), (20, .ifCond .ne 16, 23, 36), (23, .aload_n 0, 24, 0), (24, .iload_n 2, 25, 0), (25, .invokevirtual 99, 28, 0), (28, .istore_n 3, 29, 0), (29, .iload_n 3, 30, 0), (30, .ifCond .eq 6, 33, 36), (33, .iinc 1 1, 36, 0), (36, .iinc 2 1, 39, 0), (39, .goto (-31), 42, 8), (42, .iload_n 1, 43, 0), (43, .ireturn, 44, 0)]
def mX0_summits : xMd := (yX0_summits, cX0_summits, 4, some .int, tX0_summits)
theorem oX0_summits : xMok mX0_summits := xMok_of (by decide +kernel) (by decide +kernel) (by decide +kernel)
def tX0_summitAt : xTb := [(0, .aload_n 0, 1, 0), (1, .getfield 19, 4, 0), (4, .iload_n 1, 5, 0), (5, .iconst 1, 6, 0), (6, .bastore, 7, 0), (7, .aload_n 0, 8, 0), (8, .getfield 35, 11, 0), (11, .iconst 0, 12, 0), (12, .iload_n 1, 13, 0), (13, .iastore, 14, 0), (14, .iconst 1, 15, 0), (15, .istore_n 2, 16, 0), (16, .iconst 1, 17, 0), (17, .istore_n 3, 18, 0), (18, .iconst 0, 19, 0), (19, .istore 4, 21, 0), (21, .iload 4, 23, 0), (23, .iload_n 2, 24, 0), (24, .if_icmp .ge 111, 27, 135), (27, .iconst 0, 28, 0), (28, .istore 5, 30, 0), (30, .iload 5, 32, 0), (32, .iconst 4, 33, 0), (33, .if_icmp .ge 96, 36, 129), (36, .aload_n 0, 37, 0), (37, .getfield 35, 40, 0), (40, .iload 4, 42, 0), (42, .iaload, 43, 0), (43, .iload 5, 45, 0), (45, .invokestatic 73, 48, 0), (48, .istore 6, 50, 0), (50, .iload 6, 52, 0), (52, .ifCond .lt 21, 55, 73), (55, .aload_n 0, 56, 0), (56, .getfield 7, 59, 0), (59, .iload 6, 61, 0), (61, .iaload, 62, 0), (62, .aload_n 0, 63, 0), (63, .getfield 7, 66, 0), (66, .iload_n 1, 67, 0), (67, .iaload, 68, 0), (68, .if_icmp .le 5, 71, 73), (71, .iconst 0, 72, 0), (72, .istore_n 3, 73, 0), (73, .iload 6, 75, 0), (75, .ifCond .lt 48, 78, 123), (78, .aload_n 0, 79, 0), (79, .getfield 19, 82, 0), (82, .iload 6, 84, 0), (84, .baload, 85, 0), (85, .ifCond .ne 38, 88, 123), (88, .aload_n 0, 89, 0), (89, .getfield 7, 92, 0), (92, .iload 6, 94, 0), (94, .iaload, 95, 0), (95, .aload_n 0, 96, 0), (96, .getfield 7, 99, 0), (99, .iload_n 1, 100, 0), (100, .iaload, 101, 0), (101, .if_icmp .ne 22, 104, 123), (104, .aload_n 0, 105, 0), (105, .getfield 19, 108, 0), (108, .iload 6, 110, 0), (110, .iconst 1, 111, 0), (111, .bastore, 112, 0), (112, .aload_n 0, 113, 0), (113, .getfield 35, 116, 0), (116, .iload_n 2, 117, 0), (117, .iload 6, 119, 0), (119, .iastore, 120, 0), (120, .iinc 2 1, 123, 0), (123, .iinc 5 1, 126, 0), (126, .goto (-96), 129, 30), (129, .iinc 4 1, 132, 0), (132, .goto (-111), 135, 21), (135, .iload_n 3, 136, 0), (136, .ireturn, 137, 0)]
def mX0_summitAt : xMd := (yX0_summitAt, cX0_summitAt, 7, some .boolean, tX0_summitAt)
theorem oX0_summitAt : xMok mX0_summitAt := xMok_of (by decide +kernel) (by decide +kernel) (by decide +kernel)
def tX1_set : xTb := [(0, .aload_n 0, 1, 0), (1, .iload_n 1, 2, 0), (2, .invokevirtual 16, 5, 0), (5, .ifCond .eq 5, 8, 10), (8, .iconst (-1), 9, 0), (9, .ireturn, 10, 0), (10, .iload_n 2, 11, 0), (11, .ifCond .lt 9, 14, 20), (14, .iload_n 2, 15, 0), (15, .bipush 99, 17, 0), (17, .if_icmp .le 6, 20, 23), (20, .bipush (-2), 22, 0), (22, .ireturn, 23, 0), (23, .aload_n 0, 24, 0), (24, .getfield 7, 27, 0), (27, .iload_n 1, 28, 0), (28, .iaload, 29, 0), (29, .istore_n 3, 30, 0), (30, .aload_n 0, 31, 0), (31, .getfield 7, 34, 0), (34, .iload_n 1, 35, 0), (35, .iload_n 2, 36, 0), (36, .iastore, 37, 0), (37, .iload_n 3, 38, 0), (38, .ireturn, 39, 0)]
def mX1_set : xMd := (yX1_set, cX1_set, 4, some .int, tX1_set)
theorem oX1_set : xMok mX1_set := xMok_of (by decide +kernel) (by decide +kernel) (by decide +kernel)
def tX1_bad : xTb := [(0, .iload_n 1, 1, 0), (1, .ifCond .lt 9, 4, 10), (4, .iload_n 1, 5, 0), (5, .bipush 63, 7, 0), (7, .if_icmp .le 7, 10, 14), (10, .iconst 1, 11, 0), (11, .goto 4, 14, 15), (14, .iconst 0, 15, 0), (15, .ireturn, 16, 0)]
def mX1_bad : xMd := (yX1_bad, cX1_bad, 2, some .boolean, tX1_bad)
theorem oX1_bad : xMok mX1_bad := xMok_of (by decide +kernel) (by decide +kernel) (by decide +kernel)
def tX1_shift : xTb := [(0, .aload_n 0, 1, 0), (1, .iload_n 1, 2, 0), (2, .invokevirtual 16, 5, 0), (5, .ifCond .ne 11, 8, 16), (8, .aload_n 0, 9, 0), (9, .iload_n 2, 10, 0), (10, .invokevirtual 16, 13, 0), (13, .ifCond .eq 5, 16, 18), (16, .iconst (-1), 17, 0), (17, .ireturn, 18, 0), (18, .iconst 0, 19, 0), (19, .istore 4, 21, 0), (21, .iconst 0, 22, 0), (22, .istore 5, 24, 0), (24, .iload 5, 26, 0), (26, .bipush 64, 28, 0), (28, .if_icmp .ge 116, 31, 144), (31, .aload_n 0, 32, 0), (32, .iload 5, 34, 0), (34, .bipush 8, 36, 0), (36, .idiv, 37, 0), (37, .iload_n 1, 38, 0), (38, .bipush 8, 40, 0), (40, .idiv, 41, 0), (41, .iload_n 2, 42, 0), (42, .bipush 8, 44, 0), (44, .idiv, 45, 0), (45, .invokevirtual 27, 48, 0), (48, .ifCond .eq 90, 51, 138), (51, .aload_n 0, 52, 0), (52, .iload 5, 54, 0), (54, .bipush 8, 56, 0), (56, .irem, 57, 0), (57, .iload_n 1, 58, 0), (58, .bipush 8, 60, 0), (60, .irem, 61, 0), (61, .iload_n 2, 62, 0), (62, .bipush 8, 64, 0), (64, .irem, 65, 0), (65, .invokevirtual 27, 68, 0), (68, .ifCond .eq 70, 71, 138), (71, .aload_n 0, 72, 0), (72, .getfield 7, 75, 0), (75, .iload 5, 77, 0), (77, .iaload, 78, 0), (78, .i2l, 79, 0), (79, .iload_n 3, 80, 0), (80, .i2l, 81, 0), (81, .ladd, 82, 0), (82, .lstore 6, 84, 0), (84, .lload 6, 86, 0), (86, .lconst 0, 87, 0), (87, .lcmp, 88, 0), (88, .ifCond .ge 7, 91, 95), (91, .iconst 0, 92, 0), (92, .goto 20, 95, 112), (95, .lload 6, 97, 0), (97, .ldc2_w 31, 100, 0), (100, .lcmp, 101, 0), (101, .ifCond .le 8, 104, 109), (104, .bipush 99, 106, 0), (106, .goto 6, 109, 112), (109, .lload 6, 111, 0), (111, .l2i, 112, 0), (112, .istore 8, 114, 0), (114, .iload 8, 116, 0), (116, .aload_n 0, 117, 0), (117, .getfield 7, 120, 0), (120, .iload 5, 122, 0), (122, .iaload, 123, 0), (123, .if_icmp .eq 6, 126, 129), (126, .iinc 4 1, 129, 0), (129, .aload_n 0, 130, 0), (130, .getfield 7, 133, 0), (133, .iload 5, 135, 0), (135, .iload 8, 137, 0), (137, .iastore, 138, 0), (138, .iinc 5 1, 141, 0), (141, .goto (-117), 144, 24), (144, .iload 4, 146, 0), (146, .ireturn, 147, 0)]
def mX1_shift : xMd := (yX1_shift, cX1_shift, 9, some .int, tX1_shift)
theorem oX1_shift : xMok mX1_shift := xMok_of (by decide +kernel) (by decide +kernel) (by decide +kernel)
def tX1_between : xTb := [(0, .iload_n 1, 1, 0), (1, .aload_n 0, 2, 0), (2, .iload_n 2, 3, 0), (3, .iload_n 3, 4, 0), (4, .invokevirtual 20, 7, 0), (7, .if_icmp .lt 17, 10, 24), (10, .iload_n 1, 11, 0), (11, .aload_n 0, 12, 0), (12, .iload_n 2, 13, 0), (13, .iload_n 3, 14, 0), (14, .invokevirtual 24, 17, 0), (17, .if_icmp .gt 7, 20, 24), (20, .iconst 1, 21, 0), (21, .goto 4, 24, 25), (24, .iconst 0, 25, 0), (25, .ireturn, 26, 0)]
def mX1_between : xMd := (yX1_between, cX1_between, 4, some .boolean, tX1_between)
theorem oX1_between : xMok mX1_between := xMok_of (by decide +kernel) (by decide +kernel) (by decide +kernel)
def tX1_least : xTb := [(0, .iload_n 1, 1, 0), (1, .iload_n 2, 2, 0), (2, .if_icmp .ge 7, 5, 9), (5, .iload_n 1, 6, 0), (6, .goto 4, 9, 10), (9, .iload_n 2, 10, 0), (10, .ireturn, 11, 0)]
def mX1_least : xMd := (yX1_least, cX1_least, 3, some .int, tX1_least)
theorem oX1_least : xMok mX1_least := xMok_of (by decide +kernel) (by decide +kernel) (by decide +kernel)
def tX1_most : xTb := [(0, .iload_n 1, 1, 0), (1, .iload_n 2, 2, 0), (2, .if_icmp .le 7, 5, 9), (5, .iload_n 1, 6, 0), (6, .goto 4, 9, 10), (9, .iload_n 2, 10, 0), (10, .ireturn, 11, 0)]
def mX1_most : xMd := (yX1_most, cX1_most, 3, some .int, tX1_most)
theorem oX1_most : xMok mX1_most := xMok_of (by decide +kernel) (by decide +kernel) (by decide +kernel)
def tX1_pattern : xTb := [(0, .iconst 0, 1, 0), (1, .istore_n 3, 2, 0), (2, .iload_n 3, 3, 0), (3, .bipush 64, 5, 0), (5, .if_icmp .ge 23, 8, 28), (8, .aload_n 0, 9, 0), (9, .getfield 7, 12, 0), (12, .iload_n 3, 13, 0), (13, .iload_n 3, 14, 0), (14, .iload_n 1, 15, 0), (15, .imul, 16, 0), (16, .iload_n 2, 17, 0), (17, .iadd, 18, 0), (18, .bipush 63, 20, 0), (20, .iand, 21, 0), (21, .iastore, 22, 0), (22, .iinc 3 1, 25, 0), (25, .goto (-23), 28, 2), (28, .return_, 29, 0)]
def mX1_pattern : xMd := (yX1_pattern, cX1_pattern, 4, none, tX1_pattern)
theorem oX1_pattern : xMok mX1_pattern := xMok_of (by decide +kernel) (by decide +kernel) (by decide +kernel)
def tX1_height : xTb := [(0, .aload_n 0, 1, 0), (1, .iload_n 1, 2, 0), (2, .invokevirtual 16, 5, 0), (5, .ifCond .eq 7, 8, 12), (8, .iconst (-1), 9, 0), (9, .goto 9, 12, 18), (12, .aload_n 0, 13, 0), (13, .getfield 7, 16, 0), (16, .iload_n 1, 17, 0), (17, .iaload, 18, 0), (18, .ireturn, 19, 0)]
def mX1_height : xMd := (yX1_height, cX1_height, 2, some .int, tX1_height)
theorem oX1_height : xMok mX1_height := xMok_of (by decide +kernel) (by decide +kernel) (by decide +kernel)
def tX1_level : xTb := [(0, .aload_n 0, 1, 0), (1, .iload_n 1, 2, 0), (2, .invokevirtual 16, 5, 0), (5, .ifCond .eq 5, 8, 10), (8, .iconst (-1), 9, 0), (9, .ireturn, 10, 0), (10, .aload_n 0, 11, 0), (11, .invokevirtual 46, 14, 0), (14, .aload_n 0, 15, 0), (15, .getfield 13, 18, 0), (18, .iload_n 1, 19, 0), (19, .iaload, 20, 0), (20, .ireturn, 21, 0)]
def mX1_level : xMd := (yX1_level, cX1_level, 2, some .int, tX1_level)
theorem oX1_level : xMok mX1_level := xMok_of (by decide +kernel) (by decide +kernel) (by decide +kernel)
def tX1_levels : xTb := [(0, .iconst 0, 1, 0), (1, .istore_n 1, 2, 0), (2, .iload_n 1, 3, 0), (3, .bipush 64, 5, 0), (5, .if_icmp .ge 34, 8, 39), (8, .aload_n 0, 9, 0), (9, .getfield 13, 12, 0), (12, .iload_n 1, 13, 0), (13, .aload_n 0, 14, 0), (14, .iload_n 1, 15, 0), (15, .invokevirtual 40, 18, 0), (18, .ifCond .eq 12, 21, 30), (21, .aload_n 0, 22, 0), (22, .getfield 7, 25, 0), (25, .iload_n 1, 26, 0), (26, .iaload, 27, 0), (27, .goto 5, 30, 32), (30, .bipush 100, 32, 0), (32, .iastore, 33, 0), (33, .iinc 1 1, 36, 0), (36, .goto (-34), 39, 2), (39, .aload_n 0, 40, 0), (40, .invokevirtual 43, 43, 0), (43, .return_, 44, 0)]
def mX1_levels : xMd := (yX1_levels, cX1_levels, 2, none, tX1_levels)
theorem oX1_levels : xMok mX1_levels := xMok_of (by decide +kernel) (by decide +kernel) (by decide +kernel)
def tX1_border : xTb := [(0, .iload_n 1, 1, 0), (1, .bipush 8, 3, 0), (3, .if_icmp .lt 25, 6, 28), (6, .iload_n 1, 7, 0), (7, .bipush 55, 9, 0), (9, .if_icmp .gt 19, 12, 28), (12, .iload_n 1, 13, 0), (13, .bipush 8, 15, 0), (15, .irem, 16, 0), (16, .ifCond .eq 12, 19, 28), (19, .iload_n 1, 20, 0), (20, .bipush 8, 22, 0), (22, .irem, 23, 0), (23, .bipush 7, 25, 0), (25, .if_icmp .ne 7, 28, 32), (28, .iconst 1, 29, 0), (29, .goto 4, 32, 33), (32, .iconst 0, 33, 0), (33, .ireturn, 34, 0)]
def mX1_border : xMd := (yX1_border, cX1_border, 2, some .boolean, tX1_border)
theorem oX1_border : xMok mX1_border := xMok_of (by decide +kernel) (by decide +kernel) (by decide +kernel)
def tX1_lower : xTb := [(0, .iconst 0, 1, 0), (1, .istore_n 1, 2, 0), (2, .iload_n 1, 3, 0), (3, .bipush 64, 5, 0), (5, .if_icmp .ge 60, 8, 65), (8, .iconst 0, 9, 0), (9, .istore_n 2, 10, 0), (10, .iload_n 2, 11, 0), (11, .bipush 64, 13, 0), (13, .if_icmp .ge 46, 16, 59), (16, .aload_n 0, 17, 0), (17, .iload_n 2, 18, 0), (18, .invokevirtual 36, 21, 0), (21, .istore_n 3, 22, 0), (22, .aload_n 0, 23, 0), (23, .aload_n 0, 24, 0), (24, .getfield 7, 27, 0), (27, .iload_n 2, 28, 0), (28, .iaload, 29, 0), (29, .iload_n 3, 30, 0), (30, .invokevirtual 24, 33, 0), (33, .istore 4, 35, 0), (35, .aload_n 0, 36, 0), (36, .getfield 13, 39, 0), (39, .iload_n 2, 40, 0), (40, .aload_n 0, 41, 0), (41, .aload_n 0, 42, 0), (42, .getfield 13, 45, 0), (45, .iload_n 2, 46, 0), (46, .iaload, 47, 0), (47, .iload 4, 49, 0), (49, .invokevirtual 20, 52, 0), (52, .iastore, 53, 0), (53, .iinc 2 1, 56, 0), (56, .goto (-46), 59, 10), (59, .iinc 1 1, 62, 0), (62, .goto (-60), 65, 2), (65, .return_, 66, 0)]
def mX1_lower : xMd := (yX1_lower, cX1_lower, 5, none, tX1_lower)
theorem oX1_lower : xMok mX1_lower := xMok_of (by decide +kernel) (by decide +kernel) (by decide +kernel)
def tX1_leastBeside : xTb := [(0, .bipush 100, 2, 0), (2, .istore_n 2, 3, 0), (3, .iconst 0, 4, 0), (4, .istore_n 3, 5, 0), (5, .iload_n 3, 6, 0), (6, .iconst 4, 7, 0), (7, .if_icmp .ge 35, 10, 42), (10, .aload_n 0, 11, 0), (11, .iload_n 1, 12, 0), (12, .iload_n 3, 13, 0), (13, .invokevirtual 33, 16, 0), (16, .istore 4, 18, 0), (18, .iload 4, 20, 0), (20, .ifCond .lt 16, 23, 36), (23, .aload_n 0, 24, 0), (24, .iload_n 2, 25, 0), (25, .aload_n 0, 26, 0), (26, .getfield 13, 29, 0), (29, .iload 4, 31, 0), (31, .iaload, 32, 0), (32, .invokevirtual 20, 35, 0), (35, .istore_n 2, 36, 0), (36, .iinc 3 1, 39, 0), (39, .goto (-34), 42, 5), (42, .iload_n 2, 43, 0), (43, .ireturn, 44, 0)]
def mX1_leastBeside : xMd := (yX1_leastBeside, cX1_leastBeside, 5, some .int, tX1_leastBeside)
theorem oX1_leastBeside : xMok mX1_leastBeside := xMok_of (by decide +kernel) (by decide +kernel) (by decide +kernel)
def tX1_beside : xTb := [(0, .iload_n 2, 1, 0), (1, .ifCond .ne 18, 4, 19), (4, .iload_n 1, 5, 0), (5, .bipush 8, 7, 0), (7, .if_icmp .ge 7, 10, 14), (10, .iconst (-1), 11, 0), (11, .goto 7, 14, 18), (14, .iload_n 1, 15, 0), (15, .bipush 8, 17, 0), (17, .isub, 18, 0), (18, .ireturn, 19, 0), (19, .iload_n 2, 20, 0), (20, .iconst 1, 21, 0), (21, .if_icmp .ne 18, 24, 39), (24, .iload_n 1, 25, 0), (25, .bipush 55, 27, 0), (27, .if_icmp .le 7, 30, 34), (30, .iconst (-1), 31, 0), (31, .goto 7, 34, 38), (34, .iload_n 1, 35, 0), (35, .bipush 8, 37, 0), (37, .iadd, 38, 0), (38, .ireturn, 39, 0), (39, .iload_n 2, 40, 0), (40, .iconst 2, 41, 0), (41, .if_icmp .ne 18, 44, 59), (44, .iload_n 1, 45, 0), (45, .bipush 8, 47, 0), (47, .irem, 48, 0), (48, .ifCond .ne 7, 51, 55), (51, .iconst (-1), 52, 0), (52, .goto 6, 55, 58), (55, .iload_n 1, 56, 0), (56, .iconst 1, 57, 0), (57, .isub, 58, 0), (58, .ireturn, 59, 0), (59, .iload_n 1, 60, 0), (60, .bipush 8, 62, 0), (62, .irem, 63, 0), (63, .bipush 7, 65, 0), (65, .if_icmp .ne 7, 68, 72), (68, .iconst (-1), 69, 0), (69, .goto 6, 72, 75), (72, .iload_n 1, 73, 0), (73, .iconst 1, 74, 0), (74, .iadd, 75, 0), (75, .ireturn, 76, 0)]
def mX1_beside : xMd := (yX1_beside, cX1_beside, 3, some .int, tX1_beside)
theorem oX1_beside : xMok mX1_beside := xMok_of (by decide +kernel) (by decide +kernel) (by decide +kernel)
def tX1_volume : xTb := [(0, .aload_n 0, 1, 0), (1, .invokevirtual 46, 4, 0), (4, .iconst 0, 5, 0), (5, .istore_n 1, 6, 0), (6, .iconst 0, 7, 0), (7, .istore_n 2, 8, 0), (8, .iload_n 2, 9, 0), (9, .bipush 64, 11, 0), (11, .if_icmp .ge 25, 14, 36), (14, .iload_n 1, 15, 0), (15, .aload_n 0, 16, 0), (16, .getfield 13, 19, 0), (19, .iload_n 2, 20, 0), (20, .iaload, 21, 0), (21, .iadd, 22, 0), (22, .aload_n 0, 23, 0), (23, .getfield 7, 26, 0), (26, .iload_n 2, 27, 0), (27, .iaload, 28, 0), (28, .isub, 29, 0), (29, .istore_n 1, 30, 0), (30, .iinc 2 1, 33, 0), (33, .goto (-25), 36, 8), (36, .iload_n 1, 37, 0), (37, .ireturn, 38, 0)]
def mX1_volume : xMd := (yX1_volume, cX1_volume, 3, some .int, tX1_volume)
theorem oX1_volume : xMok mX1_volume := xMok_of (by decide +kernel) (by decide +kernel) (by decide +kernel)
def tX1_lakes : xTb := [(0, .aload_n 0, 1, 0), (1, .invokevirtual 49, 4, 0), (4, .iconst 0, 5, 0), (5, .istore_n 1, 6, 0), (6, .iconst 0, 7, 0), (7, .istore_n 2, 8, 0), (8, .iload_n 2, 9, 0), (9, .bipush 64, 11, 0), (11, .if_icmp .ge 22, 14, 33), (14, .aload_n 0, 15, 0), (15, .getfield 13, 18, 0), (18, .iload_n 2, 19, 0), (19, .iaload, 20, 0), (20, .iload_n 2, 21, 0), (21, .if_icmp .ne 6, 24, 27), (24, .iinc 1 1, 27, 0), (27, .iinc 2 1, 30, 0), (30, .goto (-22), 33, 8), (33, .iload_n 1, 34, 0), (34, .ireturn, 35, 0)]
def mX1_lakes : xMd := (yX1_lakes, cX1_lakes, 3, some .int, tX1_lakes)
theorem oX1_lakes : xMok mX1_lakes := xMok_of (by decide +kernel) (by decide +kernel) (by decide +kernel)
def tX1_lakeMarks : xTb := [(0, .aload_n 0, 1, 0), (1, .invokevirtual 46, 4, 0), (4, .iconst 0, 5, 0), (5, .istore_n 1, 6, 0), (6, .iload_n 1, 7, 0), (7, .bipush 64, 9, 0), (9, .if_icmp .ge 36, 12, 45), (12, .aload_n 0, 13, 0), (13, .getfield 13, 16, 0), (16, .iload_n 1, 17, 0), (17, .aload_n 0, 18, 0), (18, .getfield 13, 21, 0), (21, .iload_n 1, 22, 0), (22, .iaload, 23, 0), (23, .aload_n 0, 24, 0), (24, .getfield 7, 27, 0), (27, .iload_n 1, 28, 0), (28, .iaload, 29, 0), (29, .if_icmp .le 7, 32, 36), (32, .iload_n 1, 33, 0), (33, .goto 5, 36, 38), (36, .bipush 100, 38, 0), (38, .iastore, 39, 0), (39, .iinc 1 1, 42, 0), (42, .goto (-36), 45, 6), (45, .iconst 0, 46, 0), (46, .istore_n 1, 47, 0), (47, .iload_n 1, 48, 0), (48, .bipush 64, 50, 0), (50, .if_icmp .ge 57, 53, 107), (53, .iconst 0, 54, 0), (54, .istore_n 2, 55, 0), (55, .iload_n 2, 56, 0), (56, .bipush 64, 58, 0), (58, .if_icmp .ge 43, 61, 101), (61, .aload_n 0, 62, 0), (62, .getfield 13, 65, 0), (65, .iload_n 2, 66, 0), (66, .iaload, 67, 0), (67, .bipush 100, 69, 0), (69, .if_icmp .ge 26, 72, 95), (72, .aload_n 0, 73, 0), (73, .iload_n 2, 74, 0), (74, .invokevirtual 36, 77, 0), (77, .istore_n 3, 78, 0), (78, .aload_n 0, 79, 0), (79, .getfield 13, 82, 0), (82, .iload_n 2, 83, 0), (83, .aload_n 0, 84, 0), (84, .aload_n 0, 85, 0), (85, .getfield 13, 88, 0), (88, .iload_n 2, 89, 0), (89, .iaload, 90, 0), (90, .iload_n 3, 91, 0), (91, .invokevirtual 20, 94, 0), (94, .iastore, 95, 0), (95, .iinc 2 1, 98, 0), (98, .goto (-43), 101, 55), (101, .iinc 1 1, 104, 0), (104, .goto (-57), 107, 47), (107, .return_, 108, 0)]
def mX1_lakeMarks : xMd := (yX1_lakeMarks, cX1_lakeMarks, 4, none, tX1_lakeMarks)
theorem oX1_lakeMarks : xMok mX1_lakeMarks := xMok_of (by decide +kernel) (by decide +kernel) (by decide +kernel)
def tX1_lakeSize : xTb := [(0, .aload_n 0, 1, 0), (1, .iload_n 1, 2, 0), (2, .invokevirtual 16, 5, 0), (5, .ifCond .eq 5, 8, 10), (8, .iconst (-1), 9, 0), (9, .ireturn, 10, 0), (10, .aload_n 0, 11, 0), (11, .invokevirtual 49, 14, 0), (14, .aload_n 0, 15, 0), (15, .getfield 13, 18, 0), (18, .iload_n 1, 19, 0), (19, .iaload, 20, 0), (20, .bipush 100, 22, 0), (22, .if_icmp .ne 5, 25, 27), (25, .iconst 0, 26, 0), (26, .ireturn, 27, 0), (27, .iconst 0, 28, 0), (28, .istore_n 2, 29, 0), (29, .iconst 0, 30, 0), (30, .istore_n 3, 31, 0), (31, .iload_n 3, 32, 0), (32, .bipush 64, 34, 0), (34, .if_icmp .ge 27, 37, 61), (37, .aload_n 0, 38, 0), (38, .getfield 13, 41, 0), (41, .iload_n 3, 42, 0), (42, .iaload, 43, 0), (43, .aload_n 0, 44, 0), (44, .getfield 13, 47, 0), (47, .iload_n 1, 48, 0), (48, .iaload, 49, 0), (49, .if_icmp .ne 6, 52, 55), (52, .iinc 2 1, 55, 0), (55, .iinc 3 1, 58, 0), (58, .goto (-27), 61, 31), (61, .iload_n 2, 62, 0), (62, .ireturn, 63, 0)]
def mX1_lakeSize : xMd := (yX1_lakeSize, cX1_lakeSize, 4, some .int, tX1_lakeSize)
theorem oX1_lakeSize : xMok mX1_lakeSize := xMok_of (by decide +kernel) (by decide +kernel) (by decide +kernel)
def tX1_pass : xTb := [(0, .aload_n 0, 1, 0), (1, .iload_n 1, 2, 0), (2, .invokevirtual 16, 5, 0), (5, .ifCond .ne 11, 8, 16), (8, .aload_n 0, 9, 0), (9, .iload_n 2, 10, 0), (10, .invokevirtual 16, 13, 0), (13, .ifCond .eq 5, 16, 18), (16, .iconst (-1), 17, 0), (17, .ireturn, 18, 0), (18, .aload_n 0, 19, 0), (19, .iload_n 1, 20, 0), (20, .invokevirtual 52, 23, 0), (23, .aload_n 0, 24, 0), (24, .getfield 13, 27, 0), (27, .iload_n 2, 28, 0), (28, .iaload, 29, 0), (29, .ireturn, 30, 0)]
def mX1_pass : xMd := (yX1_pass, cX1_pass, 3, some .int, tX1_pass)
theorem oX1_pass : xMok mX1_pass := xMok_of (by decide +kernel) (by decide +kernel) (by decide +kernel)
def tX1_passes : xTb := [(0, .iconst 0, 1, 0), (1, .istore_n 2, 2, 0), (2, .iload_n 2, 3, 0), (3, .bipush 64, 5, 0), (5, .if_icmp .ge 31, 8, 36), (8, .aload_n 0, 9, 0), (9, .getfield 13, 12, 0), (12, .iload_n 2, 13, 0), (13, .iload_n 2, 14, 0), (14, .iload_n 1, 15, 0), (15, .if_icmp .ne 12, 18, 27), (18, .aload_n 0, 19, 0), (19, .getfield 7, 22, 0), (22, .iload_n 2, 23, 0), (23, .iaload, 24, 0), (24, .goto 5, 27, 29), (27, .bipush 100, 29, 0), (29, .iastore, 30, 0), (30, .iinc 2 1, 33, 0), (33, .goto (-31), 36, 2), (36, .aload_n 0, 37, 0), (37, .invokevirtual 43, 40, 0), (40, .return_, 41, 0)]
def mX1_passes : xMd := (yX1_passes, cX1_passes, 3, none, tX1_passes)
theorem oX1_passes : xMok mX1_passes := xMok_of (by decide +kernel) (by decide +kernel) (by decide +kernel)
def tX1_reach : xTb := [(0, .aload_n 0, 1, 0), (1, .iload_n 1, 2, 0), (2, .invokevirtual 16, 5, 0), (5, .ifCond .eq 5, 8, 10), (8, .iconst (-1), 9, 0), (9, .ireturn, 10, 0), (10, .aload_n 0, 11, 0), (11, .iload_n 1, 12, 0), (12, .invokevirtual 52, 15, 0), (15, .iconst 0, 16, 0), (16, .istore_n 3, 17, 0), (17, .iconst 0, 18, 0), (18, .istore 4, 20, 0), (20, .iload 4, 22, 0), (22, .bipush 64, 24, 0), (24, .if_icmp .ge 23, 27, 47), (27, .aload_n 0, 28, 0), (28, .getfield 13, 31, 0), (31, .iload 4, 33, 0), (33, .iaload, 34, 0), (34, .iload_n 2, 35, 0), (35, .if_icmp .gt 6, 38, 41), (38, .iinc 3 1, 41, 0), (41, .iinc 4 1, 44, 0), (44, .goto (-24), 47, 20), (47, .iload_n 3, 48, 0), (48, .ireturn, 49, 0)]
def mX1_reach : xMd := (yX1_reach, cX1_reach, 5, some .int, tX1_reach)
theorem oX1_reach : xMok mX1_reach := xMok_of (by decide +kernel) (by decide +kernel) (by decide +kernel)
def tX1_prominence : xTb := [(0, .aload_n 0, 1, 0), (1, .iload_n 1, 2, 0), (2, .invokevirtual 16, 5, 0), (5, .ifCond .eq 5, 8, 10), (8, .iconst (-1), 9, 0), (9, .ireturn, 10, 0), (10, .iconst 0, 11, 0), (11, .istore_n 2, 12, 0), (12, .iload_n 2, 13, 0), (13, .bipush 64, 15, 0), (15, .if_icmp .ge 30, 18, 45), (18, .aload_n 0, 19, 0), (19, .getfield 13, 22, 0), (22, .iload_n 2, 23, 0), (23, .iload_n 2, 24, 0), (24, .iload_n 1, 25, 0), (25, .if_icmp .ne 12, 28, 37), (28, .aload_n 0, 29, 0), (29, .getfield 7, 32, 0), (32, .iload_n 2, 33, 0), (33, .iaload, 34, 0), (34, .goto 4, 37, 38), (37, .iconst (-1), 38, 0), (38, .iastore, 39, 0), (39, .iinc 2 1, 42, 0), (42, .goto (-30), 45, 12), (45, .iconst 0, 46, 0), (46, .istore_n 2, 47, 0), (47, .iload_n 2, 48, 0), (48, .bipush 64, 50, 0), (50, .if_icmp .ge 62, 53, 112), (53, .iconst 0, 54, 0), (54, .istore_n 3, 55, 0), (55, .iload_n 3, 56, 0), (56, .bipush 64, 58, 0), (58, .if_icmp .ge 48, 61, 106), (61, .aload_n 0, 62, 0), (62, .iload_n 3, 63, 0), (63, .invokevirtual 56, 66, 0), (66, .istore 4, 68, 0), (68, .aload_n 0, 69, 0), (69, .aload_n 0, 70, 0), (70, .getfield 7, 73, 0), (73, .iload_n 3, 74, 0), (74, .iaload, 75, 0), (75, .iload 4, 77, 0), (77, .invokevirtual 20, 80, 0), (80, .istore 5, 82, 0), (82, .aload_n 0, 83, 0), (83, .getfield 13, 86, 0), (86, .iload_n 3, 87, 0), (87, .aload_n 0, 88, 0), (88, .aload_n 0, 89, 0), (89, .getfield 13, 92, 0), (92, .iload_n 3, 93, 0), (93, .iaload, 94, 0), (94, .iload 5, 96, 0), (96, .invokevirtual 24, 99, 0), (99, .iastore, 100, 0), (100, .iinc 3 1, 103, 0), (103, .goto (-48), 106, 55), (106, .iinc 2 1, 109, 0), (109, .goto (-62), 112, 47), (112, .iconst (-1), 113, 0), (113, .istore_n 2, 114, 0), (114, .bipush 99, 116, 0), (116, .istore_n 3, 117, 0), (117, .iconst 0, 118, 0), (118, .istore 4, 120, 0), (120, .iload 4, 122, 0), (122, .bipush 64, 124, 0), (124, .if_icmp .ge 51, 127, 175), (127, .aload_n 0, 128, 0), (128, .iload_n 3, 129, 0), (129, .aload_n 0, 130, 0), (130, .getfield 7, 133, 0), (133, .iload 4, 135, 0), (135, .iaload, 136, 0), (136, .invokevirtual 20, 139, 0), (139, .istore_n 3, 140, 0), (140, .aload_n 0, 141, 0), (141, .getfield 7, 144, 0), (144, .iload 4, 146, 0), (146, .iaload, 147, 0), (147, .aload_n 0, 148, 0), (148, .getfield 7, 151, 0), (151, .iload_n 1, 152, 0), (152, .iaload, 153, 0), (153, .if_icmp .le 16, 156, 169), (156, .aload_n 0, 157, 0), (157, .iload_n 2, 158, 0), (158, .aload_n 0, 159, 0), (159, .getfield 13, 162, 0), (162, .iload 4, 164, 0), (164, .iaload, 165, 0), (165, .invokevirtual 24, 168, 0), (168, .istore_n 2, 169, 0), (169, .iinc 4 1, 172, 0), (172, .goto (-52), 175, 120), (175, .aload_n 0, 176, 0), (176, .getfield 7, 179, 0), (179, .iload_n 1, 180, 0), (180, .iaload, 181, 0), (181, .iload_n 2, 182, 0), (182, .ifCond .ge 7, 185, 189), (185, .iload_n 3, 186, 0), (186, .goto 4, 189, 190), (189, .iload_n 2, 190, 0), (190, .isub, 191, 0), (191, .ireturn, 192, 0)]
def mX1_prominence : xMd := (yX1_prominence, cX1_prominence, 6, some .int, tX1_prominence)
theorem oX1_prominence : xMok mX1_prominence := xMok_of (by decide +kernel) (by decide +kernel) (by decide +kernel)
def tX1_mostBeside : xTb := [(0, .iconst (-1), 1, 0), (1, .istore_n 2, 2, 0), (2, .iconst 0, 3, 0), (3, .istore_n 3, 4, 0), (4, .iload_n 3, 5, 0), (5, .iconst 4, 6, 0), (6, .if_icmp .ge 35, 9, 41), (9, .aload_n 0, 10, 0), (10, .iload_n 1, 11, 0), (11, .iload_n 3, 12, 0), (12, .invokevirtual 33, 15, 0), (15, .istore 4, 17, 0), (17, .iload 4, 19, 0), (19, .ifCond .lt 16, 22, 35), (22, .aload_n 0, 23, 0), (23, .iload_n 2, 24, 0), (24, .aload_n 0, 25, 0), (25, .getfield 13, 28, 0), (28, .iload 4, 30, 0), (30, .iaload, 31, 0), (31, .invokevirtual 24, 34, 0), (34, .istore_n 2, 35, 0), (35, .iinc 3 1, 38, 0), (38, .goto (-34), 41, 4), (41, .iload_n 2, 42, 0), (42, .ireturn, 43, 0)]
def mX1_mostBeside : xMd := (yX1_mostBeside, cX1_mostBeside, 5, some .int, tX1_mostBeside)
theorem oX1_mostBeside : xMok mX1_mostBeside := xMok_of (by decide +kernel) (by decide +kernel) (by decide +kernel)
def tX1_summits : xTb := [(0, .iconst 0, 1, 0), (1, .istore_n 1, 2, 0), (2, .iload_n 1, 3, 0), (3, .bipush 64, 5, 0), (5, .if_icmp .ge 28, 8, 33), (8, .aload_n 0, 9, 0), (9, .getfield 13, 12, 0), (12, .iload_n 1, 13, 0), (13, .aload_n 0, 14, 0), (14, .iload_n 1, 15, 0), (15, .invokevirtual 59, 18, 0), (18, .ifCond .eq 7, 21, 25), (21, .iconst (-1), 22, 0), (22, .goto 4, 25, 26), (25, .iload_n 1, 26, 0), (26, .iastore, 27, 0), (27, .iinc 1 1, 30, 0), (30, .goto (-28), 33, 2), (33, .iconst 0, 34, 0), (34, .istore_n 1, 35, 0), (35, .iload_n 1, 36, 0), (36, .bipush 64, 38, 0), (38, .if_icmp .ge 34, 41, 72), (41, .iconst 0, 42, 0), (42, .istore_n 2, 43, 0), (43, .iload_n 2, 44, 0), (44, .bipush 64, 46, 0), (46, .if_icmp .ge 20, 49, 66), (49, .aload_n 0, 50, 0), (50, .getfield 13, 53, 0), (53, .iload_n 2, 54, 0), (54, .aload_n 0, 55, 0), (55, .iload_n 2, 56, 0), (56, .invokevirtual 62, 59, 0), (59, .iastore, 60, 0), (60, .iinc 2 1, 63, 0), (63, .goto (-20), 66, 43), (66, .iinc 1 1, 69, 0), (69, .goto (-34), 72, 35), (72, .iconst 0, 73, 0), (73, .istore_n 1, 74, 0), (74, .iconst 0, 75, 0), (75, .istore_n 2, 76, 0), (76, .iload_n 2, 77, 0), (77, .bipush 64, 79, 0), (79, .if_icmp .ge 22, 82, 101), (82, .aload_n 0, 83, 0), (83, .getfield 13, 86, 0), (86, .iload_n 2, 87, 0), (87, .iaload, 88, 0), (88, .iload_n 2, 89, 0), (89, .if_icmp .ne 6, 92, 95), (92, .iinc 1 1, 95, 0), (95, .iinc 2 1, 98, 0), (98, .goto (-22), 101, 76), (101, .iload_n 1, 102, 0), (102, .ireturn, 103, 0)]
def mX1_summits : xMd := (yX1_summits, cX1_summits, 3, some .int, tX1_summits)
theorem oX1_summits : xMok mX1_summits := xMok_of (by decide +kernel) (by decide +kernel) (by decide +kernel)
def tX1_hasHigher : xTb := [(0, .iconst 0, 1, 0), (1, .istore_n 2, 2, 0), (2, .iload_n 2, 3, 0), (3, .iconst 4, 4, 0), (4, .if_icmp .ge 37, 7, 41), (7, .aload_n 0, 8, 0), (8, .iload_n 1, 9, 0), (9, .iload_n 2, 10, 0), (10, .invokevirtual 33, 13, 0), (13, .istore_n 3, 14, 0), (14, .iload_n 3, 15, 0), (15, .ifCond .lt 20, 18, 35), (18, .aload_n 0, 19, 0), (19, .getfield 7, 22, 0), (22, .iload_n 3, 23, 0), (23, .iaload, 24, 0), (24, .aload_n 0, 25, 0), (25, .getfield 7, 28, 0), (28, .iload_n 1, 29, 0), (29, .iaload, 30, 0), (30, .if_icmp .le 5, 33, 35), (33, .iconst 1, 34, 0), (34, .ireturn, 35, 0), (35, .iinc 2 1, 38, 0), (38, .goto (-36), 41, 2), (41, .iconst 0, 42, 0), (42, .ireturn, 43, 0)]
def mX1_hasHigher : xMd := (yX1_hasHigher, cX1_hasHigher, 4, some .boolean, tX1_hasHigher)
theorem oX1_hasHigher : xMok mX1_hasHigher := xMok_of (by decide +kernel) (by decide +kernel) (by decide +kernel)
def tX1_leastAlike : xTb := [(0, .aload_n 0, 1, 0), (1, .getfield 13, 4, 0), (4, .iload_n 1, 5, 0), (5, .iaload, 6, 0), (6, .istore_n 2, 7, 0), (7, .iconst 0, 8, 0), (8, .istore_n 3, 9, 0), (9, .iload_n 3, 10, 0), (10, .iconst 4, 11, 0), (11, .if_icmp .ge 51, 14, 62), (14, .aload_n 0, 15, 0), (15, .iload_n 1, 16, 0), (16, .iload_n 3, 17, 0), (17, .invokevirtual 33, 20, 0), (20, .istore 4, 22, 0), (22, .iload 4, 24, 0), (24, .ifCond .lt 32, 27, 56), (27, .aload_n 0, 28, 0), (28, .getfield 7, 31, 0), (31, .iload 4, 33, 0), (33, .iaload, 34, 0), (34, .aload_n 0, 35, 0), (35, .getfield 7, 38, 0), (38, .iload_n 1, 39, 0), (39, .iaload, 40, 0), (40, .if_icmp .ne 16, 43, 56), (43, .aload_n 0, 44, 0), (44, .iload_n 2, 45, 0), (45, .aload_n 0, 46, 0), (46, .getfield 13, 49, 0), (49, .iload 4, 51, 0), (51, .iaload, 52, 0), (52, .invokevirtual 20, 55, 0), (55, .istore_n 2, 56, 0), (56, .iinc 3 1, 59, 0), (59, .goto (-50), 62, 9), (62, .iload_n 2, 63, 0), (63, .ireturn, 64, 0)]
def mX1_leastAlike : xMd := (yX1_leastAlike, cX1_leastAlike, 5, some .int, tX1_leastAlike)
theorem oX1_leastAlike : xMok mX1_leastAlike := xMok_of (by decide +kernel) (by decide +kernel) (by decide +kernel)
theorem lX0_bad : xLs kX0 42 mX0_bad 1 := ⟨lw_S q77 q78 q27 q79, ⟨by decide +kernel, by decide +kernel, by decide +kernel⟩, by decide⟩
theorem lX0_within : xLs kX0 46 mX0_within 3 := ⟨lw_S q84 q85 q27 q86, ⟨by decide +kernel, by decide +kernel, by decide +kernel⟩, by decide⟩
theorem lX0_prepare : xLk kX0 84 mX0_prepare 0 := ⟨lw_V q99 q101 qs0 q27 q102, ⟨rfl, by decide +kernel, by decide +kernel, by decide +kernel⟩, by decide⟩
theorem lX0_border : xLs kX0 62 mX0_border 1 := ⟨lw_S q103 q104 q27 q105, ⟨by decide +kernel, by decide +kernel, by decide +kernel⟩, by decide⟩
theorem lX0_meet : xLk kX0 65 mX0_meet 2 := ⟨lw_V q106 q108 qs1 q27 q109, ⟨rfl, by decide +kernel, by decide +kernel, by decide +kernel⟩, by decide⟩
theorem lX0_push : xLk kX0 58 mX0_push 1 := ⟨lw_V q110 q112 qs2 q27 q113, ⟨rfl, by decide +kernel, by decide +kernel, by decide +kernel⟩, by decide⟩
theorem lX0_lower : xLk kX0 54 mX0_lower 2 := ⟨lw_V q114 q116 qs3 q27 q117, ⟨rfl, by decide +kernel, by decide +kernel, by decide +kernel⟩, by decide⟩
theorem lX0_pop : xLk kX0 69 mX0_pop 0 := ⟨lw_V q118 q120 qs4 q27 q121, ⟨rfl, by decide +kernel, by decide +kernel, by decide +kernel⟩, by decide⟩
theorem lX0_neighbour : xLs kX0 73 mX0_neighbour 2 := ⟨lw_S q122 q123 q27 q124, ⟨by decide +kernel, by decide +kernel, by decide +kernel⟩, by decide⟩
theorem lX0_forget : xLk kX0 87 mX0_forget 0 := ⟨lw_V q133 q135 qs5 q27 q136, ⟨rfl, by decide +kernel, by decide +kernel, by decide +kernel⟩, by decide⟩
theorem lX0_walkLake : xLk kX0 90 mX0_walkLake 1 := ⟨lw_V q137 q139 qs6 q27 q140, ⟨rfl, by decide +kernel, by decide +kernel, by decide +kernel⟩, by decide⟩
theorem lX0_startJoining : xLk kX0 93 mX0_startJoining 0 := ⟨lw_V q149 q151 qs7 q27 q152, ⟨rfl, by decide +kernel, by decide +kernel, by decide +kernel⟩, by decide⟩
theorem lX0_sortCells : xLk kX0 77 mX0_sortCells 0 := ⟨lw_V q153 q155 qs8 q27 q156, ⟨rfl, by decide +kernel, by decide +kernel, by decide +kernel⟩, by decide⟩
theorem lX0_activate : xLk kX0 96 mX0_activate 1 := ⟨lw_V q157 q159 qs9 q27 q160, ⟨rfl, by decide +kernel, by decide +kernel, by decide +kernel⟩, by decide⟩
theorem lX0_find : xLk kX0 80 mX0_find 1 := ⟨lw_V q161 q163 qs10 q27 q164, ⟨rfl, by decide +kernel, by decide +kernel, by decide +kernel⟩, by decide⟩
theorem lX0_summitAt : xLk kX0 99 mX0_summitAt 1 := ⟨lw_V q177 q179 qs11 q27 q180, ⟨rfl, by decide +kernel, by decide +kernel, by decide +kernel⟩, by decide⟩
theorem lX1_bad : xLk kX1 16 mX1_bad 1 := ⟨lw_V q198 q200 qs12 q28 q201, ⟨rfl, by decide +kernel, by decide +kernel, by decide +kernel⟩, by decide⟩
theorem lX1_between : xLk kX1 27 mX1_between 3 := ⟨lw_V q206 q208 qs13 q28 q209, ⟨rfl, by decide +kernel, by decide +kernel, by decide +kernel⟩, by decide⟩
theorem lX1_least : xLk kX1 20 mX1_least 2 := ⟨lw_V q210 q212 qs14 q28 q213, ⟨rfl, by decide +kernel, by decide +kernel, by decide +kernel⟩, by decide⟩
theorem lX1_most : xLk kX1 24 mX1_most 2 := ⟨lw_V q214 q216 qs15 q28 q217, ⟨rfl, by decide +kernel, by decide +kernel, by decide +kernel⟩, by decide⟩
theorem lX1_levels : xLk kX1 46 mX1_levels 0 := ⟨lw_V q231 q233 qs16 q28 q234, ⟨rfl, by decide +kernel, by decide +kernel, by decide +kernel⟩, by decide⟩
theorem lX1_border : xLk kX1 40 mX1_border 1 := ⟨lw_V q235 q237 qs17 q28 q238, ⟨rfl, by decide +kernel, by decide +kernel, by decide +kernel⟩, by decide⟩
theorem lX1_lower : xLk kX1 43 mX1_lower 0 := ⟨lw_V q239 q241 qs18 q28 q242, ⟨rfl, by decide +kernel, by decide +kernel, by decide +kernel⟩, by decide⟩
theorem lX1_leastBeside : xLk kX1 36 mX1_leastBeside 1 := ⟨lw_V q243 q245 qs19 q28 q246, ⟨rfl, by decide +kernel, by decide +kernel, by decide +kernel⟩, by decide⟩
theorem lX1_beside : xLk kX1 33 mX1_beside 2 := ⟨lw_V q247 q249 qs20 q28 q250, ⟨rfl, by decide +kernel, by decide +kernel, by decide +kernel⟩, by decide⟩
theorem lX1_lakeMarks : xLk kX1 49 mX1_lakeMarks 0 := ⟨lw_V q259 q261 qs21 q28 q262, ⟨rfl, by decide +kernel, by decide +kernel, by decide +kernel⟩, by decide⟩
theorem lX1_passes : xLk kX1 52 mX1_passes 1 := ⟨lw_V q271 q273 qs22 q28 q274, ⟨rfl, by decide +kernel, by decide +kernel, by decide +kernel⟩, by decide⟩
theorem lX1_mostBeside : xLk kX1 56 mX1_mostBeside 1 := ⟨lw_V q283 q285 qs23 q28 q286, ⟨rfl, by decide +kernel, by decide +kernel, by decide +kernel⟩, by decide⟩
theorem lX1_hasHigher : xLk kX1 59 mX1_hasHigher 1 := ⟨lw_V q291 q293 qs24 q28 q294, ⟨rfl, by decide +kernel, by decide +kernel, by decide +kernel⟩, by decide⟩
theorem lX1_leastAlike : xLk kX1 62 mX1_leastAlike 1 := ⟨lw_V q295 q297 qs25 q28 q298, ⟨rfl, by decide +kernel, by decide +kernel, by decide +kernel⟩, by decide⟩
end
section
set_option maxRecDepth 100000
theorem mt_bad (M : xMem) (c : Int) : xMet kX0 mX0_bad 0 false M [c] (fun r M' => M = M' ∧ ((c < 0 ∨ 64 ≤ c) ∧ r = 1 ∨ (0 ≤ c ∧ c < 64) ∧ r = 0)) := by
  refine xMet_of kX0_ok oX0_bad rfl (Nat.le_of_ble_eq_true rfl) (fun hM hz => ?_)
  refine xgo 1 rfl ?_
  refine xbr rfl (fun h => ?_) (fun h => ?_)
  · refine xgo 15 rfl ?_
    exact xretz rfl rfl (Or.inr rfl) ⟨rfl, by omega⟩
  · refine xgo 7 rfl ?_
    refine xbr rfl (fun h2 => ?_) (fun h2 => ?_)
    · refine xgo 15 rfl ?_
      exact xretz rfl rfl (Or.inl rfl) ⟨rfl, by omega⟩
    · refine xgo 15 rfl ?_
      exact xretz rfl rfl (Or.inr rfl) ⟨rfl, by omega⟩
theorem mt_within (M : xMem) (x lo hi : Int) : xMet kX0 mX0_within 0 false M [x, lo, hi] (fun r M' => M = M' ∧ (x < lo ∧ r = lo ∨ lo ≤ x ∧ hi < x ∧ r = hi ∨ lo ≤ x ∧ x ≤ hi ∧ r = x)) := by
  refine xMet_of kX0_ok oX0_within rfl (Nat.le_of_ble_eq_true rfl) (fun hM hz => ?_)
  refine xgo 2 rfl ?_
  refine xbr rfl (fun h => ?_) (fun h => ?_)
  · refine xgo 9 rfl ?_
    refine xbr rfl (fun h2 => ?_) (fun h2 => ?_)
    · refine xgo 17 rfl ?_
      exact xret rfl rfl ⟨rfl, by omega⟩
    · refine xgo 17 rfl ?_
      exact xret rfl rfl ⟨rfl, by omega⟩
  · refine xgo 6 rfl ?_
    exact xret rfl rfl ⟨rfl, by omega⟩
def cl (c : Int) : Prop := 0 ≤ c ∧ c < 64
def bord (c : Int) : Prop := c < 8 ∨ 55 < c ∨ c % 8 = 0 ∨ c % 8 = 7
theorem mt_border (M : xMem) (c : Int) (hc : cl c) : xMet kX0 mX0_border 0 false M [c] (fun r M' => M = M' ∧ (bord c ∧ r = 1 ∨ ¬ bord c ∧ r = 0)) := by
  refine xMet_of kX0_ok oX0_border rfl (Nat.le_of_ble_eq_true rfl) (fun hM hz => ?_)
  unfold cl at hc
  unfold bord
  refine xgc 11 rfl (by omega) ?_
  refine xbr rfl (fun h => ?_) (fun h => ?_)
  · refine xgo 35 rfl ?_
    exact xretz rfl rfl (Or.inr rfl) ⟨rfl, by omega⟩
  · refine xgo 17 rfl ?_
    refine xbr rfl (fun h2 => ?_) (fun h2 => ?_)
    · refine xgo 35 rfl ?_
      exact xretz rfl rfl (Or.inr rfl) ⟨rfl, by omega⟩
    · refine xgo 21 rfl ?_
      refine xbr rfl (fun h3 => ?_) (fun h3 => ?_)
      · refine xgo 35 rfl ?_
        exact xretz rfl rfl (Or.inr rfl) ⟨rfl, by omega⟩
      · refine xgo 27 rfl ?_
        refine xbr rfl (fun h4 => ?_) (fun h4 => ?_)
        · refine xgo 35 rfl ?_
          exact xretz rfl rfl (Or.inl rfl) ⟨rfl, by omega⟩
        · refine xgo 35 rfl ?_
          exact xretz rfl rfl (Or.inr rfl) ⟨rfl, by omega⟩
def nbF (c d : Int) : Int := if d = 0 then (if c % 8 < 7 then c + 1 else -1) else if d = 1 then (if 0 < c % 8 then c - 1 else -1) else if d = 2 then (if c < 56 then c + 8 else -1) else (if 8 ≤ c then c - 8 else -1)
theorem mt_neighbour (M : xMem) (c d : Int) (hc : cl c) : xMet kX0 mX0_neighbour 0 false M [c, d] (fun r M' => M = M' ∧ r = nbF c d) := by
  refine xMet_of kX0_ok oX0_neighbour rfl (Nat.le_of_ble_eq_true rfl) (fun hM hz => ?_)
  unfold cl at hc
  unfold nbF
  refine xgc 11 rfl (by omega) ?_
  refine xbr rfl (fun h => ?_) (fun h => ?_)
  · refine xgo 32 rfl ?_
    refine xbr rfl (fun h1 => ?_) (fun h1 => ?_)
    · refine xgo 49 rfl ?_
      refine xbr rfl (fun h2 => ?_) (fun h2 => ?_)
      · refine xgo 70 rfl ?_
        refine xbr rfl (fun h3 => ?_) (fun h3 => ?_)
        · refine xgo 81 rfl ?_
          exact xret rfl rfl ⟨rfl, by rw [if_neg h, if_neg h1, if_neg h2, if_neg (by omega)]⟩
        · refine xgc 81 rfl (by omega) ?_
          exact xret rfl rfl ⟨rfl, by rw [if_neg h, if_neg h1, if_neg h2, if_pos (by omega)]⟩
      · refine xgc 57 rfl (by omega) ?_
        refine xbr rfl (fun h3 => ?_) (fun h3 => ?_)
        · refine xgo 68 rfl ?_
          exact xret rfl rfl ⟨rfl, by rw [if_neg h, if_neg h1, if_pos h2, if_neg (by omega)]⟩
        · refine xgc 68 rfl (by omega) ?_
          exact xret rfl rfl ⟨rfl, by rw [if_neg h, if_neg h1, if_pos h2, if_pos (by omega)]⟩
    · refine xgo 36 rfl ?_
      refine xbr rfl (fun h3 => ?_) (fun h3 => ?_)
      · refine xgo 46 rfl ?_
        exact xret rfl rfl ⟨rfl, by rw [if_neg h, if_pos h1, if_neg (by omega)]⟩
      · refine xgc 46 rfl (by omega) ?_
        exact xret rfl rfl ⟨rfl, by rw [if_neg h, if_pos h1, if_pos (by omega)]⟩
  · refine xgc 19 rfl (by omega) ?_
    refine xbr rfl (fun h3 => ?_) (fun h3 => ?_)
    · refine xgo 29 rfl ?_
      exact xret rfl rfl ⟨rfl, by rw [if_pos h, if_neg (by omega)]⟩
    · refine xgc 29 rfl (by omega) ?_
      exact xret rfl rfl ⟨rfl, by rw [if_pos h, if_pos (by omega)]⟩
theorem mt_lower (M : xMem) (a b : Int) (ha : cl a) (hb : cl b) : xMet kX0 mX0_lower 0 true M [a, b] (fun r M' => M = M' ∧ ((M 1 a < M 1 b ∨ M 1 a = M 1 b ∧ a < b) ∧ r = 1 ∨ ¬ (M 1 a < M 1 b ∨ M 1 a = M 1 b ∧ a < b) ∧ r = 0)) := by
  refine xMet_of kX0_ok oX0_lower rfl (Nat.le_of_ble_eq_true rfl) (fun hM hz => ?_)
  unfold cl at ha hb
  refine xgc 12 rfl (by omega) ?_
  refine xbr rfl (fun h => ?_) (fun h => ?_)
  · refine xgo 40 rfl ?_
    exact xretz rfl rfl (Or.inr rfl) ⟨rfl, by omega⟩
  · refine xgc 27 rfl (by omega) ?_
    refine xbr rfl (fun h2 => ?_) (fun h2 => ?_)
    · refine xgo 40 rfl ?_
      exact xretz rfl rfl (Or.inl rfl) ⟨rfl, by omega⟩
    · refine xgo 32 rfl ?_
      refine xbr rfl (fun h3 => ?_) (fun h3 => ?_)
      · refine xgo 40 rfl ?_
        exact xretz rfl rfl (Or.inl rfl) ⟨rfl, by omega⟩
      · refine xgo 40 rfl ?_
        exact xretz rfl rfl (Or.inr rfl) ⟨rfl, by omega⟩
theorem mt_forget (M : xMem) : xMet kX0 mX0_forget 0 true M [] (fun _ M' => (∀ k, k ≠ 3 → M' k = M k) ∧ ∀ c, cl c → M' 3 c = 0) := by
  refine xMet_of kX0_ok oX0_forget rfl (Nat.le_of_ble_eq_true rfl) (fun hM hz => ?_)
  refine xgo 2 rfl ?_
  refine xloop2 (J := fun (i : Int) (M' : xMem) => xV kX0 mX0_forget 0 _ M' 2 [some (.inr (.inr none)), some (.inl i)] []) (fun i M' => 0 ≤ i ∧ i ≤ 64 ∧ (∀ k, k ≠ 3 → M' k = M k) ∧ ∀ c, 0 ≤ c → c < i → M' 3 c = 0) (fun i _ => (64 - i).toNat) ?_ 0 M ⟨by omega, by omega, fun _ _ => rfl, fun c h1 h2 => by omega⟩
  intro i M1 ⟨h1, h2, h3, h4⟩ ih
  refine xgo 5 rfl ?_
  refine xbr rfl (fun h => ?_) (fun h => ?_)
  · exact xretv rfl rfl ⟨h3, fun c hc => h4 c hc.1 (by have := hc.2; omega)⟩
  · refine xgc 2 rfl (by omega) ?_
    refine ih (i + 1) _ ⟨by omega, by omega, fun k hk => ?_, fun c c1 c2 => ?_⟩ (by omega)
    · rw [xset_n _ _ _ hk]
      exact h3 k hk
    · rw [xset_s]
      by_cases e : c = i
      · rw [e, xup_s]
      · rw [xup_n _ _ e]
        exact h4 c c1 (by omega)
end
section
set_option maxRecDepth 100000
/-! cells, neighbours, what hangs together, counting -/
def adj (c e : Int) : Prop := cl c ∧ cl e ∧ (e = c + 1 ∧ c % 8 < 7 ∨ e = c - 1 ∧ 0 < c % 8 ∨ e = c + 8 ∨ e = c - 8)
theorem adj_sym {c e : Int} (h : adj c e) : adj e c := by
  unfold adj cl at *
  omega
theorem adj_ne {c e : Int} (h : adj c e) : c ≠ e := by
  unfold adj cl at *
  omega
theorem nb_adj {c d : Int} (hc : cl c) (h : 0 ≤ nbF c d) : adj c (nbF c d) := by
  unfold nbF at *
  unfold adj cl at *
  split at h
  · split at h <;> omega
  · split at h
    · split at h <;> omega
    · split at h
      · split at h <;> omega
      · split at h <;> omega
theorem nb_lo {c d : Int} (hc : cl c) : nbF c d = -1 ∨ 0 ≤ nbF c d ∧ nbF c d < 64 := by
  unfold nbF
  unfold cl at hc
  split
  · split <;> omega
  · split
    · split <;> omega
    · split
      · split <;> omega
      · split <;> omega
theorem adj_nb {c e : Int} (h : adj c e) : ∃ d, 0 ≤ d ∧ d < 4 ∧ nbF c d = e := by
  unfold adj cl at h
  obtain ⟨h1, h2, h3 | h3 | h3 | h3⟩ := h
  · refine ⟨0, by omega, by omega, ?_⟩
    unfold nbF
    rw [if_pos rfl, if_pos h3.2, h3.1]
  · refine ⟨1, by omega, by omega, ?_⟩
    unfold nbF
    rw [if_neg (by omega), if_pos rfl, if_pos h3.2, h3.1]
  · refine ⟨2, by omega, by omega, ?_⟩
    unfold nbF
    rw [if_neg (by omega), if_neg (by omega), if_pos rfl, if_pos (by omega), h3]
  · refine ⟨3, by omega, by omega, ?_⟩
    unfold nbF
    rw [if_neg (by omega), if_neg (by omega), if_neg (by omega), if_pos (by omega), h3]
/-- the reference's neighbour -/
def bsF (c d : Int) : Int := if d = 0 then (if c < 8 then -1 else c - 8) else if d = 1 then (if 55 < c then -1 else c + 8) else if d = 2 then (if c % 8 = 0 then -1 else c - 1) else (if c % 8 = 7 then -1 else c + 1)
theorem bs_adj {c d : Int} (hc : cl c) (h : 0 ≤ bsF c d) : adj c (bsF c d) := by
  unfold bsF at *
  unfold adj cl at *
  split at h
  · split at h <;> omega
  · split at h
    · split at h <;> omega
    · split at h
      · split at h <;> omega
      · split at h <;> omega
theorem bs_lo {c d : Int} (hc : cl c) : bsF c d = -1 ∨ 0 ≤ bsF c d ∧ bsF c d < 64 := by
  unfold bsF
  unfold cl at hc
  split
  · split <;> omega
  · split
    · split <;> omega
    · split
      · split <;> omega
      · split <;> omega
theorem adj_bs {c e : Int} (h : adj c e) : ∃ d, 0 ≤ d ∧ d < 4 ∧ bsF c d = e := by
  unfold adj cl at h
  obtain ⟨h1, h2, h3 | h3 | h3 | h3⟩ := h
  · refine ⟨3, by omega, by omega, ?_⟩
    unfold bsF
    rw [if_neg (by omega), if_neg (by omega), if_neg (by omega), if_neg (by omega), h3.1]
  · refine ⟨2, by omega, by omega, ?_⟩
    unfold bsF
    rw [if_neg (by omega), if_neg (by omega), if_pos rfl, if_neg (by omega), h3.1]
  · refine ⟨1, by omega, by omega, ?_⟩
    unfold bsF
    rw [if_neg (by omega), if_pos rfl, if_neg (by omega), h3]
  · refine ⟨0, by omega, by omega, ?_⟩
    unfold bsF
    rw [if_pos rfl, if_neg (by omega), h3]
/-- the least equivalence over R -/
def eqc (R : Int → Int → Prop) (a b : Int) : Prop := ∀ E : Int → Int → Prop, (∀ x, E x x) → (∀ x y, E x y → E y x) → (∀ x y z, E x y → E y z → E x z) → (∀ x y, R x y → E x y) → E a b
theorem eqc_r {R : Int → Int → Prop} (a : Int) : eqc R a a := fun _ h _ _ _ => h a
theorem eqc_s {R : Int → Int → Prop} {a b : Int} (h : eqc R a b) : eqc R b a := fun E h1 h2 h3 h4 => h2 _ _ (h E h1 h2 h3 h4)
theorem eqc_t {R : Int → Int → Prop} {a b c : Int} (h : eqc R a b) (h' : eqc R b c) : eqc R a c := fun E h1 h2 h3 h4 => h3 _ _ _ (h E h1 h2 h3 h4) (h' E h1 h2 h3 h4)
theorem eqc_1 {R : Int → Int → Prop} {a b : Int} (h : R a b) : eqc R a b := fun _ _ _ _ h4 => h4 _ _ h
theorem eqc_m {R S : Int → Int → Prop} (h : ∀ x y, R x y → eqc S x y) {a b : Int} (hab : eqc R a b) : eqc S a b := hab (eqc S) (fun x => eqc_r x) (fun _ _ => eqc_s) (fun _ _ _ => eqc_t) h
/-- a set that edges don't leave -/
theorem eqc_ind {R : Int → Int → Prop} (X : Int → Prop) (hX : ∀ x y, R x y → (X x ↔ X y)) {a b : Int} (h : eqc R a b) : X a ↔ X b := h (fun x y => X x ↔ X y) (fun _ => Iff.rfl) (fun _ _ h => h.symm) (fun _ _ _ h1 h2 => h1.trans h2) hX
/-- one more edge -/
theorem eqc_add {R : Int → Int → Prop} {u v a b : Int} : eqc (fun x y => R x y ∨ x = u ∧ y = v) a b ↔ eqc R a b ∨ eqc R a u ∧ eqc R v b ∨ eqc R a v ∧ eqc R u b := by
  constructor
  · intro h
    refine h (fun a b => eqc R a b ∨ eqc R a u ∧ eqc R v b ∨ eqc R a v ∧ eqc R u b) (fun x => Or.inl (eqc_r x)) ?_ ?_ ?_
    · intro x y h
      rcases h with h | ⟨h1, h2⟩ | ⟨h1, h2⟩
      · exact Or.inl (eqc_s h)
      · exact Or.inr (Or.inr ⟨eqc_s h2, eqc_s h1⟩)
      · exact Or.inr (Or.inl ⟨eqc_s h2, eqc_s h1⟩)
    · intro x y z h h'
      rcases h with h | ⟨h1, h2⟩ | ⟨h1, h2⟩ <;> rcases h' with h' | ⟨h3, h4⟩ | ⟨h3, h4⟩
      · exact Or.inl (eqc_t h h')
      · exact Or.inr (Or.inl ⟨eqc_t h h3, h4⟩)
      · exact Or.inr (Or.inr ⟨eqc_t h h3, h4⟩)
      · exact Or.inr (Or.inl ⟨h1, eqc_t h2 h'⟩)
      · exact Or.inr (Or.inl ⟨h1, h4⟩)
      · exact Or.inl (eqc_t h1 h4)
      · exact Or.inr (Or.inr ⟨h1, eqc_t h2 h'⟩)
      · exact Or.inl (eqc_t h1 h4)
      · exact Or.inr (Or.inr ⟨h1, h4⟩)
    · intro x y h
      rcases h with h | ⟨rfl, rfl⟩
      · exact Or.inl (eqc_1 h)
      · exact Or.inr (Or.inl ⟨eqc_r _, eqc_r _⟩)
  · have hm : ∀ {x y : Int}, eqc R x y → eqc (fun x y => R x y ∨ x = u ∧ y = v) x y := fun h => eqc_m (fun _ _ h => eqc_1 (Or.inl h)) h
    have he : eqc (fun x y => R x y ∨ x = u ∧ y = v) u v := eqc_1 (Or.inr ⟨rfl, rfl⟩)
    intro h
    rcases h with h | ⟨h1, h2⟩ | ⟨h1, h2⟩
    · exact hm h
    · exact eqc_t (hm h1) (eqc_t he (hm h2))
    · exact eqc_t (hm h1) (eqc_t (eqc_s he) (hm h2))
/-- neighbours of a kind -/
def adP (P : Int → Prop) (x y : Int) : Prop := adj x y ∧ P x ∧ P y
/-- a hangs together with e over cells of the kind P -/
def Cn (P : Int → Prop) (a e : Int) : Prop := P a ∧ eqc (adP P) a e
theorem adP_sym {P : Int → Prop} {x y : Int} (h : adP P x y) : adP P y x := ⟨adj_sym h.1, h.2.2, h.2.1⟩
theorem Cn_r {P : Int → Prop} {a : Int} (h : P a) : Cn P a a := ⟨h, eqc_r a⟩
theorem Cn_P {P : Int → Prop} {a e : Int} (h : Cn P a e) : P e := (eqc_ind P (fun x y h => ⟨fun _ => h.2.2, fun _ => h.2.1⟩) h.2).mp h.1
theorem Cn_s {P : Int → Prop} {a e : Int} (h : Cn P a e) : Cn P e a := ⟨Cn_P h, eqc_s h.2⟩
theorem Cn_t {P : Int → Prop} {a b e : Int} (h : Cn P a b) (h' : Cn P b e) : Cn P a e := ⟨h.1, eqc_t h.2 h'.2⟩
theorem Cn_1 {P : Int → Prop} {a x y : Int} (h : Cn P a x) (h1 : adj x y) (h2 : P y) : Cn P a y := ⟨h.1, eqc_t h.2 (eqc_1 ⟨h1, Cn_P h, h2⟩)⟩
theorem Cn_m {P Q : Int → Prop} (h : ∀ x, cl x → P x → Q x) {a e : Int} (ha : cl a) (hab : Cn P a e) : Cn Q a e := ⟨h a ha hab.1, eqc_m (fun x y hxy => eqc_1 ⟨hxy.1, h x hxy.1.1 hxy.2.1, h y hxy.1.2.1 hxy.2.2⟩) hab.2⟩
theorem Cn_ind {P : Int → Prop} (X : Int → Prop) {a e : Int} (h : Cn P a e) (ha : X a) (hX : ∀ x y, X x → P x → P y → adj x y → X y) : X e :=
  (eqc_ind X (fun x y h => ⟨fun hx => hX x y hx h.2.1 h.2.2 h.1, fun hy => hX y x hy h.2.2 h.2.1 (adj_sym h.1)⟩) h.2).mp ha
theorem Cn_cl {P : Int → Prop} {a e : Int} (ha : cl a) (h : Cn P a e) : cl e := Cn_ind cl h ha (fun _ _ _ _ _ h => h.2.1)
/-- the grid hangs together -/
theorem grid0 {P : Int → Prop} (hP : ∀ x, cl x → P x) : ∀ (n : Nat) (a : Int), cl a → a ≤ (n : Int) → Cn P a 0
  | 0, a, ha, h => by
    have e : a = 0 := by unfold cl at ha; omega
    subst e
    exact Cn_r (hP _ ha)
  | n + 1, a, ha, h => by
    by_cases h0 : a = 0
    · subst h0
      exact Cn_r (hP _ ha)
    · by_cases h8 : a < 8
      · have h1 : cl (a - 1) := by unfold cl at *; omega
        have h2 := grid0 hP n (a - 1) h1 (by omega)
        refine Cn_s (Cn_1 (Cn_s h2) ?_ (hP _ ha))
        unfold adj cl at *
        omega
      · have h1 : cl (a - 8) := by unfold cl at *; omega
        have h2 := grid0 hP n (a - 8) h1 (by omega)
        refine Cn_s (Cn_1 (Cn_s h2) ?_ (hP _ ha))
        unfold adj cl at *
        omega
theorem grid {P : Int → Prop} (hP : ∀ x, cl x → P x) {a b : Int} (ha : cl a) (hb : cl b) : Cn P a b := Cn_t (grid0 hP 64 a ha (by unfold cl at ha; omega)) (Cn_s (grid0 hP 64 b hb (by unfold cl at hb; omega)))
/-- how many of the first n cells are of a kind -/
noncomputable def cnt (X : Int → Prop) : Nat → Nat
  | 0 => 0
  | n + 1 => cnt X n + @ite Nat (X (n : Int)) (Classical.propDecidable _) 1 0
theorem cnt_y {X : Int → Prop} {n : Nat} (h : X (n : Int)) : cnt X (n + 1) = cnt X n + 1 := by
  show cnt X n + @ite Nat (X (n : Int)) (Classical.propDecidable _) 1 0 = _
  rw [if_pos h]
theorem cnt_n {X : Int → Prop} {n : Nat} (h : ¬ X (n : Int)) : cnt X (n + 1) = cnt X n := by
  show cnt X n + @ite Nat (X (n : Int)) (Classical.propDecidable _) 1 0 = _
  rw [if_neg h]
  rfl
theorem cnt_le (X : Int → Prop) : ∀ n : Nat, cnt X n ≤ n
  | 0 => Nat.le_refl _
  | n + 1 => by
    have := cnt_le X n
    by_cases h : X (n : Int)
    · rw [cnt_y h]; omega
    · rw [cnt_n h]; omega
theorem cnt_mono {X Y : Int → Prop} : ∀ n : Nat, (∀ i : Int, 0 ≤ i → i < (n : Int) → X i → Y i) → cnt X n ≤ cnt Y n
  | 0, _ => Nat.le_refl _
  | n + 1, hm => by
    have h0 := cnt_mono n (fun i h1 h2 h3 => hm i h1 (by omega) h3)
    by_cases h : X (n : Int)
    · rw [cnt_y h, cnt_y (hm _ (by omega) (by omega) h)]
      omega
    · rw [cnt_n h]
      by_cases h' : Y (n : Int)
      · rw [cnt_y h']; omega
      · rw [cnt_n h']; omega
theorem cnt_congr {X Y : Int → Prop} (n : Nat) (h : ∀ i : Int, 0 ≤ i → i < (n : Int) → (X i ↔ Y i)) : cnt X n = cnt Y n := Nat.le_antisymm (cnt_mono n (fun i h1 h2 h3 => (h i h1 h2).mp h3)) (cnt_mono n (fun i h1 h2 h3 => (h i h1 h2).mpr h3))
theorem cnt_lt {X Y : Int → Prop} : ∀ n : Nat, (∀ i : Int, 0 ≤ i → i < (n : Int) → X i → Y i) → (∃ i : Int, 0 ≤ i ∧ i < (n : Int) ∧ Y i ∧ ¬ X i) → cnt X n + 1 ≤ cnt Y n
  | 0, _, ⟨i, h1, h2, _⟩ => by omega
  | n + 1, hm, ⟨i, h1, h2, h3, h4⟩ => by
    have hm' : ∀ i : Int, 0 ≤ i → i < (n : Int) → X i → Y i := fun i h1 h2 h3 => hm i h1 (by omega) h3
    by_cases e : i = (n : Int)
    · subst e
      rw [cnt_n h4, cnt_y h3]
      have := cnt_mono n hm'
      omega
    · have h0 := cnt_lt n hm' ⟨i, h1, by omega, h3, h4⟩
      by_cases h : X (n : Int)
      · rw [cnt_y h, cnt_y (hm _ (by omega) (by omega) h)]
        omega
      · rw [cnt_n h]
        by_cases h' : Y (n : Int)
        · rw [cnt_y h']; omega
        · rw [cnt_n h']; omega
/-- one cell more -/
theorem cnt_add {X Y : Int → Prop} {a : Int} : ∀ n : Nat, 0 ≤ a → a < (n : Int) → ¬ X a → Y a → (∀ i : Int, 0 ≤ i → i < (n : Int) → i ≠ a → (X i ↔ Y i)) → cnt Y n = cnt X n + 1
  | 0, h0, h1, _, _, _ => by omega
  | n + 1, h0, h1, h2, h3, h4 => by
    by_cases e : a = (n : Int)
    · subst e
      rw [cnt_n h2, cnt_y h3, cnt_congr n (fun i i1 i2 => h4 i i1 (by omega) (by omega))]
    · have ih := cnt_add n h0 (by omega) h2 h3 (fun i i1 i2 i3 => h4 i i1 (by omega) i3)
      have hn := h4 (n : Int) (by omega) (by omega) (fun e' => e e'.symm)
      by_cases h : X (n : Int)
      · rw [cnt_y h, cnt_y (hn.mp h), ih]
      · rw [cnt_n h, cnt_n (fun h' => h (hn.mpr h')), ih]
theorem cnt_pos {X : Int → Prop} {a : Int} (n : Nat) (h0 : 0 ≤ a) (h1 : a < (n : Int)) (h2 : X a) : 1 ≤ cnt X n := by
  have := cnt_lt (X := fun _ => False) (Y := X) n (fun _ _ _ h => h.elim) ⟨a, h0, h1, h2, fun h => h⟩
  omega
/-- sweeps: after k of them the set X holds all of T, or k + 1 cells -/
def Gr (T : Int → Prop) (k : Int) (X : Int → Prop) : Prop := (∀ c, cl c → T c → X c) ∨ k + 1 ≤ (cnt X 64 : Int)
theorem Gr_0 {T X : Int → Prop} (h : (∀ c, cl c → ¬ X c) → ∀ c, cl c → ¬ T c) : Gr T 0 X := by
  by_cases h1 : ∃ c, cl c ∧ X c
  · obtain ⟨c, h2, h3⟩ := h1
    have := cnt_pos 64 h2.1 h2.2 h3
    exact Or.inr (by omega)
  · exact Or.inl (fun c hc ht => absurd ht (h (fun c hc hx => h1 ⟨c, hc, hx⟩) c hc))
theorem Gr_s {T X Y : Int → Prop} {R : Int → Int → Prop} {k : Int} (h : Gr T k X) (hm : ∀ c, cl c → X c → Y c) (hg : ∀ c e, cl c → cl e → X c → R c e → Y e) (ht : (∀ c e, cl c → cl e → X c → R c e → X e) → ∀ c, cl c → T c → X c) : Gr T (k + 1) Y := by
  rcases h with h | h
  · exact Or.inl (fun c hc h1 => hm c hc (h c hc h1))
  · by_cases hy : ∃ c, cl c ∧ Y c ∧ ¬ X c
    · obtain ⟨c, h1, h2, h3⟩ := hy
      have := cnt_lt (X := X) (Y := Y) 64 (fun i i1 i2 i3 => hm i ⟨i1, i2⟩ i3) ⟨c, h1.1, h1.2, h2, h3⟩
      exact Or.inr (by omega)
    · have hyx : ∀ c, cl c → Y c → X c := fun c hc h1 => Classical.byContradiction (fun h2 => hy ⟨c, hc, h1, h2⟩)
      exact Or.inl (fun c hc h1 => hm c hc (ht (fun c e hc he h2 h3 => hyx e he (hg c e hc he h2 h3)) c hc h1))
theorem Gr_e {T X : Int → Prop} (h : Gr T 64 X) {c : Int} (hc : cl c) (ht : T c) : X c := by
  rcases h with h | h
  · exact h c hc ht
  · have := cnt_le X 64
    omega
end
section
set_option maxRecDepth 100000
/-! the reference's small methods -/
theorem mm_bad (M : xMem) (c : Int) : xMet kX1 mX1_bad 0 true M [c] (fun r M' => M = M' ∧ ((c < 0 ∨ 64 ≤ c) ∧ r = 1 ∨ (0 ≤ c ∧ c < 64) ∧ r = 0)) := by
  refine xMet_of kX1_ok oX1_bad rfl (Nat.le_of_ble_eq_true rfl) (fun hM hz => ?_)
  refine xgo 1 rfl ?_
  refine xbr rfl (fun h => ?_) (fun h => ?_)
  · refine xgo 15 rfl ?_
    exact xretz rfl rfl (Or.inr rfl) ⟨rfl, by omega⟩
  · refine xgo 7 rfl ?_
    refine xbr rfl (fun h2 => ?_) (fun h2 => ?_)
    · refine xgo 15 rfl ?_
      exact xretz rfl rfl (Or.inl rfl) ⟨rfl, by omega⟩
    · refine xgo 15 rfl ?_
      exact xretz rfl rfl (Or.inr rfl) ⟨rfl, by omega⟩
theorem mm_least (M : xMem) (a b : Int) : xMet kX1 mX1_least 0 true M [a, b] (fun r M' => M = M' ∧ (a ≤ b ∧ r = a ∨ b ≤ a ∧ r = b)) := by
  refine xMet_of kX1_ok oX1_least rfl (Nat.le_of_ble_eq_true rfl) (fun hM hz => ?_)
  refine xgo 2 rfl ?_
  refine xbr rfl (fun h => ?_) (fun h => ?_)
  · refine xgo 10 rfl ?_
    exact xret rfl rfl ⟨rfl, by omega⟩
  · refine xgo 10 rfl ?_
    exact xret rfl rfl ⟨rfl, by omega⟩
theorem mm_most (M : xMem) (a b : Int) : xMet kX1 mX1_most 0 true M [a, b] (fun r M' => M = M' ∧ (b ≤ a ∧ r = a ∨ a ≤ b ∧ r = b)) := by
  refine xMet_of kX1_ok oX1_most rfl (Nat.le_of_ble_eq_true rfl) (fun hM hz => ?_)
  refine xgo 2 rfl ?_
  refine xbr rfl (fun h => ?_) (fun h => ?_)
  · refine xgo 10 rfl ?_
    exact xret rfl rfl ⟨rfl, by omega⟩
  · refine xgo 10 rfl ?_
    exact xret rfl rfl ⟨rfl, by omega⟩
/-- x lies between a and b, in whichever order -/
def btw (x a b : Int) : Prop := (a ≤ x ∨ b ≤ x) ∧ (x ≤ a ∨ x ≤ b)
theorem mm_between (M : xMem) (x a b : Int) : xMet kX1 mX1_between 1 true M [x, a, b] (fun r M' => M = M' ∧ (btw x a b ∧ r = 1 ∨ ¬ btw x a b ∧ r = 0)) := by
  refine xMet_of kX1_ok oX1_between rfl (Nat.le_of_ble_eq_true rfl) (fun hM hz => ?_)
  unfold btw
  refine xgo 4 rfl ?_
  refine xcall (mm_least M a b) rfl rfl lX1_least rfl rfl rfl (fun r M' hp => ?_)
  obtain ⟨rfl, hr⟩ := hp
  refine xbr rfl (fun h => ?_) (fun h => ?_)
  · refine xgo 25 rfl ?_
    exact xretz rfl rfl (Or.inl rfl) ⟨rfl, by omega⟩
  · refine xgo 14 rfl ?_
    refine xcall (mm_most M a b) rfl rfl lX1_most rfl rfl rfl (fun r' M' hp => ?_)
    obtain ⟨rfl, hr'⟩ := hp
    refine xbr rfl (fun h2 => ?_) (fun h2 => ?_)
    · refine xgo 25 rfl ?_
      exact xretz rfl rfl (Or.inl rfl) ⟨rfl, by omega⟩
    · refine xgo 25 rfl ?_
      exact xretz rfl rfl (Or.inr rfl) ⟨rfl, by omega⟩
theorem mm_border (M : xMem) (c : Int) (hc : cl c) : xMet kX1 mX1_border 0 true M [c] (fun r M' => M = M' ∧ (bord c ∧ r = 1 ∨ ¬ bord c ∧ r = 0)) := by
  refine xMet_of kX1_ok oX1_border rfl (Nat.le_of_ble_eq_true rfl) (fun hM hz => ?_)
  unfold cl at hc
  unfold bord
  refine xgo 3 rfl ?_
  refine xbr rfl (fun h => ?_) (fun h => ?_)
  · refine xgo 33 rfl ?_
    exact xretz rfl rfl (Or.inr rfl) ⟨rfl, by omega⟩
  · refine xgo 9 rfl ?_
    refine xbr rfl (fun h2 => ?_) (fun h2 => ?_)
    · refine xgo 33 rfl ?_
      exact xretz rfl rfl (Or.inr rfl) ⟨rfl, by omega⟩
    · refine xgc 16 rfl (by omega) ?_
      refine xbr rfl (fun h3 => ?_) (fun h3 => ?_)
      · refine xgo 33 rfl ?_
        exact xretz rfl rfl (Or.inr rfl) ⟨rfl, by omega⟩
      · refine xgc 25 rfl (by omega) ?_
        refine xbr rfl (fun h4 => ?_) (fun h4 => ?_)
        · refine xgo 33 rfl ?_
          exact xretz rfl rfl (Or.inl rfl) ⟨rfl, by omega⟩
        · refine xgo 33 rfl ?_
          exact xretz rfl rfl (Or.inr rfl) ⟨rfl, by omega⟩
theorem mm_beside (M : xMem) (c d : Int) (hc : cl c) : xMet kX1 mX1_beside 0 true M [c, d] (fun r M' => M = M' ∧ r = bsF c d) := by
  refine xMet_of kX1_ok oX1_beside rfl (Nat.le_of_ble_eq_true rfl) (fun hM hz => ?_)
  unfold cl at hc
  unfold bsF
  refine xgo 1 rfl ?_
  refine xbr rfl (fun h => ?_) (fun h => ?_)
  · refine xgo 21 rfl ?_
    refine xbr rfl (fun h1 => ?_) (fun h1 => ?_)
    · refine xgo 41 rfl ?_
      refine xbr rfl (fun h2 => ?_) (fun h2 => ?_)
      · refine xgc 65 rfl (by omega) ?_
        refine xbr rfl (fun h3 => ?_) (fun h3 => ?_)
        · refine xgc 75 rfl (by omega) ?_
          exact xret rfl rfl ⟨rfl, by rw [if_neg h, if_neg h1, if_neg h2, if_neg (by omega)]⟩
        · refine xgo 75 rfl ?_
          exact xret rfl rfl ⟨rfl, by rw [if_neg h, if_neg h1, if_neg h2, if_pos (by omega)]⟩
      · refine xgc 48 rfl (by omega) ?_
        refine xbr rfl (fun h3 => ?_) (fun h3 => ?_)
        · refine xgc 58 rfl (by omega) ?_
          exact xret rfl rfl ⟨rfl, by rw [if_neg h, if_neg h1, if_pos h2, if_neg (by omega)]⟩
        · refine xgo 58 rfl ?_
          exact xret rfl rfl ⟨rfl, by rw [if_neg h, if_neg h1, if_pos h2, if_pos (by omega)]⟩
    · refine xgo 27 rfl ?_
      refine xbr rfl (fun h3 => ?_) (fun h3 => ?_)
      · refine xgc 38 rfl (by omega) ?_
        exact xret rfl rfl ⟨rfl, by rw [if_neg h, if_pos h1, if_neg (by omega)]⟩
      · refine xgo 38 rfl ?_
        exact xret rfl rfl ⟨rfl, by rw [if_neg h, if_pos h1, if_pos (by omega)]⟩
  · refine xgo 7 rfl ?_
    refine xbr rfl (fun h3 => ?_) (fun h3 => ?_)
    · refine xgc 18 rfl (by omega) ?_
      exact xret rfl rfl ⟨rfl, by rw [if_pos h, if_neg (by omega)]⟩
    · refine xgo 18 rfl ?_
      exact xret rfl rfl ⟨rfl, by rw [if_pos h, if_pos (by omega)]⟩
def isLB (m : Int → Int) (c r : Int) : Prop := r ≤ 100 ∧ (∀ e, adj c e → r ≤ m e) ∧ (r = 100 ∨ ∃ e, adj c e ∧ r = m e)
def isMB (m : Int → Int) (c r : Int) : Prop := -1 ≤ r ∧ (∀ e, adj c e → m e ≤ r) ∧ (r = -1 ∨ ∃ e, adj c e ∧ r = m e)
def isLA (h m : Int → Int) (c r : Int) : Prop := r ≤ m c ∧ (∀ e, adj c e → h e = h c → r ≤ m e) ∧ (r = m c ∨ ∃ e, adj c e ∧ h e = h c ∧ r = m e)
theorem mm_leastBeside (M : xMem) (c : Int) (hc : cl c) : xMet kX1 mX1_leastBeside 1 true M [c] (fun r M' => M = M' ∧ isLB (M 1) c r) := by
  refine xMet_of kX1_ok oX1_leastBeside rfl (Nat.le_of_ble_eq_true rfl) (fun hM hz => ?_)
  refine xgo 5 rfl ?_
  refine xloop2 (J := fun (b d : Int) => xV kX1 mX1_leastBeside 1 _ M 5 [some (.inr (.inr none)), some (.inl c), some (.inl b), some (.inl d), none] []) (fun b d => 0 ≤ d ∧ d ≤ 4 ∧ b ≤ 100 ∧ (∀ d', 0 ≤ d' → d' < d → 0 ≤ bsF c d' → b ≤ M 1 (bsF c d')) ∧ (b = 100 ∨ ∃ e, adj c e ∧ b = M 1 e)) (fun _ d => (4 - d).toNat) ?_ 100 0 ⟨by omega, by omega, by omega, fun d' h1 h2 => by omega, Or.inl rfl⟩
  intro b d ⟨h1, h2, h3, h4, h5⟩ ih
  refine xgo 7 rfl ?_
  refine xbr rfl (fun h => ?_) (fun h => ?_)
  · refine xgo 43 rfl ?_
    refine xret rfl rfl ⟨rfl, h3, fun e he => ?_, h5⟩
    obtain ⟨d', g1, g2, g3⟩ := adj_bs he
    have := h4 d' g1 (by omega) (by rw [g3]; exact he.2.1.1)
    rw [g3] at this
    exact this
  · refine xgo 13 rfl ?_
    refine xcall (mm_beside M c d hc) rfl rfl lX1_beside rfl rfl rfl (fun r M' hp => ?_)
    obtain ⟨rfl, hr⟩ := hp
    have hlo := bs_lo (d := d) hc
    rw [← hr] at hlo
    refine xgo 20 rfl ?_
    refine xbr rfl (fun h6 => ?_) (fun h6 => ?_)
    · refine xgc 5 rfl (by omega) ?_
      refine xfg 4 ?_
      refine ih b (d + 1) ⟨by omega, by omega, h3, fun d' g1 g2 g3 => ?_, h5⟩ (by omega)
      by_cases e : d' = d
      · rw [e, ← hr] at g3
        omega
      · exact h4 d' g1 (by omega) g3
    · refine xgc 32 rfl (by omega) ?_
      refine xcall (mm_least M b (M 1 r)) rfl rfl lX1_least rfl rfl rfl (fun z M' hp => ?_)
      obtain ⟨rfl, hz2⟩ := hp
      refine xgc 5 rfl (by omega) ?_
      refine xfg 4 ?_
      refine ih z (d + 1) ⟨by omega, by omega, by omega, fun d' g1 g2 g3 => ?_, ?_⟩ (by omega)
      · by_cases e : d' = d
        · rw [e, ← hr]
          omega
        · have := h4 d' g1 (by omega) g3
          omega
      · rcases hz2 with ⟨q1, q2⟩ | ⟨q1, q2⟩
        · rw [q2]; exact h5
        · exact Or.inr ⟨r, by rw [hr]; exact bs_adj hc (by rw [← hr]; exact h6), q2⟩
theorem mm_mostBeside (M : xMem) (c : Int) (hc : cl c) : xMet kX1 mX1_mostBeside 1 true M [c] (fun r M' => M = M' ∧ isMB (M 1) c r) := by
  refine xMet_of kX1_ok oX1_mostBeside rfl (Nat.le_of_ble_eq_true rfl) (fun hM hz => ?_)
  refine xgo 4 rfl ?_
  refine xloop2 (J := fun (b d : Int) => xV kX1 mX1_mostBeside 1 _ M 4 [some (.inr (.inr none)), some (.inl c), some (.inl b), some (.inl d), none] []) (fun b d => 0 ≤ d ∧ d ≤ 4 ∧ -1 ≤ b ∧ (∀ d', 0 ≤ d' → d' < d → 0 ≤ bsF c d' → M 1 (bsF c d') ≤ b) ∧ (b = -1 ∨ ∃ e, adj c e ∧ b = M 1 e)) (fun _ d => (4 - d).toNat) ?_ (-1) 0 ⟨by omega, by omega, by omega, fun d' h1 h2 => by omega, Or.inl rfl⟩
  intro b d ⟨h1, h2, h3, h4, h5⟩ ih
  refine xgo 6 rfl ?_
  refine xbr rfl (fun h => ?_) (fun h => ?_)
  · refine xgo 42 rfl ?_
    refine xret rfl rfl ⟨rfl, h3, fun e he => ?_, h5⟩
    obtain ⟨d', g1, g2, g3⟩ := adj_bs he
    have := h4 d' g1 (by omega) (by rw [g3]; exact he.2.1.1)
    rw [g3] at this
    exact this
  · refine xgo 12 rfl ?_
    refine xcall (mm_beside M c d hc) rfl rfl lX1_beside rfl rfl rfl (fun r M' hp => ?_)
    obtain ⟨rfl, hr⟩ := hp
    have hlo := bs_lo (d := d) hc
    rw [← hr] at hlo
    refine xgo 19 rfl ?_
    refine xbr rfl (fun h6 => ?_) (fun h6 => ?_)
    · refine xgc 4 rfl (by omega) ?_
      refine xfg 4 ?_
      refine ih b (d + 1) ⟨by omega, by omega, h3, fun d' g1 g2 g3 => ?_, h5⟩ (by omega)
      by_cases e : d' = d
      · rw [e, ← hr] at g3
        omega
      · exact h4 d' g1 (by omega) g3
    · refine xgc 31 rfl (by omega) ?_
      refine xcall (mm_most M b (M 1 r)) rfl rfl lX1_most rfl rfl rfl (fun z M' hp => ?_)
      obtain ⟨rfl, hz2⟩ := hp
      refine xgc 4 rfl (by omega) ?_
      refine xfg 4 ?_
      refine ih z (d + 1) ⟨by omega, by omega, by omega, fun d' g1 g2 g3 => ?_, ?_⟩ (by omega)
      · by_cases e : d' = d
        · rw [e, ← hr]
          omega
        · have := h4 d' g1 (by omega) g3
          omega
      · rcases hz2 with ⟨q1, q2⟩ | ⟨q1, q2⟩
        · rw [q2]; exact h5
        · exact Or.inr ⟨r, by rw [hr]; exact bs_adj hc (by rw [← hr]; exact h6), q2⟩
theorem mm_leastAlike (M : xMem) (c : Int) (hc : cl c) : xMet kX1 mX1_leastAlike 1 true M [c] (fun r M' => M = M' ∧ isLA (M 0) (M 1) c r) := by
  refine xMet_of kX1_ok oX1_leastAlike rfl (Nat.le_of_ble_eq_true rfl) (fun hM hz => ?_)
  have hc2 := hc
  unfold cl at hc2
  refine xgc 9 rfl (by omega) ?_
  refine xloop2 (J := fun (b d : Int) => xV kX1 mX1_leastAlike 1 _ M 9 [some (.inr (.inr none)), some (.inl c), some (.inl b), some (.inl d), none] []) (fun b d => 0 ≤ d ∧ d ≤ 4 ∧ b ≤ M 1 c ∧ (∀ d', 0 ≤ d' → d' < d → 0 ≤ bsF c d' → M 0 (bsF c d') = M 0 c → b ≤ M 1 (bsF c d')) ∧ (b = M 1 c ∨ ∃ e, adj c e ∧ M 0 e = M 0 c ∧ b = M 1 e)) (fun _ d => (4 - d).toNat) ?_ (M 1 c) 0 ⟨by omega, by omega, by omega, fun d' h1 h2 => by omega, Or.inl rfl⟩
  intro b d ⟨h1, h2, h3, h4, h5⟩ ih
  refine xgo 11 rfl ?_
  refine xbr rfl (fun h => ?_) (fun h => ?_)
  · refine xgo 63 rfl ?_
    refine xret rfl rfl ⟨rfl, h3, fun e he e2 => ?_, h5⟩
    obtain ⟨d', g1, g2, g3⟩ := adj_bs he
    have := h4 d' g1 (by omega) (by rw [g3]; exact he.2.1.1) (by rw [g3]; exact e2)
    rw [g3] at this
    exact this
  · refine xgo 17 rfl ?_
    refine xcall (mm_beside M c d hc) rfl rfl lX1_beside rfl rfl rfl (fun r M' hp => ?_)
    obtain ⟨rfl, hr⟩ := hp
    have hlo := bs_lo (d := d) hc
    rw [← hr] at hlo
    refine xgo 24 rfl ?_
    refine xbr rfl (fun h6 => ?_) (fun h6 => ?_)
    · refine xgc 9 rfl (by omega) ?_
      refine xfg 4 ?_
      refine ih b (d + 1) ⟨by omega, by omega, h3, fun d' g1 g2 g3 => ?_, h5⟩ (by omega)
      by_cases e : d' = d
      · rw [e, ← hr] at g3
        omega
      · exact h4 d' g1 (by omega) g3
    · refine xgc 40 rfl (by omega) ?_
      refine xbr rfl (fun h7 => ?_) (fun h7 => ?_)
      · refine xgc 9 rfl (by omega) ?_
        refine xfg 4 ?_
        refine ih b (d + 1) ⟨by omega, by omega, h3, fun d' g1 g2 g3 => ?_, h5⟩ (by omega)
        by_cases e : d' = d
        · rw [e, ← hr]
          intro e3
          exact absurd e3 h7
        · exact h4 d' g1 (by omega) g3
      · refine xgc 52 rfl (by omega) ?_
        refine xcall (mm_least M b (M 1 r)) rfl rfl lX1_least rfl rfl rfl (fun z M' hp => ?_)
        obtain ⟨rfl, hz2⟩ := hp
        refine xgc 9 rfl (by omega) ?_
        refine xfg 4 ?_
        refine ih z (d + 1) ⟨by omega, by omega, by omega, fun d' g1 g2 g3 => ?_, ?_⟩ (by omega)
        · by_cases e : d' = d
          · rw [e, ← hr]
            omega
          · intro e3
            have := h4 d' g1 (by omega) g3 e3
            omega
        · rcases hz2 with ⟨q1, q2⟩ | ⟨q1, q2⟩
          · rw [q2]; exact h5
          · exact Or.inr ⟨r, by rw [hr]; exact bs_adj hc (by rw [← hr]; exact h6), h7, q2⟩
def hasHi (h : Int → Int) (c : Int) : Prop := ∃ e, adj c e ∧ h c < h e
theorem mm_hasHigher (M : xMem) (c : Int) (hc : cl c) : xMet kX1 mX1_hasHigher 1 true M [c] (fun r M' => M = M' ∧ (hasHi (M 0) c ∧ r = 1 ∨ ¬ hasHi (M 0) c ∧ r = 0)) := by
  refine xMet_of kX1_ok oX1_hasHigher rfl (Nat.le_of_ble_eq_true rfl) (fun hM hz => ?_)
  have hc2 := hc
  unfold cl at hc2
  refine xgo 2 rfl ?_
  refine xloop1 (J := fun (d : Int) => xV kX1 mX1_hasHigher 1 _ M 2 [some (.inr (.inr none)), some (.inl c), some (.inl d), none] []) (fun d => 0 ≤ d ∧ d ≤ 4 ∧ (∀ d', 0 ≤ d' → d' < d → 0 ≤ bsF c d' → M 0 (bsF c d') ≤ M 0 c)) (fun d => (4 - d).toNat) ?_ 0 ⟨by omega, by omega, fun d' h1 h2 => by omega⟩
  intro d ⟨h1, h2, h4⟩ ih
  refine xgo 4 rfl ?_
  refine xbr rfl (fun h => ?_) (fun h => ?_)
  · refine xgo 42 rfl ?_
    refine xretz rfl rfl (Or.inl rfl) ⟨rfl, Or.inr ⟨?_, rfl⟩⟩
    intro ⟨e, he, h5⟩
    obtain ⟨d', g1, g2, g3⟩ := adj_bs he
    have := h4 d' g1 (by omega) (by rw [g3]; exact he.2.1.1)
    rw [g3] at this
    omega
  · refine xgo 10 rfl ?_
    refine xcall (mm_beside M c d hc) rfl rfl lX1_beside rfl rfl rfl (fun r M' hp => ?_)
    obtain ⟨rfl, hr⟩ := hp
    have hlo := bs_lo (d := d) hc
    rw [← hr] at hlo
    refine xgo 15 rfl ?_
    refine xbr rfl (fun h6 => ?_) (fun h6 => ?_)
    · refine xgc 2 rfl (by omega) ?_
      refine xfg 3 ?_
      refine ih (d + 1) ⟨by omega, by omega, fun d' g1 g2 g3 => ?_⟩ (by omega)
      by_cases e : d' = d
      · rw [e, ← hr] at g3
        omega
      · exact h4 d' g1 (by omega) g3
    · refine xgc 30 rfl (by omega) ?_
      refine xbr rfl (fun h7 => ?_) (fun h7 => ?_)
      · refine xgc 2 rfl (by omega) ?_
        refine xfg 3 ?_
        refine ih (d + 1) ⟨by omega, by omega, fun d' g1 g2 g3 => ?_⟩ (by omega)
        by_cases e : d' = d
        · rw [e, ← hr]
          exact h7
        · exact h4 d' g1 (by omega) g3
      · refine xgo 34 rfl ?_
        exact xretz rfl rfl (Or.inr rfl) ⟨rfl, Or.inl ⟨⟨r, by rw [hr]; exact bs_adj hc (by rw [← hr]; exact h6), h7⟩, rfl⟩⟩
end
section
set_option maxRecDepth 100000
/-! the heights: set, height, pattern, shift of both -/
theorem xjn {K : xKl} {μ : xMd} {k : Nat} {post : Int → xMem → Prop} {M : xMem} {pc : Nat} {lv : List (Option xAV)} {st : List xAV} {α : Type} (P : α → Prop) (pj : Nat) (Mj : α → xMem) (lj : α → List (Option xAV)) (sj : α → List xAV) (h1 : ∀ x, P x → xV K μ k post (Mj x) pj (lj x) (sj x)) (h2 : (∀ x, P x → xV K μ k post (Mj x) pj (lj x) (sj x)) → xV K μ k post M pc lv st) : xV K μ k post M pc lv st := h2 h1
theorem cnt_skip {X : Int → Prop} {a : Nat} : ∀ b : Nat, a ≤ b → (∀ i : Int, (a : Int) ≤ i → i < (b : Int) → ¬ X i) → cnt X b = cnt X a
  | 0, h, _ => by
    have : a = 0 := by omega
    rw [this]
  | b + 1, h, hn => by
    by_cases e : a = b + 1
    · rw [e]
    · rw [cnt_n (hn (b : Int) (by omega) (by omega))]
      exact cnt_skip b (by omega) (fun i i1 i2 => hn i i1 (by omega))
theorem cnt_yi {X : Int → Prop} {i : Int} (h0 : 0 ≤ i) (h : X i) : cnt X (i + 1).toNat = cnt X i.toNat + 1 := by
  obtain ⟨n, rfl⟩ := Int.eq_ofNat_of_zero_le h0
  exact cnt_y h
theorem cnt_ni {X : Int → Prop} {i : Int} (h0 : 0 ≤ i) (h : ¬ X i) : cnt X (i + 1).toNat = cnt X i.toNat := by
  obtain ⟨n, rfl⟩ := Int.eq_ofNat_of_zero_le h0
  exact cnt_n h
def hOk (h : Int → Int) : Prop := ∀ c, cl c → 0 ≤ h c ∧ h c ≤ 99
def flood (h : Int → Int) (v c : Int) : Prop := ∃ b, cl b ∧ bord b ∧ Cn (fun x => h x ≤ v) b c
/-- lv are the levels of the terrain h -/
def LvOk (h lv : Int → Int) : Prop := ∀ c, cl c → ∀ v, lv c ≤ v ↔ flood h v c
/-- what holds of the system between its calls -/
def inv0 (M : xMem) : Prop := hOk (M 0) ∧ (M 9 0 = 0 ∨ M 9 0 = 1 ∧ LvOk (M 0) (M 1))
def setP (h : Int → Int) (c v r : Int) (h' : Int → Int) : Prop := ¬ cl c ∧ r = -1 ∧ h' = h ∨ cl c ∧ ¬ (0 ≤ v ∧ v ≤ 99) ∧ r = -2 ∧ h' = h ∨ cl c ∧ (0 ≤ v ∧ v ≤ 99) ∧ r = h c ∧ h' = xup h c v
theorem hOk_set {h : Int → Int} {c v : Int} (hh : hOk h) (h0 : 0 ≤ v) (h1 : v ≤ 99) : hOk (xup h c v) := by
  intro i hi
  by_cases e : i = c
  · rw [e, xup_s]; exact ⟨h0, h1⟩
  · rw [xup_n _ _ e]; exact hh i hi
theorem mt_set (M : xMem) (c v : Int) (hI : inv0 M) : xMet kX0 mX0_set 1 true M [c, v] (fun r M' => setP (M 0) c v r (M' 0) ∧ inv0 M') := by
  refine xMet_of kX0_ok oX0_set rfl (Nat.le_of_ble_eq_true rfl) (fun hM hz => ?_)
  unfold setP cl
  refine xgo 1 rfl ?_
  refine xcalls (mt_bad M c) rfl rfl lX0_bad rfl rfl rfl (fun r M' hp => ?_)
  obtain ⟨rfl, hr⟩ := hp
  refine xbr rfl (fun h => ?_) (fun h => ?_)
  · refine xgo 10 rfl ?_
    refine xbr rfl (fun h2 => ?_) (fun h2 => ?_)
    · refine xgo 21 rfl ?_
      exact xret rfl rfl ⟨Or.inr (Or.inl ⟨by omega, by omega, rfl, rfl⟩), hI⟩
    · refine xgo 16 rfl ?_
      refine xbr rfl (fun h3 => ?_) (fun h3 => ?_)
      · refine xgc 42 rfl (by omega) ?_
        refine xret rfl rfl ⟨Or.inr (Or.inr ⟨by omega, by omega, rfl, rfl⟩), hOk_set hI.1 h2 h3, Or.inl rfl⟩
      · refine xgo 21 rfl ?_
        exact xret rfl rfl ⟨Or.inr (Or.inl ⟨by omega, by omega, rfl, rfl⟩), hI⟩
  · refine xgo 8 rfl ?_
    exact xret rfl rfl ⟨Or.inl ⟨by omega, rfl, rfl⟩, hI⟩
theorem mm_set (M : xMem) (c v : Int) : xMet kX1 mX1_set 1 true M [c, v] (fun r M' => setP (M 0) c v r (M' 0)) := by
  refine xMet_of kX1_ok oX1_set rfl (Nat.le_of_ble_eq_true rfl) (fun hM hz => ?_)
  unfold setP cl
  refine xgo 2 rfl ?_
  refine xcall (mm_bad M c) rfl rfl lX1_bad rfl rfl rfl (fun r M' hp => ?_)
  obtain ⟨rfl, hr⟩ := hp
  refine xbr rfl (fun h => ?_) (fun h => ?_)
  · refine xgo 11 rfl ?_
    refine xbr rfl (fun h2 => ?_) (fun h2 => ?_)
    · refine xgo 22 rfl ?_
      exact xret rfl rfl (Or.inr (Or.inl ⟨by omega, by omega, rfl, rfl⟩))
    · refine xgo 17 rfl ?_
      refine xbr rfl (fun h3 => ?_) (fun h3 => ?_)
      · refine xgc 38 rfl (by omega) ?_
        refine xret rfl rfl (Or.inr (Or.inr ⟨by omega, by omega, rfl, rfl⟩))
      · refine xgo 22 rfl ?_
        exact xret rfl rfl (Or.inr (Or.inl ⟨by omega, by omega, rfl, rfl⟩))
  · refine xgo 9 rfl ?_
    exact xret rfl rfl (Or.inl ⟨by omega, rfl, rfl⟩)
def htP (h : Int → Int) (c r : Int) : Prop := ¬ cl c ∧ r = -1 ∨ cl c ∧ r = h c
theorem mt_height (M : xMem) (c : Int) : xMet kX0 mX0_height 1 true M [c] (fun r M' => M = M' ∧ htP (M 0) c r) := by
  refine xMet_of kX0_ok oX0_height rfl (Nat.le_of_ble_eq_true rfl) (fun hM hz => ?_)
  unfold htP cl
  refine xgo 1 rfl ?_
  refine xcalls (mt_bad M c) rfl rfl lX0_bad rfl rfl rfl (fun r M' hp => ?_)
  obtain ⟨rfl, hr⟩ := hp
  refine xbr rfl (fun h => ?_) (fun h => ?_)
  · refine xgc 17 rfl (by omega) ?_
    exact xret rfl rfl ⟨rfl, Or.inr ⟨by omega, rfl⟩⟩
  · refine xgo 17 rfl ?_
    exact xret rfl rfl ⟨rfl, Or.inl ⟨by omega, rfl⟩⟩
theorem mm_height (M : xMem) (c : Int) : xMet kX1 mX1_height 1 true M [c] (fun r M' => M = M' ∧ htP (M 0) c r) := by
  refine xMet_of kX1_ok oX1_height rfl (Nat.le_of_ble_eq_true rfl) (fun hM hz => ?_)
  unfold htP cl
  refine xgo 2 rfl ?_
  refine xcall (mm_bad M c) rfl rfl lX1_bad rfl rfl rfl (fun r M' hp => ?_)
  obtain ⟨rfl, hr⟩ := hp
  refine xbr rfl (fun h => ?_) (fun h => ?_)
  · refine xgc 18 rfl (by omega) ?_
    exact xret rfl rfl ⟨rfl, Or.inr ⟨by omega, rfl⟩⟩
  · refine xgo 18 rfl ?_
    exact xret rfl rfl ⟨rfl, Or.inl ⟨by omega, rfl⟩⟩
def patH (h : Int → Int) (f s : Int) : Int → Int := fun i => if 0 ≤ i ∧ i < 64 then (xwr (xwr (i * f) + s)) % 64 else h i
theorem mt_pattern (M : xMem) (f s : Int) : xMet kX0 mX0_pattern 0 true M [f, s] (fun _ M' => M' 0 = patH (M 0) f s ∧ inv0 M') := by
  refine xMet_of kX0_ok oX0_pattern rfl (Nat.le_of_ble_eq_true rfl) (fun hM hz => ?_)
  refine xgo 2 rfl ?_
  refine xloop2 (J := fun (i : Int) (M' : xMem) => xV kX0 mX0_pattern 0 _ M' 2 [some (.inr (.inr none)), some (.inl f), some (.inl s), some (.inl i)] []) (fun i M' => 0 ≤ i ∧ i ≤ 64 ∧ ∀ j, M' 0 j = if 0 ≤ j ∧ j < i then (xwr (xwr (j * f) + s)) % 64 else M 0 j) (fun i _ => (64 - i).toNat) ?_ 0 M ⟨by omega, by omega, fun j => by rw [if_neg (by omega)]⟩
  intro i M1 ⟨h1, h2, h3⟩ ih
  refine xgo 5 rfl ?_
  refine xbr rfl (fun h => ?_) (fun h => ?_)
  · refine xgc 33 rfl (by omega) ?_
    have e : i = 64 := by omega
    subst e
    have e0 : M1 0 = patH (M 0) f s := by
      funext j
      exact h3 j
    refine xretv rfl rfl ⟨e0, ?_, Or.inl rfl⟩
    intro c hc
    show 0 ≤ M1 0 c ∧ M1 0 c ≤ 99
    rw [h3 c, if_pos (show 0 ≤ c ∧ c < 64 from hc)]
    omega
  · refine xgw 22 rfl (by omega) ?_
    refine xgc 2 rfl (by omega) ?_
    refine ih (i + 1) _ ⟨by omega, by omega, fun j => ?_⟩ (by omega)
    rw [xset_s]
    by_cases e : j = i
    · rw [e, xup_s, if_pos (by omega)]
    · rw [xup_n _ _ e, h3 j]
      by_cases e2 : 0 ≤ j ∧ j < i
      · rw [if_pos e2, if_pos (by omega)]
      · rw [if_neg e2, if_neg (by omega)]
theorem mm_pattern (M : xMem) (f s : Int) : xMet kX1 mX1_pattern 0 true M [f, s] (fun _ M' => M' 0 = patH (M 0) f s) := by
  refine xMet_of kX1_ok oX1_pattern rfl (Nat.le_of_ble_eq_true rfl) (fun hM hz => ?_)
  refine xgo 2 rfl ?_
  refine xloop2 (J := fun (i : Int) (M' : xMem) => xV kX1 mX1_pattern 0 _ M' 2 [some (.inr (.inr none)), some (.inl f), some (.inl s), some (.inl i)] []) (fun i M' => 0 ≤ i ∧ i ≤ 64 ∧ ∀ j, M' 0 j = if 0 ≤ j ∧ j < i then (xwr (xwr (j * f) + s)) % 64 else M 0 j) (fun i _ => (64 - i).toNat) ?_ 0 M ⟨by omega, by omega, fun j => by rw [if_neg (by omega)]⟩
  intro i M1 ⟨h1, h2, h3⟩ ih
  refine xgo 5 rfl ?_
  refine xbr rfl (fun h => ?_) (fun h => ?_)
  · have e : i = 64 := by omega
    subst e
    refine xretv rfl rfl ?_
    funext j
    exact h3 j
  · refine xgw 22 rfl (by omega) ?_
    refine xgc 2 rfl (by omega) ?_
    refine ih (i + 1) _ ⟨by omega, by omega, fun j => ?_⟩ (by omega)
    rw [xset_s]
    by_cases e : j = i
    · rw [e, xup_s, if_pos (by omega)]
    · rw [xup_n _ _ e, h3 j]
      by_cases e2 : 0 ≤ j ∧ j < i
      · rw [if_pos e2, if_pos (by omega)]
      · rw [if_neg e2, if_neg (by omega)]
def rct (a b i : Int) : Prop := cl i ∧ btw (i / 8) (a / 8) (b / 8) ∧ btw (i % 8) (a % 8) (b % 8)
def clm (z : Int) : Int := if z < 0 then 0 else if 99 < z then 99 else z
noncomputable def shH (h : Int → Int) (a b m : Int) : Int → Int := fun i => @ite Int (rct a b i) (Classical.propDecidable _) (clm (h i + m)) (h i)
def shQ (h : Int → Int) (a b m i : Int) : Prop := rct a b i ∧ clm (h i + m) ≠ h i
def shP (h : Int → Int) (a b m r : Int) (h' : Int → Int) : Prop := ¬ (cl a ∧ cl b) ∧ r = -1 ∧ h' = h ∨ cl a ∧ cl b ∧ r = (cnt (shQ h a b m) 64 : Nat) ∧ h' = shH h a b m
theorem shH_y {h : Int → Int} {a b m i : Int} (hr : rct a b i) : shH h a b m i = clm (h i + m) := if_pos hr
theorem shH_n {h : Int → Int} {a b m i : Int} (hr : ¬ rct a b i) : shH h a b m i = h i := if_neg hr
theorem clm_in (z : Int) : 0 ≤ clm z ∧ clm z ≤ 99 := by
  unfold clm
  split
  · omega
  · split <;> omega
theorem hOk_sh {h : Int → Int} {a b m : Int} (hh : hOk h) : hOk (shH h a b m) := by
  intro i hi
  by_cases hr : rct a b i
  · rw [shH_y hr]; exact clm_in _
  · rw [shH_n hr]; exact hh i hi
theorem mm_shift (M : xMem) (a b m : Int) : xMet kX1 mX1_shift 2 true M [a, b, m] (fun r M' => shP (M 0) a b m r (M' 0)) := by
  refine xMet_of kX1_ok oX1_shift rfl (Nat.le_of_ble_eq_true rfl) (fun hM hz => ?_)
  unfold shP
  refine xgo 2 rfl ?_
  refine xcall (mm_bad M a) rfl rfl lX1_bad rfl rfl rfl (fun r M' hp => ?_)
  obtain ⟨rfl, hr⟩ := hp
  refine xbr rfl (fun h => ?_) (fun h => ?_)
  · refine xgo 17 rfl ?_
    exact xret rfl rfl (Or.inl ⟨by unfold cl; omega, rfl, rfl⟩)
  · refine xgo 10 rfl ?_
    refine xcall (mm_bad M b) rfl rfl lX1_bad rfl rfl rfl (fun r' M' hp => ?_)
    obtain ⟨rfl, hr'⟩ := hp
    refine xbr rfl (fun h' => ?_) (fun h' => ?_)
    · have ha : cl a := by unfold cl; omega
      have hb : cl b := by unfold cl; omega
      have ha2 := ha
      have hb2 := hb
      unfold cl at ha2 hb2
      refine xgo 24 rfl ?_
      refine xloop3 (J := fun (n i : Int) (M' : xMem) => xV kX1 mX1_shift 2 _ M' 24 [some (.inr (.inr none)), some (.inl a), some (.inl b), some (.inl m), some (.inl n), some (.inl i), none, none, none] []) (fun n i M' => 0 ≤ i ∧ i ≤ 64 ∧ n = (cnt (shQ (M 0) a b m) i.toNat : Nat) ∧ ∀ j, M' 0 j = if j < i then shH (M 0) a b m j else M 0 j) (fun _ i _ => (64 - i).toNat) ?_ 0 0 M ⟨by omega, by omega, rfl, fun j => ?_⟩
      · intro n i M1 ⟨h1, h2, h3, h4⟩ ih
        have hn : cnt (shQ (M 0) a b m) i.toNat ≤ i.toNat := cnt_le _ _
        refine xgo 28 rfl ?_
        refine xbr rfl (fun h5 => ?_) (fun h5 => ?_)
        · refine xgo 146 rfl ?_
          have e : i = 64 := by omega
          subst e
          refine xret rfl rfl (Or.inr ⟨ha, hb, h3, ?_⟩)
          funext j
          rw [h4 j]
          by_cases hj : j < 64
          · rw [if_pos hj]
          · rw [if_neg hj, shH_n]
            intro hrc
            have := hrc.1.2
            omega
        · have hskip : ¬ rct a b i → xV kX1 mX1_shift 2 (fun r M' => ¬ (cl a ∧ cl b) ∧ r = -1 ∧ M' 0 = M 0 ∨ cl a ∧ cl b ∧ r = (cnt (shQ (M 0) a b m) 64 : Nat) ∧ M' 0 = shH (M 0) a b m) M1 138 [some (.inr (.inr none)), some (.inl a), some (.inl b), some (.inl m), some (.inl n), some (.inl i), none, none, none] [] := by
            intro hrc
            refine xgc 24 rfl (by omega) ?_
            refine ih n (i + 1) M1 ⟨by omega, by omega, ?_, fun j => ?_⟩ (by omega)
            · rw [cnt_ni h1 (fun hq => hrc hq.1)]
              exact h3
            · rw [h4 j]
              by_cases hj : j < i
              · rw [if_pos hj, if_pos (by omega)]
              · rw [if_neg hj]
                by_cases hj2 : j < i + 1
                · have e : j = i := by omega
                  rw [if_pos hj2, e, shH_n hrc]
                · rw [if_neg hj2]
          refine xgc 45 rfl (by omega) ?_
          refine xcall (mm_between M1 (i / 8) (a / 8) (b / 8)) rfl rfl lX1_between rfl rfl rfl (fun q1 M' hp => ?_)
          obtain ⟨rfl, hq1⟩ := hp
          refine xbr rfl (fun h6 => ?_) (fun h6 => ?_)
          · exact hskip (fun hrc => by have := hrc.2.1; rcases hq1 with ⟨-, q⟩ | ⟨q, -⟩ <;> first | omega | exact q this)
          · refine xgc 65 rfl (by omega) ?_
            refine xcall (mm_between M1 (i % 8) (a % 8) (b % 8)) rfl rfl lX1_between rfl rfl rfl (fun q2 M' hp => ?_)
            obtain ⟨rfl, hq2⟩ := hp
            refine xbr rfl (fun h7 => ?_) (fun h7 => ?_)
            · exact hskip (fun hrc => by have := hrc.2.2; rcases hq2 with ⟨-, q⟩ | ⟨q, -⟩ <;> first | omega | exact q this)
            · have hrc : rct a b i := by
                refine ⟨⟨h1, h5⟩, ?_, ?_⟩
                · rcases hq1 with ⟨q, -⟩ | ⟨-, q⟩
                  · exact q
                  · exact absurd q h6
                · rcases hq2 with ⟨q, -⟩ | ⟨-, q⟩
                  · exact q
                  · exact absurd q h7
              have hM0 := hM 0 i
              have hm := hz m (by simp)
              unfold xrg at hM0 hm
              have e0 : M1 0 i = M 0 i := by rw [h4 i, if_neg (by omega)]
              refine xjn (α := Int) (fun w => w = clm (M 0 i + m)) 112 (fun _ => M1) (fun w => [some (.inr (.inr none)), some (.inl a), some (.inl b), some (.inl m), some (.inl n), some (.inl i), some (.inr (.inl (M1 0 i + m))), none, none]) (fun w => [.inl w]) ?_ ?_
              · intro w hw
                have hw2 := clm_in (M 0 i + m)
                have fin : ∀ n' : Int, n' = (cnt (shQ (M 0) a b m) (i + 1).toNat : Nat) → xV kX1 mX1_shift 2 (fun r M' => ¬ (cl a ∧ cl b) ∧ r = -1 ∧ M' 0 = M 0 ∨ cl a ∧ cl b ∧ r = (cnt (shQ (M 0) a b m) 64 : Nat) ∧ M' 0 = shH (M 0) a b m) M1 129 [some (.inr (.inr none)), some (.inl a), some (.inl b), some (.inl m), some (.inl n'), some (.inl i), some (.inr (.inl (M1 0 i + m))), none, some (.inl w)] [] := by
                  intro n' hn'
                  refine xgc 24 rfl (by omega) ?_
                  refine xfg 6 (xfg 8 ?_)
                  refine ih n' (i + 1) _ ⟨by omega, by omega, hn', fun j => ?_⟩ (by omega)
                  rw [xset_s]
                  by_cases e : j = i
                  · rw [e, xup_s, if_pos (by omega), shH_y hrc, hw]
                  · rw [xup_n _ _ e, h4 j]
                    by_cases hj : j < i
                    · rw [if_pos hj, if_pos (by omega)]
                    · rw [if_neg hj, if_neg (by omega)]
                refine xgc 123 rfl (by omega) ?_
                refine xbr rfl (fun h8 => ?_) (fun h8 => ?_)
                · refine fin n ?_
                  rw [cnt_ni h1 (fun hq => hq.2 (by rw [← hw, h8, e0]))]
                  exact h3
                · refine xgc 129 rfl (by omega) ?_
                  refine fin (n + 1) ?_
                  rw [cnt_yi h1 ⟨hrc, fun hq => h8 (by rw [hw, hq, e0])⟩, h3]
                  omega
              · intro kj
                refine xgc 88 rfl (by omega) ?_
                refine xbr rfl (fun h8 => ?_) (fun h8 => ?_)
                · refine xgo 101 rfl ?_
                  refine xbr rfl (fun h9 => ?_) (fun h9 => ?_)
                  · refine xgc 112 rfl (by split at h8 <;> split at h9 <;> omega) ?_
                    refine kj _ ?_
                    unfold clm
                    rw [e0] at h8 h9 ⊢
                    rw [if_neg (by split at h8 <;> omega), if_neg (by split at h9 <;> omega)]
                  · refine xgo 112 rfl ?_
                    refine kj _ ?_
                    unfold clm
                    rw [e0] at h8 h9
                    rw [if_neg (by split at h8 <;> omega), if_pos (by split at h9 <;> omega)]
                · refine xgo 112 rfl ?_
                  refine kj _ ?_
                  unfold clm
                  rw [e0] at h8
                  rw [if_pos (by split at h8 <;> omega)]
      · by_cases hj : j < 0
        · rw [if_pos hj, shH_n]
          intro hrc
          have := hrc.1.1
          omega
        · rw [if_neg hj]
    · refine xgo 17 rfl ?_
      exact xret rfl rfl (Or.inl ⟨by unfold cl; omega, rfl, rfl⟩)
end
section
set_option maxRecDepth 100000
theorem clm_by {h m by' : Int} (h0 : 0 ≤ h) (h1 : h ≤ 99) (hb : m < -99 ∧ by' = -99 ∨ -99 ≤ m ∧ 99 < m ∧ by' = 99 ∨ -99 ≤ m ∧ m ≤ 99 ∧ by' = m) : clm (h + by') = clm (h + m) := by
  unfold clm
  split
  · rw [if_pos (by omega)]
  · split
    · rw [if_neg (by omega), if_pos (by omega)]
    · by_cases e : h + m < 0
      · rw [if_pos e]; omega
      · rw [if_neg e]
        by_cases e2 : 99 < h + m
        · rw [if_pos e2]; omega
        · rw [if_neg e2]; omega
theorem mt_shift (M : xMem) (a b m : Int) (hI : inv0 M) : xMet kX0 mX0_shift 1 true M [a, b, m] (fun r M' => shP (M 0) a b m r (M' 0) ∧ inv0 M') := by
  refine xMet_of kX0_ok oX0_shift rfl (Nat.le_of_ble_eq_true rfl) (fun hM hz => ?_)
  unfold shP
  refine xgo 1 rfl ?_
  refine xcalls (mt_bad M a) rfl rfl lX0_bad rfl rfl rfl (fun r M' hp => ?_)
  obtain ⟨rfl, hr⟩ := hp
  refine xbr rfl (fun h => ?_) (fun h => ?_)
  · refine xgo 15 rfl ?_
    exact xret rfl rfl ⟨Or.inl ⟨by unfold cl; omega, rfl, rfl⟩, hI⟩
  refine xgo 8 rfl ?_
  refine xcalls (mt_bad M b) rfl rfl lX0_bad rfl rfl rfl (fun r' M' hp => ?_)
  obtain ⟨rfl, hr'⟩ := hp
  refine xbr rfl (fun h' => ?_) (fun h' => ?_)
  rotate_left
  · refine xgo 15 rfl ?_
    exact xret rfl rfl ⟨Or.inl ⟨by unfold cl; omega, rfl, rfl⟩, hI⟩
  have ha : cl a := by unfold cl; omega
  have hb : cl b := by unfold cl; omega
  have ha2 := ha
  have hb2 := hb
  unfold cl at ha2 hb2
  refine xgo 21 rfl ?_
  refine xcalls (mt_within M m (-99) 99) rfl rfl lX0_within rfl rfl rfl (fun y M' hp => ?_)
  obtain ⟨rfl, hy⟩ := hp
  refine xjn (α := Int) (fun r0 => r0 ≤ a / 8 ∧ r0 ≤ b / 8 ∧ (r0 = a / 8 ∨ r0 = b / 8)) 48 (fun _ => M) (fun _ => [some (.inr (.inr none)), some (.inl a), some (.inl b), some (.inl m), some (.inl y), none, none, none, none, none, none, none, none, none]) (fun r0 => [.inl r0]) ?_ ?_
  rotate_left
  · intro kj
    refine xgc 34 rfl (by omega) ?_
    refine xbr rfl (fun h1 => ?_) (fun h1 => ?_)
    · refine xgc 48 rfl (by omega) ?_
      exact kj _ (by omega)
    · refine xgc 48 rfl (by omega) ?_
      exact kj _ (by omega)
  intro r0 hr0
  refine xjn (α := Int) (fun r1 => a / 8 ≤ r1 ∧ b / 8 ≤ r1 ∧ (r1 = a / 8 ∨ r1 = b / 8)) 72 (fun _ => M) (fun _ => [some (.inr (.inr none)), some (.inl a), some (.inl b), some (.inl m), some (.inl y), some (.inl r0), none, none, none, none, none, none, none, none]) (fun r1 => [.inl r1]) ?_ ?_
  rotate_left
  · intro kj
    refine xgc 58 rfl (by omega) ?_
    refine xbr rfl (fun h1 => ?_) (fun h1 => ?_)
    · refine xgc 72 rfl (by omega) ?_
      exact kj _ (by omega)
    · refine xgc 72 rfl (by omega) ?_
      exact kj _ (by omega)
  intro r1 hr1
  refine xjn (α := Int) (fun c0 => c0 ≤ a % 8 ∧ c0 ≤ b % 8 ∧ (c0 = a % 8 ∨ c0 = b % 8)) 96 (fun _ => M) (fun _ => [some (.inr (.inr none)), some (.inl a), some (.inl b), some (.inl m), some (.inl y), some (.inl r0), some (.inl r1), none, none, none, none, none, none, none]) (fun c0 => [.inl c0]) ?_ ?_
  rotate_left
  · intro kj
    refine xgc 82 rfl (by omega) ?_
    refine xbr rfl (fun h1 => ?_) (fun h1 => ?_)
    · refine xgc 96 rfl (by omega) ?_
      exact kj _ (by omega)
    · refine xgc 96 rfl (by omega) ?_
      exact kj _ (by omega)
  intro c0 hc0
  refine xjn (α := Int) (fun c1 => a % 8 ≤ c1 ∧ b % 8 ≤ c1 ∧ (c1 = a % 8 ∨ c1 = b % 8)) 120 (fun _ => M) (fun _ => [some (.inr (.inr none)), some (.inl a), some (.inl b), some (.inl m), some (.inl y), some (.inl r0), some (.inl r1), some (.inl c0), none, none, none, none, none, none]) (fun c1 => [.inl c1]) ?_ ?_
  rotate_left
  · intro kj
    refine xgc 106 rfl (by omega) ?_
    refine xbr rfl (fun h1 => ?_) (fun h1 => ?_)
    · refine xgc 120 rfl (by omega) ?_
      exact kj _ (by omega)
    · refine xgc 120 rfl (by omega) ?_
      exact kj _ (by omega)
  intro c1 hc1
  have hrct : ∀ i, rct a b i ↔ (r0 ≤ i / 8 ∧ i / 8 ≤ r1) ∧ (c0 ≤ i % 8 ∧ i % 8 ≤ c1) := by
    intro i
    unfold rct btw cl
    omega
  refine xgo 129 rfl ?_
  refine xloop3 (J := fun (n r : Int) (M' : xMem) => xV kX0 mX0_shift 1 _ M' 129 [some (.inr (.inr none)), some (.inl a), some (.inl b), some (.inl m), some (.inl y), some (.inl r0), some (.inl r1), some (.inl c0), some (.inl c1), some (.inl n), some (.inl r), none, none, none] []) (fun n r M' => r0 ≤ r ∧ r ≤ r1 + 1 ∧ n = (cnt (shQ (M 0) a b m) (r * 8 + c0).toNat : Nat) ∧ ∀ j, M' 0 j = if j < r * 8 + c0 then shH (M 0) a b m j else M 0 j) (fun _ r _ => (r1 + 1 - r).toNat) ?_ 0 r0 M ⟨by omega, by omega, ?_, fun j => ?_⟩
  · intro n r M1 ⟨h1, h2, h3, h4⟩ ih
    have hn : cnt (shQ (M 0) a b m) (r * 8 + c0).toNat ≤ (r * 8 + c0).toNat := cnt_le _ _
    refine xgo 133 rfl ?_
    refine xbr rfl (fun h5 => ?_) (fun h5 => ?_)
    · refine xgc 218 rfl (by omega) ?_
      have e : r = r1 + 1 := by omega
      subst e
      have e0 : M1 0 = shH (M 0) a b m := by
        funext j
        rw [h4 j]
        by_cases hj : j < (r1 + 1) * 8 + c0
        · rw [if_pos hj]
        · rw [if_neg hj, shH_n]
          intro hrc
          have := (hrct j).mp hrc
          omega
      have e1 : (cnt (shQ (M 0) a b m) ((r1 + 1) * 8 + c0).toNat : Nat) = cnt (shQ (M 0) a b m) 64 := by
        by_cases hb : ((r1 + 1) * 8 + c0).toNat ≤ 64
        · refine (cnt_skip 64 hb (fun i i1 i2 hq => ?_)).symm
          have := (hrct i).mp hq.1
          omega
        · refine cnt_skip _ (by omega) (fun i i1 i2 hq => ?_)
          have := hq.1.1.2
          omega
      rw [e1] at h3
      refine xret rfl rfl ⟨Or.inr ⟨ha, hb, h3, e0⟩, ?_, Or.inl rfl⟩
      show hOk (M1 0)
      rw [e0]
      exact hOk_sh hI.1
    · refine xgo 140 rfl ?_
      refine xloop3 (J := fun (n c : Int) (M' : xMem) => xV kX0 mX0_shift 1 _ M' 140 [some (.inr (.inr none)), some (.inl a), some (.inl b), some (.inl m), some (.inl y), some (.inl r0), some (.inl r1), some (.inl c0), some (.inl c1), some (.inl n), some (.inl r), some (.inl c), none, none] []) (fun n c M' => c0 ≤ c ∧ c ≤ c1 + 1 ∧ n = (cnt (shQ (M 0) a b m) (r * 8 + c).toNat : Nat) ∧ ∀ j, M' 0 j = if j < r * 8 + c then shH (M 0) a b m j else M 0 j) (fun _ c _ => (c1 + 1 - c).toNat) ?_ n c0 M1 ⟨by omega, by omega, h3, h4⟩
      intro n c M2 ⟨g1, g2, g3, g4⟩ ih2
      have hn : cnt (shQ (M 0) a b m) (r * 8 + c).toNat ≤ (r * 8 + c).toNat := cnt_le _ _
      refine xgo 144 rfl ?_
      refine xbr rfl (fun h6 => ?_) (fun h6 => ?_)
      · refine xgc 129 rfl (by omega) ?_
        refine xfg 11 ?_
        have e : c = c1 + 1 := by omega
        subst e
        refine ih n (r + 1) M2 ⟨by omega, by omega, ?_, fun j => ?_⟩ (by omega)
        · rw [g3]
          have : cnt (shQ (M 0) a b m) ((r + 1) * 8 + c0).toNat = cnt (shQ (M 0) a b m) (r * 8 + (c1 + 1)).toNat := by
            refine cnt_skip _ (by omega) (fun i i1 i2 hq => ?_)
            have := (hrct i).mp hq.1
            omega
          rw [this]
        · rw [g4 j]
          by_cases hj : j < r * 8 + (c1 + 1)
          · rw [if_pos hj, if_pos (by omega)]
          · rw [if_neg hj]
            by_cases hj2 : j < (r + 1) * 8 + c0
            · rw [if_pos hj2, shH_n]
              intro hrc
              have := (hrct j).mp hrc
              omega
            · rw [if_neg hj2]
      · have hat : cl (r * 8 + c) := by unfold cl; omega
        have hat2 := hat
        unfold cl at hat2
        have hrc : rct a b (r * 8 + c) := (hrct _).mpr (by omega)
        have e0 : M2 0 (r * 8 + c) = M 0 (r * 8 + c) := by rw [g4, if_neg (by omega)]
        have hh := hI.1 _ hat
        rw [← e0] at hh
        refine xgc 170 rfl (by omega) ?_
        refine xcalls (mt_within M2 (M2 0 (r * 8 + c) + y) 0 99) rfl rfl lX0_within rfl rfl rfl (fun w M' hp => ?_)
        obtain ⟨rfl, hw⟩ := hp
        have hw2 : w = clm (M 0 (r * 8 + c) + m) := by
          rw [← e0, ← clm_by hh.1 hh.2 hy]
          unfold clm
          split
          · omega
          · split <;> omega
        have fin : ∀ n' : Int, n' = (cnt (shQ (M 0) a b m) (r * 8 + c + 1).toNat : Nat) → xV kX0 mX0_shift 1 (fun r M' => (¬ (cl a ∧ cl b) ∧ r = -1 ∧ M' 0 = M 0 ∨ cl a ∧ cl b ∧ r = (cnt (shQ (M 0) a b m) 64 : Nat) ∧ M' 0 = shH (M 0) a b m) ∧ inv0 M') M2 190 [some (.inr (.inr none)), some (.inl a), some (.inl b), some (.inl m), some (.inl y), some (.inl r0), some (.inl r1), some (.inl c0), some (.inl c1), some (.inl n'), some (.inl r), some (.inl c), some (.inl (r * 8 + c)), some (.inl w)] [] := by
          intro n' hn'
          refine xgc 140 rfl (by omega) ?_
          refine xfg 12 (xfg 13 ?_)
          refine ih2 n' (c + 1) _ ⟨by omega, by omega, ?_, fun j => ?_⟩ (by omega)
          · rw [hn', show r * 8 + (c + 1) = r * 8 + c + 1 by omega]
          · rw [xset_s]
            by_cases e : j = r * 8 + c
            · rw [e, xup_s, if_pos (by omega), shH_y hrc, hw2]
            · rw [xup_n _ _ e, g4 j]
              by_cases hj : j < r * 8 + c
              · rw [if_pos hj, if_pos (by omega)]
              · rw [if_neg hj, if_neg (by omega)]
        refine xgc 184 rfl (by omega) ?_
        refine xbr rfl (fun h8 => ?_) (fun h8 => ?_)
        · refine fin n ?_
          rw [cnt_ni (by omega) (fun hq => hq.2 (by rw [← hw2, h8, e0]))]
          exact g3
        · refine xgc 190 rfl (by omega) ?_
          refine fin (n + 1) ?_
          rw [cnt_yi (by omega) ⟨hrc, fun hq => h8 (by rw [hw2, hq, e0])⟩, g3]
          omega
  · have : cnt (shQ (M 0) a b m) (r0 * 8 + c0).toNat = cnt (shQ (M 0) a b m) 0 := by
      refine cnt_skip _ (by omega) (fun i i1 i2 hq => ?_)
      have := (hrct i).mp hq.1
      have := hq.1.1.1
      omega
    rw [this]
    rfl
  · by_cases hj : j < r0 * 8 + c0
    · rw [if_pos hj, shH_n]
      intro hrc
      have := (hrct j).mp hrc
      omega
    · rw [if_neg hj]
end
section
set_option maxRecDepth 100000
/-! the reference's sweeps: lower, levels, passes -/
def Tl (h m0 : Int → Int) (v c : Int) : Prop := ∃ s, cl s ∧ m0 s ≤ v ∧ Cn (fun x => h x ≤ v) s c
def Low (h m0 m : Int → Int) : Prop := (∀ c, cl c → h c ≤ m c ∧ m c ≤ m0 c) ∧ ∀ c, cl c → ∀ v, v < 100 → m c ≤ v → Tl h m0 v c
theorem Low_0 {h m0 : Int → Int} (h0 : ∀ c, cl c → h c ≤ m0 c) : Low h m0 m0 := by
  refine ⟨fun c hc => ⟨h0 c hc, Int.le_refl _⟩, fun c hc v _ hv => ⟨c, hc, hv, Cn_r ?_⟩⟩
  have := h0 c hc
  show h c ≤ v
  omega
theorem Low_s {h m0 m : Int → Int} {c r l n : Int} (hL : Low h m0 m) (hc : cl c) (hr : isLB m c r) (hl : r ≤ h c ∧ l = h c ∨ h c ≤ r ∧ l = r) (hn : m c ≤ l ∧ n = m c ∨ l ≤ m c ∧ n = l) : Low h m0 (xup m c n) := by
  obtain ⟨h1, h2⟩ := hL
  have h3 := h1 c hc
  refine ⟨fun x hx => ?_, fun x hx v hv hxv => ?_⟩
  · by_cases e : x = c
    · rw [e, xup_s]
      omega
    · rw [xup_n _ _ e]
      exact h1 x hx
  · by_cases e : x = c
    · subst e
      rw [xup_s] at hxv
      by_cases e2 : m x ≤ v
      · exact h2 x hx v hv e2
      · have h4 : h x ≤ v := by omega
        have h5 : r ≤ v := by omega
        rcases hr.2.2 with h6 | ⟨e, h6, h7⟩
        · omega
        · obtain ⟨s, g1, g2, g3⟩ := h2 e h6.2.1 v hv (by omega)
          exact ⟨s, g1, g2, Cn_1 g3 (adj_sym h6) h4⟩
    · rw [xup_n _ _ e] at hxv
      exact h2 x hx v hv hxv
theorem Low_g {h m0 m m' : Int → Int} {k : Int} (h1 : Low h m0 m) (hm : ∀ x, cl x → m' x ≤ m x) (hs : ∀ x, cl x → ∀ e, adj x e → m' x ≤ h x ∨ m' x ≤ m e) (hg : ∀ v, v < 100 → Gr (Tl h m0 v) k (fun c => m c ≤ v)) : ∀ v, v < 100 → Gr (Tl h m0 v) (k + 1) (fun c => m' c ≤ v) := by
  intro v hv
  refine Gr_s (R := fun x e => adj x e ∧ h e ≤ v) (hg v hv) (fun c hc h2 => Int.le_trans (hm c hc) h2) (fun c e hc he h2 h3 => ?_) (fun hcl c hc ht => ?_)
  · show m' e ≤ v
    have h2 : m c ≤ v := h2
    have h3b : h e ≤ v := h3.2
    rcases hs e he c (adj_sym h3.1) with h4 | h4 <;> omega
  · obtain ⟨s, g1, g2, g3⟩ := ht
    refine (Cn_ind (fun x => cl x ∧ m x ≤ v) g3 ⟨g1, ?_⟩ (fun x y hx _ hy hxy => ⟨hxy.2.1, hcl x y hx.1 hxy.2.1 hx.2 ⟨hxy, hy⟩⟩)).2
    have := (h1.1 s g1).2
    omega
theorem mm_lower (M : xMem) (h0 : ∀ c, cl c → M 0 c ≤ M 1 c) : xMet kX1 mX1_lower 2 true M [] (fun _ M' => M' 0 = M 0 ∧ ∀ c, cl c → ∀ v, v < 100 → (M' 1 c ≤ v ↔ Tl (M 0) (M 1) v c)) := by
  refine xMet_of kX1_ok oX1_lower rfl (Nat.le_of_ble_eq_true rfl) (fun hM hz => ?_)
  refine xgo 2 rfl ?_
  refine xloop2 (J := fun (k : Int) (M' : xMem) => xV kX1 mX1_lower 2 _ M' 2 [some (.inr (.inr none)), some (.inl k), none, none, none] []) (fun k M' => 0 ≤ k ∧ k ≤ 64 ∧ M' 0 = M 0 ∧ Low (M 0) (M 1) (M' 1) ∧ ∀ v, v < 100 → Gr (Tl (M 0) (M 1) v) k (fun c => M' 1 c ≤ v)) (fun k _ => (64 - k).toNat) ?_ 0 M ⟨by omega, by omega, rfl, Low_0 h0, fun v _ => Gr_0 (fun h1 c hc ht => ?_)⟩
  rotate_left
  · obtain ⟨s, g1, g2, -⟩ := ht
    exact h1 s g1 g2
  intro k M1 ⟨h1, h2, h3, h4, h5⟩ ih
  refine xgo 5 rfl ?_
  refine xbr rfl (fun h => ?_) (fun h => ?_)
  · refine xretv rfl rfl ⟨h3, fun c hc v hv => ⟨fun h6 => h4.2 c hc v hv h6, fun h6 => ?_⟩⟩
    have e : k = 64 := by omega
    subst e
    exact Gr_e (h5 v hv) hc h6
  · refine xgo 10 rfl ?_
    refine xloop2 (J := fun (c : Int) (M' : xMem) => xV kX1 mX1_lower 2 _ M' 10 [some (.inr (.inr none)), some (.inl k), some (.inl c), none, none] []) (fun c M' => 0 ≤ c ∧ c ≤ 64 ∧ M' 0 = M 0 ∧ Low (M 0) (M 1) (M' 1) ∧ (∀ x, cl x → M' 1 x ≤ M1 1 x) ∧ ∀ x, cl x → x < c → ∀ e, adj x e → M' 1 x ≤ M 0 x ∨ M' 1 x ≤ M1 1 e) (fun c _ => (64 - c).toNat) ?_ 0 M1 ⟨by omega, by omega, h3, h4, fun x _ => Int.le_refl _, fun x hx hx2 => by have := hx.1; omega⟩
    intro c M2 ⟨g1, g2, g3, g4, g5, g6⟩ ih2
    refine xgo 13 rfl ?_
    refine xbr rfl (fun h' => ?_) (fun h' => ?_)
    · refine xgc 2 rfl (by omega) ?_
      refine xfg 2 ?_
      refine ih (k + 1) M2 ⟨by omega, by omega, g3, g4, Low_g h4 g5 (fun x hx => g6 x hx (by have := hx.2; omega)) h5⟩ (by omega)
    · have hc : cl c := ⟨g1, h'⟩
      refine xgo 18 rfl ?_
      refine xcall (mm_leastBeside M2 c hc) rfl rfl lX1_leastBeside rfl rfl rfl (fun r M' hp => ?_)
      obtain ⟨rfl, hr⟩ := hp
      refine xgc 30 rfl (by omega) ?_
      refine xcall (mm_most M2 (M2 0 c) r) rfl rfl lX1_most rfl rfl rfl (fun l M' hp => ?_)
      obtain ⟨rfl, hl⟩ := hp
      rw [g3] at hl
      refine xgc 49 rfl (by omega) ?_
      refine xcall (mm_least M2 (M2 1 c) l) rfl rfl lX1_least rfl rfl rfl (fun n M' hp => ?_)
      obtain ⟨rfl, hn⟩ := hp
      refine xgc 10 rfl (by omega) ?_
      refine xfg 3 (xfg 4 ?_)
      refine ih2 (c + 1) _ ⟨by omega, by omega, g3, ?_, fun x hx => ?_, fun x hx hx2 e he => ?_⟩ (by omega)
      · exact Low_s g4 hc hr hl hn
      · rw [xset_s]
        by_cases e : x = c
        · rw [e, xup_s]
          have := g5 c hc
          omega
        · rw [xup_n _ _ e]
          exact g5 x hx
      · rw [xset_s]
        by_cases e2 : x = c
        · subst e2
          rw [xup_s]
          have a1 := hr.2.1 e he
          have a2 := g5 e he.2.1
          omega
        · rw [xup_n _ _ e2]
          exact g6 x hx (by omega) e he
theorem flood_all {h : Int → Int} (hh : hOk h) {c v : Int} (hc : cl c) (hv : 99 ≤ v) : flood h v c := by
  refine ⟨0, by unfold cl; omega, by unfold bord; omega, grid (fun x hx => ?_) (by unfold cl; omega) hc⟩
  have := (hh x hx).2
  show h x ≤ v
  omega
theorem mm_levels (M : xMem) (hh : hOk (M 0)) : xMet kX1 mX1_levels 3 true M [] (fun _ M' => M' 0 = M 0 ∧ LvOk (M 0) (M' 1)) := by
  refine xMet_of kX1_ok oX1_levels rfl (Nat.le_of_ble_eq_true rfl) (fun hM hz => ?_)
  refine xgo 2 rfl ?_
  refine xloop2 (J := fun (i : Int) (M' : xMem) => xV kX1 mX1_levels 3 _ M' 2 [some (.inr (.inr none)), some (.inl i)] []) (fun i M' => 0 ≤ i ∧ i ≤ 64 ∧ M' 0 = M 0 ∧ ∀ c, 0 ≤ c → c < i → (bord c → M' 1 c = M 0 c) ∧ (¬ bord c → M' 1 c = 100)) (fun i _ => (64 - i).toNat) ?_ 0 M ⟨by omega, by omega, rfl, fun c h1 h2 => by omega⟩
  intro i M1 ⟨h1, h2, h3, h4⟩ ih
  refine xgo 5 rfl ?_
  refine xbr rfl (fun h => ?_) (fun h => ?_)
  · have e : i = 64 := by omega
    subst e
    have hle : ∀ c, cl c → M1 0 c ≤ M1 1 c := by
      intro c hc
      have a1 := h4 c hc.1 hc.2
      have a2 := hh c hc
      rw [h3]
      by_cases hb : bord c
      · rw [a1.1 hb]; omega
      · rw [a1.2 hb]; omega
    refine xgo 40 rfl ?_
    refine xcallv (mm_lower M1 hle) rfl rfl lX1_lower rfl rfl rfl (fun M' hp => ?_)
    obtain ⟨p1, p2⟩ := hp
    rw [h3] at p1 p2
    have key : ∀ c, cl c → ∀ v, v < 100 → (M' 1 c ≤ v ↔ flood (M 0) v c) := by
      intro c hc v hv
      rw [p2 c hc v hv]
      constructor
      · intro ⟨s, s1, s2, s3⟩
        refine ⟨s, s1, ?_, s3⟩
        exact Classical.byContradiction (fun hb => by have := (h4 s s1.1 s1.2).2 hb; omega)
      · intro ⟨s, s1, s2, s3⟩
        refine ⟨s, s1, ?_, s3⟩
        rw [(h4 s s1.1 s1.2).1 s2]
        exact s3.1
    refine xretv rfl rfl ⟨p1, fun c hc v => ?_⟩
    by_cases hv : v < 100
    · exact key c hc v hv
    · have a1 := (key c hc 99 (by omega)).mpr (flood_all hh hc (Int.le_refl _))
      exact ⟨fun _ => flood_all hh hc (by omega), fun _ => by omega⟩
  · have hc : cl i := ⟨h1, h⟩
    refine xgo 15 rfl ?_
    refine xcall (mm_border M1 i hc) rfl rfl lX1_border rfl rfl rfl (fun r M' hp => ?_)
    obtain ⟨rfl, hr⟩ := hp
    refine xbr rfl (fun h5 => ?_) (fun h5 => ?_)
    · refine xgc 2 rfl (by omega) ?_
      refine ih (i + 1) _ ⟨by omega, by omega, h3, fun c c1 c2 => ?_⟩ (by omega)
      rw [xset_s]
      by_cases e : c = i
      · subst e
        rw [xup_s]
        exact ⟨fun hb => by rcases hr with ⟨-, q⟩ | ⟨q, -⟩ <;> first | omega | exact absurd hb q, fun _ => rfl⟩
      · rw [xup_n _ _ e]
        exact h4 c c1 (by omega)
    · refine xgc 2 rfl (by omega) ?_
      refine ih (i + 1) _ ⟨by omega, by omega, h3, fun c c1 c2 => ?_⟩ (by omega)
      rw [xset_s]
      by_cases e : c = i
      · subst e
        rw [xup_s, h3]
        exact ⟨fun _ => rfl, fun hb => by rcases hr with ⟨q, -⟩ | ⟨-, q⟩ <;> first | omega | exact absurd q hb⟩
      · rw [xup_n _ _ e]
        exact h4 c c1 (by omega)
/-- m holds the passes from a -/
def PsOk (h : Int → Int) (a : Int) (m : Int → Int) : Prop := ∀ c, cl c → ∀ v, m c ≤ v ↔ Cn (fun x => h x ≤ v) a c
theorem ps_all {h : Int → Int} (hh : hOk h) {a c v : Int} (ha : cl a) (hc : cl c) (hv : 99 ≤ v) : Cn (fun x => h x ≤ v) a c := by
  refine grid (fun x hx => ?_) ha hc
  have := (hh x hx).2
  show h x ≤ v
  omega
theorem mm_passes (M : xMem) (a : Int) (ha : cl a) (hh : hOk (M 0)) : xMet kX1 mX1_passes 3 true M [a] (fun _ M' => M' 0 = M 0 ∧ PsOk (M 0) a (M' 1)) := by
  refine xMet_of kX1_ok oX1_passes rfl (Nat.le_of_ble_eq_true rfl) (fun hM hz => ?_)
  refine xgo 2 rfl ?_
  refine xloop2 (J := fun (i : Int) (M' : xMem) => xV kX1 mX1_passes 3 _ M' 2 [some (.inr (.inr none)), some (.inl a), some (.inl i)] []) (fun i M' => 0 ≤ i ∧ i ≤ 64 ∧ M' 0 = M 0 ∧ ∀ c, 0 ≤ c → c < i → (c = a → M' 1 c = M 0 c) ∧ (¬ c = a → M' 1 c = 100)) (fun i _ => (64 - i).toNat) ?_ 0 M ⟨by omega, by omega, rfl, fun c h1 h2 => by omega⟩
  intro i M1 ⟨h1, h2, h3, h4⟩ ih
  refine xgo 5 rfl ?_
  refine xbr rfl (fun h => ?_) (fun h => ?_)
  · have e : i = 64 := by omega
    subst e
    have hle : ∀ c, cl c → M1 0 c ≤ M1 1 c := by
      intro c hc
      have a1 := h4 c hc.1 hc.2
      have a2 := hh c hc
      rw [h3]
      by_cases hb : c = a
      · rw [a1.1 hb]; omega
      · rw [a1.2 hb]; omega
    refine xgo 37 rfl ?_
    refine xcallv (mm_lower M1 hle) rfl rfl lX1_lower rfl rfl rfl (fun M' hp => ?_)
    obtain ⟨p1, p2⟩ := hp
    rw [h3] at p1 p2
    have key : ∀ c, cl c → ∀ v, v < 100 → (M' 1 c ≤ v ↔ Cn (fun x => M 0 x ≤ v) a c) := by
      intro c hc v hv
      rw [p2 c hc v hv]
      constructor
      · intro ⟨s, s1, s2, s3⟩
        have e : s = a := Classical.byContradiction (fun hb => by have := (h4 s s1.1 s1.2).2 hb; omega)
        rw [← e]
        exact s3
      · intro s3
        refine ⟨a, ha, ?_, s3⟩
        rw [(h4 a ha.1 ha.2).1 rfl]
        exact s3.1
    refine xretv rfl rfl ⟨p1, fun c hc v => ?_⟩
    by_cases hv : v < 100
    · exact key c hc v hv
    · have a1 := (key c hc 99 (by omega)).mpr (ps_all hh ha hc (Int.le_refl _))
      exact ⟨fun _ => ps_all hh ha hc (by omega), fun _ => by omega⟩
  · have hc : cl i := ⟨h1, h⟩
    refine xgo 15 rfl ?_
    refine xbr rfl (fun h5 => ?_) (fun h5 => ?_)
    · refine xgc 2 rfl (by omega) ?_
      refine ih (i + 1) _ ⟨by omega, by omega, h3, fun c c1 c2 => ?_⟩ (by omega)
      rw [xset_s]
      by_cases e : c = i
      · subst e
        rw [xup_s]
        exact ⟨fun hb => absurd hb h5, fun _ => rfl⟩
      · rw [xup_n _ _ e]
        exact h4 c c1 (by omega)
    · refine xgc 2 rfl (by omega) ?_
      refine ih (i + 1) _ ⟨by omega, by omega, h3, fun c c1 c2 => ?_⟩ (by omega)
      rw [xset_s]
      by_cases e : c = i
      · subst e
        rw [xup_s, h3]
        exact ⟨fun _ => rfl, fun hb => absurd h5 hb⟩
      · rw [xup_n _ _ e]
        exact h4 c c1 (by omega)
/-! the reference's answers over them -/
def lvP (h : Int → Int) (c r : Int) : Prop := ¬ cl c ∧ r = -1 ∨ cl c ∧ ∀ v, r ≤ v ↔ flood h v c
theorem mm_level (M : xMem) (c : Int) (hh : hOk (M 0)) : xMet kX1 mX1_level 4 true M [c] (fun r M' => M' 0 = M 0 ∧ lvP (M 0) c r) := by
  refine xMet_of kX1_ok oX1_level rfl (Nat.le_of_ble_eq_true rfl) (fun hM hz => ?_)
  refine xgo 2 rfl ?_
  refine xcall (mm_bad M c) rfl rfl lX1_bad rfl rfl rfl (fun r M' hp => ?_)
  obtain ⟨rfl, hr⟩ := hp
  refine xbr rfl (fun h => ?_) (fun h => ?_)
  · have hc : cl c := by unfold cl; omega
    have hc2 := hc
    unfold cl at hc2
    refine xgo 11 rfl ?_
    refine xcallv (mm_levels M hh) rfl rfl lX1_levels rfl rfl rfl (fun M' hp => ?_)
    obtain ⟨p1, p2⟩ := hp
    refine xgc 20 rfl (by omega) ?_
    exact xret rfl rfl ⟨p1, Or.inr ⟨hc, p2 c hc⟩⟩
  · refine xgo 9 rfl ?_
    exact xret rfl rfl ⟨rfl, Or.inl ⟨by unfold cl; omega, rfl⟩⟩
def sm (f : Int → Int) : Nat → Int
  | 0 => 0
  | n + 1 => sm f n + f (n : Int)
theorem sm_i {f : Int → Int} {i : Int} (h : 0 ≤ i) : sm f (i + 1).toNat = sm f i.toNat + f i := by
  obtain ⟨n, rfl⟩ := Int.eq_ofNat_of_zero_le h
  rfl
theorem sm_in {f : Int → Int} : ∀ n : Nat, (∀ i : Int, 0 ≤ i → i < (n : Int) → 0 ≤ f i ∧ f i ≤ 100) → 0 ≤ sm f n ∧ sm f n ≤ 100 * (n : Int)
  | 0, _ => ⟨Int.le_refl _, Int.le_refl _⟩
  | n + 1, h => by
    have h1 := sm_in n (fun i i1 i2 => h i i1 (by omega))
    have h2 := h (n : Int) (by omega) (by omega)
    have e : sm f (n + 1) = sm f n + f (n : Int) := rfl
    rw [e]
    omega
theorem sm_congr {f g : Int → Int} : ∀ n : Nat, (∀ i : Int, 0 ≤ i → i < (n : Int) → f i = g i) → sm f n = sm g n
  | 0, _ => rfl
  | n + 1, h => by
    have h1 := sm_congr n (fun i i1 i2 => h i i1 (by omega))
    have e : sm f (n + 1) = sm f n + f (n : Int) := rfl
    have e' : sm g (n + 1) = sm g n + g (n : Int) := rfl
    rw [e, e', h1, h (n : Int) (by omega) (by omega)]
theorem Lv_in {h lv : Int → Int} (hh : hOk h) (hl : LvOk h lv) {c : Int} (hc : cl c) : h c ≤ lv c ∧ lv c ≤ 99 := by
  refine ⟨?_, (hl c hc 99).mpr (flood_all hh hc (Int.le_refl _))⟩
  obtain ⟨b, b1, b2, b3⟩ := (hl c hc (lv c)).mp (Int.le_refl _)
  have b4 := Cn_P b3
  exact b4
def volP (h : Int → Int) (r : Int) : Prop := ∃ lv, LvOk h lv ∧ r = sm (fun c => lv c - h c) 64
theorem mm_volume (M : xMem) (hh : hOk (M 0)) : xMet kX1 mX1_volume 4 true M [] (fun r M' => M' 0 = M 0 ∧ volP (M 0) r) := by
  refine xMet_of kX1_ok oX1_volume rfl (Nat.le_of_ble_eq_true rfl) (fun hM hz => ?_)
  refine xgo 1 rfl ?_
  refine xcallv (mm_levels M hh) rfl rfl lX1_levels rfl rfl rfl (fun M1 hp => ?_)
  obtain ⟨p1, p2⟩ := hp
  refine xgo 8 rfl ?_
  refine xloop2 (J := fun (n i : Int) => xV kX1 mX1_volume 4 _ M1 8 [some (.inr (.inr none)), some (.inl n), some (.inl i)] []) (fun n i => 0 ≤ i ∧ i ≤ 64 ∧ n = sm (fun c => M1 1 c - M 0 c) i.toNat) (fun _ i => (64 - i).toNat) ?_ 0 0 ⟨by omega, by omega, rfl⟩
  intro n i ⟨h1, h2, h3⟩ ih
  have hb := sm_in (f := fun c => M1 1 c - M 0 c) i.toNat (fun j j1 j2 => by
    have hj : cl j := ⟨j1, by omega⟩
    have a1 := Lv_in hh p2 hj
    have a2 := hh j hj
    show 0 ≤ M1 1 j - M 0 j ∧ M1 1 j - M 0 j ≤ 100
    omega)
  refine xgo 11 rfl ?_
  refine xbr rfl (fun h => ?_) (fun h => ?_)
  · have e : i = 64 := by omega
    subst e
    refine xgo 37 rfl ?_
    exact xret rfl rfl ⟨p1, _, p2, h3⟩
  · have hc : cl i := ⟨h1, h⟩
    have a1 := Lv_in hh p2 hc
    have a2 := hh i hc
    rw [← p1] at a1 a2
    rw [← h3] at hb
    refine xgc 8 rfl (by omega) ?_
    refine ih _ (i + 1) ⟨by omega, by omega, ?_⟩ (by omega)
    rw [sm_i h1, ← h3, p1]
    omega
def psP (h : Int → Int) (a b r : Int) : Prop := ¬ (cl a ∧ cl b) ∧ r = -1 ∨ cl a ∧ cl b ∧ ∀ v, r ≤ v ↔ Cn (fun x => h x ≤ v) a b
theorem mm_pass (M : xMem) (a b : Int) (hh : hOk (M 0)) : xMet kX1 mX1_pass 4 true M [a, b] (fun r M' => M' 0 = M 0 ∧ psP (M 0) a b r) := by
  refine xMet_of kX1_ok oX1_pass rfl (Nat.le_of_ble_eq_true rfl) (fun hM hz => ?_)
  refine xgo 2 rfl ?_
  refine xcall (mm_bad M a) rfl rfl lX1_bad rfl rfl rfl (fun r M' hp => ?_)
  obtain ⟨rfl, hr⟩ := hp
  refine xbr rfl (fun h => ?_) (fun h => ?_)
  · refine xgo 17 rfl ?_
    exact xret rfl rfl ⟨rfl, Or.inl ⟨by unfold cl; omega, rfl⟩⟩
  · refine xgo 10 rfl ?_
    refine xcall (mm_bad M b) rfl rfl lX1_bad rfl rfl rfl (fun r' M' hp => ?_)
    obtain ⟨rfl, hr'⟩ := hp
    refine xbr rfl (fun h' => ?_) (fun h' => ?_)
    · have ha : cl a := by unfold cl; omega
      have hb : cl b := by unfold cl; omega
      have hb2 := hb
      unfold cl at hb2
      refine xgo 20 rfl ?_
      refine xcallv (mm_passes M a ha hh) rfl rfl lX1_passes rfl rfl rfl (fun M1 hp => ?_)
      obtain ⟨p1, p2⟩ := hp
      refine xgc 29 rfl (by omega) ?_
      exact xret rfl rfl ⟨p1, Or.inr ⟨ha, hb, p2 b hb⟩⟩
    · refine xgo 17 rfl ?_
      exact xret rfl rfl ⟨rfl, Or.inl ⟨by unfold cl; omega, rfl⟩⟩
def rcP (h : Int → Int) (a v r : Int) : Prop := ¬ cl a ∧ r = -1 ∨ cl a ∧ r = (cnt (Cn (fun x => h x ≤ v) a) 64 : Nat)
theorem mm_reach (M : xMem) (a v : Int) (hh : hOk (M 0)) : xMet kX1 mX1_reach 4 true M [a, v] (fun r M' => M' 0 = M 0 ∧ rcP (M 0) a v r) := by
  refine xMet_of kX1_ok oX1_reach rfl (Nat.le_of_ble_eq_true rfl) (fun hM hz => ?_)
  refine xgo 2 rfl ?_
  refine xcall (mm_bad M a) rfl rfl lX1_bad rfl rfl rfl (fun r M' hp => ?_)
  obtain ⟨rfl, hr⟩ := hp
  refine xbr rfl (fun h => ?_) (fun h => ?_)
  · have ha : cl a := by unfold cl; omega
    refine xgo 12 rfl ?_
    refine xcallv (mm_passes M a ha hh) rfl rfl lX1_passes rfl rfl rfl (fun M1 hp => ?_)
    obtain ⟨p1, p2⟩ := hp
    refine xgo 20 rfl ?_
    refine xloop2 (J := fun (n i : Int) => xV kX1 mX1_reach 4 _ M1 20 [some (.inr (.inr none)), some (.inl a), some (.inl v), some (.inl n), some (.inl i)] []) (fun n i => 0 ≤ i ∧ i ≤ 64 ∧ n = (cnt (Cn (fun x => M 0 x ≤ v) a) i.toNat : Nat)) (fun _ i => (64 - i).toNat) ?_ 0 0 ⟨by omega, by omega, rfl⟩
    intro n i ⟨h1, h2, h3⟩ ih
    have hn : cnt (Cn (fun x => M 0 x ≤ v) a) i.toNat ≤ i.toNat := cnt_le _ _
    refine xgo 24 rfl ?_
    refine xbr rfl (fun h' => ?_) (fun h' => ?_)
    · have e : i = 64 := by omega
      subst e
      refine xgo 48 rfl ?_
      exact xret rfl rfl ⟨p1, Or.inr ⟨ha, h3⟩⟩
    · have hc : cl i := ⟨h1, h'⟩
      refine xgc 35 rfl (by omega) ?_
      refine xbr rfl (fun h5 => ?_) (fun h5 => ?_)
      · refine xgc 20 rfl (by omega) ?_
        refine ih n (i + 1) ⟨by omega, by omega, ?_⟩ (by omega)
        rw [cnt_ni h1 (fun hq => by have := (p2 i hc v).mpr hq; omega)]
        exact h3
      · refine xgc 20 rfl (by omega) ?_
        refine ih (n + 1) (i + 1) ⟨by omega, by omega, ?_⟩ (by omega)
        rw [cnt_yi h1 ((p2 i hc v).mp h5), h3]
        omega
  · refine xgo 9 rfl ?_
    exact xret rfl rfl ⟨rfl, Or.inl ⟨by unfold cl; omega, rfl⟩⟩
end
section
set_option maxRecDepth 100000
/-! the reference's marks of lakes and of flat patches, and its prominence -/
/-- a cell under water -/
def wet (h : Int → Int) (c : Int) : Prop := ¬ flood h (h c) c
theorem wet_iff {h lv : Int → Int} (hl : LvOk h lv) {c : Int} (hc : cl c) : wet h c ↔ h c < lv c := by
  unfold wet
  rw [← hl c hc (h c)]
  omega
def Tk (P : Int → Prop) (v c : Int) : Prop := ∃ s, cl s ∧ s ≤ v ∧ Cn P s c
def Lab (P : Int → Prop) (m : Int → Int) : Prop := (∀ c, cl c → ¬ P c → m c = 100) ∧ (∀ c, cl c → P c → m c ≤ c) ∧ ∀ c, cl c → ∀ v, v < 100 → m c ≤ v → Tk P v c
theorem Lab_s {P : Int → Prop} {m : Int → Int} {c r n : Int} (hL : Lab P m) (hc : cl c) (hw : P c) (hr : isLB m c r) (hn : m c ≤ r ∧ n = m c ∨ r ≤ m c ∧ n = r) : Lab P (xup m c n) := by
  obtain ⟨h1, h2, h3⟩ := hL
  refine ⟨fun x hx hx2 => ?_, fun x hx hx2 => ?_, fun x hx v hv hxv => ?_⟩
  · by_cases e : x = c
    · subst e
      exact absurd hw hx2
    · rw [xup_n _ _ e]
      exact h1 x hx hx2
  · by_cases e : x = c
    · subst e
      rw [xup_s]
      have := h2 x hx hx2
      omega
    · rw [xup_n _ _ e]
      exact h2 x hx hx2
  · by_cases e : x = c
    · subst e
      rw [xup_s] at hxv
      by_cases e2 : m x ≤ v
      · exact h3 x hx v hv e2
      · rcases hr.2.2 with h6 | ⟨e, h6, h7⟩
        · omega
        · obtain ⟨s, g1, g2, g3⟩ := h3 e h6.2.1 v hv (by omega)
          exact ⟨s, g1, g2, Cn_1 g3 (adj_sym h6) hw⟩
    · rw [xup_n _ _ e] at hxv
      exact h3 x hx v hv hxv
theorem Lab_g {P : Int → Prop} {m m' : Int → Int} {k : Int} (h1 : Lab P m) (hm : ∀ x, cl x → m' x ≤ m x) (hs : ∀ x, cl x → P x → ∀ e, adj x e → m' x ≤ m e) (hg : ∀ v, v < 100 → Gr (Tk P v) k (fun c => m c ≤ v)) : ∀ v, v < 100 → Gr (Tk P v) (k + 1) (fun c => m' c ≤ v) := by
  intro v hv
  refine Gr_s (R := fun x e => adj x e ∧ P e) (hg v hv) (fun c hc h2 => Int.le_trans (hm c hc) h2) (fun c e hc he h2 h3 => ?_) (fun hcl c hc ht => ?_)
  · exact Int.le_trans (hs e he h3.2 c (adj_sym h3.1)) h2
  · obtain ⟨s, g1, g2, g3⟩ := ht
    refine (Cn_ind (fun x => cl x ∧ m x ≤ v) g3 ⟨g1, ?_⟩ (fun x y hx _ hy hxy => ⟨hxy.2.1, hcl x y hx.1 hxy.2.1 hx.2 ⟨hxy, hy⟩⟩)).2
    have := h1.2.1 s g1 g3.1
    omega
/-- m marks each cell of the kind P with the least cell that hangs together with it -/
def LkOk (P : Int → Prop) (m : Int → Int) : Prop := (∀ c, cl c → ¬ P c → m c = 100) ∧ (∀ c, cl c → P c → m c ≤ c) ∧ ∀ c, cl c → ∀ v, v < 100 → (m c ≤ v ↔ Tk P v c)
theorem mm_lakeMarks (M : xMem) (hh : hOk (M 0)) : xMet kX1 mX1_lakeMarks 4 true M [] (fun _ M' => M' 0 = M 0 ∧ LkOk (wet (M 0)) (M' 1)) := by
  refine xMet_of kX1_ok oX1_lakeMarks rfl (Nat.le_of_ble_eq_true rfl) (fun hM hz => ?_)
  refine xgo 1 rfl ?_
  refine xcallv (mm_levels M hh) rfl rfl lX1_levels rfl rfl rfl (fun M0 hp => ?_)
  obtain ⟨p1, p2⟩ := hp
  refine xgo 6 rfl ?_
  refine xloop2 (J := fun (i : Int) (M' : xMem) => xV kX1 mX1_lakeMarks 4 _ M' 6 [some (.inr (.inr none)), some (.inl i), none, none] []) (fun i M' => 0 ≤ i ∧ i ≤ 64 ∧ M' 0 = M 0 ∧ (∀ c, 0 ≤ c → c < i → (wet (M 0) c → M' 1 c = c) ∧ (¬ wet (M 0) c → M' 1 c = 100)) ∧ ∀ c, i ≤ c → M' 1 c = M0 1 c) (fun i _ => (64 - i).toNat) ?_ 0 M0 ⟨by omega, by omega, p1, fun c h1 h2 => by omega, fun _ _ => rfl⟩
  intro i M1 ⟨h1, h2, h3, h4, h4b⟩ ih
  refine xgo 9 rfl ?_
  refine xbr rfl (fun h => ?_) (fun h => ?_)
  rotate_left
  · have hc : cl i := ⟨h1, h⟩
    have hw := wet_iff p2 hc
    rw [← h4b i (Int.le_refl _)] at hw
    refine xgc 29 rfl (by omega) ?_
    rw [h3]
    refine xbr rfl (fun h5 => ?_) (fun h5 => ?_)
    · refine xgc 6 rfl (by omega) ?_
      refine ih (i + 1) _ ⟨by omega, by omega, h3, fun c c1 c2 => ?_, fun c c1 => ?_⟩ (by omega)
      · rw [xset_s]
        by_cases e : c = i
        · subst e
          rw [xup_s]
          exact ⟨fun hb => by have := hw.mp hb; omega, fun _ => rfl⟩
        · rw [xup_n _ _ e]
          exact h4 c c1 (by omega)
      · rw [xset_s, xup_n _ _ (by omega)]
        exact h4b c (by omega)
    · refine xgc 6 rfl (by omega) ?_
      refine ih (i + 1) _ ⟨by omega, by omega, h3, fun c c1 c2 => ?_, fun c c1 => ?_⟩ (by omega)
      · rw [xset_s]
        by_cases e : c = i
        · subst e
          rw [xup_s]
          exact ⟨fun _ => rfl, fun hb => absurd (hw.mpr h5) hb⟩
        · rw [xup_n _ _ e]
          exact h4 c c1 (by omega)
      · rw [xset_s, xup_n _ _ (by omega)]
        exact h4b c (by omega)
  have e : i = 64 := by omega
  subst e
  refine xgo 47 rfl ?_
  have hL0 : Lab (wet (M 0)) (M1 1) := by
    refine ⟨fun c hc hw => (h4 c hc.1 hc.2).2 hw, fun c hc hw => by rw [(h4 c hc.1 hc.2).1 hw]; omega, fun c hc v hv hcv => ?_⟩
    by_cases hw : wet (M 0) c
    · rw [(h4 c hc.1 hc.2).1 hw] at hcv
      exact ⟨c, hc, hcv, Cn_r hw⟩
    · rw [(h4 c hc.1 hc.2).2 hw] at hcv
      omega
  refine xloop2 (J := fun (k : Int) (M' : xMem) => xV kX1 mX1_lakeMarks 4 _ M' 47 [some (.inr (.inr none)), some (.inl k), none, none] []) (fun k M' => 0 ≤ k ∧ k ≤ 64 ∧ M' 0 = M 0 ∧ Lab (wet (M 0)) (M' 1) ∧ ∀ v, v < 100 → Gr (Tk (wet (M 0)) v) k (fun c => M' 1 c ≤ v)) (fun k _ => (64 - k).toNat) ?_ 0 M1 ⟨by omega, by omega, h3, hL0, fun v hv => Gr_0 (fun g1 c hc ht => ?_)⟩
  rotate_left
  · obtain ⟨s, s1, s2, s3⟩ := ht
    refine g1 s s1 ?_
    show M1 1 s ≤ v
    rw [(h4 s s1.1 s1.2).1 s3.1]
    exact s2
  clear h4b hL0 ih h4 h3
  intro k M1 ⟨h1, h2, h3, h4, h5⟩ ih
  refine xgo 50 rfl ?_
  refine xbr rfl (fun h => ?_) (fun h => ?_)
  · refine xretv rfl rfl ⟨h3, h4.1, h4.2.1, fun c hc v hv => ⟨fun h6 => h4.2.2 c hc v hv h6, fun h6 => ?_⟩⟩
    have e : k = 64 := by omega
    subst e
    exact Gr_e (h5 v hv) hc h6
  · refine xgo 55 rfl ?_
    refine xloop2 (J := fun (c : Int) (M' : xMem) => xV kX1 mX1_lakeMarks 4 _ M' 55 [some (.inr (.inr none)), some (.inl k), some (.inl c), none] []) (fun c M' => 0 ≤ c ∧ c ≤ 64 ∧ M' 0 = M 0 ∧ Lab (wet (M 0)) (M' 1) ∧ (∀ x, cl x → M' 1 x ≤ M1 1 x) ∧ ∀ x, cl x → x < c → wet (M 0) x → ∀ e, adj x e → M' 1 x ≤ M1 1 e) (fun c _ => (64 - c).toNat) ?_ 0 M1 ⟨by omega, by omega, h3, h4, fun x _ => Int.le_refl _, fun x hx hx2 => by have := hx.1; omega⟩
    intro c M2 ⟨g1, g2, g3, g4, g5, g6⟩ ih2
    refine xgo 58 rfl ?_
    refine xbr rfl (fun h' => ?_) (fun h' => ?_)
    · refine xgc 47 rfl (by omega) ?_
      refine xfg 2 ?_
      refine ih (k + 1) M2 ⟨by omega, by omega, g3, g4, Lab_g h4 g5 (fun x hx => g6 x hx (by have := hx.2; omega)) h5⟩ (by omega)
    · have hc : cl c := ⟨g1, h'⟩
      refine xgc 69 rfl (by omega) ?_
      refine xbr rfl (fun h6 => ?_) (fun h6 => ?_)
      · refine xgc 55 rfl (by omega) ?_
        refine ih2 (c + 1) M2 ⟨by omega, by omega, g3, g4, g5, fun x hx hx2 hw e he => ?_⟩ (by omega)
        by_cases e2 : x = c
        · subst e2
          have := g4.2.1 x hx hw
          omega
        · exact g6 x hx (by omega) hw e he
      · have hw : wet (M 0) c := Classical.byContradiction (fun hw => by have := g4.1 c hc hw; omega)
        refine xgo 74 rfl ?_
        refine xcall (mm_leastBeside M2 c hc) rfl rfl lX1_leastBeside rfl rfl rfl (fun r M' hp => ?_)
        obtain ⟨rfl, hr⟩ := hp
        refine xgc 91 rfl (by omega) ?_
        refine xcall (mm_least M2 (M2 1 c) r) rfl rfl lX1_least rfl rfl rfl (fun n M' hp => ?_)
        obtain ⟨rfl, hn⟩ := hp
        refine xgc 55 rfl (by omega) ?_
        refine xfg 3 ?_
        refine ih2 (c + 1) _ ⟨by omega, by omega, g3, ?_, fun x hx => ?_, fun x hx hx2 hw e he => ?_⟩ (by omega)
        · exact Lab_s g4 hc hw hr hn
        · rw [xset_s]
          by_cases e : x = c
          · rw [e, xup_s]
            have := g5 c hc
            omega
          · rw [xup_n _ _ e]
            exact g5 x hx
        · rw [xset_s]
          by_cases e2 : x = c
          · subst e2
            rw [xup_s]
            have a1 := hr.2.1 e he
            have a2 := g5 e he.2.1
            omega
          · rw [xup_n _ _ e2]
            exact g6 x hx (by omega) hw e he
def lkQ (h : Int → Int) (c : Int) : Prop := wet h c ∧ ∀ s, cl s → Cn (wet h) s c → c ≤ s
def lkP (h : Int → Int) (r : Int) : Prop := r = (cnt (lkQ h) 64 : Nat)
theorem Lk_self {P : Int → Prop} {m : Int → Int} (hk : LkOk P m) {c : Int} (hc : cl c) : (m c = c ↔ P c ∧ ∀ s, cl s → Cn P s c → c ≤ s) := by
  have hc2 := hc.2
  constructor
  · intro h
    have hP : P c := Classical.byContradiction (fun hP => by have := hk.1 c hc hP; omega)
    refine ⟨hP, fun s hs hsc => ?_⟩
    have := (hk.2.2 c hc s (by have := hs.2; omega)).mpr ⟨s, hs, Int.le_refl _, hsc⟩
    omega
  · intro ⟨hP, h⟩
    have h1 := hk.2.1 c hc hP
    have h2 : ¬ m c ≤ c - 1 := by
      intro h2
      obtain ⟨s, s1, s2, s3⟩ := (hk.2.2 c hc (c - 1) (by omega)).mp h2
      have := h s s1 s3
      omega
    omega
theorem Lk_mk {P : Int → Prop} {m : Int → Int} (hk : LkOk P m) {c : Int} (hc : cl c) (hP : P c) : m c < 100 ∧ Cn P (m c) c := by
  have h1 := hk.2.1 c hc hP
  have hc2 := hc.2
  refine ⟨by omega, ?_⟩
  obtain ⟨s, s1, s2, s3⟩ := (hk.2.2 c hc (m c) (by omega)).mp (Int.le_refl _)
  have h2 := (hk.2.2 c hc s (by have := s1.2; omega)).mpr ⟨s, s1, Int.le_refl _, s3⟩
  have e : m c = s := by omega
  rw [e]
  exact s3
theorem Lk_eq {P : Int → Prop} {m : Int → Int} (hk : LkOk P m) {a c : Int} (ha : cl a) (hP : P a) (hc : cl c) : m c = m a ↔ Cn P a c := by
  obtain ⟨a1, a2⟩ := Lk_mk hk ha hP
  constructor
  · intro h
    have hPc : P c := Classical.byContradiction (fun hP => by have := hk.1 c hc hP; omega)
    obtain ⟨c1, c2⟩ := Lk_mk hk hc hPc
    rw [h] at c2
    exact Cn_t (Cn_s a2) c2
  · intro h
    have hPc := Cn_P h
    obtain ⟨c1, c2⟩ := Lk_mk hk hc hPc
    have b1 : m a ≤ m c := by
      refine (hk.2.2 a ha (m c) c1).mpr ?_
      obtain ⟨s, s1, s2, s3⟩ := (hk.2.2 c hc (m c) c1).mp (Int.le_refl _)
      exact ⟨s, s1, s2, Cn_t s3 (Cn_s h)⟩
    have b2 : m c ≤ m a := by
      refine (hk.2.2 c hc (m a) a1).mpr ?_
      obtain ⟨s, s1, s2, s3⟩ := (hk.2.2 a ha (m a) a1).mp (Int.le_refl _)
      exact ⟨s, s1, s2, Cn_t s3 h⟩
    omega
theorem mm_lakes (M : xMem) (hh : hOk (M 0)) : xMet kX1 mX1_lakes 5 true M [] (fun r M' => M' 0 = M 0 ∧ lkP (M 0) r) := by
  refine xMet_of kX1_ok oX1_lakes rfl (Nat.le_of_ble_eq_true rfl) (fun hM hz => ?_)
  refine xgo 1 rfl ?_
  refine xcallv (mm_lakeMarks M hh) rfl rfl lX1_lakeMarks rfl rfl rfl (fun M1 hp => ?_)
  obtain ⟨p1, p2⟩ := hp
  refine xgo 8 rfl ?_
  refine xloop2 (J := fun (n i : Int) => xV kX1 mX1_lakes 5 _ M1 8 [some (.inr (.inr none)), some (.inl n), some (.inl i)] []) (fun n i => 0 ≤ i ∧ i ≤ 64 ∧ n = (cnt (lkQ (M 0)) i.toNat : Nat)) (fun _ i => (64 - i).toNat) ?_ 0 0 ⟨by omega, by omega, rfl⟩
  intro n i ⟨h1, h2, h3⟩ ih
  have hn : cnt (lkQ (M 0)) i.toNat ≤ i.toNat := cnt_le _ _
  refine xgo 11 rfl ?_
  refine xbr rfl (fun h => ?_) (fun h => ?_)
  · have e : i = 64 := by omega
    subst e
    refine xgo 34 rfl ?_
    exact xret rfl rfl ⟨p1, h3⟩
  · have hc : cl i := ⟨h1, h⟩
    refine xgc 21 rfl (by omega) ?_
    refine xbr rfl (fun h5 => ?_) (fun h5 => ?_)
    · refine xgc 8 rfl (by omega) ?_
      refine ih n (i + 1) ⟨by omega, by omega, ?_⟩ (by omega)
      rw [cnt_ni h1 (fun hq => h5 ((Lk_self p2 hc).mpr hq))]
      exact h3
    · refine xgc 8 rfl (by omega) ?_
      refine ih (n + 1) (i + 1) ⟨by omega, by omega, ?_⟩ (by omega)
      rw [cnt_yi h1 ((Lk_self p2 hc).mp h5), h3]
      omega
def lsP (h : Int → Int) (c r : Int) : Prop := ¬ cl c ∧ r = -1 ∨ cl c ∧ ¬ wet h c ∧ r = 0 ∨ cl c ∧ wet h c ∧ r = (cnt (Cn (wet h) c) 64 : Nat)
theorem mm_lakeSize (M : xMem) (c : Int) (hh : hOk (M 0)) : xMet kX1 mX1_lakeSize 5 true M [c] (fun r M' => M' 0 = M 0 ∧ lsP (M 0) c r) := by
  refine xMet_of kX1_ok oX1_lakeSize rfl (Nat.le_of_ble_eq_true rfl) (fun hM hz => ?_)
  refine xgo 2 rfl ?_
  refine xcall (mm_bad M c) rfl rfl lX1_bad rfl rfl rfl (fun r M' hp => ?_)
  obtain ⟨rfl, hr⟩ := hp
  refine xbr rfl (fun h => ?_) (fun h => ?_)
  · have hc : cl c := by unfold cl; omega
    have hc2 := hc
    unfold cl at hc2
    refine xgo 11 rfl ?_
    refine xcallv (mm_lakeMarks M hh) rfl rfl lX1_lakeMarks rfl rfl rfl (fun M1 hp => ?_)
    obtain ⟨p1, p2⟩ := hp
    refine xgc 22 rfl (by omega) ?_
    refine xbr rfl (fun h5 => ?_) (fun h5 => ?_)
    · have hw : wet (M 0) c := Classical.byContradiction (fun hw => h5 (p2.1 c hc hw))
      refine xgo 31 rfl ?_
      refine xloop2 (J := fun (n i : Int) => xV kX1 mX1_lakeSize 5 _ M1 31 [some (.inr (.inr none)), some (.inl c), some (.inl n), some (.inl i)] []) (fun n i => 0 ≤ i ∧ i ≤ 64 ∧ n = (cnt (Cn (wet (M 0)) c) i.toNat : Nat)) (fun _ i => (64 - i).toNat) ?_ 0 0 ⟨by omega, by omega, rfl⟩
      intro n i ⟨h1, h2, h3⟩ ih
      have hn : cnt (Cn (wet (M 0)) c) i.toNat ≤ i.toNat := cnt_le _ _
      refine xgo 34 rfl ?_
      refine xbr rfl (fun h' => ?_) (fun h' => ?_)
      · have e : i = 64 := by omega
        subst e
        refine xgo 62 rfl ?_
        exact xret rfl rfl ⟨p1, Or.inr (Or.inr ⟨hc, hw, h3⟩)⟩
      · have hi : cl i := ⟨h1, h'⟩
        refine xgc 49 rfl (by omega) ?_
        refine xbr rfl (fun h6 => ?_) (fun h6 => ?_)
        · refine xgc 31 rfl (by omega) ?_
          refine ih n (i + 1) ⟨by omega, by omega, ?_⟩ (by omega)
          rw [cnt_ni h1 (fun hq => h6 ((Lk_eq p2 hc hw hi).mpr hq))]
          exact h3
        · refine xgc 31 rfl (by omega) ?_
          refine ih (n + 1) (i + 1) ⟨by omega, by omega, ?_⟩ (by omega)
          rw [cnt_yi h1 ((Lk_eq p2 hc hw hi).mp h6), h3]
          omega
    · refine xgo 26 rfl ?_
      refine xret rfl rfl ⟨p1, Or.inr (Or.inl ⟨hc, fun hw => ?_, rfl⟩)⟩
      have := (Lk_mk p2 hc hw).1
      omega
  · refine xgo 9 rfl ?_
    exact xret rfl rfl ⟨rfl, Or.inl ⟨by unfold cl; omega, rfl⟩⟩
end
section
set_option maxRecDepth 100000
/-! the reference's summits and prominence -/
def alk (h : Int → Int) (x y : Int) : Prop := adj x y ∧ h x = h y
theorem alk_sym {h : Int → Int} {x y : Int} (hxy : alk h x y) : alk h y x := ⟨adj_sym hxy.1, hxy.2.symm⟩
def Ts (h m0 : Int → Int) (v c : Int) : Prop := ∃ s, cl s ∧ m0 s ≤ v ∧ eqc (alk h) s c
def Sl (h m0 m : Int → Int) : Prop := (∀ c, cl c → m c ≤ m0 c) ∧ ∀ c, cl c → ∀ v, m c ≤ v → Ts h m0 v c
theorem Sl_s {h m0 m : Int → Int} {c r : Int} (hL : Sl h m0 m) (hc : cl c) (hr : isLA h m c r) : Sl h m0 (xup m c r) := by
  obtain ⟨h1, h3⟩ := hL
  refine ⟨fun x hx => ?_, fun x hx v hxv => ?_⟩
  · by_cases e : x = c
    · subst e
      rw [xup_s]
      have := h1 x hx
      have := hr.1
      omega
    · rw [xup_n _ _ e]
      exact h1 x hx
  · by_cases e : x = c
    · subst e
      rw [xup_s] at hxv
      rcases hr.2.2 with h6 | ⟨e, h6, h7, h8⟩
      · exact h3 x hx v (by omega)
      · obtain ⟨s, g1, g2, g3⟩ := h3 e h6.2.1 v (by omega)
        exact ⟨s, g1, g2, eqc_t g3 (eqc_1 ⟨adj_sym h6, h7⟩)⟩
    · rw [xup_n _ _ e] at hxv
      exact h3 x hx v hxv
theorem Sl_g {h m0 m m' : Int → Int} {k : Int} (h1 : Sl h m0 m) (hm : ∀ x, cl x → m' x ≤ m x) (hs : ∀ x, cl x → ∀ e, alk h x e → m' x ≤ m e) (hg : ∀ v, Gr (Ts h m0 v) k (fun c => m c ≤ v)) : ∀ v, Gr (Ts h m0 v) (k + 1) (fun c => m' c ≤ v) := by
  intro v
  refine Gr_s (R := alk h) (hg v) (fun c hc h2 => Int.le_trans (hm c hc) h2) (fun c e hc he h2 h3 => ?_) (fun hcl c hc ht => ?_)
  · exact Int.le_trans (hs e he c (alk_sym h3)) h2
  · obtain ⟨s, g1, g2, g3⟩ := ht
    refine (eqc_ind (fun x => m x ≤ v) (fun x y hxy => ⟨fun hx => hcl x y hxy.1.1 hxy.1.2.1 hx hxy, fun hy => hcl y x hxy.1.2.1 hxy.1.1 hy (alk_sym hxy)⟩) g3).mp ?_
    have := h1.1 s g1
    show m s ≤ v
    omega
def suQ (h : Int → Int) (c : Int) : Prop := ∀ s, cl s → eqc (alk h) s c → ¬ hasHi h s ∧ c ≤ s
def suP (h : Int → Int) (r : Int) : Prop := r = (cnt (suQ h) 64 : Nat)
theorem mm_summits (M : xMem) : xMet kX1 mX1_summits 2 true M [] (fun r M' => M' 0 = M 0 ∧ suP (M 0) r) := by
  refine xMet_of kX1_ok oX1_summits rfl (Nat.le_of_ble_eq_true rfl) (fun hM hz => ?_)
  refine xgo 2 rfl ?_
  refine xloop2 (J := fun (i : Int) (M' : xMem) => xV kX1 mX1_summits 2 _ M' 2 [some (.inr (.inr none)), some (.inl i), none] []) (fun i M' => 0 ≤ i ∧ i ≤ 64 ∧ M' 0 = M 0 ∧ ∀ c, 0 ≤ c → c < i → (hasHi (M 0) c → M' 1 c = -1) ∧ (¬ hasHi (M 0) c → M' 1 c = c)) (fun i _ => (64 - i).toNat) ?_ 0 M ⟨by omega, by omega, rfl, fun c h1 h2 => by omega⟩
  intro i M1 ⟨h1, h2, h3, h4⟩ ih
  refine xgo 5 rfl ?_
  refine xbr rfl (fun h => ?_) (fun h => ?_)
  rotate_left
  · have hc : cl i := ⟨h1, h⟩
    refine xgo 15 rfl ?_
    refine xcall (mm_hasHigher M1 i hc) rfl rfl lX1_hasHigher rfl rfl rfl (fun r M' hp => ?_)
    obtain ⟨rfl, hr⟩ := hp
    rw [h3] at hr
    refine xbr rfl (fun h5 => ?_) (fun h5 => ?_)
    · refine xgc 2 rfl (by omega) ?_
      refine ih (i + 1) _ ⟨by omega, by omega, h3, fun c c1 c2 => ?_⟩ (by omega)
      rw [xset_s]
      by_cases e : c = i
      · subst e
        rw [xup_s]
        exact ⟨fun hb => by rcases hr with ⟨-, q⟩ | ⟨q, -⟩ <;> first | omega | exact absurd hb q, fun _ => rfl⟩
      · rw [xup_n _ _ e]
        exact h4 c c1 (by omega)
    · refine xgc 2 rfl (by omega) ?_
      refine ih (i + 1) _ ⟨by omega, by omega, h3, fun c c1 c2 => ?_⟩ (by omega)
      rw [xset_s]
      by_cases e : c = i
      · subst e
        rw [xup_s]
        exact ⟨fun _ => rfl, fun hb => by rcases hr with ⟨q, -⟩ | ⟨-, q⟩ <;> first | omega | exact absurd q hb⟩
      · rw [xup_n _ _ e]
        exact h4 c c1 (by omega)
  have e : i = 64 := by omega
  subst e
  refine xgo 35 rfl ?_
  refine xloop2 (J := fun (k : Int) (M' : xMem) => xV kX1 mX1_summits 2 _ M' 35 [some (.inr (.inr none)), some (.inl k), none] []) (fun k M' => 0 ≤ k ∧ k ≤ 64 ∧ M' 0 = M 0 ∧ Sl (M 0) (M1 1) (M' 1) ∧ ∀ v, Gr (Ts (M 0) (M1 1) v) k (fun c => M' 1 c ≤ v)) (fun k _ => (64 - k).toNat) ?_ 0 M1 ⟨by omega, by omega, h3, ⟨fun _ _ => Int.le_refl _, fun c hc v hv => ⟨c, hc, hv, eqc_r _⟩⟩, fun v => Gr_0 (fun g1 c hc ht => ?_)⟩
  rotate_left
  · obtain ⟨s, s1, s2, -⟩ := ht
    exact g1 s s1 s2
  clear ih h1 h2
  intro k M2 ⟨h1, h2, k3, k4, k5⟩ ih
  refine xgo 38 rfl ?_
  refine xbr rfl (fun h => ?_) (fun h => ?_)
  rotate_left
  · refine xgo 43 rfl ?_
    refine xloop2 (J := fun (c : Int) (M' : xMem) => xV kX1 mX1_summits 2 _ M' 43 [some (.inr (.inr none)), some (.inl k), some (.inl c)] []) (fun c M' => 0 ≤ c ∧ c ≤ 64 ∧ M' 0 = M 0 ∧ Sl (M 0) (M1 1) (M' 1) ∧ (∀ x, cl x → M' 1 x ≤ M2 1 x) ∧ ∀ x, cl x → x < c → ∀ e, alk (M 0) x e → M' 1 x ≤ M2 1 e) (fun c _ => (64 - c).toNat) ?_ 0 M2 ⟨by omega, by omega, k3, k4, fun x _ => Int.le_refl _, fun x hx hx2 => by have := hx.1; omega⟩
    intro c M3 ⟨g1, g2, g3, g4, g5, g6⟩ ih2
    refine xgo 46 rfl ?_
    refine xbr rfl (fun h' => ?_) (fun h' => ?_)
    · refine xgc 35 rfl (by omega) ?_
      refine xfg 2 ?_
      refine ih (k + 1) M3 ⟨by omega, by omega, g3, g4, Sl_g k4 g5 (fun x hx => g6 x hx (by have := hx.2; omega)) k5⟩ (by omega)
    · have hc : cl c := ⟨g1, h'⟩
      refine xgo 56 rfl ?_
      refine xcall (mm_leastAlike M3 c hc) rfl rfl lX1_leastAlike rfl rfl rfl (fun r M' hp => ?_)
      obtain ⟨rfl, hr⟩ := hp
      rw [g3] at hr
      refine xgc 43 rfl (by omega) ?_
      refine ih2 (c + 1) _ ⟨by omega, by omega, g3, Sl_s g4 hc hr, fun x hx => ?_, fun x hx hx2 e he => ?_⟩ (by omega)
      · rw [xset_s]
        by_cases e : x = c
        · rw [e, xup_s]
          have := g5 c hc
          have := hr.1
          omega
        · rw [xup_n _ _ e]
          exact g5 x hx
      · rw [xset_s]
        by_cases e2 : x = c
        · subst e2
          rw [xup_s]
          have a1 := hr.2.1 e he.1 he.2.symm
          have a2 := g5 e he.1.2.1
          omega
        · rw [xup_n _ _ e2]
          exact g6 x hx (by omega) e he
  have e : k = 64 := by omega
  subst e
  have key : ∀ c, cl c → (M2 1 c = c ↔ suQ (M 0) c) := by
    intro c hc
    have hc1 := hc.1
    constructor
    · intro hm s hs hsc
      have a1 := h4 s hs.1 hs.2
      by_cases hb : hasHi (M 0) s
      · have a2 := Gr_e (k5 (-1)) hc ⟨s, hs, by rw [a1.1 hb]; omega, hsc⟩
        have a2 : M2 1 c ≤ -1 := a2
        omega
      · have a2 := Gr_e (k5 s) hc ⟨s, hs, by rw [a1.2 hb]; omega, hsc⟩
        have a2 : M2 1 c ≤ s := a2
        exact ⟨hb, by omega⟩
    · intro hq
      have a1 := hq c hc (eqc_r c)
      have a2 := (h4 c hc.1 hc.2).2 a1.1
      have a3 := k4.1 c hc
      have a4 : ¬ M2 1 c ≤ c - 1 := by
        intro h5
        obtain ⟨s, s1, s2, s3⟩ := k4.2 c hc _ h5
        have a5 := hq s s1 s3
        have a6 := (h4 s s1.1 s1.2).2 a5.1
        omega
      omega
  refine xgo 76 rfl ?_
  refine xloop2 (J := fun (n i : Int) => xV kX1 mX1_summits 2 _ M2 76 [some (.inr (.inr none)), some (.inl n), some (.inl i)] []) (fun n i => 0 ≤ i ∧ i ≤ 64 ∧ n = (cnt (suQ (M 0)) i.toNat : Nat)) (fun _ i => (64 - i).toNat) ?_ 0 0 ⟨by omega, by omega, rfl⟩
  clear ih h1 h2
  intro n i ⟨h1, h2, h3⟩ ih
  have hn : cnt (suQ (M 0)) i.toNat ≤ i.toNat := cnt_le _ _
  refine xgo 79 rfl ?_
  refine xbr rfl (fun h => ?_) (fun h => ?_)
  · have e : i = 64 := by omega
    subst e
    refine xgo 102 rfl ?_
    exact xret rfl rfl ⟨k3, h3⟩
  · have hc : cl i := ⟨h1, h⟩
    refine xgc 89 rfl (by omega) ?_
    refine xbr rfl (fun h5 => ?_) (fun h5 => ?_)
    · refine xgc 76 rfl (by omega) ?_
      refine ih n (i + 1) ⟨by omega, by omega, ?_⟩ (by omega)
      rw [cnt_ni h1 (fun hq => h5 ((key i hc).mpr hq))]
      exact h3
    · refine xgc 76 rfl (by omega) ?_
      refine ih (n + 1) (i + 1) ⟨by omega, by omega, ?_⟩ (by omega)
      rw [cnt_yi h1 ((key i hc).mp h5), h3]
      omega
def Tp (h : Int → Int) (a v c : Int) : Prop := Cn (fun x => v ≤ h x) a c
def Pri (h : Int → Int) (a : Int) (m : Int → Int) : Prop := h a ≤ m a ∧ ∀ c, cl c → ∀ v, 0 ≤ v → v ≤ m c → Tp h a v c
theorem Pri_s {h m : Int → Int} {a c r o n : Int} (hL : Pri h a m) (hc : cl c) (hr : isMB m c r) (ho : h c ≤ r ∧ o = h c ∨ r ≤ h c ∧ o = r) (hn : o ≤ m c ∧ n = m c ∨ m c ≤ o ∧ n = o) : Pri h a (xup m c n) := by
  obtain ⟨h1, h3⟩ := hL
  refine ⟨?_, fun x hx v hv hxv => ?_⟩
  · by_cases e : a = c
    · subst e
      rw [xup_s]
      omega
    · rw [xup_n _ _ e]
      exact h1
  · by_cases e : x = c
    · subst e
      rw [xup_s] at hxv
      by_cases e2 : v ≤ m x
      · exact h3 x hx v hv e2
      · have h4 : v ≤ h x := by omega
        rcases hr.2.2 with h6 | ⟨e, h6, h7⟩
        · omega
        · have g3 := h3 e h6.2.1 v hv (by omega)
          exact Cn_1 g3 (adj_sym h6) h4
    · rw [xup_n _ _ e] at hxv
      exact h3 x hx v hv hxv
theorem Pri_g {h m m' : Int → Int} {a k : Int} (ha : cl a) (h1 : Pri h a m) (hm : ∀ x, cl x → m x ≤ m' x) (hs : ∀ x, cl x → ∀ e, adj x e → h x ≤ m' x ∨ m e ≤ m' x) (hg : ∀ v, 0 ≤ v → Gr (Tp h a v) k (fun c => v ≤ m c)) : ∀ v, 0 ≤ v → Gr (Tp h a v) (k + 1) (fun c => v ≤ m' c) := by
  intro v hv
  refine Gr_s (R := fun x e => adj x e ∧ v ≤ h e) (hg v hv) (fun c hc h2 => Int.le_trans h2 (hm c hc)) (fun c e hc he h2 h3 => ?_) (fun hcl c hc ht => ?_)
  · show v ≤ m' e
    have h2 : v ≤ m c := h2
    have h3b : v ≤ h e := h3.2
    rcases hs e he c (adj_sym h3.1) with h4 | h4 <;> omega
  · refine (Cn_ind (fun x => cl x ∧ v ≤ m x) ht ⟨ha, ?_⟩ (fun x y hx _ hy hxy => ⟨hxy.2.1, hcl x y hx.1 hxy.2.1 hx.2 ⟨hxy, hy⟩⟩)).2
    have a1 : v ≤ h a := ht.1
    have a2 := h1.1
    omega
def prQ (h : Int → Int) (c w : Int) : Prop := ((∃ e, cl e ∧ h c < h e) ∧ 0 ≤ w ∧ ∀ v, 0 ≤ v → (v ≤ w ↔ ∃ e, cl e ∧ h c < h e ∧ Tp h c v e)) ∨ ((∀ e, cl e → h e ≤ h c) ∧ (∀ e, cl e → w ≤ h e) ∧ ∃ e, cl e ∧ w = h e)
def prP (h : Int → Int) (c r : Int) : Prop := ¬ cl c ∧ r = -1 ∨ cl c ∧ ∃ w, prQ h c w ∧ r = h c - w
theorem mm_prominence (M : xMem) (a : Int) (hh : hOk (M 0)) : xMet kX1 mX1_prominence 2 true M [a] (fun r M' => M' 0 = M 0 ∧ prP (M 0) a r) := by
  refine xMet_of kX1_ok oX1_prominence rfl (Nat.le_of_ble_eq_true rfl) (fun hM hz => ?_)
  refine xgo 2 rfl ?_
  refine xcall (mm_bad M a) rfl rfl lX1_bad rfl rfl rfl (fun r M' hp => ?_)
  obtain ⟨rfl, hr⟩ := hp
  refine xbr rfl (fun h => ?_) (fun h => ?_)
  rotate_left
  · refine xgo 9 rfl ?_
    exact xret rfl rfl ⟨rfl, Or.inl ⟨by unfold cl; omega, rfl⟩⟩
  have ha : cl a := by unfold cl; omega
  have ha2 := ha
  unfold cl at ha2
  clear hr h
  refine xgo 12 rfl ?_
  refine xloop2 (J := fun (i : Int) (M' : xMem) => xV kX1 mX1_prominence 2 _ M' 12 [some (.inr (.inr none)), some (.inl a), some (.inl i), none, none, none] []) (fun i M' => 0 ≤ i ∧ i ≤ 64 ∧ M' 0 = M 0 ∧ ∀ c, 0 ≤ c → c < i → (c = a → M' 1 c = M 0 c) ∧ (¬ c = a → M' 1 c = -1)) (fun i _ => (64 - i).toNat) ?_ 0 M ⟨by omega, by omega, rfl, fun c h1 h2 => by omega⟩
  intro i M1 ⟨h1, h2, h3, h4⟩ ih
  refine xgo 15 rfl ?_
  refine xbr rfl (fun h => ?_) (fun h => ?_)
  rotate_left
  · have hc : cl i := ⟨h1, h⟩
    refine xgo 25 rfl ?_
    refine xbr rfl (fun h5 => ?_) (fun h5 => ?_)
    · refine xgc 12 rfl (by omega) ?_
      refine ih (i + 1) _ ⟨by omega, by omega, h3, fun c c1 c2 => ?_⟩ (by omega)
      rw [xset_s]
      by_cases e : c = i
      · subst e
        rw [xup_s]
        exact ⟨fun hb => absurd hb h5, fun _ => rfl⟩
      · rw [xup_n _ _ e]
        exact h4 c c1 (by omega)
    · refine xgc 12 rfl (by omega) ?_
      refine ih (i + 1) _ ⟨by omega, by omega, h3, fun c c1 c2 => ?_⟩ (by omega)
      rw [xset_s]
      by_cases e : c = i
      · subst e
        rw [xup_s, h3]
        exact ⟨fun _ => rfl, fun hb => absurd h5 hb⟩
      · rw [xup_n _ _ e]
        exact h4 c c1 (by omega)
  have e : i = 64 := by omega
  subst e
  have ma : M1 1 a = M 0 a := (h4 a ha.1 ha.2).1 rfl
  refine xgo 47 rfl ?_
  refine xloop2 (J := fun (k : Int) (M' : xMem) => xV kX1 mX1_prominence 2 _ M' 47 [some (.inr (.inr none)), some (.inl a), some (.inl k), none, none, none] []) (fun k M' => 0 ≤ k ∧ k ≤ 64 ∧ M' 0 = M 0 ∧ Pri (M 0) a (M' 1) ∧ ∀ v, 0 ≤ v → Gr (Tp (M 0) a v) k (fun c => v ≤ M' 1 c)) (fun k _ => (64 - k).toNat) ?_ 0 M1 ⟨by omega, by omega, h3, ⟨by rw [ma]; omega, fun c hc v hv hcv => ?_⟩, fun v hv => Gr_0 (fun g1 c hc ht => ?_)⟩
  rotate_left
  · by_cases e : c = a
    · subst e
      rw [ma] at hcv
      exact Cn_r hcv
    · rw [(h4 c hc.1 hc.2).2 e] at hcv
      omega
  · refine g1 a ha ?_
    show v ≤ M1 1 a
    rw [ma]
    exact ht.1
  clear ih h1 h2 h4 ma h3
  intro k M2 ⟨h1, h2, k3, k4, k5⟩ ih
  refine xgo 50 rfl ?_
  refine xbr rfl (fun h => ?_) (fun h => ?_)
  rotate_left
  · refine xgo 55 rfl ?_
    refine xloop2 (J := fun (c : Int) (M' : xMem) => xV kX1 mX1_prominence 2 _ M' 55 [some (.inr (.inr none)), some (.inl a), some (.inl k), some (.inl c), none, none] []) (fun c M' => 0 ≤ c ∧ c ≤ 64 ∧ M' 0 = M 0 ∧ Pri (M 0) a (M' 1) ∧ (∀ x, cl x → M2 1 x ≤ M' 1 x) ∧ ∀ x, cl x → x < c → ∀ e, adj x e → M 0 x ≤ M' 1 x ∨ M2 1 e ≤ M' 1 x) (fun c _ => (64 - c).toNat) ?_ 0 M2 ⟨by omega, by omega, k3, k4, fun x _ => Int.le_refl _, fun x hx hx2 => by have := hx.1; omega⟩
    intro c M3 ⟨g1, g2, g3, g4, g5, g6⟩ ih2
    refine xgo 58 rfl ?_
    refine xbr rfl (fun h' => ?_) (fun h' => ?_)
    · refine xgc 47 rfl (by omega) ?_
      refine xfg 3 ?_
      refine ih (k + 1) M3 ⟨by omega, by omega, g3, g4, Pri_g ha k4 g5 (fun x hx => g6 x hx (by have := hx.2; omega)) k5⟩ (by omega)
    · have hc : cl c := ⟨g1, h'⟩
      refine xgo 63 rfl ?_
      refine xcall (mm_mostBeside M3 c hc) rfl rfl lX1_mostBeside rfl rfl rfl (fun r M' hp => ?_)
      obtain ⟨rfl, hr⟩ := hp
      refine xgc 77 rfl (by omega) ?_
      refine xcall (mm_least M3 (M3 0 c) r) rfl rfl lX1_least rfl rfl rfl (fun o M' hp => ?_)
      obtain ⟨rfl, ho⟩ := hp
      rw [g3] at ho
      refine xgc 96 rfl (by omega) ?_
      refine xcall (mm_most M3 (M3 1 c) o) rfl rfl lX1_most rfl rfl rfl (fun n M' hp => ?_)
      obtain ⟨rfl, hn⟩ := hp
      refine xgc 55 rfl (by omega) ?_
      refine xfg 4 (xfg 5 ?_)
      refine ih2 (c + 1) _ ⟨by omega, by omega, g3, Pri_s g4 hc hr ho hn, fun x hx => ?_, fun x hx hx2 e he => ?_⟩ (by omega)
      · rw [xset_s]
        by_cases e : x = c
        · rw [e, xup_s]
          have := g5 c hc
          omega
        · rw [xup_n _ _ e]
          exact g5 x hx
      · rw [xset_s]
        by_cases e2 : x = c
        · subst e2
          rw [xup_s]
          have a1 := hr.2.1 e he
          have a2 := g5 e he.2.1
          omega
        · rw [xup_n _ _ e2]
          exact g6 x hx (by omega) e he
  have e : k = 64 := by omega
  subst e
  have key : ∀ c, cl c → ∀ v, 0 ≤ v → (v ≤ M2 1 c ↔ Tp (M 0) a v c) := fun c hc v hv => ⟨fun h => k4.2 c hc v hv h, fun h => Gr_e (k5 v hv) hc h⟩
  clear ih h1 h2 h k4 k5
  refine xgo 120 rfl ?_
  refine xloop3 (J := fun (b l i : Int) => xV kX1 mX1_prominence 2 _ M2 120 [some (.inr (.inr none)), some (.inl a), some (.inl b), some (.inl l), some (.inl i), none] []) (fun b l i => 0 ≤ i ∧ i ≤ 64 ∧ l ≤ 99 ∧ 0 ≤ l ∧ (∀ j, 0 ≤ j → j < i → l ≤ M 0 j) ∧ (l = 99 ∨ ∃ j, cl j ∧ l = M 0 j) ∧ -1 ≤ b ∧ b ≤ 99 ∧ (∀ j, 0 ≤ j → j < i → M 0 a < M 0 j → M2 1 j ≤ b) ∧ (b = -1 ∨ ∃ j, cl j ∧ M 0 a < M 0 j ∧ b = M2 1 j)) (fun _ _ i => (64 - i).toNat) ?_ (-1) 99 0 ⟨by omega, by omega, by omega, by omega, fun j h1 h2 => by omega, Or.inl rfl, by omega, by omega, fun j h1 h2 => by omega, Or.inl rfl⟩
  intro b l i ⟨h1, h2, h3, h3b, h4, h5, h6, h6b, h7, h8⟩ ih
  refine xgo 124 rfl ?_
  refine xbr rfl (fun h => ?_) (fun h => ?_)
  · have e : i = 64 := by omega
    subst e
    have hha := hh a ha
    have hhr : ∀ w, prQ (M 0) a w → prP (M 0) a (M2 0 a - w) := fun w hw => Or.inr ⟨ha, w, hw, by rw [k3]⟩
    rw [← k3] at hha
    refine xgc 182 rfl (by omega) ?_
    refine xbr rfl (fun h9 => ?_) (fun h9 => ?_)
    · refine xgc 191 rfl (by omega) ?_
      refine xret rfl rfl ⟨k3, hhr _ (Or.inl ?_)⟩
      rcases h8 with h8 | ⟨j, j1, j2, j3⟩
      · omega
      · refine ⟨⟨j, j1, j2⟩, h9, fun v hv => ⟨fun hvb => ⟨j, j1, j2, (key j j1 v hv).mp (by omega)⟩, fun ⟨e, e1, e2, e3⟩ => ?_⟩⟩
        have q1 := (key e e1 v hv).mpr e3
        have q2 := h7 e e1.1 e1.2 e2
        omega
    · refine xgc 191 rfl (by omega) ?_
      refine xret rfl rfl ⟨k3, hhr _ (Or.inr ⟨fun e he => ?_, fun e he => h4 e he.1 he.2, ?_⟩)⟩
      · refine Classical.byContradiction (fun q => ?_)
        have q1 := h7 e he.1 he.2 (by omega)
        have q2 := (key e he 0 (Int.le_refl _)).mpr (grid (fun x hx => (hh x hx).1) ha he)
        omega
      · rcases h5 with h5 | ⟨j, j1, j2⟩
        · refine ⟨a, ha, ?_⟩
          have q1 := h4 a ha.1 ha.2
          have q2 := hh a ha
          omega
        · exact ⟨j, j1, j2⟩
  · have hc : cl i := ⟨h1, h⟩
    have hhi := hh i hc
    refine xgc 136 rfl (by omega) ?_
    refine xcall (mm_least M2 l (M2 0 i)) rfl rfl lX1_least rfl rfl rfl (fun l' M' hp => ?_)
    obtain ⟨rfl, hl⟩ := hp
    rw [k3] at hl
    have hlo : ∀ j, 0 ≤ j → j < i + 1 → l' ≤ M 0 j := by
      intro j j1 j2
      by_cases e : j = i
      · subst e; omega
      · have := h4 j j1 (by omega)
        omega
    have q9 : l' ≤ 99 ∧ 0 ≤ l' := by
      clear h5 h8 h4 h7 ih
      omega
    have hlo2 : l' = 99 ∨ ∃ j, cl j ∧ l' = M 0 j := by
      rcases hl with ⟨-, q⟩ | ⟨-, q⟩
      · rw [q]; exact h5
      · exact Or.inr ⟨i, hc, q⟩
    refine xgc 153 rfl (by omega) ?_
    rw [k3]
    refine xbr rfl (fun h9 => ?_) (fun h9 => ?_)
    · refine xgc 120 rfl (by omega) ?_
      refine ih b l' (i + 1) ⟨by omega, by omega, q9.1, q9.2, hlo, hlo2, h6, h6b, fun j j1 j2 j3 => ?_, h8⟩ (by omega)
      by_cases e : j = i
      · subst e; omega
      · exact h7 j j1 (by omega) j3
    · refine xgc 165 rfl (by omega) ?_
      refine xcall (mm_most M2 b (M2 1 i)) rfl rfl lX1_most rfl rfl rfl (fun b' M' hp => ?_)
      obtain ⟨rfl, hb⟩ := hp
      have hmi : M2 1 i ≤ 99 := by
        refine Classical.byContradiction (fun q => ?_)
        have q1 := (key i hc 100 (by omega)).mp (by omega)
        have q2 : 100 ≤ M 0 a := q1.1
        have q3 := hh a ha
        omega
      refine xgc 120 rfl (by omega) ?_
      refine ih b' l' (i + 1) ⟨by omega, by omega, q9.1, q9.2, hlo, hlo2, by omega, by omega, fun j j1 j2 j3 => ?_, ?_⟩ (by omega)
      · by_cases e : j = i
        · subst e; omega
        · have := h7 j j1 (by omega) j3
          omega
      · rcases hb with ⟨-, q⟩ | ⟨-, q⟩
        · rw [q]; exact h8
        · exact Or.inr ⟨i, hc, h9, q⟩
end
section
set_option maxRecDepth 100000
/-! the flood's heap: push, pop -/
def lwr (lv : Int → Int) (a b : Int) : Prop := lv a < lv b ∨ lv a = lv b ∧ a < b
theorem lwr_as {lv : Int → Int} {a b : Int} (h : lwr lv a b) : ¬ lwr lv b a := by unfold lwr at *; omega
theorem lwr_t1 {lv : Int → Int} {a b c : Int} (h : lwr lv a b) (h2 : lwr lv b c) : lwr lv a c := by unfold lwr at *; omega
theorem lwr_t2 {lv : Int → Int} {a b c : Int} (h : ¬ lwr lv a b) (h2 : ¬ lwr lv b c) : ¬ lwr lv a c := by unfold lwr at *; omega
theorem lwr_le {lv : Int → Int} {a b : Int} (h : ¬ lwr lv a b) : lv b ≤ lv a := by unfold lwr at *; omega
def HO (lv g : Int → Int) (n : Int) : Prop := ∀ j, 0 < j → j < n → ¬ lwr lv (g j) (g ((j - 1) / 2))
def HC (g : Int → Int) (n : Int) : Prop := ∀ j, 0 ≤ j → j < n → cl (g j)
def inH (g : Int → Int) (n x : Int) : Prop := ∃ j, 0 ≤ j ∧ j < n ∧ g j = x
theorem HC_of {g : Int → Int} {n : Int} (h : ∀ x, inH g n x → cl x) : HC g n := fun j h1 h2 => h _ ⟨j, h1, h2, rfl⟩
theorem HO_root {lv g : Int → Int} {n : Int} (h : HO lv g n) : ∀ (k : Nat) (j : Int), 0 ≤ j → j < n → j ≤ (k : Int) → ¬ lwr lv (g j) (g 0)
  | 0, j, h1, h2, h3 => by
    have e : j = 0 := by omega
    rw [e]
    unfold lwr
    omega
  | k + 1, j, h1, h2, h3 => by
    by_cases e : j = 0
    · rw [e]
      unfold lwr
      omega
    · exact lwr_t2 (h j (by omega) h2) (HO_root h k ((j - 1) / 2) (by omega) (by omega) (by omega))
/-- two places change their contents -/
def swp (g g' : Int → Int) (a b : Int) : Prop := (∀ j, j ≠ a → j ≠ b → g' j = g j) ∧ g' a = g b ∧ g' b = g a
theorem swp_in {g g' : Int → Int} {a b n : Int} (h : swp g g' a b) (ha : 0 ≤ a ∧ a < n) (hb : 0 ≤ b ∧ b < n) (x : Int) : inH g' n x ↔ inH g n x := by
  constructor
  · intro ⟨j, h1, h2, h3⟩
    by_cases e : j = a
    · exact ⟨b, hb.1, hb.2, by rw [← h3, e, h.2.1]⟩
    · by_cases e2 : j = b
      · exact ⟨a, ha.1, ha.2, by rw [← h3, e2, h.2.2]⟩
      · exact ⟨j, h1, h2, by rw [← h3, h.1 j e e2]⟩
  · intro ⟨j, h1, h2, h3⟩
    by_cases e : j = a
    · exact ⟨b, hb.1, hb.2, by rw [← h3, e, h.2.2]⟩
    · by_cases e2 : j = b
      · exact ⟨a, ha.1, ha.2, by rw [← h3, e2, h.2.1]⟩
      · exact ⟨j, h1, h2, by rw [← h3, h.1 j e e2]⟩
theorem swp_of {a : Int → Int} {i j c : Int} (h : j ≠ i) : swp (xup a i c) (xup (xup a i (a j)) j c) i j := by
  refine ⟨fun k h1 h2 => ?_, ?_, ?_⟩
  · rw [xup_n _ _ h2, xup_n _ _ h1, xup_n _ _ h1]
  · rw [xup_n _ _ (Ne.symm h), xup_s, xup_n _ _ h]
  · rw [xup_s, xup_s]
theorem up_s {lv g g' : Int → Int} {n i : Int} (hi : 0 < i) (hin : i < n) (hs : swp g g' i ((i - 1) / 2)) (hl : lwr lv (g i) (g ((i - 1) / 2))) (hB : ∀ j, 0 < j → j < n → j ≠ i → ¬ lwr lv (g j) (g ((j - 1) / 2))) (hC : ∀ j, 0 < j → j < n → (j - 1) / 2 = i → ¬ lwr lv (g j) (g ((i - 1) / 2))) :
    (∀ j, 0 < j → j < n → j ≠ (i - 1) / 2 → ¬ lwr lv (g' j) (g' ((j - 1) / 2))) ∧ (0 < (i - 1) / 2 → ∀ j, 0 < j → j < n → (j - 1) / 2 = (i - 1) / 2 → ¬ lwr lv (g' j) (g' (((i - 1) / 2 - 1) / 2))) := by
  obtain ⟨e1, e2, e3⟩ := hs
  refine ⟨fun j h0 h1 hne => ?_, fun hp j h0 h1 hj => ?_⟩
  · by_cases a1 : j = i
    · subst a1
      rw [e2, e3]
      exact lwr_as hl
    · by_cases a2 : (j - 1) / 2 = i
      · rw [e1 j a1 hne, a2, e2]
        exact hC j h0 h1 a2
      · by_cases a3 : (j - 1) / 2 = (i - 1) / 2
        · rw [e1 j a1 hne, a3, e3]
          intro hq
          have := hB j h0 h1 a1
          rw [a3] at this
          exact this (lwr_t1 hq hl)
        · rw [e1 j a1 hne, e1 _ a2 a3]
          exact hB j h0 h1 a1
  · have hpp : g' (((i - 1) / 2 - 1) / 2) = g (((i - 1) / 2 - 1) / 2) := e1 _ (by omega) (by omega)
    rw [hpp]
    have hq := hB ((i - 1) / 2) hp (by omega) (by omega)
    by_cases a1 : j = i
    · rw [a1, e2]
      exact hq
    · have a2 : j ≠ (i - 1) / 2 := by omega
      rw [e1 j a1 a2]
      have := hB j h0 h1 a1
      rw [hj] at this
      exact lwr_t2 this hq
theorem mt_push (M : xMem) (c : Int) (hc : cl c) (hn0 : 0 ≤ M 9 1) (hn1 : M 9 1 < 64) (hC : HC (M 2) (M 9 1)) (hO : HO (M 1) (M 2) (M 9 1)) : xMet kX0 mX0_push 1 true M [c] (fun _ M' => (∀ k, k ≠ 2 → k ≠ 9 → M' k = M k) ∧ M' 9 0 = M 9 0 ∧ M' 9 1 = M 9 1 + 1 ∧ HO (M 1) (M' 2) (M 9 1 + 1) ∧ ∀ x, inH (M' 2) (M 9 1 + 1) x ↔ x = c ∨ inH (M 2) (M 9 1) x) := by
  refine xMet_of kX0_ok oX0_push rfl (Nat.le_of_ble_eq_true rfl) (fun hM hz => ?_)
  refine xgc 15 rfl (by omega) ?_
  generalize hn : M 9 1 = n at *
  refine xloop2 (J := fun (i : Int) (M' : xMem) => xV kX0 mX0_push 1 _ M' 15 [some (.inr (.inr none)), some (.inl c), some (.inl i)] []) (fun i M' => 0 ≤ i ∧ i ≤ n ∧ (∀ k, k ≠ 2 → k ≠ 9 → M' k = M k) ∧ M' 9 0 = M 9 0 ∧ M' 9 1 = n + 1 ∧ (∀ x, inH (xup (M' 2) i c) (n + 1) x ↔ x = c ∨ inH (M 2) n x) ∧ (∀ j, 0 < j → j < n + 1 → j ≠ i → ¬ lwr (M 1) (xup (M' 2) i c j) (xup (M' 2) i c ((j - 1) / 2))) ∧ (0 < i → ∀ j, 0 < j → j < n + 1 → (j - 1) / 2 = i → ¬ lwr (M 1) (xup (M' 2) i c j) (xup (M' 2) i c ((i - 1) / 2)))) (fun i _ => i.toNat) ?_ n _ ⟨hn0, Int.le_refl _, fun k _ k2 => xset_n _ _ _ k2, rfl, rfl, fun x => ?_, fun j j0 j1 j2 => ?_, fun _ j j0 j1 j2 => by omega⟩
  rotate_left
  · show inH (xup (M 2) n c) (n + 1) x ↔ _
    constructor
    · intro ⟨j, h1, h2, h3⟩
      by_cases e : j = n
      · rw [e, xup_s] at h3
        exact Or.inl h3.symm
      · rw [xup_n _ _ e] at h3
        exact Or.inr ⟨j, h1, by omega, h3⟩
    · intro h
      rcases h with h | ⟨j, h1, h2, h3⟩
      · exact ⟨n, hn0, by omega, by rw [xup_s, h]⟩
      · exact ⟨j, h1, by omega, by rw [xup_n _ _ (by omega), h3]⟩
  · show ¬ lwr (M 1) (xup (M 2) n c j) (xup (M 2) n c ((j - 1) / 2))
    rw [xup_n _ _ j2, xup_n _ _ (by omega)]
    exact hO j j0 (by omega)
  intro i M1 ⟨h1, h2, h3, h4, h5, h6, h7, h8⟩ ih
  have fin : (0 < i → ¬ lwr (M 1) c (M1 2 ((i - 1) / 2))) → xV kX0 mX0_push 1 (fun _ M' => (∀ k, k ≠ 2 → k ≠ 9 → M' k = M k) ∧ M' 9 0 = M 9 0 ∧ M' 9 1 = n + 1 ∧ HO (M 1) (M' 2) (n + 1) ∧ ∀ x, inH (M' 2) (n + 1) x ↔ x = c ∨ inH (M 2) n x) M1 62 [some (.inr (.inr none)), some (.inl c), some (.inl i)] [] := by
    intro hl
    refine xgc 69 rfl (by omega) ?_
    refine xretv rfl rfl ⟨fun k k2 k9 => ?_, h4, h5, fun j j0 j1 => ?_, h6⟩
    · rw [xset_n _ _ _ k2]
      exact h3 k k2 k9
    · rw [xset_s]
      by_cases e : j = i
      · subst e
        rw [xup_s, xup_n _ _ (by omega)]
        exact hl j0
      · exact h7 j j0 j1 e
  refine xgo 16 rfl ?_
  refine xbr rfl (fun h => ?_) (fun h => ?_)
  · exact fin (fun hi => by omega)
  · have hp : cl (M1 2 ((i - 1) / 2)) := by
      have q := (h6 (xup (M1 2) i c ((i - 1) / 2))).mp ⟨(i - 1) / 2, by omega, by omega, rfl⟩
      rw [xup_n _ _ (by omega)] at q
      rcases q with q | ⟨j, q1, q2, q3⟩
      · rw [q]; exact hc
      · rw [← q3]; exact hC j q1 q2
    have hp2 := hp
    unfold cl at hp2
    refine xgc 31 rfl (by omega) ?_
    refine xcall (mt_lower M1 c (M1 2 ((i - 1) / 2)) hc hp) rfl rfl lX0_lower rfl rfl rfl (fun r M' hp => ?_)
    obtain ⟨rfl, hr⟩ := hp
    rw [h3 1 (by decide) (by decide)] at hr
    refine xbr rfl (fun h' => ?_) (fun h' => ?_)
    · exact fin (fun _ hq => by rcases hr with ⟨-, q⟩ | ⟨q, -⟩ <;> first | omega | exact q hq)
    · have hl : lwr (M 1) c (M1 2 ((i - 1) / 2)) := by
        rcases hr with ⟨q, -⟩ | ⟨-, q⟩
        · exact q
        · exact absurd q h'
      refine xgc 15 rfl (by omega) ?_
      have hs : swp (xup (M1 2) i c) (xup (xup (M1 2) i (M1 2 ((i - 1) / 2))) ((i - 1) / 2) c) i ((i - 1) / 2) := swp_of (by omega)
      have hu := up_s (lv := M 1) (n := n + 1) h (by omega) hs (by rw [xup_s, xup_n _ _ (by omega)]; exact hl) h7 (h8 h)
      refine ih ((i - 1) / 2) _ ⟨by omega, by omega, fun k k2 k9 => ?_, h4, h5, fun x => ?_, hu.1, hu.2⟩ (by omega)
      · rw [xset_n _ _ _ k2]
        exact h3 k k2 k9
      · rw [← h6 x]
        exact swp_in hs ⟨by omega, by omega⟩ ⟨by omega, by omega⟩ x
theorem down_s {lv g g' : Int → Int} {n i ch : Int} (hi : 0 ≤ i) (hch : (ch - 1) / 2 = i) (hc0 : 0 < ch) (hcn : ch < n) (hs : swp g g' i ch) (hl : lwr lv (g ch) (g i)) (hm : ∀ j, 0 < j → j < n → (j - 1) / 2 = i → ¬ lwr lv (g j) (g ch)) (hB : ∀ j, 0 < j → j < n → (j - 1) / 2 ≠ i → ¬ lwr lv (g j) (g ((j - 1) / 2))) (hC : 0 < i → ∀ j, 0 < j → j < n → (j - 1) / 2 = i → ¬ lwr lv (g j) (g ((i - 1) / 2))) :
    (∀ j, 0 < j → j < n → (j - 1) / 2 ≠ ch → ¬ lwr lv (g' j) (g' ((j - 1) / 2))) ∧ (0 < ch → ∀ j, 0 < j → j < n → (j - 1) / 2 = ch → ¬ lwr lv (g' j) (g' ((ch - 1) / 2))) := by
  obtain ⟨e1, e2, e3⟩ := hs
  refine ⟨fun j h0 h1 hne => ?_, fun _ j h0 h1 hj => ?_⟩
  · by_cases a1 : j = ch
    · subst a1
      rw [e3, hch, e2]
      exact lwr_as hl
    · by_cases a2 : (j - 1) / 2 = i
      · rw [e1 j (by omega) a1, a2, e2]
        exact hm j h0 h1 a2
      · by_cases a3 : j = i
        · subst a3
          rw [e2, e1 ((j - 1) / 2) (by omega) hne]
          exact hC h0 ch hc0 hcn hch
        · rw [e1 j a3 a1, e1 _ a2 hne]
          exact hB j h0 h1 a2
  · rw [hch, e2, e1 j (by omega) (by omega)]
    have := hB j h0 h1 (by omega)
    rw [hj] at this
    exact this
theorem mt_pop (M : xMem) (hn0 : 0 < M 9 1) (hn1 : M 9 1 ≤ 64) (hC : HC (M 2) (M 9 1)) (hO : HO (M 1) (M 2) (M 9 1)) : xMet kX0 mX0_pop 1 true M [] (fun r M' => (∀ k, k ≠ 2 → k ≠ 9 → M' k = M k) ∧ M' 9 0 = M 9 0 ∧ M' 9 1 = M 9 1 - 1 ∧ HO (M 1) (M' 2) (M 9 1 - 1) ∧ inH (M 2) (M 9 1) r ∧ (∀ x, inH (M 2) (M 9 1) x → ¬ lwr (M 1) x r) ∧ ∀ x, (x = r ∨ inH (M' 2) (M 9 1 - 1) x) ↔ inH (M 2) (M 9 1) x) := by
  refine xMet_of kX0_ok oX0_pop rfl (Nat.le_of_ble_eq_true rfl) (fun hM hz => ?_)
  have hmin : ∀ x, inH (M 2) (M 9 1) x → ¬ lwr (M 1) x (M 2 0) := by
    intro x ⟨j, j0, j1, j2⟩
    rw [← j2]
    exact HO_root hO 64 j j0 j1 (by omega)
  refine xgc 32 rfl ?_ ?_
  · show ((0 ≤ (0 : Int) ∧ (0 : Int) < 64) ∧ -2147483648 ≤ M 9 1 - 1 ∧ M 9 1 - 1 ≤ 2147483647) ∧ 0 ≤ M 9 1 - 1 ∧ M 9 1 - 1 < 64
    omega
  generalize hn : M 9 1 = n at *
  have hcell : cl (M 2 (n - 1)) := hC (n - 1) (by omega) (by omega)
  refine xloop3 (J := fun (i ch : Int) (M' : xMem) => xV kX0 mX0_pop 1 _ M' 32 [some (.inr (.inr none)), some (.inl (M 2 0)), some (.inl (M 2 (n - 1))), some (.inl i), some (.inl ch)] []) (fun i ch M' => 0 ≤ i ∧ (i < n - 1 ∨ i = 0) ∧ (ch = 2 * i + 1 ∨ ch = n - 1 ∧ ∀ j, 0 < j → j < n - 1 → (j - 1) / 2 = i → ¬ lwr (M 1) (xup (M' 2) i (M 2 (n - 1)) j) (M 2 (n - 1))) ∧ (∀ k, k ≠ 2 → k ≠ 9 → M' k = M k) ∧ M' 9 0 = M 9 0 ∧ M' 9 1 = n - 1 ∧ (∀ x, (x = M 2 0 ∨ inH (xup (M' 2) i (M 2 (n - 1))) (n - 1) x) ↔ inH (M 2) n x) ∧ (∀ j, 0 < j → j < n - 1 → (j - 1) / 2 ≠ i → ¬ lwr (M 1) (xup (M' 2) i (M 2 (n - 1)) j) (xup (M' 2) i (M 2 (n - 1)) ((j - 1) / 2))) ∧ (0 < i → ∀ j, 0 < j → j < n - 1 → (j - 1) / 2 = i → ¬ lwr (M 1) (xup (M' 2) i (M 2 (n - 1)) j) (xup (M' 2) i (M 2 (n - 1)) ((i - 1) / 2)))) (fun _ ch _ => (64 - ch).toNat) ?_ 0 1 _ ⟨by omega, Or.inr rfl, Or.inl (by omega), fun k _ k2 => xset_n _ _ _ k2, rfl, rfl, fun x => ?_, fun j j0 j1 j2 => ?_, fun hq => by omega⟩
  rotate_left
  · show (x = M 2 0 ∨ inH (xup (M 2) 0 (M 2 (n - 1))) (n - 1) x) ↔ _
    constructor
    · intro h
      rcases h with h | ⟨j, h1, h2, h3⟩
      · exact ⟨0, by omega, by omega, h.symm⟩
      · by_cases e : j = 0
        · rw [e, xup_s] at h3
          exact ⟨n - 1, by omega, by omega, h3⟩
        · rw [xup_n _ _ e] at h3
          exact ⟨j, h1, by omega, h3⟩
    · intro ⟨j, h1, h2, h3⟩
      by_cases e : j = 0
      · rw [e] at h3
        exact Or.inl h3.symm
      · by_cases e2 : j = n - 1
        · exact Or.inr ⟨0, by omega, by omega, by rw [xup_s, ← e2]; exact h3⟩
        · exact Or.inr ⟨j, h1, by omega, by rw [xup_n _ _ e]; exact h3⟩
  · show ¬ lwr (M 1) (xup (M 2) 0 (M 2 (n - 1)) j) (xup (M 2) 0 (M 2 (n - 1)) ((j - 1) / 2))
    rw [xup_n _ _ (by omega), xup_n _ _ j2]
    exact hO j j0 (by omega)
  intro i ch M1 ⟨h1, h2, h2b, h3, h4, h5, h6, h7, h8⟩ ih
  have hcl : ∀ j, 0 ≤ j → j < n - 1 → j ≠ i → cl (M1 2 j) := by
    intro j j0 j1 j2
    obtain ⟨q, q1, q2, q3⟩ := (h6 (xup (M1 2) i (M 2 (n - 1)) j)).mp (Or.inr ⟨j, j0, j1, rfl⟩)
    rw [xup_n _ _ j2] at q3
    rw [← q3]
    exact hC q q1 q2
  refine xgo 38 rfl ?_
  rw [h5]
  refine xbr rfl (fun h => ?_) (fun h => ?_)
  · refine xgc 136 rfl (by omega) ?_
    refine xret rfl rfl ⟨fun k k2 k9 => ?_, h4, h5, fun j j0 j1 => ?_, ⟨0, by omega, by omega, rfl⟩, hmin, h6⟩
    · rw [xset_n _ _ _ k2]
      exact h3 k k2 k9
    · rw [xset_s]
      by_cases e : (j - 1) / 2 = i
      · rw [e, xup_s]
        rcases h2b with q | ⟨q, q2⟩
        · omega
        · exact q2 j j0 j1 e
      · exact h7 j j0 j1 e
  · have hch : ch = 2 * i + 1 := by
      rcases h2b with q | ⟨q, -⟩
      · exact q
      · omega
    -- the chosen child
    refine xjn (α := Int) (fun q => (q - 1) / 2 = i ∧ ch ≤ q ∧ q < n - 1 ∧ ∀ j, 0 < j → j < n - 1 → (j - 1) / 2 = i → ¬ lwr (M 1) (M1 2 j) (M1 2 q)) 78 (fun _ => M1) (fun q => [some (.inr (.inr none)), some (.inl (M 2 0)), some (.inl (M 2 (n - 1))), some (.inl i), some (.inl q)]) (fun _ => []) ?_ ?_
    · intro q ⟨q1, q2, q3, q4⟩
      have hq := hcl q (by omega) q3 (by omega)
      have hq2 := hq
      unfold cl at hq2
      refine xgc 87 rfl (by omega) ?_
      refine xcall (mt_lower M1 (M1 2 q) (M 2 (n - 1)) hq hcell) rfl rfl lX0_lower rfl rfl rfl (fun r M' hp => ?_)
      obtain ⟨rfl, hr⟩ := hp
      rw [h3 1 (by decide) (by decide)] at hr
      refine xbr rfl (fun h' => ?_) (fun h' => ?_)
      · have hnl : ¬ lwr (M 1) (M1 2 q) (M 2 (n - 1)) := by
          rcases hr with ⟨-, z⟩ | ⟨z, -⟩
          · omega
          · exact z
        refine xgo 32 rfl ?_
        rw [h5]
        refine ih i (n - 1) M1 ⟨h1, h2, Or.inr ⟨rfl, fun j j0 j1 j2 => ?_⟩, h3, h4, h5, h6, h7, h8⟩ (by omega)
        rw [xup_n _ _ (by omega)]
        exact lwr_t2 (q4 j j0 j1 j2) hnl
      · have hl : lwr (M 1) (M1 2 q) (M 2 (n - 1)) := by
          rcases hr with ⟨z, -⟩ | ⟨-, z⟩
          · exact z
          · exact absurd z h'
        refine xgc 32 rfl (by omega) ?_
        have hs : swp (xup (M1 2) i (M 2 (n - 1))) (xup (xup (M1 2) i (M1 2 q)) q (M 2 (n - 1))) i q := swp_of (by omega)
        have hd := down_s (lv := M 1) (n := n - 1) h1 q1 (by omega) q3 hs (by rw [xup_s, xup_n _ _ (by omega)]; exact hl) (fun j j0 j1 j2 => by rw [xup_n _ _ (by omega), xup_n _ _ (by omega)]; exact q4 j j0 j1 j2) h7 h8
        refine ih q _ _ ⟨by omega, Or.inl q3, Or.inl rfl, fun k k2 k9 => ?_, h4, h5, fun x => ?_, hd.1, hd.2⟩ (by omega)
        · rw [xset_n _ _ _ k2]
          exact h3 k k2 k9
        · rw [← h6 x]
          have := swp_in (n := n - 1) hs ⟨by omega, by omega⟩ ⟨by omega, by omega⟩ x
          constructor
          · intro z
            rcases z with z | z
            · exact Or.inl z
            · exact Or.inr (this.mp z)
          · intro z
            rcases z with z | z
            · exact Or.inl z
            · exact Or.inr (this.mpr z)
    · intro kj
      refine xgc 49 rfl (by omega) ?_
      rw [h5]
      refine xbr rfl (fun h' => ?_) (fun h' => ?_)
      · refine kj ch ⟨by omega, by omega, h, fun j j0 j1 j2 => ?_⟩
        have e : j = ch := by omega
        rw [e]
        unfold lwr
        omega
      · have hc1 := hcl ch (by omega) h (by omega)
        have hc2 := hcl (ch + 1) (by omega) h' (by omega)
        refine xgc 69 rfl (by omega) ?_
        refine xcall (mt_lower M1 (M1 2 (ch + 1)) (M1 2 ch) hc2 hc1) rfl rfl lX0_lower rfl rfl rfl (fun r M' hp => ?_)
        obtain ⟨rfl, hr⟩ := hp
        rw [h3 1 (by decide) (by decide)] at hr
        refine xbr rfl (fun h9 => ?_) (fun h9 => ?_)
        · refine kj ch ⟨by omega, by omega, h, fun j j0 j1 j2 => ?_⟩
          rcases hr with ⟨-, z⟩ | ⟨z, -⟩
          · omega
          · by_cases e : j = ch
            · rw [e]
              unfold lwr
              omega
            · have e : j = ch + 1 := by omega
              rw [e]
              exact z
        · refine xgc 78 rfl (by omega) ?_
          refine kj (ch + 1) ⟨by omega, by omega, h', fun j j0 j1 j2 => ?_⟩
          rcases hr with ⟨z, -⟩ | ⟨-, z⟩
          · by_cases e : j = ch
            · rw [e]
              exact lwr_as z
            · have e : j = ch + 1 := by omega
              rw [e]
              unfold lwr
              omega
          · exact absurd z h9
end
section
set_option maxRecDepth 100000
/-! the flood: meet, prepare, level, volume -/
theorem HO_congr {lv lv' g : Int → Int} {n : Int} (h : HO lv g n) (hc : ∀ x, inH g n x → lv' x = lv x) : HO lv' g n := by
  intro j j0 j1 hq
  have e1 := hc (g j) ⟨j, by omega, j1, rfl⟩
  have e2 := hc (g ((j - 1) / 2)) ⟨(j - 1) / 2, by omega, by omega, rfl⟩
  refine h j j0 j1 ?_
  unfold lwr at hq ⊢
  rw [e1, e2] at hq
  exact hq
theorem cnt_met {f : Int → Int} {c : Int} (hc : cl c) (h : f c = 0) : cnt (fun x => xup f c 1 x ≠ 0) 64 = cnt (fun x => f x ≠ 0) 64 + 1 := by
  refine cnt_add (a := c) 64 hc.1 hc.2 (fun q => q h) ?_ (fun i _ _ hi => ?_)
  · show xup f c 1 c ≠ 0
    rw [xup_s]
    decide
  · show f i ≠ 0 ↔ xup f c 1 i ≠ 0
    rw [xup_n _ _ hi]
/-- the heap of cells is in order, its cells are met, and it holds no more than are met -/
def FH (M : xMem) : Prop := 0 ≤ M 9 1 ∧ M 9 1 ≤ (cnt (fun c => M 3 c ≠ 0) 64 : Nat) ∧ HO (M 1) (M 2) (M 9 1) ∧ ∀ x, inH (M 2) (M 9 1) x → cl x ∧ M 3 x ≠ 0
theorem mt_meet (M : xMem) (c l : Int) (hc : cl c) (hm : M 3 c = 0) (hF : FH M) : xMet kX0 mX0_meet 2 true M [c, l] (fun _ M' => M' 0 = M 0 ∧ M' 9 0 = M 9 0 ∧ M' 9 1 = M 9 1 + 1 ∧ M' 3 = xup (M 3) c 1 ∧ (∃ w, (M 0 c < l ∧ w = l ∨ l ≤ M 0 c ∧ w = M 0 c) ∧ M' 1 = xup (M 1) c w) ∧ FH M' ∧ ∀ x, inH (M' 2) (M' 9 1) x ↔ x = c ∨ inH (M 2) (M 9 1) x) := by
  refine xMet_of kX0_ok oX0_meet rfl (Nat.le_of_ble_eq_true rfl) (fun hM hz => ?_)
  have hc2 := hc
  unfold cl at hc2
  refine xgc 19 rfl (by omega) ?_
  refine xjn (α := Int) (fun w => M 0 c < l ∧ w = l ∨ l ≤ M 0 c ∧ w = M 0 c) 32 (fun _ => xset M 3 c 1) (fun _ => [some (.inr (.inr none)), some (.inl c), some (.inl l)]) (fun w => [.inl w, .inl c, .inr (.inr (some 1))]) ?_ ?_
  · intro w hw
    refine xgc 35 rfl (by omega) ?_
    have hcm := cnt_met (f := M 3) hc hm
    have hcl := cnt_le (fun x => xup (M 3) c 1 x ≠ 0) 64
    have hn1 : M 9 1 < 64 := by
      have := hF.2.1
      omega
    refine xcallv (mt_push (xset (xset M 3 c 1) 1 c w) c hc hF.1 hn1 (HC_of (fun x hx => (hF.2.2.2 x hx).1)) (HO_congr (lv := M 1) hF.2.2.1 (fun x hx => ?_))) rfl rfl lX0_push rfl rfl rfl (fun M' hp => ?_)
    · show xup (M 1) c w x = M 1 x
      refine xup_n _ _ (fun e => ?_)
      rw [e] at hx
      exact (hF.2.2.2 c hx).2 hm
    · obtain ⟨p1, p2, p3, p4, p5⟩ := hp
      have e0 : M' 0 = M 0 := p1 0 (by decide) (by decide)
      have e1 : M' 1 = xup (M 1) c w := p1 1 (by decide) (by decide)
      have e3 : M' 3 = xup (M 3) c 1 := p1 3 (by decide) (by decide)
      have p3 : M' 9 1 = M 9 1 + 1 := p3
      have p4 : HO (xup (M 1) c w) (M' 2) (M 9 1 + 1) := p4
      have p5 : ∀ x, inH (M' 2) (M 9 1 + 1) x ↔ x = c ∨ inH (M 2) (M 9 1) x := p5
      refine xretv rfl rfl ⟨e0, p2, p3, e3, ⟨w, hw, e1⟩, ⟨?_, ?_, ?_, ?_⟩, ?_⟩
      · have := hF.1
        omega
      · rw [p3, e3, hcm]
        have := hF.2.1
        omega
      · rw [e1, p3]
        exact p4
      · intro x hx
        rw [p3] at hx
        rw [e3]
        rcases (p5 x).mp hx with e | h
        · rw [e, xup_s]
          exact ⟨hc, by decide⟩
        · have h2 := hF.2.2.2 x h
          refine ⟨h2.1, ?_⟩
          rw [xup_n _ _ (fun e => h2.2 (by rw [e]; exact hm))]
          exact h2.2
      · intro x
        rw [p3]
        exact p5 x
  · intro kj
    refine xbr rfl (fun h => ?_) (fun h => ?_)
    · refine xgc 32 rfl (by omega) ?_
      exact kj _ (Or.inr ⟨h, rfl⟩)
    · refine xgo 32 rfl ?_
      exact kj _ (Or.inl ⟨h, rfl⟩)
/-- the state of the flood; q: the cell whose neighbours are being met -/
def Fl (h : Int → Int) (M : xMem) (q : Int → Prop) : Prop := M 0 = h ∧ M 9 0 = 1 ∧ FH M ∧ (∀ c, cl c → bord c → M 3 c ≠ 0) ∧ (∀ c, cl c → M 3 c ≠ 0 → ∀ v, M 1 c ≤ v ↔ flood h v c) ∧ ∀ x y, adj x y → M 3 x ≠ 0 → M 3 y ≠ 0 ∨ inH (M 2) (M 9 1) x ∨ q x
theorem Fl_meet {h : Int → Int} {M M' : xMem} {a o w : Int} (hF : Fl h M (fun x => x = a)) (ha : cl a) (hma : M 3 a ≠ 0) (hmin : ∀ x, inH (M 2) (M 9 1) x → M 1 a ≤ M 1 x) (hao : adj a o) (ho : M 3 o = 0)
    (e0 : M' 0 = M 0) (e90 : M' 9 0 = M 9 0) (e3 : M' 3 = xup (M 3) o 1) (hw : M 0 o < M 1 a ∧ w = M 1 a ∨ M 1 a ≤ M 0 o ∧ w = M 0 o) (e1 : M' 1 = xup (M 1) o w) (hFH : FH M') (hin : ∀ x, inH (M' 2) (M' 9 1) x ↔ x = o ∨ inH (M 2) (M 9 1) x) :
    Fl h M' (fun x => x = a) ∧ M' 1 a = M 1 a ∧ (∀ x, M 3 x ≠ 0 → M' 3 x ≠ 0) ∧ M' 3 o ≠ 0 ∧ ∀ x, inH (M' 2) (M' 9 1) x → M' 1 a ≤ M' 1 x := by
  obtain ⟨f0, f1, f2, f3, f4, f5⟩ := hF
  have hne : a ≠ o := fun e => hma (by rw [e]; exact ho)
  have e1a : M' 1 a = M 1 a := by rw [e1, xup_n _ _ hne]
  have hmono : ∀ x, M 3 x ≠ 0 → M' 3 x ≠ 0 := by
    intro x hx
    rw [e3]
    by_cases e : x = o
    · rw [e, xup_s]; decide
    · rw [xup_n _ _ e]; exact hx
  have ho' : M' 3 o ≠ 0 := by rw [e3, xup_s]; decide
  refine ⟨⟨e0.trans f0, e90.trans f1, hFH, fun c hc hb => hmono c (f3 c hc hb), fun c hc hm v => ?_, fun x y hxy hx => ?_⟩, e1a, hmono, ho', fun x hx => ?_⟩
  · by_cases e : c = o
    · subst e
      rw [e1, xup_s]
      rw [f0] at hw
      constructor
      · intro hwv
        obtain ⟨b, b1, b2, b3⟩ := (f4 a ha hma v).mp (by omega)
        refine ⟨b, b1, b2, Cn_1 b3 hao ?_⟩
        show h c ≤ v
        omega
      · intro ⟨b, b1, b2, b3⟩
        have h1 := Cn_P b3
        have h1 : h c ≤ v := h1
        have h2 : M 1 a ≤ v := by
          refine Classical.byContradiction (fun hlt => ?_)
          have hX := Cn_ind (fun x => cl x ∧ M 3 x ≠ 0 ∧ Cn (fun x => h x ≤ v) b x) b3 ⟨b1, f3 b b1 b2, Cn_r b3.1⟩ (fun x y hx _ hy hxy => ?_)
          · exact hX.2.1 ho
          · refine ⟨hxy.2.1, ?_, Cn_1 hx.2.2 hxy hy⟩
            have h3 : M 1 x ≤ v := (f4 x hx.1 hx.2.1 v).mpr ⟨b, b1, b2, hx.2.2⟩
            rcases f5 x y hxy hx.2.1 with h4 | h4 | h4
            · exact h4
            · have := hmin x h4
              omega
            · have h4 : x = a := h4
              rw [h4] at h3
              omega
        omega
    · rw [e3, xup_n _ _ e] at hm
      rw [e1, xup_n _ _ e]
      exact f4 c hc hm v
  · by_cases e : x = o
    · exact Or.inr (Or.inl ((hin x).mpr (Or.inl e)))
    · rw [e3, xup_n _ _ e] at hx
      rcases f5 x y hxy hx with h4 | h4 | h4
      · exact Or.inl (hmono y h4)
      · exact Or.inr (Or.inl ((hin x).mpr (Or.inr h4)))
      · exact Or.inr (Or.inr h4)
  · rw [e1a]
    rcases (hin x).mp hx with e | h4
    · rw [e, e1, xup_s]
      omega
    · have h5 : x ≠ o := fun e => (f2.2.2.2 x h4).2 (by rw [e]; exact ho)
      rw [e1, xup_n _ _ h5]
      exact hmin x h4
theorem Fl_end {h : Int → Int} {M : xMem} {q : Int → Prop} (hF : Fl h M q) (hq : ∀ x, ¬ q x) (hn : M 9 1 ≤ 0) : LvOk h (M 1) := by
  obtain ⟨f0, f1, f2, f3, f4, f5⟩ := hF
  intro c hc
  have h0 : cl 0 := by unfold cl; omega
  have hm := Cn_ind (P := fun _ => True) (fun x => M 3 x ≠ 0) (grid (fun _ _ => trivial) h0 hc) (f3 0 h0 (by unfold bord; omega)) (fun x y hx _ _ hxy => by
    rcases f5 x y hxy hx with h4 | ⟨j, j0, j1, _⟩ | h4
    · exact h4
    · omega
    · exact absurd h4 (hq x))
  exact f4 c hc hm
theorem Fl_pop {h : Int → Int} {M M' : xMem} {q : Int → Prop} {r : Int} (hF : Fl h M q) (hq : ∀ x, ¬ q x) (p1 : ∀ k, k ≠ 2 → k ≠ 9 → M' k = M k) (p2 : M' 9 0 = M 9 0) (p3 : M' 9 1 = M 9 1 - 1) (hn : 0 < M 9 1) (p4 : HO (M 1) (M' 2) (M 9 1 - 1)) (p5 : inH (M 2) (M 9 1) r) (p6 : ∀ x, inH (M 2) (M 9 1) x → ¬ lwr (M 1) x r) (p7 : ∀ x, (x = r ∨ inH (M' 2) (M 9 1 - 1) x) ↔ inH (M 2) (M 9 1) x) :
    Fl h M' (fun x => x = r) ∧ cl r ∧ M' 3 r ≠ 0 ∧ ∀ x, inH (M' 2) (M' 9 1) x → M' 1 r ≤ M' 1 x := by
  obtain ⟨f0, f1, f2, f3, f4, f5⟩ := hF
  have e0 : M' 0 = M 0 := p1 0 (by decide) (by decide)
  have e1 : M' 1 = M 1 := p1 1 (by decide) (by decide)
  have e3 : M' 3 = M 3 := p1 3 (by decide) (by decide)
  have hr := f2.2.2.2 r p5
  refine ⟨⟨e0.trans f0, p2.trans f1, ⟨?_, ?_, ?_, ?_⟩, ?_, ?_, ?_⟩, hr.1, by rw [e3]; exact hr.2, ?_⟩
  · omega
  · rw [e3, p3]
    have := f2.2.1
    omega
  · rw [e1, p3]
    exact p4
  · intro x hx
    rw [p3] at hx
    rw [e3]
    exact f2.2.2.2 x ((p7 x).mp (Or.inr hx))
  · rw [e3]
    exact f3
  · rw [e3, e1]
    exact f4
  · rw [e3, p3]
    intro x y hxy hx
    rcases f5 x y hxy hx with h4 | h4 | h4
    · exact Or.inl h4
    · rcases (p7 x).mpr h4 with h5 | h5
      · exact Or.inr (Or.inr h5)
      · exact Or.inr (Or.inl h5)
    · exact absurd h4 (hq x)
  · intro x hx
    rw [p3] at hx
    rw [e1]
    exact lwr_le (p6 x ((p7 x).mp (Or.inr hx)))
theorem mt_prepare (M : xMem) (hI : inv0 M) : xMet kX0 mX0_prepare 3 true M [] (fun _ M' => M' 0 = M 0 ∧ M' 9 0 = 1 ∧ LvOk (M 0) (M' 1)) := by
  refine xMet_of kX0_ok oX0_prepare rfl (Nat.le_of_ble_eq_true rfl) (fun hM hz => ?_)
  have hh := hI.1
  refine xgo 4 rfl ?_
  refine xbr rfl (fun h => ?_) (fun h => ?_)
  rotate_left
  · rcases hI.2 with q | q
    · exact absurd q h
    · exact xretv rfl rfl ⟨rfl, q.1, q.2⟩
  clear h
  refine xgc 20 rfl (Or.inr rfl) ?_
  refine xloop2 (J := fun (i : Int) (M' : xMem) => xV kX0 mX0_prepare 3 _ M' 20 [some (.inr (.inr none)), some (.inl i), none, none] []) (fun i M' => 0 ≤ i ∧ i ≤ 64 ∧ M' 0 = M 0 ∧ M' 9 0 = 1 ∧ M' 9 1 = 0 ∧ ∀ c, 0 ≤ c → c < i → M' 3 c = 0) (fun i _ => (64 - i).toNat) ?_ 0 _ ⟨by omega, by omega, rfl, rfl, rfl, fun c h1 h2 => by omega⟩
  intro i M1 ⟨h1, h2, h3, h4, h5, h6⟩ ih
  refine xgo 23 rfl ?_
  refine xbr rfl (fun h => ?_) (fun h => ?_)
  rotate_left
  · refine xgc 20 rfl (by omega) ?_
    refine ih (i + 1) _ ⟨by omega, by omega, h3, h4, h5, fun c c1 c2 => ?_⟩ (by omega)
    rw [xset_s]
    by_cases e : c = i
    · rw [e, xup_s]
    · rw [xup_n _ _ e]
      exact h6 c c1 (by omega)
  have e : i = 64 := by omega
  subst e
  clear ih h1 h2 h
  refine xgo 41 rfl ?_
  refine xloop2 (J := fun (i : Int) (M' : xMem) => xV kX0 mX0_prepare 3 _ M' 41 [some (.inr (.inr none)), some (.inl i), none, none] []) (fun i M' => 0 ≤ i ∧ i ≤ 64 ∧ M' 0 = M 0 ∧ M' 9 0 = 1 ∧ FH M' ∧ (∀ c, cl c → i ≤ c → M' 3 c = 0) ∧ (∀ c, cl c → c < i → bord c → M' 3 c ≠ 0) ∧ (∀ c, cl c → M' 3 c ≠ 0 → inH (M' 2) (M' 9 1) c) ∧ ∀ c, cl c → M' 3 c ≠ 0 → ∀ v, M' 1 c ≤ v ↔ flood (M 0) v c) (fun i _ => (64 - i).toNat) ?_ 0 M1 ⟨by omega, by omega, h3, h4, ⟨by omega, by omega, fun j j0 j1 => by omega, fun x ⟨j, j0, j1, _⟩ => by omega⟩, fun c hc _ => h6 c hc.1 hc.2, fun c hc c2 => by have := hc.1; omega, fun c hc c2 => absurd (h6 c hc.1 hc.2) c2, fun c hc c2 => absurd (h6 c hc.1 hc.2) c2⟩
  clear h3 h4 h5 h6
  intro i M2 ⟨h1, h2, h3, h4, h5, h6, h7, h8, h9⟩ ih
  refine xgo 44 rfl ?_
  refine xbr rfl (fun h => ?_) (fun h => ?_)
  rotate_left
  · have hc : cl i := ⟨h1, h⟩
    refine xgo 48 rfl ?_
    refine xcalls (mt_border M2 i hc) rfl rfl lX0_border rfl rfl rfl (fun r M' hp => ?_)
    obtain ⟨rfl, hr⟩ := hp
    refine xbr rfl (fun g => ?_) (fun g => ?_)
    · have hb : ¬ bord i := by
        rcases hr with ⟨-, q⟩ | ⟨q, -⟩
        · omega
        · exact q
      refine xgc 41 rfl (by omega) ?_
      refine ih (i + 1) _ ⟨by omega, by omega, h3, h4, h5, fun c hc c1 => h6 c hc (by omega), fun c hc c1 c2 => ?_, h8, h9⟩ (by omega)
      by_cases e : c = i
      · rw [e] at c2
        exact absurd c2 hb
      · exact h7 c hc (by omega) c2
    · have hb : bord i := by
        rcases hr with ⟨q, -⟩ | ⟨-, q⟩
        · exact q
        · exact absurd q g
      refine xgo 57 rfl ?_
      refine xcallv (mt_meet M2 i 0 hc (h6 i hc (Int.le_refl _)) h5) rfl rfl lX0_meet rfl rfl rfl (fun M' hp => ?_)
      obtain ⟨p1, p2, p3, p4, ⟨w, p5, p6⟩, p7, p8⟩ := hp
      refine xgc 41 rfl (by omega) ?_
      have hi0 := (hh i hc).1
      rw [h3] at p5
      refine ih (i + 1) _ ⟨by omega, by omega, p1.trans h3, p2.trans h4, p7, fun c hc c1 => ?_, fun c hc c1 c2 => ?_, fun c hc c1 => ?_, fun c hc c1 v => ?_⟩ (by omega)
      · rw [p4, xup_n _ _ (by omega)]
        exact h6 c hc (by omega)
      · rw [p4]
        by_cases e : c = i
        · rw [e, xup_s]; decide
        · rw [xup_n _ _ e]
          exact h7 c hc (by omega) c2
      · rw [p8]
        by_cases e : c = i
        · exact Or.inl e
        · rw [p4, xup_n _ _ e] at c1
          exact Or.inr (h8 c hc c1)
      · by_cases e : c = i
        · subst e
          rw [p6, xup_s]
          constructor
          · intro q
            refine ⟨c, hc, hb, Cn_r ?_⟩
            show M 0 c ≤ v
            omega
          · intro ⟨b, b1, b2, b3⟩
            have q := Cn_P b3
            have q : M 0 c ≤ v := q
            omega
        · rw [p4, xup_n _ _ e] at c1
          rw [p6, xup_n _ _ e]
          exact h9 c hc c1 v
  have e : i = 64 := by omega
  subst e
  have hF0 : Fl (M 0) M2 (fun _ => False) := ⟨h3, h4, h5, fun c hc hb => h7 c hc hc.2 hb, h9, fun x y hxy hx => Or.inr (Or.inl (h8 x hxy.1 hx))⟩
  clear ih h1 h2 h h3 h4 h5 h6 h7 h8 h9
  refine xgo 66 rfl (xfg 1 ?_)
  refine xloop1 (J := fun (M' : xMem) => xV kX0 mX0_prepare 3 _ M' 66 [some (.inr (.inr none)), none, none, none] []) (fun M' => Fl (M 0) M' (fun _ => False)) (fun M' => (2 * (64 - (cnt (fun c => M' 3 c ≠ 0) 64 : Int)) + M' 9 1).toNat) ?_ M2 hF0
  clear hF0
  intro M3 hF ih
  have hF2 := hF.2.2.1
  have hc64 := cnt_le (fun c => M3 3 c ≠ 0) 64
  have hb1 := hF2.1
  have hb2 := hF2.2.1
  refine xgo 70 rfl ?_
  refine xbr rfl (fun h => ?_) (fun h => ?_)
  · exact xretv rfl rfl ⟨hF.1, hF.2.1, Fl_end hF (fun _ q => q) h⟩
  refine xgo 74 rfl ?_
  refine xcall (mt_pop M3 h (by omega) (HC_of (fun x hx => (hF2.2.2.2 x hx).1)) hF2.2.2.1) rfl rfl lX0_pop rfl rfl rfl (fun r M4 hp => ?_)
  obtain ⟨p1, p2, p3, p4, p5, p6, p7⟩ := hp
  obtain ⟨g1, g2, g3, g4⟩ := Fl_pop hF (fun _ q => q) p1 p2 p3 h p4 p5 p6 p7
  have e3 : M4 3 = M3 3 := p1 3 (by decide) (by decide)
  refine xgo 80 rfl ?_
  refine xloop2 (J := fun (d : Int) (M' : xMem) => xV kX0 mX0_prepare 3 _ M' 80 [some (.inr (.inr none)), some (.inl r), some (.inl d), none] []) (fun d M' => 0 ≤ d ∧ d ≤ 4 ∧ Fl (M 0) M' (fun x => x = r) ∧ M' 3 r ≠ 0 ∧ (∀ x, inH (M' 2) (M' 9 1) x → M' 1 r ≤ M' 1 x) ∧ (∀ d', 0 ≤ d' → d' < d → 0 ≤ nbF r d' → M' 3 (nbF r d') ≠ 0) ∧ 2 * (64 - (cnt (fun c => M' 3 c ≠ 0) 64 : Int)) + M' 9 1 < 2 * (64 - (cnt (fun c => M3 3 c ≠ 0) 64 : Int)) + M3 9 1) (fun d _ => (4 - d).toNat) ?_ 0 M4 ⟨by omega, by omega, g1, g3, g4, fun d' d1 d2 => by omega, by rw [e3]; omega⟩
  clear g1 g3 g4 p1 p2 p3 p4 p5 p6 p7 e3
  intro d M5 ⟨h1, h2, h3, h4, h5, h6, h7⟩ ih2
  have hc64' := cnt_le (fun c => M5 3 c ≠ 0) 64
  have hb1' := h3.2.2.1.1
  refine xgo 82 rfl ?_
  refine xbr rfl (fun g => ?_) (fun g => ?_)
  · refine xgo 66 rfl (xfg 1 (xfg 2 ?_))
    refine ih M5 ⟨h3.1, h3.2.1, h3.2.2.1, h3.2.2.2.1, h3.2.2.2.2.1, fun x y hxy hx => ?_⟩ (by omega)
    rcases h3.2.2.2.2.2 x y hxy hx with q | q | q
    · exact Or.inl q
    · exact Or.inr (Or.inl q)
    · have q : x = r := q
      rw [q] at hxy
      obtain ⟨d', d1, d2, d3⟩ := adj_nb hxy
      have := h6 d' d1 (by omega) (by rw [d3]; exact hxy.2.1.1)
      rw [d3] at this
      exact Or.inl this
  refine xgo 87 rfl ?_
  refine xcalls (mt_neighbour M5 r d g2) rfl rfl lX0_neighbour rfl rfl rfl (fun o M' hp => ?_)
  obtain ⟨rfl, ho⟩ := hp
  have hlo := nb_lo (d := d) g2
  rw [← ho] at hlo
  have g2b := g2
  unfold cl at g2b
  refine xgo 92 rfl ?_
  refine xbr rfl (fun k => ?_) (fun k => ?_)
  · refine xgc 80 rfl (by omega) (xfg 3 ?_)
    refine ih2 (d + 1) M5 ⟨by omega, by omega, h3, h4, h5, fun d' d1 d2 d3 => ?_, h7⟩ (by omega)
    by_cases e : d' = d
    · rw [e, ← ho] at d3
      omega
    · exact h6 d' d1 (by omega) d3
  refine xgc 101 rfl (by omega) ?_
  refine xbr rfl (fun k2 => ?_) (fun k2 => ?_)
  · refine xgc 80 rfl (by omega) (xfg 3 ?_)
    refine ih2 (d + 1) M5 ⟨by omega, by omega, h3, h4, h5, fun d' d1 d2 d3 => ?_, h7⟩ (by omega)
    by_cases e : d' = d
    · rw [e, ← ho]
      exact k2
    · exact h6 d' d1 (by omega) d3
  · have hao : adj r o := by
      rw [ho]
      exact nb_adj g2 (by rw [← ho]; exact k)
    refine xgc 112 rfl (by omega) ?_
    refine xcallv (mt_meet M5 o (M5 1 r) hao.2.1 k2 h3.2.2.1) rfl rfl lX0_meet rfl rfl rfl (fun M' hp => ?_)
    obtain ⟨p1, p2, p3, p4, ⟨w, p5, p6⟩, p7, p8⟩ := hp
    obtain ⟨q1, q2, q3, q4, q5⟩ := Fl_meet h3 g2 h4 h5 hao k2 p1 p2 p4 p5 p6 p7 p8
    refine xgc 80 rfl (by omega) (xfg 3 ?_)
    refine ih2 (d + 1) M' ⟨by omega, by omega, q1, q3 r h4, q5, fun d' d1 d2 d3 => ?_, ?_⟩ (by omega)
    · by_cases e : d' = d
      · rw [e, ← ho]
        exact q4
      · exact q3 _ (h6 d' d1 (by omega) d3)
    · rw [p4, cnt_met hao.2.1 k2, p3]
      omega
theorem mt_level (M : xMem) (c : Int) (hI : inv0 M) : xMet kX0 mX0_level 4 true M [c] (fun r M' => M' 0 = M 0 ∧ lvP (M 0) c r ∧ inv0 M') := by
  refine xMet_of kX0_ok oX0_level rfl (Nat.le_of_ble_eq_true rfl) (fun hM hz => ?_)
  refine xgo 1 rfl ?_
  refine xcalls (mt_bad M c) rfl rfl lX0_bad rfl rfl rfl (fun r M' hp => ?_)
  obtain ⟨rfl, hr⟩ := hp
  refine xbr rfl (fun h => ?_) (fun h => ?_)
  · have hc : cl c := by unfold cl; omega
    have hc2 := hc
    unfold cl at hc2
    refine xgo 10 rfl ?_
    refine xcallv (mt_prepare M hI) rfl rfl lX0_prepare rfl rfl rfl (fun M' hp => ?_)
    obtain ⟨p1, p2, p3⟩ := hp
    refine xgc 19 rfl (by omega) ?_
    exact xret rfl rfl ⟨p1, Or.inr ⟨hc, p3 c hc⟩, by unfold inv0; rw [p1]; exact ⟨hI.1, Or.inr ⟨p2, p3⟩⟩⟩
  · refine xgo 8 rfl ?_
    exact xret rfl rfl ⟨rfl, Or.inl ⟨by unfold cl; omega, rfl⟩, hI⟩
theorem mt_volume (M : xMem) (hI : inv0 M) : xMet kX0 mX0_volume 4 true M [] (fun r M' => M' 0 = M 0 ∧ volP (M 0) r ∧ inv0 M') := by
  refine xMet_of kX0_ok oX0_volume rfl (Nat.le_of_ble_eq_true rfl) (fun hM hz => ?_)
  have hh := hI.1
  refine xgo 1 rfl ?_
  refine xcallv (mt_prepare M hI) rfl rfl lX0_prepare rfl rfl rfl (fun M1 hp => ?_)
  obtain ⟨p1, p2, p3⟩ := hp
  refine xgo 8 rfl ?_
  refine xloop2 (J := fun (n i : Int) => xV kX0 mX0_volume 4 _ M1 8 [some (.inr (.inr none)), some (.inl n), some (.inl i)] []) (fun n i => 0 ≤ i ∧ i ≤ 64 ∧ n = sm (fun c => M1 1 c - M 0 c) i.toNat) (fun _ i => (64 - i).toNat) ?_ 0 0 ⟨by omega, by omega, rfl⟩
  intro n i ⟨h1, h2, h3⟩ ih
  have hb := sm_in (f := fun c => M1 1 c - M 0 c) i.toNat (fun j j1 j2 => by
    have hj : cl j := ⟨j1, by omega⟩
    have a1 := Lv_in hh p3 hj
    have a2 := hh j hj
    show 0 ≤ M1 1 j - M 0 j ∧ M1 1 j - M 0 j ≤ 100
    omega)
  refine xgo 11 rfl ?_
  refine xbr rfl (fun h => ?_) (fun h => ?_)
  · have e : i = 64 := by omega
    subst e
    refine xgo 37 rfl ?_
    exact xret rfl rfl ⟨p1, ⟨_, p3, h3⟩, by unfold inv0; rw [p1]; exact ⟨hI.1, Or.inr ⟨p2, p3⟩⟩⟩
  · have hc : cl i := ⟨h1, h⟩
    have a1 := Lv_in hh p3 hc
    have a2 := hh i hc
    rw [← p1] at a1 a2
    rw [← h3] at hb
    refine xgc 8 rfl (by omega) ?_
    refine ih _ (i + 1) ⟨by omega, by omega, ?_⟩ (by omega)
    rw [sm_i h1, ← h3, p1]
end
section
set_option maxRecDepth 100000
/-! walks over patches: walkLake, lakes, lakeSize, summitAt, summits -/
/-- a walk from a over cells of the kind P: m0 marks before it, m now; q its queue of n cells -/
def Wk (P : Int → Prop) (a : Int) (m0 m q : Int → Int) (n : Int) : Prop := 1 ≤ n ∧ q 0 = a ∧ (∀ j, 0 ≤ j → j < n → Cn P a (q j)) ∧ (∀ x, m x ≠ 0 ↔ m0 x ≠ 0 ∨ inH q n x) ∧ n = (cnt (inH q n) 64 : Nat)
theorem cnt_0 : ∀ n : Nat, cnt (fun _ => False) n = 0
  | 0 => rfl
  | n + 1 => by
    rw [cnt_n (fun h => h)]
    exact cnt_0 n
theorem Wk_0 {P : Int → Prop} {a : Int} {m0 q : Int → Int} (ha : cl a) (hP : P a) : Wk P a m0 (xup m0 a 1) (xup q 0 a) 1 := by
  have h1 : ∀ x, inH (xup q 0 a) 1 x ↔ x = a := by
    intro x
    constructor
    · intro ⟨j, j0, j1, j2⟩
      have e : j = 0 := by omega
      rw [e, xup_s] at j2
      exact j2.symm
    · intro e
      exact ⟨0, by omega, by omega, by rw [xup_s, e]⟩
  refine ⟨by omega, xup_s _ _ _, fun j j0 j1 => ?_, fun x => ?_, ?_⟩
  · have e : j = 0 := by omega
    rw [e, xup_s]
    exact Cn_r hP
  · rw [h1 x]
    by_cases e : x = a
    · rw [e, xup_s]
      exact ⟨fun _ => Or.inr rfl, fun _ => by decide⟩
    · rw [xup_n _ _ e]
      exact ⟨fun h => Or.inl h, fun h => h.elim (fun h => h) (fun h => absurd h e)⟩
  · have := cnt_add (X := fun _ => False) (Y := inH (xup q 0 a) 1) (a := a) 64 ha.1 ha.2 (fun h => h) ((h1 a).mpr rfl) (fun i _ _ hi => ⟨fun h => h.elim, fun h => hi ((h1 i).mp h)⟩)
    rw [this, cnt_0]
    rfl
theorem Wk_n {P : Int → Prop} {a : Int} {m0 m q : Int → Int} {n : Int} (h : Wk P a m0 m q n) : n ≤ 64 := by
  have h1 := h.2.2.2.2
  have h2 := cnt_le (inH q n) 64
  omega
theorem Wk_s {P : Int → Prop} {a : Int} {m0 m q : Int → Int} {n i o : Int} (h : Wk P a m0 m q n) (h0 : 0 ≤ i) (h1 : i < n) (ho : adj (q i) o) (hP : P o) (hm : m o = 0) : n < 64 ∧ Wk P a m0 (xup m o 1) (xup q n o) (n + 1) := by
  obtain ⟨w1, w2, w3, w4, w5⟩ := h
  have hio : ∀ x, inH (xup q n o) (n + 1) x ↔ x = o ∨ inH q n x := by
    intro x
    constructor
    · intro ⟨j, j0, j1, j2⟩
      by_cases e : j = n
      · rw [e, xup_s] at j2
        exact Or.inl j2.symm
      · rw [xup_n _ _ e] at j2
        exact Or.inr ⟨j, j0, by omega, j2⟩
    · intro h
      rcases h with h | ⟨j, j0, j1, j2⟩
      · exact ⟨n, by omega, by omega, by rw [xup_s, h]⟩
      · exact ⟨j, j0, by omega, by rw [xup_n _ _ (by omega), j2]⟩
  have hno : ¬ inH q n o := fun h => (w4 o).mpr (Or.inr h) hm
  have hc := cnt_add (X := inH q n) (Y := inH (xup q n o) (n + 1)) (a := o) 64 ho.2.1.1 ho.2.1.2 hno ((hio o).mpr (Or.inl rfl)) (fun x _ _ hx => by
    rw [hio x]
    exact ⟨fun h => Or.inr h, fun h => h.elim (fun h => absurd h hx) (fun h => h)⟩)
  have hl := cnt_le (inH (xup q n o) (n + 1)) 64
  refine ⟨by omega, by omega, ?_, fun j j0 j1 => ?_, fun x => ?_, ?_⟩
  · rw [xup_n _ _ (by omega)]
    exact w2
  · by_cases e : j = n
    · rw [e, xup_s]
      exact Cn_1 (w3 i h0 h1) ho hP
    · rw [xup_n _ _ e]
      exact w3 j j0 (by omega)
  · rw [hio x]
    by_cases e : x = o
    · rw [e, xup_s]
      exact ⟨fun _ => Or.inr (Or.inl rfl), fun _ => by decide⟩
    · rw [xup_n _ _ e, w4 x]
      constructor
      · intro h
        rcases h with h | h
        · exact Or.inl h
        · exact Or.inr (Or.inr h)
      · intro h
        rcases h with h | h | h
        · exact Or.inl h
        · exact absurd h e
        · exact Or.inr h
  · rw [hc]
    omega
theorem Wk_e {P : Int → Prop} {a : Int} {m0 m q : Int → Int} {n : Int} (h : Wk P a m0 m q n) (hf : ∀ x, Cn P a x → m0 x = 0) (hc : ∀ j, 0 ≤ j → j < n → ∀ y, adj (q j) y → P y → m y ≠ 0) : (∀ x, inH q n x ↔ Cn P a x) ∧ n = (cnt (Cn P a) 64 : Nat) ∧ ∀ x, m x ≠ 0 ↔ m0 x ≠ 0 ∨ Cn P a x := by
  obtain ⟨w1, w2, w3, w4, w5⟩ := h
  have key : ∀ x, inH q n x ↔ Cn P a x := by
    intro x
    constructor
    · intro ⟨j, j0, j1, j2⟩
      rw [← j2]
      exact w3 j j0 j1
    · intro hx
      refine Cn_ind (inH q n) hx ⟨0, by omega, by omega, w2⟩ (fun u y hu _ hy huy => ?_)
      obtain ⟨j, j0, j1, j2⟩ := hu
      have h1 := hc j j0 j1 y (by rw [j2]; exact huy) hy
      rcases (w4 y).mp h1 with h2 | h2
      · have h3 := w3 j j0 j1
        rw [j2] at h3
        exact absurd (hf y (Cn_1 h3 huy hy)) h2
      · exact h2
  refine ⟨key, ?_, fun x => by rw [w4 x, key x]⟩
  rw [w5]
  have : cnt (inH q n) 64 = cnt (Cn P a) 64 := cnt_congr 64 (fun x _ _ => key x)
  omega
theorem mt_walkLake (M : xMem) (h lv : Int → Int) (e0 : M 0 = h) (e1 : M 1 = lv) (a : Int) (ha : cl a) (hP : h a < lv a) (hf : ∀ x, Cn (fun x => h x < lv x) a x → M 3 x = 0) : xMet kX0 mX0_walkLake 1 true M [a] (fun r M' => (∀ k, k ≠ 3 → k ≠ 8 → M' k = M k) ∧ r = (cnt (Cn (fun x => h x < lv x) a) 64 : Nat) ∧ ∀ x, M' 3 x ≠ 0 ↔ M 3 x ≠ 0 ∨ Cn (fun x => h x < lv x) a x) := by
  refine xMet_of kX0_ok oX0_walkLake rfl (Nat.le_of_ble_eq_true rfl) (fun hM hz => ?_)
  have ha2 := ha
  unfold cl at ha2
  refine xgc 18 rfl (by omega) ?_
  refine xloop3 (J := fun (n i : Int) (M' : xMem) => xV kX0 mX0_walkLake 1 _ M' 18 [some (.inr (.inr none)), some (.inl a), some (.inl n), some (.inl i), none, none] []) (fun n i M' => 0 ≤ i ∧ i ≤ n ∧ Wk (fun x => h x < lv x) a (M 3) (M' 3) (M' 8) n ∧ (∀ k, k ≠ 3 → k ≠ 8 → M' k = M k) ∧ ∀ j, 0 ≤ j → j < i → ∀ y, adj (M' 8 j) y → h y < lv y → M' 3 y ≠ 0) (fun _ i _ => (64 - i).toNat) ?_ 1 0 _ ⟨by omega, by omega, Wk_0 ha hP, fun k k1 k2 => (xset_n _ _ _ k2).trans (xset_n _ _ _ k1), fun j j0 j1 => by omega⟩
  intro n i M1 ⟨h1, h2, h3, h4, h5⟩ ih
  have hn := Wk_n h3
  refine xgo 20 rfl ?_
  refine xbr rfl (fun g => ?_) (fun g => ?_)
  · refine xgo 109 rfl ?_
    obtain ⟨q1, q2, q3⟩ := Wk_e h3 hf (fun j j0 j1 => h5 j j0 (by omega))
    exact xret rfl rfl ⟨h4, q2, q3⟩
  refine xgo 26 rfl ?_
  refine xloop3 (J := fun (n d : Int) (M' : xMem) => xV kX0 mX0_walkLake 1 _ M' 26 [some (.inr (.inr none)), some (.inl a), some (.inl n), some (.inl i), some (.inl d), none] []) (fun n d M' => 0 ≤ d ∧ d ≤ 4 ∧ i < n ∧ Wk (fun x => h x < lv x) a (M 3) (M' 3) (M' 8) n ∧ (∀ k, k ≠ 3 → k ≠ 8 → M' k = M k) ∧ (∀ j, 0 ≤ j → j < i → ∀ y, adj (M' 8 j) y → h y < lv y → M' 3 y ≠ 0) ∧ ∀ d', 0 ≤ d' → d' < d → 0 ≤ nbF (M' 8 i) d' → h (nbF (M' 8 i) d') < lv (nbF (M' 8 i) d') → M' 3 (nbF (M' 8 i) d') ≠ 0) (fun _ d _ => (4 - d).toNat) ?_ n 0 M1 ⟨by omega, by omega, g, h3, h4, h5, fun d' d1 d2 => by omega⟩
  clear h2 h3 h4 h5 hn g
  intro n d M2 ⟨g1, g2, g3, g4, g5, g6, g7⟩ ih2
  have hn := Wk_n g4
  refine xgo 29 rfl ?_
  refine xbr rfl (fun k => ?_) (fun k => ?_)
  · refine xgc 18 rfl (by omega) (xfg 4 ?_)
    refine ih n (i + 1) M2 ⟨by omega, by omega, g4, g5, fun j j0 j1 y hy hPy => ?_⟩ (by omega)
    by_cases e : j = i
    · rw [e] at hy
      obtain ⟨d', d1, d2, d3⟩ := adj_nb hy
      have := g7 d' d1 (by omega) (by rw [d3]; exact hy.2.1.1) (by rw [d3]; exact hPy)
      rw [d3] at this
      exact this
    · exact g6 j j0 (by omega) y hy hPy
  have hcq : cl (M2 8 i) := Cn_cl ha (g4.2.2.1 i h1 g3)
  refine xgc 40 rfl (by omega) ?_
  refine xcalls (mt_neighbour M2 (M2 8 i) d hcq) rfl rfl lX0_neighbour rfl rfl rfl (fun o M' hp => ?_)
  obtain ⟨rfl, ho⟩ := hp
  have hlo := nb_lo (d := d) hcq
  rw [← ho] at hlo
  have hskip : (0 ≤ o → h o < lv o → M2 3 o ≠ 0) → ∀ d', 0 ≤ d' → d' < d + 1 → 0 ≤ nbF (M2 8 i) d' → h (nbF (M2 8 i) d') < lv (nbF (M2 8 i) d') → M2 3 (nbF (M2 8 i) d') ≠ 0 := by
    intro hs d' d1 d2 d3 d4
    by_cases e : d' = d
    · rw [e, ← ho] at d3 d4 ⊢
      exact hs d3 d4
    · exact g7 d' d1 (by omega) d3 d4
  refine xgo 47 rfl ?_
  refine xbr rfl (fun k1 => ?_) (fun k1 => ?_)
  · refine xgc 26 rfl (by omega) (xfg 5 ?_)
    exact ih2 n (d + 1) M2 ⟨by omega, by omega, g3, g4, g5, g6, hskip (fun q => by omega)⟩ (by omega)
  refine xgc 57 rfl (by omega) ?_
  refine xbr rfl (fun k2 => ?_) (fun k2 => ?_)
  · refine xgc 26 rfl (by omega) (xfg 5 ?_)
    exact ih2 n (d + 1) M2 ⟨by omega, by omega, g3, g4, g5, g6, hskip (fun _ _ => k2)⟩ (by omega)
  refine xgc 74 rfl (by omega) ?_
  rw [g5 0 (by decide) (by decide), g5 1 (by decide) (by decide), e0, e1]
  refine xbr rfl (fun k3 => ?_) (fun k3 => ?_)
  · refine xgc 26 rfl (by omega) (xfg 5 ?_)
    exact ih2 n (d + 1) M2 ⟨by omega, by omega, g3, g4, g5, g6, hskip (fun _ q => by omega)⟩ (by omega)
  have hao : adj (M2 8 i) o := by
    rw [ho]
    exact nb_adj hcq (by rw [← ho]; exact k1)
  obtain ⟨w1, w2⟩ := Wk_s g4 h1 g3 hao k3 k2
  have hn1 := g4.1
  refine xgc 26 rfl (by omega) (xfg 5 ?_)
  have hmono : ∀ x, M2 3 x ≠ 0 → xup (M2 3) o 1 x ≠ 0 := by
    intro x hx
    by_cases e : x = o
    · rw [e, xup_s]; decide
    · rw [xup_n _ _ e]; exact hx
  have hq : ∀ j, j < n → xup (M2 8) n o j = M2 8 j := fun j hj => xup_n _ _ (by omega)
  refine ih2 (n + 1) (d + 1) _ ⟨by omega, by omega, by omega, w2, fun k k1 k2 => ?_, fun j j0 j1 y hy hPy => ?_, fun d' d1 d2 d3 d4 => ?_⟩ (by omega)
  · exact (xset_n _ _ _ k2).trans ((xset_n _ _ _ k1).trans (g5 k k1 k2))
  · have hy : adj (xup (M2 8) n o j) y := hy
    rw [hq j (by omega)] at hy
    exact hmono y (g6 j j0 j1 y hy hPy)
  · have d3 : 0 ≤ nbF (xup (M2 8) n o i) d' := d3
    have d4 : h (nbF (xup (M2 8) n o i) d') < lv (nbF (xup (M2 8) n o i) d') := d4
    show xup (M2 3) o 1 (nbF (xup (M2 8) n o i) d') ≠ 0
    rw [hq i g3] at d3 d4 ⊢
    by_cases e : d' = d
    · rw [e, ← ho, xup_s]; decide
    · exact hmono _ (g7 d' d1 (by omega) d3 d4)
theorem Cn_wet {h lv : Int → Int} (hl : LvOk h lv) {a x : Int} (ha : cl a) : Cn (fun x => h x < lv x) a x ↔ Cn (wet h) a x :=
  ⟨fun q => Cn_m (fun y hy h1 => (wet_iff hl hy).mpr h1) ha q, fun q => Cn_m (fun y hy h1 => (wet_iff hl hy).mp h1) ha q⟩
theorem inv0_of {M M' : xMem} (hI : inv0 M) (e0 : M' 0 = M 0) (e9 : M' 9 0 = 1) (hl : LvOk (M 0) (M' 1)) : inv0 M' := by
  unfold inv0
  rw [e0]
  exact ⟨hI.1, Or.inr ⟨e9, hl⟩⟩
theorem mt_lakes (M : xMem) (hI : inv0 M) : xMet kX0 mX0_lakes 4 true M [] (fun r M' => M' 0 = M 0 ∧ lkP (M 0) r ∧ inv0 M') := by
  refine xMet_of kX0_ok oX0_lakes rfl (Nat.le_of_ble_eq_true rfl) (fun hM hz => ?_)
  refine xgo 1 rfl ?_
  refine xcallv (mt_prepare M hI) rfl rfl lX0_prepare rfl rfl rfl (fun M1 hp => ?_)
  obtain ⟨p1, p2, p3⟩ := hp
  refine xgo 5 rfl ?_
  refine xcallv (mt_forget M1) rfl rfl lX0_forget rfl rfl rfl (fun M2 hp => ?_)
  obtain ⟨f1, f2⟩ := hp
  have a0 : M2 0 = M 0 := (f1 0 (by decide)).trans p1
  have a1 : M2 1 = M1 1 := f1 1 (by decide)
  have a9 : M2 9 0 = 1 := (congrFun (f1 9 (by decide)) 0).trans p2
  refine xgo 12 rfl ?_
  refine xloop3 (J := fun (n i : Int) (M' : xMem) => xV kX0 mX0_lakes 4 _ M' 12 [some (.inr (.inr none)), some (.inl n), some (.inl i)] []) (fun n i M' => 0 ≤ i ∧ i ≤ 64 ∧ n = (cnt (lkQ (M 0)) i.toNat : Nat) ∧ M' 0 = M 0 ∧ M' 1 = M1 1 ∧ M' 9 0 = 1 ∧ ∀ x, cl x → (M' 3 x ≠ 0 ↔ ∃ s, cl s ∧ s < i ∧ Cn (wet (M 0)) s x)) (fun _ i _ => (64 - i).toNat) ?_ 0 0 M2 ⟨by omega, by omega, rfl, a0, a1, a9, fun x hx => ⟨fun q => absurd (f2 x hx) q, fun ⟨s, s1, s2, _⟩ => by have := s1.1; omega⟩⟩
  clear a0 a1 a9 f1 f2
  intro n i M3 ⟨h1, h2, h3, h4, h5, h6, h7⟩ ih
  have hn : cnt (lkQ (M 0)) i.toNat ≤ i.toNat := cnt_le _ _
  refine xgo 15 rfl ?_
  refine xbr rfl (fun g => ?_) (fun g => ?_)
  · have e : i = 64 := by omega
    subst e
    refine xgo 58 rfl ?_
    exact xret rfl rfl ⟨h4, h3, inv0_of hI h4 h6 (by rw [h5]; exact p3)⟩
  have hc : cl i := ⟨h1, g⟩
  have hw := wet_iff p3 hc
  refine xgc 24 rfl (by omega) ?_
  refine xbr rfl (fun k => ?_) (fun k => ?_)
  · refine xgc 12 rfl (by omega) ?_
    obtain ⟨s, s1, s2, s3⟩ := (h7 i hc).mp k
    refine ih n (i + 1) M3 ⟨by omega, by omega, ?_, h4, h5, h6, fun x hx => ?_⟩ (by omega)
    · rw [cnt_ni h1 (fun hq => by have := hq.2 s s1 s3; omega)]
      exact h3
    · rw [h7 x hx]
      constructor
      · intro ⟨t, t1, t2, t3⟩
        exact ⟨t, t1, by omega, t3⟩
      · intro ⟨t, t1, t2, t3⟩
        by_cases e : t = i
        · rw [e] at t3
          exact ⟨s, s1, s2, Cn_t s3 t3⟩
        · exact ⟨t, t1, by omega, t3⟩
  refine xgc 39 rfl (by omega) ?_
  rw [h4, h5]
  refine xbr rfl (fun k2 => ?_) (fun k2 => ?_)
  · refine xgc 12 rfl (by omega) ?_
    have hnw : ¬ wet (M 0) i := fun q => by have := hw.mp q; omega
    refine ih n (i + 1) M3 ⟨by omega, by omega, ?_, h4, h5, h6, fun x hx => ?_⟩ (by omega)
    · rw [cnt_ni h1 (fun hq => hnw hq.1)]
      exact h3
    · rw [h7 x hx]
      constructor
      · intro ⟨t, t1, t2, t3⟩
        exact ⟨t, t1, by omega, t3⟩
      · intro ⟨t, t1, t2, t3⟩
        by_cases e : t = i
        · rw [e] at t3
          exact absurd t3.1 hnw
        · exact ⟨t, t1, by omega, t3⟩
  have hwi := hw.mpr k2
  have hfree : ∀ x, Cn (fun x => M 0 x < M1 1 x) i x → M3 3 x = 0 := by
    intro x hx
    have hx2 := (Cn_wet p3 hc).mp hx
    refine Classical.byContradiction (fun q => ?_)
    obtain ⟨s, s1, s2, s3⟩ := (h7 x (Cn_cl hc hx)).mp q
    exact (h7 i hc).mpr ⟨s, s1, s2, Cn_t s3 (Cn_s hx2)⟩ k
  refine xgo 44 rfl ?_
  refine xcall (mt_walkLake M3 (M 0) (M1 1) h4 h5 i hc k2 hfree) rfl rfl lX0_walkLake rfl rfl rfl (fun r M4 hp => ?_)
  obtain ⟨q1, q2, q3⟩ := hp
  refine xgc 12 rfl (by omega) ?_
  refine ih (n + 1) (i + 1) M4 ⟨by omega, by omega, ?_, (q1 0 (by decide) (by decide)).trans h4, (q1 1 (by decide) (by decide)).trans h5, (congrFun (q1 9 (by decide) (by decide)) 0).trans h6, fun x hx => ?_⟩ (by omega)
  · have hlk : lkQ (M 0) i := ⟨hwi, fun s s1 s2 => Classical.byContradiction (fun q => (h7 i hc).mpr ⟨s, s1, by omega, s2⟩ k)⟩
    rw [cnt_yi h1 hlk, h3]
    omega
  · rw [q3 x, h7 x hx, Cn_wet p3 hc]
    constructor
    · intro q
      rcases q with ⟨t, t1, t2, t3⟩ | q
      · exact ⟨t, t1, by omega, t3⟩
      · exact ⟨i, hc, by omega, q⟩
    · intro ⟨t, t1, t2, t3⟩
      by_cases e : t = i
      · rw [e] at t3
        exact Or.inr t3
      · exact Or.inl ⟨t, t1, by omega, t3⟩
theorem mt_lakeSize (M : xMem) (c : Int) (hI : inv0 M) : xMet kX0 mX0_lakeSize 4 true M [c] (fun r M' => M' 0 = M 0 ∧ lsP (M 0) c r ∧ inv0 M') := by
  refine xMet_of kX0_ok oX0_lakeSize rfl (Nat.le_of_ble_eq_true rfl) (fun hM hz => ?_)
  refine xgo 1 rfl ?_
  refine xcalls (mt_bad M c) rfl rfl lX0_bad rfl rfl rfl (fun r M' hp => ?_)
  obtain ⟨rfl, hr⟩ := hp
  refine xbr rfl (fun h => ?_) (fun h => ?_)
  rotate_left
  · refine xgo 8 rfl ?_
    exact xret rfl rfl ⟨rfl, Or.inl ⟨by unfold cl; omega, rfl⟩, hI⟩
  have hc : cl c := by unfold cl; omega
  have hc2 := hc
  unfold cl at hc2
  refine xgo 10 rfl ?_
  refine xcallv (mt_prepare M hI) rfl rfl lX0_prepare rfl rfl rfl (fun M1 hp => ?_)
  obtain ⟨p1, p2, p3⟩ := hp
  have hw := wet_iff p3 hc
  have hin := Lv_in hI.1 p3 hc
  refine xgc 25 rfl (by omega) ?_
  rw [p1]
  refine xbr rfl (fun k => ?_) (fun k => ?_)
  rotate_left
  · refine xgo 29 rfl ?_
    exact xret rfl rfl ⟨p1, Or.inr (Or.inl ⟨hc, fun q => by have := hw.mp q; omega, rfl⟩), inv0_of hI p1 p2 p3⟩
  refine xgo 31 rfl ?_
  refine xcallv (mt_forget M1) rfl rfl lX0_forget rfl rfl rfl (fun M2 hp => ?_)
  obtain ⟨f1, f2⟩ := hp
  have a0 : M2 0 = M 0 := (f1 0 (by decide)).trans p1
  have a1 : M2 1 = M1 1 := f1 1 (by decide)
  have a9 : M2 9 0 = 1 := (congrFun (f1 9 (by decide)) 0).trans p2
  have hlt : M 0 c < M1 1 c := by omega
  refine xgo 36 rfl ?_
  refine xcall (mt_walkLake M2 (M 0) (M1 1) a0 a1 c hc hlt (fun x hx => f2 x (Cn_cl hc hx))) rfl rfl lX0_walkLake rfl rfl rfl (fun r M3 hp => ?_)
  obtain ⟨q1, q2, q3⟩ := hp
  have b0 : M3 0 = M 0 := (q1 0 (by decide) (by decide)).trans a0
  have b1 : M3 1 = M1 1 := (q1 1 (by decide) (by decide)).trans a1
  have b9 : M3 9 0 = 1 := (congrFun (q1 9 (by decide) (by decide)) 0).trans a9
  refine xret rfl rfl ⟨b0, Or.inr (Or.inr ⟨hc, hw.mpr hlt, ?_⟩), inv0_of hI b0 b9 (by rw [b1]; exact p3)⟩
  rw [q2, cnt_congr 64 (fun x _ _ => Cn_wet p3 hc)]
end
section
set_option maxRecDepth 100000
/-! flat patches: summitAt, summits -/
theorem Cn_alk {h : Int → Int} {a x : Int} : Cn (fun z => h z = h a) a x ↔ eqc (alk h) a x := by
  constructor
  · intro q
    exact eqc_m (fun u v huv => eqc_1 ⟨huv.1, huv.2.1.trans huv.2.2.symm⟩) q.2
  · intro q
    have key := q (fun u v => h u = h v ∧ eqc (adP (fun z => h z = h u)) u v) (fun u => ⟨rfl, eqc_r u⟩) (fun u v huv => ⟨huv.1.symm, by rw [← huv.1]; exact eqc_s huv.2⟩) (fun u v w huv hvw => ⟨huv.1.trans hvw.1, eqc_t huv.2 (by rw [huv.1]; exact hvw.2)⟩) (fun u v huv => ⟨huv.2, eqc_1 ⟨huv.1, rfl, huv.2.symm⟩⟩)
    exact ⟨rfl, key.2⟩
theorem mt_summitAt (M : xMem) (h : Int → Int) (e0 : M 0 = h) (a : Int) (ha : cl a) (hf : ∀ x, Cn (fun x => h x = h a) a x → M 3 x = 0) : xMet kX0 mX0_summitAt 1 true M [a] (fun r M' => (∀ k, k ≠ 3 → k ≠ 8 → M' k = M k) ∧ (r = 1 ∧ (∀ s, Cn (fun x => h x = h a) a s → ¬ hasHi h s) ∨ r = 0 ∧ ∃ s, Cn (fun x => h x = h a) a s ∧ hasHi h s) ∧ ∀ x, M' 3 x ≠ 0 ↔ M 3 x ≠ 0 ∨ Cn (fun x => h x = h a) a x) := by
  refine xMet_of kX0_ok oX0_summitAt rfl (Nat.le_of_ble_eq_true rfl) (fun hM hz => ?_)
  have ha2 := ha
  unfold cl at ha2
  refine xgc 21 rfl (by omega) ?_
  refine xloop4 (J := fun (n f i : Int) (M' : xMem) => xV kX0 mX0_summitAt 1 _ M' 21 [some (.inr (.inr none)), some (.inl a), some (.inl n), some (.inl f), some (.inl i), none, none] []) (fun n f i M' => 0 ≤ i ∧ i ≤ n ∧ Wk (fun x => h x = h a) a (M 3) (M' 3) (M' 8) n ∧ (∀ k, k ≠ 3 → k ≠ 8 → M' k = M k) ∧ (∀ j, 0 ≤ j → j < i → ∀ y, adj (M' 8 j) y → h y = h a → M' 3 y ≠ 0) ∧ (f = 1 ∧ (∀ j, 0 ≤ j → j < i → ∀ y, adj (M' 8 j) y → h y ≤ h a) ∨ f = 0 ∧ ∃ s, Cn (fun x => h x = h a) a s ∧ hasHi h s)) (fun _ _ i _ => (64 - i).toNat) ?_ 1 1 0 _ ⟨by omega, by omega, Wk_0 ha rfl, fun k k1 k2 => (xset_n _ _ _ k2).trans (xset_n _ _ _ k1), fun j j0 j1 => by omega, Or.inl ⟨rfl, fun j j0 j1 => by omega⟩⟩
  intro n f i M1 ⟨h1, h2, h3, h4, h5, h6⟩ ih
  have hn := Wk_n h3
  refine xgo 24 rfl ?_
  refine xbr rfl (fun g => ?_) (fun g => ?_)
  · refine xgo 136 rfl ?_
    obtain ⟨q1, q2, q3⟩ := Wk_e h3 hf (fun j j0 j1 => h5 j j0 (by omega))
    refine xretz rfl rfl (by omega) ⟨h4, ?_, q3⟩
    rcases h6 with ⟨f1, f2⟩ | f1
    · refine Or.inl ⟨f1, fun s hs ⟨e, e1, e2⟩ => ?_⟩
      obtain ⟨j, j0, j1, j2⟩ := (q1 s).mpr hs
      have a1 := f2 j j0 (by omega) e (by rw [j2]; exact e1)
      have a2 := Cn_P hs
      have a2 : h s = h a := a2
      omega
    · exact Or.inr f1
  refine xgo 30 rfl ?_
  refine xloop4 (J := fun (n f d : Int) (M' : xMem) => xV kX0 mX0_summitAt 1 _ M' 30 [some (.inr (.inr none)), some (.inl a), some (.inl n), some (.inl f), some (.inl i), some (.inl d), none] []) (fun n f d M' => 0 ≤ d ∧ d ≤ 4 ∧ i < n ∧ Wk (fun x => h x = h a) a (M 3) (M' 3) (M' 8) n ∧ (∀ k, k ≠ 3 → k ≠ 8 → M' k = M k) ∧ (∀ j, 0 ≤ j → j < i → ∀ y, adj (M' 8 j) y → h y = h a → M' 3 y ≠ 0) ∧ (∀ d', 0 ≤ d' → d' < d → 0 ≤ nbF (M' 8 i) d' → h (nbF (M' 8 i) d') = h a → M' 3 (nbF (M' 8 i) d') ≠ 0) ∧ (f = 1 ∧ (∀ j, 0 ≤ j → j < i → ∀ y, adj (M' 8 j) y → h y ≤ h a) ∧ (∀ d', 0 ≤ d' → d' < d → 0 ≤ nbF (M' 8 i) d' → h (nbF (M' 8 i) d') ≤ h a) ∨ f = 0 ∧ ∃ s, Cn (fun x => h x = h a) a s ∧ hasHi h s)) (fun _ _ d _ => (4 - d).toNat) ?_ n f 0 M1 ⟨by omega, by omega, g, h3, h4, h5, fun d' d1 d2 => by omega, ?_⟩
  rotate_left
  · rcases h6 with ⟨f1, f2⟩ | f1
    · exact Or.inl ⟨f1, f2, fun d' d1 d2 => by omega⟩
    · exact Or.inr f1
  clear h2 h3 h4 h5 h6 hn g
  intro n f d M2 ⟨g1, g2, g3, g4, g5, g6, g7, g8⟩ ih2
  have hn := Wk_n g4
  refine xgo 33 rfl ?_
  refine xbr rfl (fun k => ?_) (fun k => ?_)
  · refine xgc 21 rfl (by omega) (xfg 5 ?_)
    refine ih n f (i + 1) M2 ⟨by omega, by omega, g4, g5, fun j j0 j1 y hy hPy => ?_, ?_⟩ (by omega)
    · by_cases e : j = i
      · rw [e] at hy
        obtain ⟨d', d1, d2, d3⟩ := adj_nb hy
        have := g7 d' d1 (by omega) (by rw [d3]; exact hy.2.1.1) (by rw [d3]; exact hPy)
        rw [d3] at this
        exact this
      · exact g6 j j0 (by omega) y hy hPy
    · rcases g8 with ⟨f1, f2, f3⟩ | f1
      · refine Or.inl ⟨f1, fun j j0 j1 y hy => ?_⟩
        by_cases e : j = i
        · rw [e] at hy
          obtain ⟨d', d1, d2, d3⟩ := adj_nb hy
          have := f3 d' d1 (by omega) (by rw [d3]; exact hy.2.1.1)
          rw [d3] at this
          exact this
        · exact f2 j j0 (by omega) y hy
      · exact Or.inr f1
  have hcn := g4.2.2.1 i h1 g3
  have hcq : cl (M2 8 i) := Cn_cl ha hcn
  have hqa := Cn_P hcn
  have hqa : h (M2 8 i) = h a := hqa
  have m0 : M2 0 = h := (g5 0 (by decide) (by decide)).trans e0
  refine xgc 45 rfl (by omega) ?_
  refine xcalls (mt_neighbour M2 (M2 8 i) d hcq) rfl rfl lX0_neighbour rfl rfl rfl (fun o M' hp => ?_)
  obtain ⟨rfl, ho⟩ := hp
  have hlo := nb_lo (d := d) hcq
  rw [← ho] at hlo
  have hao : 0 ≤ o → adj (M2 8 i) o := by
    intro k1
    rw [ho]
    exact nb_adj hcq (by rw [← ho]; exact k1)
  refine xjn (α := Int) (fun f' => f' = 1 ∧ (∀ j, 0 ≤ j → j < i → ∀ y, adj (M2 8 j) y → h y ≤ h a) ∧ (∀ d', 0 ≤ d' → d' < d + 1 → 0 ≤ nbF (M2 8 i) d' → h (nbF (M2 8 i) d') ≤ h a) ∨ f' = 0 ∧ ∃ s, Cn (fun x => h x = h a) a s ∧ hasHi h s) 73 (fun _ => M2) (fun f' => [some (.inr (.inr none)), some (.inl a), some (.inl n), some (.inl f'), some (.inl i), some (.inl d), some (.inl o)]) (fun _ => []) ?_ ?_
  rotate_left
  · intro kj
    have hok : (0 ≤ o → h o ≤ h a) → (f = 1 ∧ (∀ j, 0 ≤ j → j < i → ∀ y, adj (M2 8 j) y → h y ≤ h a) ∧ (∀ d', 0 ≤ d' → d' < d + 1 → 0 ≤ nbF (M2 8 i) d' → h (nbF (M2 8 i) d') ≤ h a) ∨ f = 0 ∧ ∃ s, Cn (fun x => h x = h a) a s ∧ hasHi h s) := by
      intro hs
      rcases g8 with ⟨f1, f2, f3⟩ | f1
      · refine Or.inl ⟨f1, f2, fun d' d1 d2 d3 => ?_⟩
        by_cases e : d' = d
        · rw [e, ← ho] at d3 ⊢
          exact hs d3
        · exact f3 d' d1 (by omega) d3
      · exact Or.inr f1
    refine xgo 52 rfl ?_
    refine xbr rfl (fun k1 => ?_) (fun k1 => ?_)
    · exact kj f (hok (fun q => by omega))
    refine xgc 68 rfl (by omega) ?_
    rw [m0]
    refine xbr rfl (fun k2 => ?_) (fun k2 => ?_)
    · exact kj f (hok (fun _ => k2))
    refine xgo 73 rfl ?_
    exact kj 0 (Or.inr ⟨rfl, M2 8 i, hcn, o, hao k1, by omega⟩)
  intro f' hf'
  have hskip : (0 ≤ o → h o = h a → M2 3 o ≠ 0) → ∀ d', 0 ≤ d' → d' < d + 1 → 0 ≤ nbF (M2 8 i) d' → h (nbF (M2 8 i) d') = h a → M2 3 (nbF (M2 8 i) d') ≠ 0 := by
    intro hs d' d1 d2 d3 d4
    by_cases e : d' = d
    · rw [e, ← ho] at d3 d4 ⊢
      exact hs d3 d4
    · exact g7 d' d1 (by omega) d3 d4
  refine xgo 75 rfl ?_
  refine xbr rfl (fun k1 => ?_) (fun k1 => ?_)
  · refine xgc 30 rfl (by omega) (xfg 6 ?_)
    exact ih2 n f' (d + 1) M2 ⟨by omega, by omega, g3, g4, g5, g6, hskip (fun q => by omega), hf'⟩ (by omega)
  refine xgc 85 rfl (by omega) ?_
  refine xbr rfl (fun k2 => ?_) (fun k2 => ?_)
  · refine xgc 30 rfl (by omega) (xfg 6 ?_)
    exact ih2 n f' (d + 1) M2 ⟨by omega, by omega, g3, g4, g5, g6, hskip (fun _ _ => k2), hf'⟩ (by omega)
  refine xgc 101 rfl (by omega) ?_
  rw [m0]
  refine xbr rfl (fun k3 => ?_) (fun k3 => ?_)
  · refine xgc 30 rfl (by omega) (xfg 6 ?_)
    exact ih2 n f' (d + 1) M2 ⟨by omega, by omega, g3, g4, g5, g6, hskip (fun _ q => absurd q k3), hf'⟩ (by omega)
  obtain ⟨w1, w2⟩ := Wk_s g4 h1 g3 (hao k1) k3 k2
  have hn1 := g4.1
  refine xgc 30 rfl (by omega) (xfg 6 ?_)
  have hmono : ∀ x, M2 3 x ≠ 0 → xup (M2 3) o 1 x ≠ 0 := by
    intro x hx
    by_cases e : x = o
    · rw [e, xup_s]; decide
    · rw [xup_n _ _ e]; exact hx
  have hq : ∀ j, j < n → xup (M2 8) n o j = M2 8 j := fun j hj => xup_n _ _ (by omega)
  refine ih2 (n + 1) f' (d + 1) _ ⟨by omega, by omega, by omega, w2, fun k k1 k2 => ?_, fun j j0 j1 y hy hPy => ?_, fun d' d1 d2 d3 d4 => ?_, ?_⟩ (by omega)
  · exact (xset_n _ _ _ k2).trans ((xset_n _ _ _ k1).trans (g5 k k1 k2))
  · have hy : adj (xup (M2 8) n o j) y := hy
    rw [hq j (by omega)] at hy
    exact hmono y (g6 j j0 j1 y hy hPy)
  · have d3 : 0 ≤ nbF (xup (M2 8) n o i) d' := d3
    have d4 : h (nbF (xup (M2 8) n o i) d') = h a := d4
    show xup (M2 3) o 1 (nbF (xup (M2 8) n o i) d') ≠ 0
    rw [hq i g3] at d3 d4 ⊢
    by_cases e : d' = d
    · rw [e, ← ho, xup_s]; decide
    · exact hmono _ (g7 d' d1 (by omega) d3 d4)
  · rcases hf' with ⟨f1, f2, f3⟩ | f1
    · refine Or.inl ⟨f1, fun j j0 j1 y hy => ?_, fun d' d1 d2 d3 => ?_⟩
      · have hy : adj (xup (M2 8) n o j) y := hy
        rw [hq j (by omega)] at hy
        exact f2 j j0 j1 y hy
      · have d3 : 0 ≤ nbF (xup (M2 8) n o i) d' := d3
        show h (nbF (xup (M2 8) n o i) d') ≤ h a
        rw [hq i g3] at d3 ⊢
        exact f3 d' d1 d2 d3
    · exact Or.inr f1
theorem mt_summits (M : xMem) (hI : inv0 M) : xMet kX0 mX0_summits 2 true M [] (fun r M' => M' 0 = M 0 ∧ suP (M 0) r ∧ inv0 M') := by
  refine xMet_of kX0_ok oX0_summits rfl (Nat.le_of_ble_eq_true rfl) (fun hM hz => ?_)
  refine xgo 1 rfl ?_
  refine xcallv (mt_forget M) rfl rfl lX0_forget rfl rfl rfl (fun M2 hp => ?_)
  obtain ⟨f1, f2⟩ := hp
  refine xgo 8 rfl ?_
  refine xloop3 (J := fun (n i : Int) (M' : xMem) => xV kX0 mX0_summits 2 _ M' 8 [some (.inr (.inr none)), some (.inl n), some (.inl i), none] []) (fun n i M' => 0 ≤ i ∧ i ≤ 64 ∧ n = (cnt (suQ (M 0)) i.toNat : Nat) ∧ (∀ k, k ≠ 3 → k ≠ 8 → M' k = M k) ∧ ∀ x, cl x → (M' 3 x ≠ 0 ↔ ∃ s, cl s ∧ s < i ∧ eqc (alk (M 0)) s x)) (fun _ i _ => (64 - i).toNat) ?_ 0 0 M2 ⟨by omega, by omega, rfl, fun k k1 _ => f1 k k1, fun x hx => ⟨fun q => absurd (f2 x hx) q, fun ⟨s, s1, s2, _⟩ => by have := s1.1; omega⟩⟩
  clear f1 f2
  intro n i M3 ⟨h1, h2, h3, h4, h7⟩ ih
  have hn : cnt (suQ (M 0)) i.toNat ≤ i.toNat := cnt_le _ _
  have m0 : M3 0 = M 0 := h4 0 (by decide) (by decide)
  have m1 : M3 1 = M 1 := h4 1 (by decide) (by decide)
  have m9 : M3 9 = M 9 := h4 9 (by decide) (by decide)
  refine xgo 11 rfl ?_
  refine xbr rfl (fun g => ?_) (fun g => ?_)
  · have e : i = 64 := by omega
    subst e
    refine xgo 43 rfl ?_
    exact xret rfl rfl ⟨m0, h3, by unfold inv0; rw [m0, m1, m9]; exact hI⟩
  have hc : cl i := ⟨h1, g⟩
  refine xgc 20 rfl (by omega) ?_
  refine xbr rfl (fun k => ?_) (fun k => ?_)
  · refine xgc 8 rfl (by omega) ?_
    obtain ⟨s, s1, s2, s3⟩ := (h7 i hc).mp k
    refine ih n (i + 1) M3 ⟨by omega, by omega, ?_, h4, fun x hx => ?_⟩ (by omega)
    · rw [cnt_ni h1 (fun hq => by have := (hq s s1 s3).2; omega)]
      exact h3
    · rw [h7 x hx]
      constructor
      · intro ⟨t, t1, t2, t3⟩
        exact ⟨t, t1, by omega, t3⟩
      · intro ⟨t, t1, t2, t3⟩
        by_cases e : t = i
        · rw [e] at t3
          exact ⟨s, s1, s2, eqc_t s3 t3⟩
        · exact ⟨t, t1, by omega, t3⟩
  have hfree : ∀ x, Cn (fun x => M 0 x = M 0 i) i x → M3 3 x = 0 := by
    intro x hx
    have hx2 := Cn_alk.mp hx
    refine Classical.byContradiction (fun q => ?_)
    obtain ⟨s, s1, s2, s3⟩ := (h7 x (Cn_cl hc hx)).mp q
    exact (h7 i hc).mpr ⟨s, s1, s2, eqc_t s3 (eqc_s hx2)⟩ k
  refine xgo 25 rfl ?_
  refine xcall (mt_summitAt M3 (M 0) m0 i hc hfree) rfl rfl lX0_summitAt rfl rfl rfl (fun r M4 hp => ?_)
  obtain ⟨q1, q2, q3⟩ := hp
  have h4' : ∀ k, k ≠ 3 → k ≠ 8 → M4 k = M k := fun k k1 k2 => (q1 k k1 k2).trans (h4 k k1 k2)
  have h7' : ∀ x, cl x → (M4 3 x ≠ 0 ↔ ∃ s, cl s ∧ s < i + 1 ∧ eqc (alk (M 0)) s x) := by
    intro x hx
    rw [q3 x, h7 x hx, Cn_alk]
    constructor
    · intro q
      rcases q with ⟨t, t1, t2, t3⟩ | q
      · exact ⟨t, t1, by omega, t3⟩
      · exact ⟨i, hc, by omega, q⟩
    · intro ⟨t, t1, t2, t3⟩
      by_cases e : t = i
      · rw [e] at t3
        exact Or.inr t3
      · exact Or.inl ⟨t, t1, by omega, t3⟩
  refine xgo 30 rfl ?_
  refine xbr rfl (fun k2 => ?_) (fun k2 => ?_)
  · refine xgc 8 rfl (by omega) (xfg 3 ?_)
    refine ih n (i + 1) M4 ⟨by omega, by omega, ?_, h4', h7'⟩ (by omega)
    rcases q2 with ⟨q, -⟩ | ⟨-, s, s1, s2⟩
    · omega
    · rw [cnt_ni h1 (fun hq => (hq s (Cn_cl hc s1) (eqc_s (Cn_alk.mp s1))).1 s2)]
      exact h3
  · refine xgc 8 rfl (by omega) (xfg 3 ?_)
    refine ih (n + 1) (i + 1) M4 ⟨by omega, by omega, ?_, h4', h7'⟩ (by omega)
    rcases q2 with ⟨-, q⟩ | ⟨q, -⟩
    · have hsu : suQ (M 0) i := fun s s1 s2 => ⟨q s (Cn_alk.mpr (eqc_s s2)), Classical.byContradiction (fun z => (h7 i hc).mpr ⟨s, s1, by omega, s2⟩ k)⟩
      rw [cnt_yi h1 hsu, h3]
      omega
    · exact absurd q k2
end
section
set_option maxRecDepth 100000
/-! joining: sortCells, startJoining, find -/
/-- g lists the cells 0 .. n-1, by height -/
def Srt (h g : Int → Int) (n : Int) : Prop := (∀ x, inH g n x ↔ 0 ≤ x ∧ x < n) ∧ ∀ j k, 0 ≤ j → j ≤ k → k < n → h (g j) ≤ h (g k)
theorem mt_sortCells (M : xMem) : xMet kX0 mX0_sortCells 0 true M [] (fun _ M' => (∀ k, k ≠ 4 → M' k = M k) ∧ Srt (M 0) (M' 4) 64) := by
  refine xMet_of kX0_ok oX0_sortCells rfl (Nat.le_of_ble_eq_true rfl) (fun hM hz => ?_)
  refine xgo 2 rfl ?_
  refine xloop2 (J := fun (c : Int) (M' : xMem) => xV kX0 mX0_sortCells 0 _ M' 2 [some (.inr (.inr none)), some (.inl c), none] []) (fun c M' => 0 ≤ c ∧ c ≤ 64 ∧ (∀ k, k ≠ 4 → M' k = M k) ∧ Srt (M 0) (M' 4) c) (fun c _ => (64 - c).toNat) ?_ 0 M ⟨by omega, by omega, fun _ _ => rfl, fun x => ⟨fun ⟨j, j0, j1, _⟩ => by omega, fun q => by omega⟩, fun j k j0 jk k1 => by omega⟩
  intro c M1 ⟨h1, h2, h3, h4, h5⟩ ih
  refine xgo 5 rfl ?_
  refine xbr rfl (fun g => ?_) (fun g => ?_)
  · have e : c = 64 := by omega
    subst e
    exact xretv rfl rfl ⟨h3, h4, h5⟩
  refine xgo 10 rfl ?_
  refine xloop2 (J := fun (i : Int) (M' : xMem) => xV kX0 mX0_sortCells 0 _ M' 10 [some (.inr (.inr none)), some (.inl c), some (.inl i)] []) (fun i M' => 0 ≤ i ∧ i ≤ c ∧ (∀ k, k ≠ 4 → M' k = M k) ∧ (∀ x, inH (xup (M' 4) i c) (c + 1) x ↔ 0 ≤ x ∧ x < c + 1) ∧ (∀ j k, 0 ≤ j → j ≤ k → k < c + 1 → j ≠ i → k ≠ i → M 0 (M' 4 j) ≤ M 0 (M' 4 k)) ∧ ∀ k, i < k → k < c + 1 → M 0 c ≤ M 0 (M' 4 k)) (fun i _ => i.toNat) ?_ c M1 ⟨h1, Int.le_refl _, h3, fun x => ?_, fun j k j0 jk k1 j2 k2 => h5 j k j0 jk (by omega), fun k k0 k1 => by omega⟩
  rotate_left
  · constructor
    · intro ⟨j, j0, j1, j2⟩
      by_cases e : j = c
      · rw [e, xup_s] at j2
        omega
      · rw [xup_n _ _ e] at j2
        have := (h4 x).mp ⟨j, j0, by omega, j2⟩
        omega
    · intro hx
      by_cases e : x = c
      · exact ⟨c, by omega, by omega, by rw [xup_s, e]⟩
      · obtain ⟨j, j0, j1, j2⟩ := (h4 x).mpr (by omega)
        exact ⟨j, j0, by omega, by rw [xup_n _ _ (by omega), j2]⟩
  clear h3 h4 h5
  intro i M2 ⟨g1, g2, g3, g4, g5, g6⟩ ih2
  have m0 : M2 0 = M 0 := g3 0 (by decide)
  have fin : (0 < i → M 0 (M2 4 (i - 1)) ≤ M 0 c) → xV kX0 mX0_sortCells 0 (fun _ M' => (∀ k, k ≠ 4 → M' k = M k) ∧ Srt (M 0) (M' 4) 64) M2 56 [some (.inr (.inr none)), some (.inl c), some (.inl i)] [] := by
    intro hl
    refine xgc 2 rfl (by omega) (xfg 2 ?_)
    refine ih (c + 1) _ ⟨by omega, by omega, fun k k4 => (xset_n _ _ _ k4).trans (g3 k k4), g4, fun j k j0 jk k1 => ?_⟩ (by omega)
    show M 0 (xup (M2 4) i c j) ≤ M 0 (xup (M2 4) i c k)
    by_cases e1 : j = i
    · rw [e1, xup_s]
      by_cases e2 : k = i
      · rw [e2, xup_s]
        exact Int.le_refl _
      · rw [xup_n _ _ e2]
        exact g6 k (by omega) k1
    · rw [xup_n _ _ e1]
      by_cases e2 : k = i
      · rw [e2, xup_s]
        exact Int.le_trans (g5 j (i - 1) j0 (by omega) (by omega) e1 (by omega)) (hl (by omega))
      · rw [xup_n _ _ e2]
        exact g5 j k j0 jk k1 e1 e2
  refine xgo 11 rfl ?_
  refine xbr rfl (fun k => ?_) (fun k => ?_)
  · exact fin (fun q => by omega)
  have hp : cl (M2 4 (i - 1)) := by
    have := (g4 (M2 4 (i - 1))).mp ⟨i - 1, by omega, by omega, by rw [xup_n _ _ (by omega)]⟩
    unfold cl
    omega
  have hp2 := hp
  unfold cl at hp2
  refine xgc 33 rfl (by omega) ?_
  rw [m0]
  refine xbr rfl (fun k2 => ?_) (fun k2 => ?_)
  · exact fin (fun _ => k2)
  refine xgc 10 rfl (by omega) ?_
  have hs : swp (xup (M2 4) i c) (xup (xup (M2 4) i (M2 4 (i - 1))) (i - 1) c) i (i - 1) := swp_of (by omega)
  refine ih2 (i - 1) _ ⟨by omega, by omega, fun k k4 => (xset_n _ _ _ k4).trans (g3 k k4), fun x => ?_, fun j k j0 jk k1 j2 k2 => ?_, fun k k0 k1 => ?_⟩ (by omega)
  · rw [← g4 x]
    exact swp_in hs ⟨by omega, by omega⟩ ⟨by omega, by omega⟩ x
  · show M 0 (xup (M2 4) i (M2 4 (i - 1)) j) ≤ M 0 (xup (M2 4) i (M2 4 (i - 1)) k)
    by_cases e1 : j = i
    · rw [e1, xup_s]
      by_cases e2 : k = i
      · rw [e2, xup_s]
        exact Int.le_refl _
      · rw [xup_n _ _ e2]
        exact g5 (i - 1) k (by omega) (by omega) k1 (by omega) e2
    · rw [xup_n _ _ e1]
      by_cases e2 : k = i
      · rw [e2, xup_s]
        exact g5 j (i - 1) j0 (by omega) (by omega) e1 (by omega)
      · rw [xup_n _ _ e2]
        exact g5 j k j0 jk k1 e1 e2
  · show M 0 c ≤ M 0 (xup (M2 4) i (M2 4 (i - 1)) k)
    by_cases e2 : k = i
    · rw [e2, xup_s]
      omega
    · rw [xup_n _ _ e2]
      exact g6 k (by omega) k1
/-- leaders: L with roots rt; f falls on the way to a root -/
def UF (L rt : Int → Int) (f : Int → Nat) : Prop := ∀ c, cl c → cl (L c) ∧ rt (L c) = rt c ∧ (L c = c → rt c = c) ∧ (L c ≠ c → f (L c) < f c) ∧ cl (rt c) ∧ L (rt c) = rt c
theorem mt_find (M : xMem) (c : Int) (rt : Int → Int) (f : Int → Nat) (hc : cl c) (hU : UF (M 5) rt f) : xMet kX0 mX0_find 0 true M [c] (fun r M' => r = rt c ∧ (∀ k, k ≠ 5 → M' k = M k) ∧ UF (M' 5) rt f) := by
  refine xMet_of kX0_ok oX0_find rfl (Nat.le_of_ble_eq_true rfl) (fun hM hz => ?_)
  refine xgo 2 rfl ?_
  refine xloop2 (J := fun (x : Int) (M' : xMem) => xV kX0 mX0_find 0 _ M' 2 [some (.inr (.inr none)), some (.inl c), some (.inl x)] []) (fun x M' => cl x ∧ rt x = rt c ∧ (∀ k, k ≠ 5 → M' k = M k) ∧ UF (M' 5) rt f) (fun x _ => f x) ?_ c M ⟨hc, rfl, fun _ _ => rfl, hU⟩
  clear hU
  intro x M1 ⟨h1, h2, h3, h4⟩ ih
  obtain ⟨u1, u2, u3, u4, u5, u6⟩ := h4 x h1
  obtain ⟨v1, v2, v3, v4, v5, v6⟩ := h4 (M1 5 x) u1
  have h1b := h1
  have u1b := u1
  unfold cl at h1b u1b
  refine xgc 9 rfl (by omega) ?_
  refine xbr rfl (fun g => ?_) (fun g => ?_)
  · refine xgo 40 rfl ?_
    exact xret rfl rfl ⟨(u3 g).symm.trans h2, h3, h4⟩
  refine xgc 2 rfl (by omega) ?_
  have hlt := u4 g
  have e : xset M1 5 x (M1 5 (M1 5 x)) 5 x = M1 5 (M1 5 x) := by rw [xset_s, xup_s]
  rw [e]
  have hlt2 : f (M1 5 (M1 5 x)) < f x := by
    by_cases q : M1 5 (M1 5 x) = M1 5 x
    · rw [q]
      exact hlt
    · exact Nat.lt_trans (v4 q) hlt
  refine ih _ _ ⟨v1, v2.trans (u2.trans h2), fun k k5 => (xset_n _ _ _ k5).trans (h3 k k5), fun y hy => ?_⟩ hlt2
  show cl (xup (M1 5) x (M1 5 (M1 5 x)) y) ∧ rt (xup (M1 5) x (M1 5 (M1 5 x)) y) = rt y ∧ (xup (M1 5) x (M1 5 (M1 5 x)) y = y → rt y = y) ∧ (xup (M1 5) x (M1 5 (M1 5 x)) y ≠ y → f (xup (M1 5) x (M1 5 (M1 5 x)) y) < f y) ∧ cl (rt y) ∧ xup (M1 5) x (M1 5 (M1 5 x)) (rt y) = rt y
  obtain ⟨w1, w2, w3, w4, w5, w6⟩ := h4 y hy
  have w7 : rt y ≠ x := by
    intro q
    rw [q] at w6
    exact g w6
  rw [xup_n _ _ w7]
  by_cases q : y = x
  · subst q
    rw [xup_s]
    refine ⟨v1, v2.trans u2, fun q => ?_, fun _ => hlt2, w5, w6⟩
    rw [q] at hlt2
    omega
  · rw [xup_n _ _ q]
    exact ⟨w1, w2, w3, w4, w5, w6⟩
theorem mt_startJoining (M : xMem) : xMet kX0 mX0_startJoining 1 true M [] (fun _ M' => (∀ k, k ≠ 4 → k ≠ 5 → k ≠ 6 → k ≠ 7 → M' k = M k) ∧ Srt (M 0) (M' 4) 64 ∧ ∀ c, cl c → M' 5 c = c ∧ M' 6 c = M 0 c ∧ M' 7 c = 0) := by
  refine xMet_of kX0_ok oX0_startJoining rfl (Nat.le_of_ble_eq_true rfl) (fun hM hz => ?_)
  refine xgo 1 rfl ?_
  refine xcallv (mt_sortCells M) rfl rfl lX0_sortCells rfl rfl rfl (fun M1 hp => ?_)
  obtain ⟨p1, p2⟩ := hp
  refine xgo 6 rfl ?_
  refine xloop2 (J := fun (i : Int) (M' : xMem) => xV kX0 mX0_startJoining 1 _ M' 6 [some (.inr (.inr none)), some (.inl i)] []) (fun i M' => 0 ≤ i ∧ i ≤ 64 ∧ (∀ k, k ≠ 4 → k ≠ 5 → k ≠ 6 → k ≠ 7 → M' k = M k) ∧ M' 4 = M1 4 ∧ ∀ c, 0 ≤ c → c < i → M' 5 c = c ∧ M' 6 c = M 0 c ∧ M' 7 c = 0) (fun i _ => (64 - i).toNat) ?_ 0 M1 ⟨by omega, by omega, fun k k4 _ _ _ => p1 k k4, rfl, fun c c1 c2 => by omega⟩
  intro i M2 ⟨h1, h2, h3, h4, h5⟩ ih
  have m0 : M2 0 = M 0 := h3 0 (by decide) (by decide) (by decide) (by decide)
  refine xgo 9 rfl ?_
  refine xbr rfl (fun g => ?_) (fun g => ?_)
  · have e : i = 64 := by omega
    subst e
    exact xretv rfl rfl ⟨h3, by rw [h4]; exact p2, fun c hc => h5 c hc.1 hc.2⟩
  refine xgc 6 rfl (by omega) ?_
  refine ih (i + 1) _ ⟨by omega, by omega, fun k k4 k5 k6 k7 => (xset_n _ _ _ k7).trans ((xset_n _ _ _ k6).trans ((xset_n _ _ _ k5).trans (h3 k k4 k5 k6 k7))), h4, fun c c1 c2 => ?_⟩ (by omega)
  show xup (M2 5) i i c = c ∧ xup (M2 6) i (M2 0 i) c = M 0 c ∧ xup (M2 7) i 0 c = 0
  by_cases e : c = i
  · rw [e, xup_s, xup_s, xup_s, m0]
    exact ⟨rfl, rfl, rfl⟩
  · rw [xup_n _ _ e, xup_n _ _ e, xup_n _ _ e]
    exact h5 c c1 (by omega)
end
section
set_option maxRecDepth 100000
/-! joining: activate -/
theorem eqc_iff {R S : Int → Int → Prop} (h : ∀ x y, R x y ↔ S x y) {a b : Int} : eqc R a b ↔ eqc S a b :=
  ⟨fun q => eqc_m (fun x y hxy => eqc_1 ((h x y).mp hxy)) q, fun q => eqc_m (fun x y hxy => eqc_1 ((h x y).mpr hxy)) q⟩
def TopOk (h T rt : Int → Int) : Prop := ∀ x, cl x → (∀ y, cl y → rt y = rt x → h y ≤ T (rt x)) ∧ ∃ y, cl y ∧ rt y = rt x ∧ T (rt x) = h y
/-- the roots once b's tree hangs under a -/
def rtU (rt : Int → Int) (a b : Int) : Int → Int := fun x => if rt x = b then a else rt x
theorem rtU_y {rt : Int → Int} {a b x : Int} (h : rt x = b) : rtU rt a b x = a := if_pos h
theorem rtU_n {rt : Int → Int} {a b x : Int} (h : rt x ≠ b) : rtU rt a b x = rt x := if_neg h
theorem UF_u {L rt : Int → Int} {f : Int → Nat} {c o : Int} (hU : UF L rt f) (hc : cl c) (ho : cl o) : ∃ f', UF (xup L (rt o) (rt c)) (rtU rt (rt c) (rt o)) f' := by
  obtain ⟨-, -, -, -, a1, a2⟩ := hU c hc
  obtain ⟨-, -, -, -, b1, b2⟩ := hU o ho
  have a3 : rt (rt c) = rt c := (hU _ a1).2.2.1 a2
  have b3 : rt (rt o) = rt o := (hU _ b1).2.2.1 b2
  generalize rt c = a at *
  generalize rt o = b at *
  have hLa : xup L b a a = a := by
    by_cases e : a = b
    · rw [e, xup_s]
    · rw [xup_n _ _ e]; exact a2
  have hra : rtU rt a b a = a := by
    by_cases e : a = b
    · exact rtU_y (by rw [a3]; exact e)
    · rw [rtU_n (by rw [a3]; exact e)]; exact a3
  refine ⟨fun x => if rt x = b then f x + f a + 1 else f x, fun x hx => ?_⟩
  obtain ⟨w1, w2, w3, w4, w5, w6⟩ := hU x hx
  have hcr : cl (rtU rt a b x) ∧ xup L b a (rtU rt a b x) = rtU rt a b x := by
    by_cases e : rt x = b
    · rw [rtU_y e]
      exact ⟨a1, hLa⟩
    · rw [rtU_n e, xup_n _ _ e]
      exact ⟨w5, w6⟩
  by_cases e : x = b
  · subst e
    rw [xup_s]
    refine ⟨a1, ?_, fun q => ?_, fun q => ?_, hcr.1, hcr.2⟩
    · rw [hra, rtU_y b3]
    · rw [rtU_y b3]; exact q
    · show (if rt a = x then f a + f a + 1 else f a) < (if rt x = x then f x + f a + 1 else f x)
      rw [a3, if_neg q, if_pos b3]
      omega
  · rw [xup_n _ _ e]
    refine ⟨w1, ?_, fun q => ?_, fun q => ?_, hcr.1, hcr.2⟩
    · unfold rtU
      rw [w2]
    · have := w3 q
      rw [rtU_n (by rw [this]; exact e)]
      exact this
    · show (if rt (L x) = b then f (L x) + f a + 1 else f (L x)) < (if rt x = b then f x + f a + 1 else f x)
      have := w4 q
      rw [w2]
      split <;> omega
theorem rel_u {R : Int → Int → Prop} {rt : Int → Int} {c o : Int} (hc : cl c) (ho : cl o) (hR : ∀ x y, cl x → cl y → (rt x = rt y ↔ eqc R x y)) : ∀ x y, cl x → cl y → (rtU rt (rt c) (rt o) x = rtU rt (rt c) (rt o) y ↔ eqc (fun x y => R x y ∨ x = c ∧ y = o) x y) := by
  intro x y hx hy
  rw [eqc_add, ← hR x y hx hy, ← hR x c hx hc, ← hR o y ho hy, ← hR x o hx ho, ← hR c y hc hy]
  unfold rtU
  split <;> split <;> omega
theorem top_u {h T T' rt : Int → Int} {c o : Int} (hc : cl c) (ho : cl o) (hT : TopOk h T rt) (h1 : ∀ x, x ≠ rt c → T' x = T x) (h2 : T (rt c) < T (rt o) ∧ T' (rt c) = T (rt o) ∨ T (rt o) ≤ T (rt c) ∧ T' (rt c) = T (rt c)) : TopOk h T' (rtU rt (rt c) (rt o)) := by
  obtain ⟨a1, a2, a3, a4, a5⟩ := hT c hc
  obtain ⟨b1, b2, b3, b4, b5⟩ := hT o ho
  generalize rt c = a at *
  generalize rt o = b at *
  intro x hx
  obtain ⟨w1, w2, w3, w4, w5⟩ := hT x hx
  have hin : ∀ y, rtU rt a b y = a ↔ rt y = a ∨ rt y = b := by
    intro y
    unfold rtU
    split <;> omega
  by_cases e : rt x = a ∨ rt x = b
  · have e2 := (hin x).mpr e
    rw [e2]
    refine ⟨fun y hy q => ?_, ?_⟩
    · rcases (hin y).mp q with q | q
      · have := a1 y hy q
        omega
      · have := b1 y hy q
        omega
    · rcases h2 with ⟨q1, q2⟩ | ⟨q1, q2⟩
      · exact ⟨b2, b3, (hin b2).mpr (Or.inr b4), q2.trans b5⟩
      · exact ⟨a2, a3, (hin a2).mpr (Or.inl a4), q2.trans a5⟩
  · have e1 : rt x ≠ a := fun q => e (Or.inl q)
    have e2 : rt x ≠ b := fun q => e (Or.inr q)
    rw [rtU_n e2, h1 _ e1]
    refine ⟨fun y hy q => ?_, w2, w3, ?_, w5⟩
    · refine w1 y hy ?_
      unfold rtU at q
      split at q
      · exact absurd q.symm e1
      · exact q
    · rw [rtU_n (by rw [w4]; exact e2)]
      exact w4
/-- joined cells: L leaders, T tops, rt roots, R the joins -/
def JR (h L T rt : Int → Int) (R : Int → Int → Prop) : Prop := (∃ f, UF L rt f) ∧ (∀ x y, cl x → cl y → (rt x = rt y ↔ eqc R x y)) ∧ TopOk h T rt
/-- the state while cells come in -/
def JS (h : Int → Int) (M : xMem) : Prop := M 0 = h ∧ ∃ rt, JR h (M 5) (M 6) rt (adP (fun z => M 7 z ≠ 0))
/-- the joins while the cell c comes in, d of its directions done -/
def Rd (A0 A1 : Int → Prop) (c d : Int) (x y : Int) : Prop := adP A0 x y ∨ x = c ∧ ∃ d', 0 ≤ d' ∧ d' < d ∧ y = nbF c d' ∧ 0 ≤ y ∧ A1 y
theorem Rd_0 {A0 A1 : Int → Prop} {c x y : Int} : Rd A0 A1 c 0 x y ↔ adP A0 x y := ⟨fun q => q.elim (fun q => q) (fun ⟨_, d', d1, d2, _⟩ => by omega), fun q => Or.inl q⟩
theorem Rd_n {A0 A1 : Int → Prop} {c d x y : Int} (hn : ¬ (0 ≤ nbF c d ∧ A1 (nbF c d))) : Rd A0 A1 c (d + 1) x y ↔ Rd A0 A1 c d x y := by
  constructor
  · intro q
    rcases q with q | ⟨q, d', d1, d2, d3, d4, d5⟩
    · exact Or.inl q
    · by_cases e : d' = d
      · rw [e] at d3
        rw [d3] at d4 d5
        exact absurd ⟨d4, d5⟩ hn
      · exact Or.inr ⟨q, d', d1, by omega, d3, d4, d5⟩
  · intro q
    rcases q with q | ⟨q, d', d1, d2, d3⟩
    · exact Or.inl q
    · exact Or.inr ⟨q, d', d1, by omega, d3⟩
theorem Rd_y {A0 A1 : Int → Prop} {c d x y : Int} (h0 : 0 ≤ d) (hn : 0 ≤ nbF c d ∧ A1 (nbF c d)) : Rd A0 A1 c (d + 1) x y ↔ (Rd A0 A1 c d x y ∨ x = c ∧ y = nbF c d) := by
  constructor
  · intro q
    rcases q with q | ⟨q, d', d1, d2, d3, d4, d5⟩
    · exact Or.inl (Or.inl q)
    · by_cases e : d' = d
      · rw [e] at d3
        exact Or.inr ⟨q, d3⟩
      · exact Or.inl (Or.inr ⟨q, d', d1, by omega, d3, d4, d5⟩)
  · intro q
    rcases q with (q | ⟨q, d', d1, d2, d3⟩) | ⟨q1, q2⟩
    · exact Or.inl q
    · exact Or.inr ⟨q, d', d1, by omega, d3⟩
    · exact Or.inr ⟨q1, d, h0, by omega, q2, by rw [q2]; exact hn.1, by rw [q2]; exact hn.2⟩
theorem Rd_4 {A0 A1 : Int → Prop} {c : Int} (hc : cl c) (h1 : ∀ x, A1 x ↔ A0 x ∨ x = c) {a b : Int} : eqc (Rd A0 A1 c 4) a b ↔ eqc (adP A1) a b := by
  constructor
  · refine eqc_m (fun x y q => eqc_1 ?_)
    rcases q with q | ⟨q, d', d1, d2, d3, d4, d5⟩
    · exact ⟨q.1, (h1 x).mpr (Or.inl q.2.1), (h1 y).mpr (Or.inl q.2.2)⟩
    · rw [q, d3]
      rw [d3] at d4 d5
      exact ⟨nb_adj hc d4, (h1 c).mpr (Or.inr rfl), d5⟩
  · have key : ∀ y, adj c y → A1 y → Rd A0 A1 c 4 c y := by
      intro y hy hA
      obtain ⟨d, d1, d2, d3⟩ := adj_nb hy
      exact Or.inr ⟨rfl, d, d1, d2, d3.symm, hy.2.1.1, hA⟩
    refine eqc_m (fun x y q => ?_)
    by_cases e1 : x = c
    · rw [e1] at q ⊢
      exact eqc_1 (key y q.1 q.2.2)
    · by_cases e2 : y = c
      · rw [e2] at q ⊢
        exact eqc_s (eqc_1 (key x (adj_sym q.1) q.2.1))
      · refine eqc_1 (Or.inl ⟨q.1, ?_, ?_⟩)
        · exact ((h1 x).mp q.2.1).elim (fun z => z) (fun z => absurd z e1)
        · exact ((h1 y).mp q.2.2).elim (fun z => z) (fun z => absurd z e2)
theorem JR_iff {h L T rt : Int → Int} {R S : Int → Int → Prop} (hJ : JR h L T rt R) (hRS : ∀ x y, eqc R x y ↔ eqc S x y) : JR h L T rt S := ⟨hJ.1, fun x y hx hy => (hJ.2.1 x y hx hy).trans (hRS x y), hJ.2.2⟩
theorem mt_activate (M : xMem) (h : Int → Int) (c : Int) (hc : cl c) (hJ : JS h M) : xMet kX0 mX0_activate 1 true M [c] (fun _ M' => (∀ k, k ≠ 5 → k ≠ 6 → k ≠ 7 → M' k = M k) ∧ M' 7 = xup (M 7) c 1 ∧ JS h M') := by
  refine xMet_of kX0_ok oX0_activate rfl (Nat.le_of_ble_eq_true rfl) (fun hM hz => ?_)
  have hc2 := hc
  unfold cl at hc2
  obtain ⟨e0, rt0, hJ0⟩ := hJ
  refine xgc 9 rfl (by omega) ?_
  have hA : ∀ x, xup (M 7) c 1 x ≠ 0 ↔ M 7 x ≠ 0 ∨ x = c := by
    intro x
    by_cases e : x = c
    · rw [e, xup_s]
      exact ⟨fun _ => Or.inr rfl, fun _ => by decide⟩
    · rw [xup_n _ _ e]
      exact ⟨fun q => Or.inl q, fun q => q.elim (fun z => z) (fun z => absurd z e)⟩
  refine xloop2 (J := fun (d : Int) (M' : xMem) => xV kX0 mX0_activate 1 _ M' 9 [some (.inr (.inr none)), some (.inl c), some (.inl d), none, none, none] []) (fun d M' => 0 ≤ d ∧ d ≤ 4 ∧ (∀ k, k ≠ 5 → k ≠ 6 → k ≠ 7 → M' k = M k) ∧ M' 7 = xup (M 7) c 1 ∧ ∃ rt, JR h (M' 5) (M' 6) rt (Rd (fun z => M 7 z ≠ 0) (fun z => xup (M 7) c 1 z ≠ 0) c d)) (fun d _ => (4 - d).toNat) ?_ 0 _ ⟨by omega, by omega, fun k _ _ k7 => xset_n _ _ _ k7, rfl, rt0, JR_iff hJ0 (fun x y => eqc_iff (fun x y => Rd_0.symm))⟩
  intro d M1 ⟨h1, h2, h3, h4, rt, h5⟩ ih
  have m0 : M1 0 = h := (h3 0 (by decide) (by decide) (by decide)).trans e0
  refine xgo 11 rfl ?_
  refine xbr rfl (fun g => ?_) (fun g => ?_)
  · have e : d = 4 := by omega
    subst e
    refine xretv rfl rfl ⟨h3, h4, m0, rt, ?_⟩
    rw [h4]
    exact JR_iff h5 (fun x y => Rd_4 hc hA)
  refine xgo 16 rfl ?_
  refine xcalls (mt_neighbour M1 c d hc) rfl rfl lX0_neighbour rfl rfl rfl (fun o M' hp => ?_)
  obtain ⟨rfl, ho⟩ := hp
  have hlo := nb_lo (d := d) hc
  rw [← ho] at hlo
  refine xgo 21 rfl ?_
  refine xbr rfl (fun k => ?_) (fun k => ?_)
  · refine xgc 9 rfl (by omega) (xfg 3 ?_)
    exact ih (d + 1) M1 ⟨by omega, by omega, h3, h4, rt, JR_iff h5 (fun x y => eqc_iff (fun x y => (Rd_n (fun q => by rw [← ho] at q; omega)).symm))⟩ (by omega)
  refine xgc 30 rfl (by omega) ?_
  rw [h4]
  refine xbr rfl (fun k2 => ?_) (fun k2 => ?_)
  · refine xgc 9 rfl (by omega) (xfg 3 ?_)
    exact ih (d + 1) M1 ⟨by omega, by omega, h3, h4, rt, JR_iff h5 (fun x y => eqc_iff (fun x y => (Rd_n (fun q => by rw [← ho] at q; exact q.2 k2)).symm))⟩ (by omega)
  have hao : adj c o := by
    rw [ho]
    exact nb_adj hc (by rw [← ho]; exact k)
  have hoc := hao.2.1
  obtain ⟨⟨f, hU⟩, h6, h7⟩ := h5
  refine xgo 35 rfl ?_
  refine xcall (mt_find M1 c rt f hc hU) rfl rfl lX0_find rfl rfl rfl (fun ra M2 hp => ?_)
  obtain ⟨rfl, p1, p2⟩ := hp
  refine xgo 42 rfl ?_
  refine xcall (mt_find M2 o rt f hoc p2) rfl rfl lX0_find rfl rfl rfl (fun rb M3 hp => ?_)
  obtain ⟨rfl, p3, p4⟩ := hp
  have p5 : ∀ k, k ≠ 5 → M3 k = M1 k := fun k k5 => (p3 k k5).trans (p1 k k5)
  obtain ⟨-, -, -, -, a1, -⟩ := p4 c hc
  obtain ⟨-, -, -, -, b1, -⟩ := p4 o hoc
  have a1b := a1
  have b1b := b1
  unfold cl at a1b b1b
  refine xgc 70 rfl (by omega) ?_
  have m6 : M3 6 = M1 6 := p5 6 (by decide)
  have hUf := UF_u p4 hc hoc
  have hRl : ∀ x y, cl x → cl y → (rtU rt (rt c) (rt o) x = rtU rt (rt c) (rt o) y ↔ eqc (Rd (fun z => M 7 z ≠ 0) (fun z => xup (M 7) c 1 z ≠ 0) c (d + 1)) x y) := by
    intro x y hx hy
    rw [rel_u hc hoc h6 x y hx hy]
    refine eqc_iff (fun x y => ?_)
    rw [Rd_y h1 ⟨by rw [← ho]; exact k, by rw [← ho]; exact k2⟩, ← ho]
  have h3' : ∀ k, k ≠ 5 → k ≠ 6 → k ≠ 7 → M3 k = M k := fun k k5 k6 k7 => (p5 k k5).trans (h3 k k5 k6 k7)
  have h4' : M3 7 = xup (M 7) c 1 := (p5 7 (by decide)).trans h4
  refine xbr rfl (fun k3 => ?_) (fun k3 => ?_)
  · refine xgc 9 rfl (by omega) (xfg 3 (xfg 4 (xfg 5 ?_)))
    refine ih (d + 1) _ ⟨by omega, by omega, fun k k5 k6 k7 => (xset_n _ _ _ k5).trans (h3' k k5 k6 k7), h4', rtU rt (rt c) (rt o), hUf, hRl, ?_⟩ (by omega)
    have k3 : M3 6 (rt o) ≤ M3 6 (rt c) := k3
    show TopOk h (M3 6) _
    rw [m6] at k3 ⊢
    exact top_u hc hoc h7 (fun _ _ => rfl) (Or.inr ⟨k3, rfl⟩)
  · refine xgc 9 rfl (by omega) (xfg 3 (xfg 4 (xfg 5 ?_)))
    refine ih (d + 1) _ ⟨by omega, by omega, fun k k5 k6 k7 => (xset_n _ _ _ k6).trans ((xset_n _ _ _ k5).trans (h3' k k5 k6 k7)), h4', rtU rt (rt c) (rt o), hUf, hRl, ?_⟩ (by omega)
    have k3 : M3 6 (rt c) < M3 6 (rt o) := k3
    show TopOk h (xup (M3 6) (rt c) (M3 6 (rt o))) _
    rw [m6] at k3 ⊢
    exact top_u hc hoc h7 (fun x hx => xup_n _ _ hx) (Or.inl ⟨k3, xup_s _ _ _⟩)
end
section
set_option maxRecDepth 100000
/-! pass, reach, prominence -/
theorem inv0_eq {M M' : xMem} (hI : inv0 M) (e0 : M' 0 = M 0) (e1 : M' 1 = M 1) (e9 : M' 9 = M 9) : inv0 M' := by
  unfold inv0
  rw [e0, e1, e9]
  exact hI
theorem JR_con {h L T rt : Int → Int} {A : Int → Prop} (hJ : JR h L T rt (adP A)) {a b : Int} (ha : cl a) (hb : cl b) (hA : A a) : rt a = rt b ↔ Cn A a b := (hJ.2.1 a b ha hb).trans ⟨fun q => ⟨hA, q⟩, fun q => q.2⟩
theorem JS_0 {M M' : xMem} (e0 : M' 0 = M 0) (h1 : ∀ c, cl c → M' 5 c = c ∧ M' 6 c = M 0 c ∧ M' 7 c = 0) : JS (M 0) M' := by
  refine ⟨e0, fun x => x, ⟨fun _ => 0, fun c hc => ?_⟩, fun x y hx hy => ⟨fun q => ?_, fun q => ?_⟩, fun x hx => ⟨fun y hy q => ?_, x, hx, rfl, (h1 x hx).2.1⟩⟩
  · have e := (h1 c hc).1
    rw [e]
    exact ⟨hc, rfl, fun _ => rfl, fun q => absurd rfl q, hc, rfl⟩
  · have q : x = y := q
    rw [q]
    exact eqc_r y
  · exact q (fun u v => u = v) (fun _ => rfl) (fun _ _ z => z.symm) (fun _ _ _ z w => z.trans w) (fun u v z => absurd (h1 u z.1.1).2.2 z.2.1)
  · have q : y = x := q
    show M 0 y ≤ M' 6 x
    rw [q, (h1 x hx).2.1]
    exact Int.le_refl _
theorem JS_f {h rt : Int → Int} {f : Int → Nat} {M M' : xMem} (e0 : M 0 = h) (hR : ∀ x y, cl x → cl y → (rt x = rt y ↔ eqc (adP (fun z => M 7 z ≠ 0)) x y)) (hT : TopOk h (M 6) rt) (p : ∀ k, k ≠ 5 → M' k = M k) (hU : UF (M' 5) rt f) : JS h M' := by
  refine ⟨(p 0 (by decide)).trans e0, rt, ⟨f, hU⟩, ?_, ?_⟩
  · rw [p 7 (by decide)]
    exact hR
  · rw [p 6 (by decide)]
    exact hT
theorem inH_s {o : Int → Int} {i x : Int} (h0 : 0 ≤ i) : inH o (i + 1) x ↔ inH o i x ∨ x = o i := by
  constructor
  · intro ⟨j, j0, j1, j2⟩
    by_cases e : j = i
    · rw [e] at j2
      exact Or.inr j2.symm
    · exact Or.inl ⟨j, j0, by omega, j2⟩
  · intro q
    rcases q with ⟨j, j0, j1, j2⟩ | q
    · exact ⟨j, j0, by omega, j2⟩
    · exact ⟨i, h0, by omega, q.symm⟩
theorem act_s {A A' : Int → Int} {X Y : Int → Prop} {c : Int} (e : A' = xup A c 1) (h : ∀ x, cl x → (A x ≠ 0 ↔ X x)) (hY : ∀ x, Y x ↔ X x ∨ x = c) : ∀ x, cl x → (A' x ≠ 0 ↔ Y x) := by
  intro x hx
  rw [e, hY x, ← h x hx]
  by_cases e : x = c
  · rw [e, xup_s]
    exact ⟨fun _ => Or.inr rfl, fun _ => by decide⟩
  · rw [xup_n _ _ e]
    exact ⟨fun q => Or.inl q, fun q => q.elim (fun z => z) (fun z => absurd z e)⟩
theorem Cn_iff {P Q : Int → Prop} (h : ∀ x, cl x → (P x ↔ Q x)) {a b : Int} (ha : cl a) : Cn P a b ↔ Cn Q a b := ⟨fun q => Cn_m (fun x hx => (h x hx).mp) ha q, fun q => Cn_m (fun x hx => (h x hx).mpr) ha q⟩
theorem Srt_cl {h o : Int → Int} (hs : Srt h o 64) {i : Int} (h0 : 0 ≤ i) (h1 : i < 64) : cl (o i) := (hs.1 (o i)).mp ⟨i, h0, h1, rfl⟩
theorem ps_low {h o : Int → Int} {i a b : Int} (hs : Srt h o 64) (ha : cl a) (h0 : 0 ≤ i) (h1 : i < 64) (hn : ¬ Cn (inH o i) a b) (hy : Cn (inH o (i + 1)) a b) : ∀ v, h (o i) ≤ v ↔ Cn (fun x => h x ≤ v) a b := by
  intro v
  constructor
  · intro hv
    refine Cn_m (fun x hx ⟨j, j0, j1, j2⟩ => ?_) ha hy
    have := hs.2 j i j0 (by omega) h1
    rw [j2] at this
    exact Int.le_trans this hv
  · intro q
    refine Classical.byContradiction (fun hv => hn (Cn_m (fun x hx hxv => ?_) ha q))
    obtain ⟨j, j0, j1, j2⟩ := (hs.1 x).mpr hx
    refine ⟨j, j0, Classical.byContradiction (fun hj => ?_), j2⟩
    have := hs.2 i j h0 (by omega) j1
    rw [j2] at this
    have hxv : h x ≤ v := hxv
    omega
theorem mt_pass (M : xMem) (a b : Int) (hI : inv0 M) : xMet kX0 mX0_pass 2 true M [a, b] (fun r M' => M' 0 = M 0 ∧ psP (M 0) a b r ∧ inv0 M') := by
  refine xMet_of kX0_ok oX0_pass rfl (Nat.le_of_ble_eq_true rfl) (fun hM hz => ?_)
  refine xgo 1 rfl ?_
  refine xcalls (mt_bad M a) rfl rfl lX0_bad rfl rfl rfl (fun r M' hp => ?_)
  obtain ⟨rfl, hr⟩ := hp
  refine xbr rfl (fun q => ?_) (fun q => ?_)
  · refine xgo 15 rfl ?_
    exact xret rfl rfl ⟨rfl, Or.inl ⟨by unfold cl; omega, rfl⟩, hI⟩
  refine xgo 8 rfl ?_
  refine xcalls (mt_bad M b) rfl rfl lX0_bad rfl rfl rfl (fun r' M' hp => ?_)
  obtain ⟨rfl, hr'⟩ := hp
  refine xbr rfl (fun q' => ?_) (fun q' => ?_)
  rotate_left
  · refine xgo 15 rfl ?_
    exact xret rfl rfl ⟨rfl, Or.inl ⟨by unfold cl; omega, rfl⟩, hI⟩
  have ha : cl a := by unfold cl; omega
  have hb : cl b := by unfold cl; omega
  clear hr hr' q q'
  have ha2 := ha
  have hb2 := hb
  unfold cl at ha2 hb2
  refine xgo 17 rfl ?_
  refine xcallv (mt_startJoining M) rfl rfl lX0_startJoining rfl rfl rfl (fun M1 hp => ?_)
  obtain ⟨p1, p2, p3⟩ := hp
  have i0 : M1 0 = M 0 := p1 0 (by decide) (by decide) (by decide) (by decide)
  have i1 : M1 1 = M 1 := p1 1 (by decide) (by decide) (by decide) (by decide)
  have i9 : M1 9 = M 9 := p1 9 (by decide) (by decide) (by decide) (by decide)
  refine xgo 22 rfl ?_
  refine xloop2 (J := fun (i : Int) (M' : xMem) => xV kX0 mX0_pass 2 _ M' 22 [some (.inr (.inr none)), some (.inl a), some (.inl b), some (.inl i), none, none] []) (fun i M' => 0 ≤ i ∧ i ≤ 64 ∧ JS (M 0) M' ∧ (∀ k, k ≠ 5 → k ≠ 6 → k ≠ 7 → M' k = M1 k) ∧ (∀ x, cl x → (M' 7 x ≠ 0 ↔ inH (M1 4) i x)) ∧ ¬ Cn (inH (M1 4) i) a b) (fun i _ => (64 - i).toNat) ?_ 0 M1 ⟨by omega, by omega, JS_0 i0 p3, fun _ _ _ _ => rfl, fun x hx => ⟨fun q => absurd (p3 x hx).2.2 q, fun ⟨j, j0, j1, _⟩ => by omega⟩, fun q => by obtain ⟨j, j0, j1, _⟩ := q.1; omega⟩
  intro i M2 ⟨h1, h2, h3, h4, h5, h6⟩ ih
  refine xgo 25 rfl ?_
  refine xbr rfl (fun g => ?_) (fun g => ?_)
  · exfalso
    have e : i = 64 := by omega
    subst e
    exact h6 (grid (fun x hx => (p2.1 x).mpr hx) ha hb)
  have m4 : M2 4 = M1 4 := h4 4 (by decide) (by decide) (by decide)
  have hci : cl (M2 4 i) := by
    rw [m4]
    exact Srt_cl p2 h1 g
  refine xgc 35 rfl (by omega) ?_
  refine xcallv (mt_activate M2 (M 0) (M2 4 i) hci h3) rfl rfl lX0_activate rfl rfl rfl (fun M3 hp => ?_)
  obtain ⟨q1, q2, e0, rt, hJR⟩ := hp
  have h4' : ∀ k, k ≠ 5 → k ≠ 6 → k ≠ 7 → M3 k = M1 k := fun k k5 k6 k7 => (q1 k k5 k6 k7).trans (h4 k k5 k6 k7)
  have h5' : ∀ x, cl x → (M3 7 x ≠ 0 ↔ inH (M1 4) (i + 1) x) := act_s q2 h5 (fun x => by rw [m4]; exact inH_s h1)
  have hcn : Cn (fun z => M3 7 z ≠ 0) a b ↔ Cn (inH (M1 4) (i + 1)) a b := Cn_iff h5' ha
  refine xgc 44 rfl (by omega) ?_
  refine xbr rfl (fun k1 => ?_) (fun k1 => ?_)
  · refine xgc 22 rfl (by omega) ?_
    exact ih (i + 1) M3 ⟨by omega, by omega, ⟨e0, rt, hJR⟩, h4', h5', fun q => (hcn.mpr q).1 k1⟩ (by omega)
  refine xgc 53 rfl (by omega) ?_
  refine xbr rfl (fun k2 => ?_) (fun k2 => ?_)
  · refine xgc 22 rfl (by omega) ?_
    exact ih (i + 1) M3 ⟨by omega, by omega, ⟨e0, rt, hJR⟩, h4', h5', fun q => (Cn_P (hcn.mpr q)) k2⟩ (by omega)
  have hcon := JR_con hJR ha hb k1
  obtain ⟨⟨f, hU⟩, hR, hT⟩ := hJR
  refine xgo 58 rfl ?_
  refine xcall (mt_find M3 a rt f ha hU) rfl rfl lX0_find rfl rfl rfl (fun ra M4 hp => ?_)
  obtain ⟨rfl, s1, s2⟩ := hp
  refine xgo 65 rfl ?_
  refine xcall (mt_find M4 b rt f hb s2) rfl rfl lX0_find rfl rfl rfl (fun rb M5 hp => ?_)
  obtain ⟨rfl, s3, s4⟩ := hp
  have s5 : ∀ k, k ≠ 5 → M5 k = M3 k := fun k k5 => (s3 k k5).trans (s1 k k5)
  have h4'' : ∀ k, k ≠ 5 → k ≠ 6 → k ≠ 7 → M5 k = M1 k := fun k k5 k6 k7 => (s5 k k5).trans (h4' k k5 k6 k7)
  refine xgo 74 rfl ?_
  refine xbr rfl (fun k3 => ?_) (fun k3 => ?_)
  · refine xgc 22 rfl (by omega) (xfg 4 (xfg 5 ?_))
    exact ih (i + 1) M5 ⟨by omega, by omega, JS_f e0 hR hT s5 s4, h4'', fun x hx => by rw [s5 7 (by decide)]; exact h5' x hx, fun q => k3 (hcon.mpr (hcn.mpr q))⟩ (by omega)
  · have n4 : M5 4 = M1 4 := h4'' 4 (by decide) (by decide) (by decide)
    have n0 : M5 0 = M 0 := (h4'' 0 (by decide) (by decide) (by decide)).trans i0
    have n1 : M5 1 = M 1 := (h4'' 1 (by decide) (by decide) (by decide)).trans i1
    have n9 : M5 9 = M 9 := (h4'' 9 (by decide) (by decide) (by decide)).trans i9
    rw [m4, ← n4] at hci
    unfold cl at hci
    refine xgc 88 rfl (by omega) ?_
    refine xret rfl rfl ⟨n0, Or.inr ⟨ha, hb, ?_⟩, inv0_eq hI n0 n1 n9⟩
    rw [n0, n4]
    exact ps_low p2 ha h1 g h6 (hcn.mp (hcon.mp k3))
theorem mt_reach (M : xMem) (a v : Int) (hI : inv0 M) : xMet kX0 mX0_reach 2 true M [a, v] (fun r M' => M' 0 = M 0 ∧ rcP (M 0) a v r ∧ inv0 M') := by
  refine xMet_of kX0_ok oX0_reach rfl (Nat.le_of_ble_eq_true rfl) (fun hM hz => ?_)
  refine xgo 1 rfl ?_
  refine xcalls (mt_bad M a) rfl rfl lX0_bad rfl rfl rfl (fun r M' hp => ?_)
  obtain ⟨rfl, hr⟩ := hp
  refine xbr rfl (fun q => ?_) (fun q => ?_)
  rotate_left
  · refine xgo 8 rfl ?_
    exact xret rfl rfl ⟨rfl, Or.inl ⟨by unfold cl; omega, rfl⟩, hI⟩
  have ha : cl a := by unfold cl; omega
  clear hr q
  have ha2 := ha
  unfold cl at ha2
  refine xgc 16 rfl (by omega) ?_
  refine xbr rfl (fun hav => ?_) (fun hav => ?_)
  rotate_left
  · refine xgo 20 rfl ?_
    refine xret rfl rfl ⟨rfl, Or.inr ⟨ha, ?_⟩, hI⟩
    have e : cnt (Cn (fun x => M 0 x ≤ v) a) 64 = cnt (fun _ => False) 64 := cnt_congr 64 (fun x _ _ => ⟨fun q => by
      have := q.1
      have this : M 0 a ≤ v := this
      omega, fun q => q.elim⟩)
    rw [e, cnt_0]
    rfl
  refine xgo 22 rfl ?_
  refine xcallv (mt_startJoining M) rfl rfl lX0_startJoining rfl rfl rfl (fun M1 hp => ?_)
  obtain ⟨p1, p2, p3⟩ := hp
  have i0 : M1 0 = M 0 := p1 0 (by decide) (by decide) (by decide) (by decide)
  have i1 : M1 1 = M 1 := p1 1 (by decide) (by decide) (by decide) (by decide)
  have i9 : M1 9 = M 9 := p1 9 (by decide) (by decide) (by decide) (by decide)
  refine xgo 27 rfl ?_
  refine xjn (α := Int × xMem) (fun q => JS (M 0) q.2 ∧ (∀ k, k ≠ 5 → k ≠ 6 → k ≠ 7 → q.2 k = M1 k) ∧ ∀ x, cl x → (q.2 7 x ≠ 0 ↔ M 0 x ≤ v)) 64 (fun q => q.2) (fun q => [some (.inr (.inr none)), some (.inl a), some (.inl v), some (.inl q.1), none, none, none]) (fun _ => []) ?_ ?_
  rotate_left
  · intro kj
    refine xloop2 (J := fun (i : Int) (M' : xMem) => xV kX0 mX0_reach 2 _ M' 27 [some (.inr (.inr none)), some (.inl a), some (.inl v), some (.inl i), none, none, none] []) (fun i M' => 0 ≤ i ∧ i ≤ 64 ∧ JS (M 0) M' ∧ (∀ k, k ≠ 5 → k ≠ 6 → k ≠ 7 → M' k = M1 k) ∧ (∀ x, cl x → (M' 7 x ≠ 0 ↔ inH (M1 4) i x)) ∧ ∀ j, 0 ≤ j → j < i → M 0 (M1 4 j) ≤ v) (fun i _ => (64 - i).toNat) ?_ 0 M1 ⟨by omega, by omega, JS_0 i0 p3, fun _ _ _ _ => rfl, fun x hx => ⟨fun q => absurd (p3 x hx).2.2 q, fun ⟨j, j0, j1, _⟩ => by omega⟩, fun j j0 j1 => by omega⟩
    intro i M2 ⟨h1, h2, h3, h4, h5, h6⟩ ih
    have fin : (i < 64 → v < M 0 (M1 4 i)) → ∀ x, cl x → (M2 7 x ≠ 0 ↔ M 0 x ≤ v) := by
      intro hl x hx
      rw [h5 x hx]
      constructor
      · intro ⟨j, j0, j1, j2⟩
        have := h6 j j0 j1
        rw [j2] at this
        exact this
      · intro hxv
        obtain ⟨j, j0, j1, j2⟩ := (p2.1 x).mpr hx
        refine ⟨j, j0, Classical.byContradiction (fun hj => ?_), j2⟩
        have a1 := hl (by omega)
        have a2 := p2.2 i j h1 (by omega) j1
        rw [j2] at a2
        omega
    refine xgo 30 rfl ?_
    refine xbr rfl (fun g => ?_) (fun g => ?_)
    · exact kj (i, M2) ⟨h3, h4, fin (fun q => by omega)⟩
    have m4 : M2 4 = M1 4 := h4 4 (by decide) (by decide) (by decide)
    have m0 : M2 0 = M 0 := (h4 0 (by decide) (by decide) (by decide)).trans i0
    have hci : cl (M2 4 i) := by
      rw [m4]
      exact Srt_cl p2 h1 g
    have hci2 := hci
    unfold cl at hci2
    refine xgc 45 rfl (by omega) ?_
    refine xbr rfl (fun g2 => ?_) (fun g2 => ?_)
    · exact kj (i, M2) ⟨h3, h4, fin (fun _ => by rw [← m0, ← m4]; exact g2)⟩
    refine xgc 55 rfl (by omega) ?_
    refine xcallv (mt_activate M2 (M 0) (M2 4 i) hci h3) rfl rfl lX0_activate rfl rfl rfl (fun M3 hp => ?_)
    obtain ⟨q1, q2, q3⟩ := hp
    refine xgc 27 rfl (by omega) ?_
    refine ih (i + 1) M3 ⟨by omega, by omega, q3, fun k k5 k6 k7 => (q1 k k5 k6 k7).trans (h4 k k5 k6 k7), act_s q2 h5 (fun x => by rw [m4]; exact inH_s h1), fun j j0 j1 => ?_⟩ (by omega)
    by_cases e : j = i
    · rw [e, ← m0, ← m4]
      exact g2
    · exact h6 j j0 (by omega)
  intro ⟨i, M2⟩ ⟨⟨e0, rt, hJR⟩, h4, h5⟩
  have e0 : M2 0 = M 0 := e0
  have hJR : JR (M 0) (M2 5) (M2 6) rt (adP fun z => M2 7 z ≠ 0) := hJR
  have h4 : ∀ k, k ≠ 5 → k ≠ 6 → k ≠ 7 → M2 k = M1 k := h4
  have h5 : ∀ x, cl x → (M2 7 x ≠ 0 ↔ M 0 x ≤ v) := h5
  have hcon : ∀ x, cl x → (rt a = rt x ↔ Cn (fun z => M 0 z ≤ v) a x) := fun x hx => (JR_con hJR ha hx ((h5 a ha).mpr hav)).trans (Cn_iff h5 ha)
  obtain ⟨⟨f, hU⟩, hR, hT⟩ := hJR
  refine xgo 66 rfl ?_
  refine xcall (mt_find M2 a rt f ha hU) rfl rfl lX0_find rfl rfl rfl (fun ra M3 hp => ?_)
  obtain ⟨rfl, s1, s2⟩ := hp
  refine xgo 76 rfl ?_
  refine xloop3 (J := fun (n c : Int) (M' : xMem) => xV kX0 mX0_reach 2 _ M' 76 [some (.inr (.inr none)), some (.inl a), some (.inl v), some (.inl (rt a)), some (.inl n), some (.inl c), none] []) (fun n c M' => 0 ≤ c ∧ c ≤ 64 ∧ n = (cnt (Cn (fun x => M 0 x ≤ v) a) c.toNat : Nat) ∧ (∀ k, k ≠ 5 → M' k = M2 k) ∧ UF (M' 5) rt f) (fun _ c _ => (64 - c).toNat) ?_ 0 0 M3 ⟨by omega, by omega, rfl, s1, s2⟩
  clear s1 s2 hU
  intro n c M4 ⟨g1, g2, g3, g4, g5⟩ ih
  have hn : cnt (Cn (fun x => M 0 x ≤ v) a) c.toNat ≤ c.toNat := cnt_le _ _
  refine xgo 80 rfl ?_
  refine xbr rfl (fun k => ?_) (fun k => ?_)
  · have e : c = 64 := by omega
    subst e
    have h4' : ∀ k, k ≠ 5 → k ≠ 6 → k ≠ 7 → M4 k = M1 k := fun k k5 k6 k7 => (g4 k k5).trans (h4 k k5 k6 k7)
    have n0 : M4 0 = M 0 := (h4' 0 (by decide) (by decide) (by decide)).trans i0
    have n1 : M4 1 = M 1 := (h4' 1 (by decide) (by decide) (by decide)).trans i1
    have n9 : M4 9 = M 9 := (h4' 9 (by decide) (by decide) (by decide)).trans i9
    refine xgo 118 rfl ?_
    exact xret rfl rfl ⟨n0, Or.inr ⟨ha, g3⟩, inv0_eq hI n0 n1 n9⟩
  have hc : cl c := ⟨g1, k⟩
  refine xgo 86 rfl ?_
  refine xcall (mt_find M4 c rt f hc g5) rfl rfl lX0_find rfl rfl rfl (fun rc M5 hp => ?_)
  obtain ⟨rfl, s1, s2⟩ := hp
  have g4' : ∀ k, k ≠ 5 → M5 k = M2 k := fun k k5 => (s1 k k5).trans (g4 k k5)
  refine xgc 98 rfl (by omega) ?_
  rw [g4' 7 (by decide)]
  refine xbr rfl (fun k1 => ?_) (fun k1 => ?_)
  · refine xgc 76 rfl (by omega) (xfg 6 ?_)
    refine ih n (c + 1) M5 ⟨by omega, by omega, ?_, g4', s2⟩ (by omega)
    rw [cnt_ni g1 (fun hq => (h5 c hc).mpr (Cn_P (P := fun x => M 0 x ≤ v) hq) k1)]
    exact g3
  refine xgo 104 rfl ?_
  refine xbr rfl (fun k2 => ?_) (fun k2 => ?_)
  · refine xgc 76 rfl (by omega) (xfg 6 ?_)
    refine ih n (c + 1) M5 ⟨by omega, by omega, ?_, g4', s2⟩ (by omega)
    rw [cnt_ni g1 (fun hq => k2 ((hcon c hc).mpr hq).symm)]
    exact g3
  · refine xgc 76 rfl (by omega) (xfg 6 ?_)
    refine ih (n + 1) (c + 1) M5 ⟨by omega, by omega, ?_, g4', s2⟩ (by omega)
    rw [cnt_yi g1 ((hcon c hc).mp k2.symm), g3]
    omega
/-- the cells from place i on -/
def inT (o : Int → Int) (i x : Int) : Prop := ∃ j, i ≤ j ∧ j < 64 ∧ o j = x
theorem inT_s {o : Int → Int} {i x : Int} (h1 : i < 64) : inT o i x ↔ inT o (i + 1) x ∨ x = o i := by
  constructor
  · intro ⟨j, j0, j1, j2⟩
    by_cases e : j = i
    · rw [e] at j2
      exact Or.inr j2.symm
    · exact Or.inl ⟨j, by omega, j1, j2⟩
  · intro q
    rcases q with ⟨j, j0, j1, j2⟩ | q
    · exact ⟨j, by omega, j1, j2⟩
    · exact ⟨i, by omega, h1, q.symm⟩
theorem mt_prominence (M : xMem) (a : Int) (hI : inv0 M) : xMet kX0 mX0_prominence 2 true M [a] (fun r M' => M' 0 = M 0 ∧ prP (M 0) a r ∧ inv0 M') := by
  refine xMet_of kX0_ok oX0_prominence rfl (Nat.le_of_ble_eq_true rfl) (fun hM hz => ?_)
  refine xgo 1 rfl ?_
  refine xcalls (mt_bad M a) rfl rfl lX0_bad rfl rfl rfl (fun r M' hp => ?_)
  obtain ⟨rfl, hr⟩ := hp
  refine xbr rfl (fun q => ?_) (fun q => ?_)
  rotate_left
  · refine xgo 8 rfl ?_
    exact xret rfl rfl ⟨rfl, Or.inl ⟨by unfold cl; omega, rfl⟩, hI⟩
  have ha : cl a := by unfold cl; omega
  clear hr q
  have ha2 := ha
  unfold cl at ha2
  have hh := hI.1
  have hha := hh a ha
  refine xgo 10 rfl ?_
  refine xcallv (mt_startJoining M) rfl rfl lX0_startJoining rfl rfl rfl (fun M1 hp => ?_)
  obtain ⟨p1, p2, p3⟩ := hp
  have i0 : M1 0 = M 0 := p1 0 (by decide) (by decide) (by decide) (by decide)
  have i1 : M1 1 = M 1 := p1 1 (by decide) (by decide) (by decide) (by decide)
  have i9 : M1 9 = M 9 := p1 9 (by decide) (by decide) (by decide) (by decide)
  refine xgo 16 rfl ?_
  refine xloop2 (J := fun (i : Int) (M' : xMem) => xV kX0 mX0_prominence 2 _ M' 16 [some (.inr (.inr none)), some (.inl a), some (.inl i), none] []) (fun i M' => -1 ≤ i ∧ i < 64 ∧ JS (M 0) M' ∧ (∀ k, k ≠ 5 → k ≠ 6 → k ≠ 7 → M' k = M1 k) ∧ (∀ x, cl x → (M' 7 x ≠ 0 ↔ inT (M1 4) (i + 1) x)) ∧ ∀ e, cl e → M 0 a < M 0 e → ¬ Cn (inT (M1 4) (i + 1)) a e) (fun i _ => (i + 1).toNat) ?_ 63 M1 ⟨by omega, by omega, JS_0 i0 p3, fun _ _ _ _ => rfl, fun x hx => ⟨fun q => absurd (p3 x hx).2.2 q, fun ⟨j, j0, j1, _⟩ => by omega⟩, fun e he he2 q => by obtain ⟨j, j0, j1, _⟩ := q.1; omega⟩
  intro i M2 ⟨h1, h2, h3, h4, h5, h6⟩ ih
  have m4 : M2 4 = M1 4 := h4 4 (by decide) (by decide) (by decide)
  have m0 : M2 0 = M 0 := (h4 0 (by decide) (by decide) (by decide)).trans i0
  have m1 : M2 1 = M 1 := (h4 1 (by decide) (by decide) (by decide)).trans i1
  have m9 : M2 9 = M 9 := (h4 9 (by decide) (by decide) (by decide)).trans i9
  refine xgo 17 rfl ?_
  refine xbr rfl (fun g => ?_) (fun g => ?_)
  · have e : i = -1 := by omega
    subst e
    have hc0 := Srt_cl p2 (i := 0) (by omega) (by omega)
    have hh0 := hh _ hc0
    have hall : ∀ x, cl x → M 0 (M1 4 0) ≤ M 0 x := by
      intro x hx
      obtain ⟨j, j0, j1, j2⟩ := (p2.1 x).mpr hx
      have := p2.2 0 j (by omega) j0 j1
      rw [j2] at this
      exact this
    have hc0b := hc0
    unfold cl at hc0b
    rw [← m4] at hc0b
    rw [← m4, ← m0] at hh0
    rw [← m0] at hha
    refine xgc 103 rfl (by omega) ?_
    refine xret rfl rfl ⟨m0, Or.inr ⟨ha, M 0 (M1 4 0), Or.inr ⟨fun e he => ?_, hall, M1 4 0, hc0, rfl⟩, by rw [m0, m4]⟩, inv0_eq hI m0 m1 m9⟩
    refine Classical.byContradiction (fun q => h6 e he (by omega) (grid (fun x hx => ?_) ha he))
    obtain ⟨j, j0, j1, j2⟩ := (p2.1 x).mpr hx
    exact ⟨j, by omega, j1, j2⟩
  have hci : cl (M2 4 i) := by
    rw [m4]
    exact Srt_cl p2 g h2
  refine xgc 27 rfl (by omega) ?_
  refine xcallv (mt_activate M2 (M 0) (M2 4 i) hci h3) rfl rfl lX0_activate rfl rfl rfl (fun M3 hp => ?_)
  obtain ⟨q1, q2, e0, rt, hJR⟩ := hp
  have h4' : ∀ k, k ≠ 5 → k ≠ 6 → k ≠ 7 → M3 k = M1 k := fun k k5 k6 k7 => (q1 k k5 k6 k7).trans (h4 k k5 k6 k7)
  have h5' : ∀ x, cl x → (M3 7 x ≠ 0 ↔ inT (M1 4) i x) := act_s q2 h5 (fun x => by rw [m4]; exact inT_s h2)
  have hcn : ∀ e, Cn (fun z => M3 7 z ≠ 0) a e ↔ Cn (inT (M1 4) i) a e := fun e => Cn_iff h5' ha
  have ei : i + -1 + 1 = i := by omega
  refine xgc 36 rfl (by omega) ?_
  refine xbr rfl (fun k1 => ?_) (fun k1 => ?_)
  · refine xgc 16 rfl (by omega) ?_
    exact ih (i + -1) M3 ⟨by omega, by omega, ⟨e0, rt, hJR⟩, h4', by rw [ei]; exact h5', fun e he he2 q => by rw [ei] at q; exact ((hcn e).mpr q).1 k1⟩ (by omega)
  have hcon : ∀ x, cl x → (rt a = rt x ↔ Cn (fun z => M3 7 z ≠ 0) a x) := fun x hx => JR_con hJR ha hx k1
  obtain ⟨⟨f, hU⟩, hR, hT⟩ := hJR
  obtain ⟨-, -, -, -, ra, -⟩ := hU a ha
  have rab := ra
  unfold cl at rab
  refine xgo 41 rfl ?_
  refine xcall (mt_find M3 a rt f ha hU) rfl rfl lX0_find rfl rfl rfl (fun r M4 hp => ?_)
  obtain ⟨rfl, s1, s2⟩ := hp
  have h4'' : ∀ k, k ≠ 5 → k ≠ 6 → k ≠ 7 → M4 k = M1 k := fun k k5 k6 k7 => (s1 k k5).trans (h4' k k5 k6 k7)
  have n4 : M4 4 = M1 4 := h4'' 4 (by decide) (by decide) (by decide)
  have n0 : M4 0 = M 0 := (h4'' 0 (by decide) (by decide) (by decide)).trans i0
  have n1 : M4 1 = M 1 := (h4'' 1 (by decide) (by decide) (by decide)).trans i1
  have n9 : M4 9 = M 9 := (h4'' 9 (by decide) (by decide) (by decide)).trans i9
  refine xgc 57 rfl (by omega) ?_
  rw [n0, s1 6 (by decide)]
  refine xbr rfl (fun k2 => ?_) (fun k2 => ?_)
  · refine xgc 16 rfl (by omega) (xfg 3 ?_)
    refine ih (i + -1) M4 ⟨by omega, by omega, JS_f e0 hR hT s1 s2, h4'', by rw [ei, s1 7 (by decide)]; exact h5', fun e he he2 q => ?_⟩ (by omega)
    rw [ei] at q
    have a1 := (hT a ha).1 e he ((hcon e he).mpr ((hcn e).mpr q)).symm
    omega
  · have hhi := hh _ hci
    have hci2 := hci
    rw [m4, ← n4] at hci2 hhi
    unfold cl at hci2
    rw [← n0] at hhi hha
    refine xgc 78 rfl (by omega) ?_
    obtain ⟨y, y1, y2, y3⟩ := (hT a ha).2
    have hyC := (hcn y).mp ((hcon y y1).mp y2.symm)
    have hya : M 0 a < M 0 y := by omega
    refine xret rfl rfl ⟨n0, Or.inr ⟨ha, M 0 (M1 4 i), Or.inl ⟨⟨y, y1, hya⟩, ?_, fun v hv => ⟨fun hvw => ?_, fun ⟨e, he, he2, q⟩ => ?_⟩⟩, by rw [n0, n4]⟩, inv0_eq hI n0 n1 n9⟩
    · rw [← n0, ← n4]
      exact hhi.1
    · refine ⟨y, y1, hya, Cn_m (fun x hx ⟨j, j0, j1, j2⟩ => ?_) ha hyC⟩
      have := p2.2 i j g j0 j1
      rw [j2] at this
      exact Int.le_trans hvw this
    · refine Classical.byContradiction (fun hv2 => h6 e he he2 (Cn_m (fun x hx hxv => ?_) ha q))
      obtain ⟨j, j0, j1, j2⟩ := (p2.1 x).mpr hx
      refine ⟨j, Classical.byContradiction (fun hj => ?_), j1, j2⟩
      have := p2.2 j i j0 (by omega) h2
      rw [j2] at this
      have hxv : v ≤ M 0 x := hxv
      omega
end
section
set_option maxRecDepth 100000
/-! the constructors -/
def xM0 : xMem := fun _ _ => 0
theorem dX0_init_0 : decode cX0_init 0 = .ok (.aload_n 0, 1) := by decide +kernel
theorem dX0_init_1 : decode cX0_init 1 = .ok (.invokespecial 1, 3) := by decide +kernel
theorem dX0_init_4 : decode cX0_init 4 = .ok (.aload_n 0, 1) := by decide +kernel
theorem dX0_init_5 : decode cX0_init 5 = .ok (.bipush 64, 2) := by decide +kernel
theorem dX0_init_7 : decode cX0_init 7 = .ok (.newarray .int, 2) := by decide +kernel
theorem dX0_init_9 : decode cX0_init 9 = .ok (.putfield 7, 3) := by decide +kernel
theorem dX0_init_12 : decode cX0_init 12 = .ok (.aload_n 0, 1) := by decide +kernel
theorem dX0_init_13 : decode cX0_init 13 = .ok (.bipush 64, 2) := by decide +kernel
theorem dX0_init_15 : decode cX0_init 15 = .ok (.newarray .int, 2) := by decide +kernel
theorem dX0_init_17 : decode cX0_init 17 = .ok (.putfield 13, 3) := by decide +kernel
theorem dX0_init_20 : decode cX0_init 20 = .ok (.aload_n 0, 1) := by decide +kernel
theorem dX0_init_21 : decode cX0_init 21 = .ok (.bipush 64, 2) := by decide +kernel
theorem dX0_init_23 : decode cX0_init 23 = .ok (.newarray .int, 2) := by decide +kernel
theorem dX0_init_25 : decode cX0_init 25 = .ok (.putfield 16, 3) := by decide +kernel
theorem dX0_init_28 : decode cX0_init 28 = .ok (.aload_n 0, 1) := by decide +kernel
theorem dX0_init_29 : decode cX0_init 29 = .ok (.bipush 64, 2) := by decide +kernel
theorem dX0_init_31 : decode cX0_init 31 = .ok (.newarray .boolean, 2) := by decide +kernel
theorem dX0_init_33 : decode cX0_init 33 = .ok (.putfield 19, 3) := by decide +kernel
theorem dX0_init_36 : decode cX0_init 36 = .ok (.aload_n 0, 1) := by decide +kernel
theorem dX0_init_37 : decode cX0_init 37 = .ok (.bipush 64, 2) := by decide +kernel
theorem dX0_init_39 : decode cX0_init 39 = .ok (.newarray .int, 2) := by decide +kernel
theorem dX0_init_41 : decode cX0_init 41 = .ok (.putfield 23, 3) := by decide +kernel
theorem dX0_init_44 : decode cX0_init 44 = .ok (.aload_n 0, 1) := by decide +kernel
theorem dX0_init_45 : decode cX0_init 45 = .ok (.bipush 64, 2) := by decide +kernel
theorem dX0_init_47 : decode cX0_init 47 = .ok (.newarray .int, 2) := by decide +kernel
theorem dX0_init_49 : decode cX0_init 49 = .ok (.putfield 26, 3) := by decide +kernel
theorem dX0_init_52 : decode cX0_init 52 = .ok (.aload_n 0, 1) := by decide +kernel
theorem dX0_init_53 : decode cX0_init 53 = .ok (.bipush 64, 2) := by decide +kernel
theorem dX0_init_55 : decode cX0_init 55 = .ok (.newarray .int, 2) := by decide +kernel
theorem dX0_init_57 : decode cX0_init 57 = .ok (.putfield 29, 3) := by decide +kernel
theorem dX0_init_60 : decode cX0_init 60 = .ok (.aload_n 0, 1) := by decide +kernel
theorem dX0_init_61 : decode cX0_init 61 = .ok (.bipush 64, 2) := by decide +kernel
theorem dX0_init_63 : decode cX0_init 63 = .ok (.newarray .boolean, 2) := by decide +kernel
theorem dX0_init_65 : decode cX0_init 65 = .ok (.putfield 32, 3) := by decide +kernel
theorem dX0_init_68 : decode cX0_init 68 = .ok (.aload_n 0, 1) := by decide +kernel
theorem dX0_init_69 : decode cX0_init 69 = .ok (.bipush 64, 2) := by decide +kernel
theorem dX0_init_71 : decode cX0_init 71 = .ok (.newarray .int, 2) := by decide +kernel
theorem dX0_init_73 : decode cX0_init 73 = .ok (.putfield 35, 3) := by decide +kernel
theorem dX0_init_76 : decode cX0_init 76 = .ok (.aload_n 0, 1) := by decide +kernel
theorem dX0_init_77 : decode cX0_init 77 = .ok (.iconst 0, 1) := by decide +kernel
theorem dX0_init_78 : decode cX0_init 78 = .ok (.putfield 38, 3) := by decide +kernel
theorem dX0_init_81 : decode cX0_init 81 = .ok (.return_, 1) := by decide +kernel
set_option maxHeartbeats 4000000 in
theorem mi_X0 (l : Launch) (dC : Nat → ClassId) (dI : Nat → Nat → Nat) (h0 sz : Nat) : Met l yX0_init (ws_ yX0_init cX0_init 1 none) ({ frames := 1, cells := 9, slots := 576, locals := 12 }) (va_Pc [.ref h0] (fun U => U.heap.size = sz ∧ va_P (dC, dI) vwCl [(h0, .inr (0, [.null, .int 0, .null, .int 0, .null, .null, .null, .null, .null, .null, .null]))] U.heap ∧ va_K (dC, dI) vwCl [] U ∧ va_D (fun _ => True) [(h0, .inr (0, [.null, .int 0, .null, .int 0, .null, .null, .null, .null, .null, .null, .null]))])) (va_Qv (fun G : xG => G.1 = (dC, dI) ∧ G.2.1 0 = h0) (fun G t => xB kX0 G (va_A [(h0, .inr (0, [.null, .int 0, .null, .int 0, .null, .null, .null, .null, .null, .null, .null]))] sz) xM0 t) (va_A [(h0, .inr (0, [.null, .int 0, .null, .int 0, .null, .null, .null, .null, .null, .null, .null]))] sz)) 9 576 (va_A [(h0, .inr (0, [.null, .int 0, .null, .int 0, .null, .null, .null, .null, .null, .null, .null]))] sz) := by
  refine Met.ofW (cc := cX0_init) (maxL := 1) (ret := none) (by decide) rfl ?_
  intro p e s m args below meth c s₁ B hml hv
  obtain ⟨rfl, hsz, hP, hK, hD0⟩ := hv
  have hx := B.exec
  have hb := B.bytes
  have hr := B.returns
  have hts := atoms_spec (ws := ws_ yX0_init cX0_init 1 none) B.pre
  have hts : ∀ w ∈ lw_all, w.before _ s = true := fun w h => hts w (List.mem_cons_of_mem _ h)
  have hown : s.vm.findClass RX0 = some m.cls := findClass_of_methodNamed B.named
  have hlocks := B.notSynchronized
  have hin : meth.name = "<init>" := (name_of_methodNamed B.named B.method).1
  subst hsz
  have hD := hD0.self (sz := s.heap.size)
  generalize hAe : va_A [(h0, .inr (0, [.null, .int 0, .null, .int 0, .null, .null, .null, .null, .null, .null, .null]))] s.heap.size = A at hD ⊢
  have hA : ∀ q : Nat, s.heap.size ≤ q → A q := fun q h => by rw [← hAe]; exact Or.inr h
  have hS : va_S A s.heap s.heap [] := va_S.rf
  have hl := lv_entry ([.ref h0]) (n := 1) (Nat.le_of_ble_eq_true rfl)
  rw [lg_entry_eq]
  generalize (lg_sl ([.ref h0]) ++ List.replicate (1 - (lg_sl ([.ref h0])).length) Slot.unset).toArray = ls at hl ⊢
  have hl : lv_has ls 1 [(0, .ref h0)] := hl
  refine lv_aload_n hx hb dX0_init_0 rfl (lv_at hl 0 rfl) ?_
  refine W.objInit hx hb hown (hts _ q34) (hts _ q35) (hts _ q36) rfl (by rw [hml]; exact hl.1) rfl dX0_init_1 (Nat.le_of_ble_eq_true rfl) (Nat.le_of_ble_eq_true rfl) ?_
  refine W.eq (g2 := F0 m 4 ls []) rfl ?_
  refine lv_aload_n hx hb dX0_init_4 rfl (lv_at hl 0 rfl) ?_
  refine lv_bipush (v := 64) hx hb dX0_init_5 (by decide) ?_
  refine va_newa (atype := .int) (ty := .int) (a0 := (64, .inl (fun _ => 0))) (N' := 64) hx hb (hts _ q71) rfl hK hP hD hS hA (fun _ => rfl) (by decide) rfl (by decide) (Nat.le_of_ble_eq_true rfl) (Nat.le_of_ble_eq_true rfl) dX0_init_7 (fun r0 c0 H hK hP hD hS => ?_)
  refine W.widen (k := 1) (n := 64) (Nat.le_of_ble_eq_true rfl) (Nat.le_of_ble_eq_true rfl) ?_
  have hP : va_P (dC, dI) vwCl [(h0, .inr (0, [.null, .int 0, .null, .int 0, .null, .null, .null, .null, .null, .null, .null])), (r0, .inl (c0, 64, .inl (fun _ => 0)))] H := hP
  have hD : va_D A [(h0, .inr (0, [.null, .int 0, .null, .int 0, .null, .null, .null, .null, .null, .null, .null])), (r0, .inl (c0, 64, .inl (fun _ => 0)))] := hD
  refine va_putF (D := (dC, dI)) (ci := 0) (v := .ref r0) (ty := .array .int) (C := RX0) (T := TX0) (N := 11) hx hb hts in_X0 tyX0 tyX0_ok nmX0 hown hK hP hD hS 0 rfl rfl 0 (by decide) (hts _ q37) (fun _ h9 => h9) rfl hin rfl (by decide +kernel) rfl rfl (Nat.le_of_ble_eq_true rfl) dX0_init_9 (fun H locs hP hD hS => ?_)
  have hP : va_P (dC, dI) vwCl [(h0, .inr (0, [.ref r0, .int 0, .null, .int 0, .null, .null, .null, .null, .null, .null, .null])), (r0, .inl (c0, 64, .inl (fun _ => 0)))] H := hP
  have hD : va_D A [(h0, .inr (0, [.ref r0, .int 0, .null, .int 0, .null, .null, .null, .null, .null, .null, .null])), (r0, .inl (c0, 64, .inl (fun _ => 0)))] := hD
  refine lv_aload_n hx hb dX0_init_12 rfl (lv_at hl 0 rfl) ?_
  refine lv_bipush (v := 64) hx hb dX0_init_13 (by decide) ?_
  refine va_newa (atype := .int) (ty := .int) (a0 := (64, .inl (fun _ => 0))) (N' := 64) hx hb (hts _ q71) rfl hK hP hD hS hA (fun _ => rfl) (by decide) rfl (by decide) (Nat.le_of_ble_eq_true rfl) (Nat.le_of_ble_eq_true rfl) dX0_init_15 (fun r1 c1 H hK hP hD hS => ?_)
  refine W.widen (k := 2) (n := 128) (Nat.le_of_ble_eq_true rfl) (Nat.le_of_ble_eq_true rfl) ?_
  have hP : va_P (dC, dI) vwCl [(h0, .inr (0, [.ref r0, .int 0, .null, .int 0, .null, .null, .null, .null, .null, .null, .null])), (r0, .inl (c0, 64, .inl (fun _ => 0))), (r1, .inl (c1, 64, .inl (fun _ => 0)))] H := hP
  have hD : va_D A [(h0, .inr (0, [.ref r0, .int 0, .null, .int 0, .null, .null, .null, .null, .null, .null, .null])), (r0, .inl (c0, 64, .inl (fun _ => 0))), (r1, .inl (c1, 64, .inl (fun _ => 0)))] := hD
  refine va_putF (D := (dC, dI)) (ci := 0) (v := .ref r1) (ty := .array .int) (C := RX0) (T := TX0) (N := 11) hx hb hts in_X0 tyX0 tyX0_ok nmX0 hown hK hP hD hS 0 rfl rfl 2 (by decide) (hts _ q39) (fun _ h9 => h9) rfl hin rfl (by decide +kernel) rfl rfl (Nat.le_of_ble_eq_true rfl) dX0_init_17 (fun H locs hP hD hS => ?_)
  have hP : va_P (dC, dI) vwCl [(h0, .inr (0, [.ref r0, .int 0, .ref r1, .int 0, .null, .null, .null, .null, .null, .null, .null])), (r0, .inl (c0, 64, .inl (fun _ => 0))), (r1, .inl (c1, 64, .inl (fun _ => 0)))] H := hP
  have hD : va_D A [(h0, .inr (0, [.ref r0, .int 0, .ref r1, .int 0, .null, .null, .null, .null, .null, .null, .null])), (r0, .inl (c0, 64, .inl (fun _ => 0))), (r1, .inl (c1, 64, .inl (fun _ => 0)))] := hD
  refine lv_aload_n hx hb dX0_init_20 rfl (lv_at hl 0 rfl) ?_
  refine lv_bipush (v := 64) hx hb dX0_init_21 (by decide) ?_
  refine va_newa (atype := .int) (ty := .int) (a0 := (64, .inl (fun _ => 0))) (N' := 64) hx hb (hts _ q71) rfl hK hP hD hS hA (fun _ => rfl) (by decide) rfl (by decide) (Nat.le_of_ble_eq_true rfl) (Nat.le_of_ble_eq_true rfl) dX0_init_23 (fun r2 c2 H hK hP hD hS => ?_)
  refine W.widen (k := 3) (n := 192) (Nat.le_of_ble_eq_true rfl) (Nat.le_of_ble_eq_true rfl) ?_
  have hP : va_P (dC, dI) vwCl [(h0, .inr (0, [.ref r0, .int 0, .ref r1, .int 0, .null, .null, .null, .null, .null, .null, .null])), (r0, .inl (c0, 64, .inl (fun _ => 0))), (r1, .inl (c1, 64, .inl (fun _ => 0))), (r2, .inl (c2, 64, .inl (fun _ => 0)))] H := hP
  have hD : va_D A [(h0, .inr (0, [.ref r0, .int 0, .ref r1, .int 0, .null, .null, .null, .null, .null, .null, .null])), (r0, .inl (c0, 64, .inl (fun _ => 0))), (r1, .inl (c1, 64, .inl (fun _ => 0))), (r2, .inl (c2, 64, .inl (fun _ => 0)))] := hD
  refine va_putF (D := (dC, dI)) (ci := 0) (v := .ref r2) (ty := .array .int) (C := RX0) (T := TX0) (N := 11) hx hb hts in_X0 tyX0 tyX0_ok nmX0 hown hK hP hD hS 0 rfl rfl 4 (by decide) (hts _ q41) (fun _ h9 => h9) rfl hin rfl (by decide +kernel) rfl rfl (Nat.le_of_ble_eq_true rfl) dX0_init_25 (fun H locs hP hD hS => ?_)
  have hP : va_P (dC, dI) vwCl [(h0, .inr (0, [.ref r0, .int 0, .ref r1, .int 0, .ref r2, .null, .null, .null, .null, .null, .null])), (r0, .inl (c0, 64, .inl (fun _ => 0))), (r1, .inl (c1, 64, .inl (fun _ => 0))), (r2, .inl (c2, 64, .inl (fun _ => 0)))] H := hP
  have hD : va_D A [(h0, .inr (0, [.ref r0, .int 0, .ref r1, .int 0, .ref r2, .null, .null, .null, .null, .null, .null])), (r0, .inl (c0, 64, .inl (fun _ => 0))), (r1, .inl (c1, 64, .inl (fun _ => 0))), (r2, .inl (c2, 64, .inl (fun _ => 0)))] := hD
  refine lv_aload_n hx hb dX0_init_28 rfl (lv_at hl 0 rfl) ?_
  refine lv_bipush (v := 64) hx hb dX0_init_29 (by decide) ?_
  refine va_newa (atype := .boolean) (ty := .boolean) (a0 := (64, .inl (fun _ => 0))) (N' := 64) hx hb (hts _ q72) rfl hK hP hD hS hA (fun _ => rfl) (by decide) rfl (by decide) (Nat.le_of_ble_eq_true rfl) (Nat.le_of_ble_eq_true rfl) dX0_init_31 (fun r3 c3 H hK hP hD hS => ?_)
  refine W.widen (k := 4) (n := 256) (Nat.le_of_ble_eq_true rfl) (Nat.le_of_ble_eq_true rfl) ?_
  have hP : va_P (dC, dI) vwCl [(h0, .inr (0, [.ref r0, .int 0, .ref r1, .int 0, .ref r2, .null, .null, .null, .null, .null, .null])), (r0, .inl (c0, 64, .inl (fun _ => 0))), (r1, .inl (c1, 64, .inl (fun _ => 0))), (r2, .inl (c2, 64, .inl (fun _ => 0))), (r3, .inl (c3, 64, .inl (fun _ => 0)))] H := hP
  have hD : va_D A [(h0, .inr (0, [.ref r0, .int 0, .ref r1, .int 0, .ref r2, .null, .null, .null, .null, .null, .null])), (r0, .inl (c0, 64, .inl (fun _ => 0))), (r1, .inl (c1, 64, .inl (fun _ => 0))), (r2, .inl (c2, 64, .inl (fun _ => 0))), (r3, .inl (c3, 64, .inl (fun _ => 0)))] := hD
  refine va_putF (D := (dC, dI)) (ci := 0) (v := .ref r3) (ty := .array .boolean) (C := RX0) (T := TX0) (N := 11) hx hb hts in_X0 tyX0 tyX0_ok nmX0 hown hK hP hD hS 0 rfl rfl 5 (by decide) (hts _ q42) (fun _ h9 => h9) rfl hin rfl (by decide +kernel) rfl rfl (Nat.le_of_ble_eq_true rfl) dX0_init_33 (fun H locs hP hD hS => ?_)
  have hP : va_P (dC, dI) vwCl [(h0, .inr (0, [.ref r0, .int 0, .ref r1, .int 0, .ref r2, .ref r3, .null, .null, .null, .null, .null])), (r0, .inl (c0, 64, .inl (fun _ => 0))), (r1, .inl (c1, 64, .inl (fun _ => 0))), (r2, .inl (c2, 64, .inl (fun _ => 0))), (r3, .inl (c3, 64, .inl (fun _ => 0)))] H := hP
  have hD : va_D A [(h0, .inr (0, [.ref r0, .int 0, .ref r1, .int 0, .ref r2, .ref r3, .null, .null, .null, .null, .null])), (r0, .inl (c0, 64, .inl (fun _ => 0))), (r1, .inl (c1, 64, .inl (fun _ => 0))), (r2, .inl (c2, 64, .inl (fun _ => 0))), (r3, .inl (c3, 64, .inl (fun _ => 0)))] := hD
  refine lv_aload_n hx hb dX0_init_36 rfl (lv_at hl 0 rfl) ?_
  refine lv_bipush (v := 64) hx hb dX0_init_37 (by decide) ?_
  refine va_newa (atype := .int) (ty := .int) (a0 := (64, .inl (fun _ => 0))) (N' := 64) hx hb (hts _ q71) rfl hK hP hD hS hA (fun _ => rfl) (by decide) rfl (by decide) (Nat.le_of_ble_eq_true rfl) (Nat.le_of_ble_eq_true rfl) dX0_init_39 (fun r4 c4 H hK hP hD hS => ?_)
  refine W.widen (k := 5) (n := 320) (Nat.le_of_ble_eq_true rfl) (Nat.le_of_ble_eq_true rfl) ?_
  have hP : va_P (dC, dI) vwCl [(h0, .inr (0, [.ref r0, .int 0, .ref r1, .int 0, .ref r2, .ref r3, .null, .null, .null, .null, .null])), (r0, .inl (c0, 64, .inl (fun _ => 0))), (r1, .inl (c1, 64, .inl (fun _ => 0))), (r2, .inl (c2, 64, .inl (fun _ => 0))), (r3, .inl (c3, 64, .inl (fun _ => 0))), (r4, .inl (c4, 64, .inl (fun _ => 0)))] H := hP
  have hD : va_D A [(h0, .inr (0, [.ref r0, .int 0, .ref r1, .int 0, .ref r2, .ref r3, .null, .null, .null, .null, .null])), (r0, .inl (c0, 64, .inl (fun _ => 0))), (r1, .inl (c1, 64, .inl (fun _ => 0))), (r2, .inl (c2, 64, .inl (fun _ => 0))), (r3, .inl (c3, 64, .inl (fun _ => 0))), (r4, .inl (c4, 64, .inl (fun _ => 0)))] := hD
  refine va_putF (D := (dC, dI)) (ci := 0) (v := .ref r4) (ty := .array .int) (C := RX0) (T := TX0) (N := 11) hx hb hts in_X0 tyX0 tyX0_ok nmX0 hown hK hP hD hS 0 rfl rfl 6 (by decide) (hts _ q43) (fun _ h9 => h9) rfl hin rfl (by decide +kernel) rfl rfl (Nat.le_of_ble_eq_true rfl) dX0_init_41 (fun H locs hP hD hS => ?_)
  have hP : va_P (dC, dI) vwCl [(h0, .inr (0, [.ref r0, .int 0, .ref r1, .int 0, .ref r2, .ref r3, .ref r4, .null, .null, .null, .null])), (r0, .inl (c0, 64, .inl (fun _ => 0))), (r1, .inl (c1, 64, .inl (fun _ => 0))), (r2, .inl (c2, 64, .inl (fun _ => 0))), (r3, .inl (c3, 64, .inl (fun _ => 0))), (r4, .inl (c4, 64, .inl (fun _ => 0)))] H := hP
  have hD : va_D A [(h0, .inr (0, [.ref r0, .int 0, .ref r1, .int 0, .ref r2, .ref r3, .ref r4, .null, .null, .null, .null])), (r0, .inl (c0, 64, .inl (fun _ => 0))), (r1, .inl (c1, 64, .inl (fun _ => 0))), (r2, .inl (c2, 64, .inl (fun _ => 0))), (r3, .inl (c3, 64, .inl (fun _ => 0))), (r4, .inl (c4, 64, .inl (fun _ => 0)))] := hD
  refine lv_aload_n hx hb dX0_init_44 rfl (lv_at hl 0 rfl) ?_
  refine lv_bipush (v := 64) hx hb dX0_init_45 (by decide) ?_
  refine va_newa (atype := .int) (ty := .int) (a0 := (64, .inl (fun _ => 0))) (N' := 64) hx hb (hts _ q71) rfl hK hP hD hS hA (fun _ => rfl) (by decide) rfl (by decide) (Nat.le_of_ble_eq_true rfl) (Nat.le_of_ble_eq_true rfl) dX0_init_47 (fun r5 c5 H hK hP hD hS => ?_)
  refine W.widen (k := 6) (n := 384) (Nat.le_of_ble_eq_true rfl) (Nat.le_of_ble_eq_true rfl) ?_
  have hP : va_P (dC, dI) vwCl [(h0, .inr (0, [.ref r0, .int 0, .ref r1, .int 0, .ref r2, .ref r3, .ref r4, .null, .null, .null, .null])), (r0, .inl (c0, 64, .inl (fun _ => 0))), (r1, .inl (c1, 64, .inl (fun _ => 0))), (r2, .inl (c2, 64, .inl (fun _ => 0))), (r3, .inl (c3, 64, .inl (fun _ => 0))), (r4, .inl (c4, 64, .inl (fun _ => 0))), (r5, .inl (c5, 64, .inl (fun _ => 0)))] H := hP
  have hD : va_D A [(h0, .inr (0, [.ref r0, .int 0, .ref r1, .int 0, .ref r2, .ref r3, .ref r4, .null, .null, .null, .null])), (r0, .inl (c0, 64, .inl (fun _ => 0))), (r1, .inl (c1, 64, .inl (fun _ => 0))), (r2, .inl (c2, 64, .inl (fun _ => 0))), (r3, .inl (c3, 64, .inl (fun _ => 0))), (r4, .inl (c4, 64, .inl (fun _ => 0))), (r5, .inl (c5, 64, .inl (fun _ => 0)))] := hD
  refine va_putF (D := (dC, dI)) (ci := 0) (v := .ref r5) (ty := .array .int) (C := RX0) (T := TX0) (N := 11) hx hb hts in_X0 tyX0 tyX0_ok nmX0 hown hK hP hD hS 0 rfl rfl 7 (by decide) (hts _ q44) (fun _ h9 => h9) rfl hin rfl (by decide +kernel) rfl rfl (Nat.le_of_ble_eq_true rfl) dX0_init_49 (fun H locs hP hD hS => ?_)
  have hP : va_P (dC, dI) vwCl [(h0, .inr (0, [.ref r0, .int 0, .ref r1, .int 0, .ref r2, .ref r3, .ref r4, .ref r5, .null, .null, .null])), (r0, .inl (c0, 64, .inl (fun _ => 0))), (r1, .inl (c1, 64, .inl (fun _ => 0))), (r2, .inl (c2, 64, .inl (fun _ => 0))), (r3, .inl (c3, 64, .inl (fun _ => 0))), (r4, .inl (c4, 64, .inl (fun _ => 0))), (r5, .inl (c5, 64, .inl (fun _ => 0)))] H := hP
  have hD : va_D A [(h0, .inr (0, [.ref r0, .int 0, .ref r1, .int 0, .ref r2, .ref r3, .ref r4, .ref r5, .null, .null, .null])), (r0, .inl (c0, 64, .inl (fun _ => 0))), (r1, .inl (c1, 64, .inl (fun _ => 0))), (r2, .inl (c2, 64, .inl (fun _ => 0))), (r3, .inl (c3, 64, .inl (fun _ => 0))), (r4, .inl (c4, 64, .inl (fun _ => 0))), (r5, .inl (c5, 64, .inl (fun _ => 0)))] := hD
  refine lv_aload_n hx hb dX0_init_52 rfl (lv_at hl 0 rfl) ?_
  refine lv_bipush (v := 64) hx hb dX0_init_53 (by decide) ?_
  refine va_newa (atype := .int) (ty := .int) (a0 := (64, .inl (fun _ => 0))) (N' := 64) hx hb (hts _ q71) rfl hK hP hD hS hA (fun _ => rfl) (by decide) rfl (by decide) (Nat.le_of_ble_eq_true rfl) (Nat.le_of_ble_eq_true rfl) dX0_init_55 (fun r6 c6 H hK hP hD hS => ?_)
  refine W.widen (k := 7) (n := 448) (Nat.le_of_ble_eq_true rfl) (Nat.le_of_ble_eq_true rfl) ?_
  have hP : va_P (dC, dI) vwCl [(h0, .inr (0, [.ref r0, .int 0, .ref r1, .int 0, .ref r2, .ref r3, .ref r4, .ref r5, .null, .null, .null])), (r0, .inl (c0, 64, .inl (fun _ => 0))), (r1, .inl (c1, 64, .inl (fun _ => 0))), (r2, .inl (c2, 64, .inl (fun _ => 0))), (r3, .inl (c3, 64, .inl (fun _ => 0))), (r4, .inl (c4, 64, .inl (fun _ => 0))), (r5, .inl (c5, 64, .inl (fun _ => 0))), (r6, .inl (c6, 64, .inl (fun _ => 0)))] H := hP
  have hD : va_D A [(h0, .inr (0, [.ref r0, .int 0, .ref r1, .int 0, .ref r2, .ref r3, .ref r4, .ref r5, .null, .null, .null])), (r0, .inl (c0, 64, .inl (fun _ => 0))), (r1, .inl (c1, 64, .inl (fun _ => 0))), (r2, .inl (c2, 64, .inl (fun _ => 0))), (r3, .inl (c3, 64, .inl (fun _ => 0))), (r4, .inl (c4, 64, .inl (fun _ => 0))), (r5, .inl (c5, 64, .inl (fun _ => 0))), (r6, .inl (c6, 64, .inl (fun _ => 0)))] := hD
  refine va_putF (D := (dC, dI)) (ci := 0) (v := .ref r6) (ty := .array .int) (C := RX0) (T := TX0) (N := 11) hx hb hts in_X0 tyX0 tyX0_ok nmX0 hown hK hP hD hS 0 rfl rfl 8 (by decide) (hts _ q45) (fun _ h9 => h9) rfl hin rfl (by decide +kernel) rfl rfl (Nat.le_of_ble_eq_true rfl) dX0_init_57 (fun H locs hP hD hS => ?_)
  have hP : va_P (dC, dI) vwCl [(h0, .inr (0, [.ref r0, .int 0, .ref r1, .int 0, .ref r2, .ref r3, .ref r4, .ref r5, .ref r6, .null, .null])), (r0, .inl (c0, 64, .inl (fun _ => 0))), (r1, .inl (c1, 64, .inl (fun _ => 0))), (r2, .inl (c2, 64, .inl (fun _ => 0))), (r3, .inl (c3, 64, .inl (fun _ => 0))), (r4, .inl (c4, 64, .inl (fun _ => 0))), (r5, .inl (c5, 64, .inl (fun _ => 0))), (r6, .inl (c6, 64, .inl (fun _ => 0)))] H := hP
  have hD : va_D A [(h0, .inr (0, [.ref r0, .int 0, .ref r1, .int 0, .ref r2, .ref r3, .ref r4, .ref r5, .ref r6, .null, .null])), (r0, .inl (c0, 64, .inl (fun _ => 0))), (r1, .inl (c1, 64, .inl (fun _ => 0))), (r2, .inl (c2, 64, .inl (fun _ => 0))), (r3, .inl (c3, 64, .inl (fun _ => 0))), (r4, .inl (c4, 64, .inl (fun _ => 0))), (r5, .inl (c5, 64, .inl (fun _ => 0))), (r6, .inl (c6, 64, .inl (fun _ => 0)))] := hD
  refine lv_aload_n hx hb dX0_init_60 rfl (lv_at hl 0 rfl) ?_
  refine lv_bipush (v := 64) hx hb dX0_init_61 (by decide) ?_
  refine va_newa (atype := .boolean) (ty := .boolean) (a0 := (64, .inl (fun _ => 0))) (N' := 64) hx hb (hts _ q72) rfl hK hP hD hS hA (fun _ => rfl) (by decide) rfl (by decide) (Nat.le_of_ble_eq_true rfl) (Nat.le_of_ble_eq_true rfl) dX0_init_63 (fun r7 c7 H hK hP hD hS => ?_)
  refine W.widen (k := 8) (n := 512) (Nat.le_of_ble_eq_true rfl) (Nat.le_of_ble_eq_true rfl) ?_
  have hP : va_P (dC, dI) vwCl [(h0, .inr (0, [.ref r0, .int 0, .ref r1, .int 0, .ref r2, .ref r3, .ref r4, .ref r5, .ref r6, .null, .null])), (r0, .inl (c0, 64, .inl (fun _ => 0))), (r1, .inl (c1, 64, .inl (fun _ => 0))), (r2, .inl (c2, 64, .inl (fun _ => 0))), (r3, .inl (c3, 64, .inl (fun _ => 0))), (r4, .inl (c4, 64, .inl (fun _ => 0))), (r5, .inl (c5, 64, .inl (fun _ => 0))), (r6, .inl (c6, 64, .inl (fun _ => 0))), (r7, .inl (c7, 64, .inl (fun _ => 0)))] H := hP
  have hD : va_D A [(h0, .inr (0, [.ref r0, .int 0, .ref r1, .int 0, .ref r2, .ref r3, .ref r4, .ref r5, .ref r6, .null, .null])), (r0, .inl (c0, 64, .inl (fun _ => 0))), (r1, .inl (c1, 64, .inl (fun _ => 0))), (r2, .inl (c2, 64, .inl (fun _ => 0))), (r3, .inl (c3, 64, .inl (fun _ => 0))), (r4, .inl (c4, 64, .inl (fun _ => 0))), (r5, .inl (c5, 64, .inl (fun _ => 0))), (r6, .inl (c6, 64, .inl (fun _ => 0))), (r7, .inl (c7, 64, .inl (fun _ => 0)))] := hD
  refine va_putF (D := (dC, dI)) (ci := 0) (v := .ref r7) (ty := .array .boolean) (C := RX0) (T := TX0) (N := 11) hx hb hts in_X0 tyX0 tyX0_ok nmX0 hown hK hP hD hS 0 rfl rfl 9 (by decide) (hts _ q46) (fun _ h9 => h9) rfl hin rfl (by decide +kernel) rfl rfl (Nat.le_of_ble_eq_true rfl) dX0_init_65 (fun H locs hP hD hS => ?_)
  have hP : va_P (dC, dI) vwCl [(h0, .inr (0, [.ref r0, .int 0, .ref r1, .int 0, .ref r2, .ref r3, .ref r4, .ref r5, .ref r6, .ref r7, .null])), (r0, .inl (c0, 64, .inl (fun _ => 0))), (r1, .inl (c1, 64, .inl (fun _ => 0))), (r2, .inl (c2, 64, .inl (fun _ => 0))), (r3, .inl (c3, 64, .inl (fun _ => 0))), (r4, .inl (c4, 64, .inl (fun _ => 0))), (r5, .inl (c5, 64, .inl (fun _ => 0))), (r6, .inl (c6, 64, .inl (fun _ => 0))), (r7, .inl (c7, 64, .inl (fun _ => 0)))] H := hP
  have hD : va_D A [(h0, .inr (0, [.ref r0, .int 0, .ref r1, .int 0, .ref r2, .ref r3, .ref r4, .ref r5, .ref r6, .ref r7, .null])), (r0, .inl (c0, 64, .inl (fun _ => 0))), (r1, .inl (c1, 64, .inl (fun _ => 0))), (r2, .inl (c2, 64, .inl (fun _ => 0))), (r3, .inl (c3, 64, .inl (fun _ => 0))), (r4, .inl (c4, 64, .inl (fun _ => 0))), (r5, .inl (c5, 64, .inl (fun _ => 0))), (r6, .inl (c6, 64, .inl (fun _ => 0))), (r7, .inl (c7, 64, .inl (fun _ => 0)))] := hD
  refine lv_aload_n hx hb dX0_init_68 rfl (lv_at hl 0 rfl) ?_
  refine lv_bipush (v := 64) hx hb dX0_init_69 (by decide) ?_
  refine va_newa (atype := .int) (ty := .int) (a0 := (64, .inl (fun _ => 0))) (N' := 64) hx hb (hts _ q71) rfl hK hP hD hS hA (fun _ => rfl) (by decide) rfl (by decide) (Nat.le_of_ble_eq_true rfl) (Nat.le_of_ble_eq_true rfl) dX0_init_71 (fun r8 c8 H hK hP hD hS => ?_)
  refine W.widen (k := 9) (n := 576) (Nat.le_of_ble_eq_true rfl) (Nat.le_of_ble_eq_true rfl) ?_
  have hP : va_P (dC, dI) vwCl [(h0, .inr (0, [.ref r0, .int 0, .ref r1, .int 0, .ref r2, .ref r3, .ref r4, .ref r5, .ref r6, .ref r7, .null])), (r0, .inl (c0, 64, .inl (fun _ => 0))), (r1, .inl (c1, 64, .inl (fun _ => 0))), (r2, .inl (c2, 64, .inl (fun _ => 0))), (r3, .inl (c3, 64, .inl (fun _ => 0))), (r4, .inl (c4, 64, .inl (fun _ => 0))), (r5, .inl (c5, 64, .inl (fun _ => 0))), (r6, .inl (c6, 64, .inl (fun _ => 0))), (r7, .inl (c7, 64, .inl (fun _ => 0))), (r8, .inl (c8, 64, .inl (fun _ => 0)))] H := hP
  have hD : va_D A [(h0, .inr (0, [.ref r0, .int 0, .ref r1, .int 0, .ref r2, .ref r3, .ref r4, .ref r5, .ref r6, .ref r7, .null])), (r0, .inl (c0, 64, .inl (fun _ => 0))), (r1, .inl (c1, 64, .inl (fun _ => 0))), (r2, .inl (c2, 64, .inl (fun _ => 0))), (r3, .inl (c3, 64, .inl (fun _ => 0))), (r4, .inl (c4, 64, .inl (fun _ => 0))), (r5, .inl (c5, 64, .inl (fun _ => 0))), (r6, .inl (c6, 64, .inl (fun _ => 0))), (r7, .inl (c7, 64, .inl (fun _ => 0))), (r8, .inl (c8, 64, .inl (fun _ => 0)))] := hD
  refine va_putF (D := (dC, dI)) (ci := 0) (v := .ref r8) (ty := .array .int) (C := RX0) (T := TX0) (N := 11) hx hb hts in_X0 tyX0 tyX0_ok nmX0 hown hK hP hD hS 0 rfl rfl 10 (by decide) (hts _ q47) (fun _ h9 => h9) rfl hin rfl (by decide +kernel) rfl rfl (Nat.le_of_ble_eq_true rfl) dX0_init_73 (fun H locs hP hD hS => ?_)
  have hP : va_P (dC, dI) vwCl [(h0, .inr (0, [.ref r0, .int 0, .ref r1, .int 0, .ref r2, .ref r3, .ref r4, .ref r5, .ref r6, .ref r7, .ref r8])), (r0, .inl (c0, 64, .inl (fun _ => 0))), (r1, .inl (c1, 64, .inl (fun _ => 0))), (r2, .inl (c2, 64, .inl (fun _ => 0))), (r3, .inl (c3, 64, .inl (fun _ => 0))), (r4, .inl (c4, 64, .inl (fun _ => 0))), (r5, .inl (c5, 64, .inl (fun _ => 0))), (r6, .inl (c6, 64, .inl (fun _ => 0))), (r7, .inl (c7, 64, .inl (fun _ => 0))), (r8, .inl (c8, 64, .inl (fun _ => 0)))] H := hP
  have hD : va_D A [(h0, .inr (0, [.ref r0, .int 0, .ref r1, .int 0, .ref r2, .ref r3, .ref r4, .ref r5, .ref r6, .ref r7, .ref r8])), (r0, .inl (c0, 64, .inl (fun _ => 0))), (r1, .inl (c1, 64, .inl (fun _ => 0))), (r2, .inl (c2, 64, .inl (fun _ => 0))), (r3, .inl (c3, 64, .inl (fun _ => 0))), (r4, .inl (c4, 64, .inl (fun _ => 0))), (r5, .inl (c5, 64, .inl (fun _ => 0))), (r6, .inl (c6, 64, .inl (fun _ => 0))), (r7, .inl (c7, 64, .inl (fun _ => 0))), (r8, .inl (c8, 64, .inl (fun _ => 0)))] := hD
  refine lv_aload_n hx hb dX0_init_76 rfl (lv_at hl 0 rfl) ?_
  refine lv_iconst (v := 0) hx hb dX0_init_77 (by decide) ?_
  refine va_put (D := (dC, dI)) (ci := 0) (v := .int 0) (ty := .boolean) (C := RX0) (T := TX0) (N := 11) hx hb hts in_X0 tyX0 tyX0_ok nmX0 hown hK hP hD hS 0 rfl rfl 1 (by decide) (hts _ q38) (fun _ h9 => h9) rfl (by decide +kernel) (by decide) (by decide) (Nat.le_of_ble_eq_true rfl) dX0_init_78 (fun H locs hP hD hS => ?_)
  obtain ⟨G, hG⟩ : ∃ G : xG, G = ((dC, dI), (fun z => match z with | 0 => h0 | 1 => r0 | 2 => r1 | 3 => r2 | 4 => r3 | 5 => r4 | 6 => r5 | 7 => r6 | 8 => r7 | 9 => r8 | _ => 0), (fun z => match z with | 0 => c0 | 1 => c1 | 2 => c2 | 3 => c3 | 4 => c4 | 5 => c5 | 6 => c6 | 7 => c7 | 8 => c8 | _ => c0)) := ⟨_, rfl⟩
  have hP9 : va_P G.1 vwCl (xpx kX0 G xM0) H := by rw [hG]; exact hP
  have hD9 : va_D A (xpx kX0 G xM0) := by rw [hG]; exact hD
  have hK9 : va_K G.1 vwCl (xty kX0 G) s := by rw [hG]; exact hK
  exact W.vret hx hb hr (fun t ht hW => ⟨⟨G, rfl, ⟨by rw [hG], by rw [hG]; rfl⟩, by rw [ht]; exact hP9, va_K.moved hW.alike hK9, hD9⟩, hS.F ht⟩) hS.2.2 dX0_init_81
theorem dX1_init_0 : decode cX1_init 0 = .ok (.aload_n 0, 1) := by decide +kernel
theorem dX1_init_1 : decode cX1_init 1 = .ok (.invokespecial 1, 3) := by decide +kernel
theorem dX1_init_4 : decode cX1_init 4 = .ok (.aload_n 0, 1) := by decide +kernel
theorem dX1_init_5 : decode cX1_init 5 = .ok (.bipush 64, 2) := by decide +kernel
theorem dX1_init_7 : decode cX1_init 7 = .ok (.newarray .int, 2) := by decide +kernel
theorem dX1_init_9 : decode cX1_init 9 = .ok (.putfield 7, 3) := by decide +kernel
theorem dX1_init_12 : decode cX1_init 12 = .ok (.aload_n 0, 1) := by decide +kernel
theorem dX1_init_13 : decode cX1_init 13 = .ok (.bipush 64, 2) := by decide +kernel
theorem dX1_init_15 : decode cX1_init 15 = .ok (.newarray .int, 2) := by decide +kernel
theorem dX1_init_17 : decode cX1_init 17 = .ok (.putfield 13, 3) := by decide +kernel
theorem dX1_init_20 : decode cX1_init 20 = .ok (.return_, 1) := by decide +kernel
set_option maxHeartbeats 4000000 in
theorem mi_X1 (l : Launch) (dC : Nat → ClassId) (dI : Nat → Nat → Nat) (h0 sz : Nat) : Met l yX1_init (ws_ yX1_init cX1_init 1 none) ({ frames := 1, cells := 2, slots := 128, locals := 12 }) (va_Pc [.ref h0] (fun U => U.heap.size = sz ∧ va_P (dC, dI) vwCl [(h0, .inr (1, [.null, .null]))] U.heap ∧ va_K (dC, dI) vwCl [] U ∧ va_D (fun _ => True) [(h0, .inr (1, [.null, .null]))])) (va_Qv (fun G : xG => G.1 = (dC, dI) ∧ G.2.1 0 = h0) (fun G t => xB kX1 G (va_A [(h0, .inr (1, [.null, .null]))] sz) xM0 t) (va_A [(h0, .inr (1, [.null, .null]))] sz)) 2 128 (va_A [(h0, .inr (1, [.null, .null]))] sz) := by
  refine Met.ofW (cc := cX1_init) (maxL := 1) (ret := none) (by decide) rfl ?_
  intro p e s m args below meth c s₁ B hml hv
  obtain ⟨rfl, hsz, hP, hK, hD0⟩ := hv
  have hx := B.exec
  have hb := B.bytes
  have hr := B.returns
  have hts := atoms_spec (ws := ws_ yX1_init cX1_init 1 none) B.pre
  have hts : ∀ w ∈ lw_all, w.before _ s = true := fun w h => hts w (List.mem_cons_of_mem _ h)
  have hown : s.vm.findClass RX1 = some m.cls := findClass_of_methodNamed B.named
  have hlocks := B.notSynchronized
  have hin : meth.name = "<init>" := (name_of_methodNamed B.named B.method).1
  subst hsz
  have hD := hD0.self (sz := s.heap.size)
  generalize hAe : va_A [(h0, .inr (1, [.null, .null]))] s.heap.size = A at hD ⊢
  have hA : ∀ q : Nat, s.heap.size ≤ q → A q := fun q h => by rw [← hAe]; exact Or.inr h
  have hS : va_S A s.heap s.heap [] := va_S.rf
  have hl := lv_entry ([.ref h0]) (n := 1) (Nat.le_of_ble_eq_true rfl)
  rw [lg_entry_eq]
  generalize (lg_sl ([.ref h0]) ++ List.replicate (1 - (lg_sl ([.ref h0])).length) Slot.unset).toArray = ls at hl ⊢
  have hl : lv_has ls 1 [(0, .ref h0)] := hl
  refine lv_aload_n hx hb dX1_init_0 rfl (lv_at hl 0 rfl) ?_
  refine W.objInit hx hb hown (hts _ q186) (hts _ q35) (hts _ q36) rfl (by rw [hml]; exact hl.1) rfl dX1_init_1 (Nat.le_of_ble_eq_true rfl) (Nat.le_of_ble_eq_true rfl) ?_
  refine W.eq (g2 := F0 m 4 ls []) rfl ?_
  refine lv_aload_n hx hb dX1_init_4 rfl (lv_at hl 0 rfl) ?_
  refine lv_bipush (v := 64) hx hb dX1_init_5 (by decide) ?_
  refine va_newa (atype := .int) (ty := .int) (a0 := (64, .inl (fun _ => 0))) (N' := 64) hx hb (hts _ q71) rfl hK hP hD hS hA (fun _ => rfl) (by decide) rfl (by decide) (Nat.le_of_ble_eq_true rfl) (Nat.le_of_ble_eq_true rfl) dX1_init_7 (fun r0 c0 H hK hP hD hS => ?_)
  refine W.widen (k := 1) (n := 64) (Nat.le_of_ble_eq_true rfl) (Nat.le_of_ble_eq_true rfl) ?_
  have hP : va_P (dC, dI) vwCl [(h0, .inr (1, [.null, .null])), (r0, .inl (c0, 64, .inl (fun _ => 0)))] H := hP
  have hD : va_D A [(h0, .inr (1, [.null, .null])), (r0, .inl (c0, 64, .inl (fun _ => 0)))] := hD
  refine va_putF (D := (dC, dI)) (ci := 1) (v := .ref r0) (ty := .array .int) (C := RX1) (T := TX1) (N := 2) hx hb hts in_X1 tyX1 tyX1_ok nmX1 hown hK hP hD hS 0 rfl rfl 0 (by decide) (hts _ q187) (fun _ h9 => h9) rfl hin rfl (by decide +kernel) rfl rfl (Nat.le_of_ble_eq_true rfl) dX1_init_9 (fun H locs hP hD hS => ?_)
  have hP : va_P (dC, dI) vwCl [(h0, .inr (1, [.ref r0, .null])), (r0, .inl (c0, 64, .inl (fun _ => 0)))] H := hP
  have hD : va_D A [(h0, .inr (1, [.ref r0, .null])), (r0, .inl (c0, 64, .inl (fun _ => 0)))] := hD
  refine lv_aload_n hx hb dX1_init_12 rfl (lv_at hl 0 rfl) ?_
  refine lv_bipush (v := 64) hx hb dX1_init_13 (by decide) ?_
  refine va_newa (atype := .int) (ty := .int) (a0 := (64, .inl (fun _ => 0))) (N' := 64) hx hb (hts _ q71) rfl hK hP hD hS hA (fun _ => rfl) (by decide) rfl (by decide) (Nat.le_of_ble_eq_true rfl) (Nat.le_of_ble_eq_true rfl) dX1_init_15 (fun r1 c1 H hK hP hD hS => ?_)
  refine W.widen (k := 2) (n := 128) (Nat.le_of_ble_eq_true rfl) (Nat.le_of_ble_eq_true rfl) ?_
  have hP : va_P (dC, dI) vwCl [(h0, .inr (1, [.ref r0, .null])), (r0, .inl (c0, 64, .inl (fun _ => 0))), (r1, .inl (c1, 64, .inl (fun _ => 0)))] H := hP
  have hD : va_D A [(h0, .inr (1, [.ref r0, .null])), (r0, .inl (c0, 64, .inl (fun _ => 0))), (r1, .inl (c1, 64, .inl (fun _ => 0)))] := hD
  refine va_putF (D := (dC, dI)) (ci := 1) (v := .ref r1) (ty := .array .int) (C := RX1) (T := TX1) (N := 2) hx hb hts in_X1 tyX1 tyX1_ok nmX1 hown hK hP hD hS 0 rfl rfl 1 (by decide) (hts _ q188) (fun _ h9 => h9) rfl hin rfl (by decide +kernel) rfl rfl (Nat.le_of_ble_eq_true rfl) dX1_init_17 (fun H locs hP hD hS => ?_)
  have hP : va_P (dC, dI) vwCl [(h0, .inr (1, [.ref r0, .ref r1])), (r0, .inl (c0, 64, .inl (fun _ => 0))), (r1, .inl (c1, 64, .inl (fun _ => 0)))] H := hP
  have hD : va_D A [(h0, .inr (1, [.ref r0, .ref r1])), (r0, .inl (c0, 64, .inl (fun _ => 0))), (r1, .inl (c1, 64, .inl (fun _ => 0)))] := hD
  obtain ⟨G, hG⟩ : ∃ G : xG, G = ((dC, dI), (fun z => match z with | 0 => h0 | 1 => r0 | 2 => r1 | _ => 0), (fun z => match z with | 0 => c0 | 1 => c1 | _ => c0)) := ⟨_, rfl⟩
  have hP9 : va_P G.1 vwCl (xpx kX1 G xM0) H := by rw [hG]; exact hP
  have hD9 : va_D A (xpx kX1 G xM0) := by rw [hG]; exact hD
  have hK9 : va_K G.1 vwCl (xty kX1 G) s := by rw [hG]; exact hK
  exact W.vret hx hb hr (fun t ht hW => ⟨⟨G, rfl, ⟨by rw [hG], by rw [hG]; rfl⟩, by rw [ht]; exact hP9, va_K.moved hW.alike hK9, hD9⟩, hS.F ht⟩) hS.2.2 dX1_init_20
end
section
set_option maxRecDepth 100000
/-! the plain law: each answer is one value of the terrain -/
theorem le_eq {a b : Int} (h : ∀ v, a ≤ v ↔ b ≤ v) : a = b := Int.le_antisymm ((h b).mpr (Int.le_refl b)) ((h a).mp (Int.le_refl a))
theorem un_set {h h1 h2 : Int → Int} {c v r1 r2 : Int} (p : setP h c v r1 h1) (q : setP h c v r2 h2) : r1 = r2 ∧ h2 = h1 := by
  rcases p with ⟨p1, p2, p3⟩ | ⟨p1, p2, p3, p4⟩ | ⟨p1, p2, p3, p4⟩ <;> rcases q with ⟨q1, q2, q3⟩ | ⟨q1, q2, q3, q4⟩ | ⟨q1, q2, q3, q4⟩
  · exact ⟨p2.trans q2.symm, q3.trans p3.symm⟩
  · exact absurd q1 p1
  · exact absurd q1 p1
  · exact absurd p1 q1
  · exact ⟨p3.trans q3.symm, q4.trans p4.symm⟩
  · exact absurd q2 p2
  · exact absurd p1 q1
  · exact absurd p2 q2
  · exact ⟨p3.trans q3.symm, q4.trans p4.symm⟩
theorem un_shift {h h1 h2 : Int → Int} {a b m r1 r2 : Int} (p : shP h a b m r1 h1) (q : shP h a b m r2 h2) : r1 = r2 ∧ h2 = h1 := by
  rcases p with ⟨p1, p2, p3⟩ | ⟨p1, p2, p3, p4⟩ <;> rcases q with ⟨q1, q2, q3⟩ | ⟨q1, q2, q3, q4⟩
  · exact ⟨p2.trans q2.symm, q3.trans p3.symm⟩
  · exact absurd ⟨q1, q2⟩ p1
  · exact absurd ⟨p1, p2⟩ q1
  · exact ⟨p3.trans q3.symm, q4.trans p4.symm⟩
theorem un_height {h : Int → Int} {c r1 r2 : Int} (p : htP h c r1) (q : htP h c r2) : r1 = r2 := by
  rcases p with ⟨p1, p2⟩ | ⟨p1, p2⟩ <;> rcases q with ⟨q1, q2⟩ | ⟨q1, q2⟩
  · exact p2.trans q2.symm
  · exact absurd q1 p1
  · exact absurd p1 q1
  · exact p2.trans q2.symm
theorem un_level {h : Int → Int} {c r1 r2 : Int} (p : lvP h c r1) (q : lvP h c r2) : r1 = r2 := by
  rcases p with ⟨p1, p2⟩ | ⟨p1, p2⟩ <;> rcases q with ⟨q1, q2⟩ | ⟨q1, q2⟩
  · exact p2.trans q2.symm
  · exact absurd q1 p1
  · exact absurd p1 q1
  · exact le_eq (fun v => (p2 v).trans (q2 v).symm)
theorem un_volume {h : Int → Int} {r1 r2 : Int} (p : volP h r1) (q : volP h r2) : r1 = r2 := by
  obtain ⟨l1, p1, p2⟩ := p
  obtain ⟨l2, q1, q2⟩ := q
  rw [p2, q2]
  refine sm_congr 64 (fun c c0 c1 => ?_)
  have e : l1 c = l2 c := le_eq (fun v => (p1 c ⟨c0, c1⟩ v).trans (q1 c ⟨c0, c1⟩ v).symm)
  show l1 c - h c = l2 c - h c
  rw [e]
theorem un_lakes {h : Int → Int} {r1 r2 : Int} (p : lkP h r1) (q : lkP h r2) : r1 = r2 := Eq.trans p (Eq.symm q)
theorem un_lakeSize {h : Int → Int} {c r1 r2 : Int} (p : lsP h c r1) (q : lsP h c r2) : r1 = r2 := by
  rcases p with ⟨p1, p2⟩ | ⟨p1, p2, p3⟩ | ⟨p1, p2, p3⟩ <;> rcases q with ⟨q1, q2⟩ | ⟨q1, q2, q3⟩ | ⟨q1, q2, q3⟩
  · exact p2.trans q2.symm
  · exact absurd q1 p1
  · exact absurd q1 p1
  · exact absurd p1 q1
  · exact p3.trans q3.symm
  · exact absurd q2 p2
  · exact absurd p1 q1
  · exact absurd p2 q2
  · exact p3.trans q3.symm
theorem un_pass {h : Int → Int} {a b r1 r2 : Int} (p : psP h a b r1) (q : psP h a b r2) : r1 = r2 := by
  rcases p with ⟨p1, p2⟩ | ⟨p1, p2, p3⟩ <;> rcases q with ⟨q1, q2⟩ | ⟨q1, q2, q3⟩
  · exact p2.trans q2.symm
  · exact absurd ⟨q1, q2⟩ p1
  · exact absurd ⟨p1, p2⟩ q1
  · exact le_eq (fun v => (p3 v).trans (q3 v).symm)
theorem un_reach {h : Int → Int} {a v r1 r2 : Int} (p : rcP h a v r1) (q : rcP h a v r2) : r1 = r2 := by
  rcases p with ⟨p1, p2⟩ | ⟨p1, p2⟩ <;> rcases q with ⟨q1, q2⟩ | ⟨q1, q2⟩
  · exact p2.trans q2.symm
  · exact absurd q1 p1
  · exact absurd p1 q1
  · exact p2.trans q2.symm
theorem un_prQ {h : Int → Int} {c w1 w2 : Int} (p : prQ h c w1) (q : prQ h c w2) : w1 = w2 := by
  rcases p with ⟨⟨e, e1, e2⟩, p1, p2⟩ | ⟨p1, p2, e, e1, e2⟩ <;> rcases q with ⟨⟨f, f1, f2⟩, q1, q2⟩ | ⟨q1, q2, f, f1, f2⟩
  · have a1 := (q2 w1 p1).mpr ((p2 w1 p1).mp (Int.le_refl _))
    have a2 := (p2 w2 q1).mpr ((q2 w2 q1).mp (Int.le_refl _))
    omega
  · have := q1 e e1
    omega
  · have := p1 f f1
    omega
  · have a1 := p2 f f1
    have a2 := q2 e e1
    omega
theorem un_prominence {h : Int → Int} {c r1 r2 : Int} (p : prP h c r1) (q : prP h c r2) : r1 = r2 := by
  rcases p with ⟨p1, p2⟩ | ⟨p1, w1, p2, p3⟩ <;> rcases q with ⟨q1, q2⟩ | ⟨q1, w2, q2, q3⟩
  · exact p2.trans q2.symm
  · exact absurd q1 p1
  · exact absurd p1 q1
  · rw [p3, q3, un_prQ p2 q2]
theorem un_summits {h : Int → Int} {r1 r2 : Int} (p : suP h r1) (q : suP h r2) : r1 = r2 := Eq.trans p (Eq.symm q)
end
section
set_option maxRecDepth 100000
/-! THE CLAIM OUT OF ONE WALK OF THE LAW'S BODY. Your part is whole_start (and what it stands on); all else here is the same for every law, but numbers. -/
def R_law : String := "FloodTerrainLaw"
def lw_P (b : Addr) (xs : List Int32) (args : Array Value) (s : State) : Prop := args = #[.ref b] ∧ s.IntsAt b xs ∧ xs.length ≤ 256 ∧ (Jvm.Cond.and given_1 narrow_1).before args s = true
def lw_Q (_ : Array Value) (s : State) (o : Outcome) (t : State) : Prop := o = .returned (some (.int 1)) ∧ Framed s o t [] 600000 7290000
def lw_Z (below : List Frame) (a : Array Value) (s : State) : State → Prop := fun t => ∃ o, t.status = .running ∧ Ended t below o ∧ lw_Q a s o t
/-- the law's own end, with 1 on the stack, nothing written that was there before, its room as the claim has it -/
theorem lw_ret {p : Program} {l : Launch} {e : Env} {s : State} {m : MethodId} {below : List Frame} {meth : Method} {c : Code} {b : Nat} (hx : p.tables.exec = Jvm.exec) (hb : c.code = code) (hr : meth.sig.returnType = ret) (hlocks : meth.locks = false) {pc : Nat} {H : Heap} {ls : Array Slot} (hdg : decode code pc = .ok (.ireturn, 1)) : W p l e room_1 s m #[Value.ref b] below meth c H [] 600000 7290000 (lw_Z below #[Value.ref b] s) (F0 m pc ls [.int 1]) := by
  intro T hT X
  obtain ⟨fs, hret, hrun, hended, hW, hframe⟩ := X.leave (v := some (.int 1)) (hlocks := hlocks) (fun h => by rw [hr] at h; cases h)
  have hmeth' : T.vm.method? m = some meth := X.method'
  refine ⟨T.setFrames fs, ?_, .returned (some (.int 1)), hrun, hended, rfl, ⟨_, rfl⟩, hW, hframe⟩
  jvm_step X.here [X.here.top, hx, hb, hdg, hmeth', hr, ret, narrow_b1]
  (try refine ⟨rfl, ?_⟩); (try refine ⟨rfl, ?_⟩)
  first | (intro acts; rw [hret _ acts rfl rfl rfl]) | rw [hret _ _ rfl rfl rfl]
  exact Steps.refl _
/-- what holds at the law's entry: the machine, the code, the tables' words (any of lw_tbl by 'hts w (by decide +kernel)'), the script of L ints xs at the cell b, what the Statement gives of the start (any of its parts by flat_of_before) -/
def lw_At (p : Program) (s : State) (m : MethodId) (meth : Method) (c : Code) (b L : Nat) (xs : Nat → Int32) : Prop :=
  p.tables.exec = Jvm.exec ∧ c.code = code ∧ meth.sig.returnType = ret ∧ c.maxLocals = 4 ∧ s.vm.findClass R_law = some m.cls ∧ (∀ w ∈ lw_tbl, w.before #[Value.ref b] s = true) ∧ va_X b L xs s s.heap ∧ b < s.heap.size ∧ meth.locks = false ∧ (Jvm.Cond.and given_1 narrow_1).before #[Value.ref b] s = true
/-! the law's calls -/
def lLk (K : xKl) (n : Nat) (μ : xMd) (na : Nat) : Prop := GoodIn lw_all (wsV R_law n K.2.1.1 μ.1 (ws_ μ.1 μ.2.1 μ.2.2.1 μ.2.2.2.1)) ∧ (μ.1.cls = K.2.1.1 ∧ μ.1.cls ≠ "java/lang/invoke/MethodHandle" ∧ μ.1.cls ≠ "java/lang/invoke/VarHandle" ∧ (parseMethodDescriptor μ.1.desc).map (fun d => d.parameters.length) = some na) ∧ μ.2.2.1 ≤ 14
theorem lLX0_set : lLk kX0 13 mX0_set 2 := ⟨lw_V q73 q74 q75 q27 q76, ⟨rfl, by decide +kernel, by decide +kernel, by decide +kernel⟩, by decide⟩
theorem lLX0_shift : lLk kX0 18 mX0_shift 3 := ⟨lw_V q80 q81 q82 q27 q83, ⟨rfl, by decide +kernel, by decide +kernel, by decide +kernel⟩, by decide⟩
theorem lLX0_pattern : lLk kX0 23 mX0_pattern 2 := ⟨lw_V q87 q88 q89 q27 q90, ⟨rfl, by decide +kernel, by decide +kernel, by decide +kernel⟩, by decide⟩
theorem lLX0_height : lLk kX0 28 mX0_height 1 := ⟨lw_V q91 q92 q93 q27 q94, ⟨rfl, by decide +kernel, by decide +kernel, by decide +kernel⟩, by decide⟩
theorem lLX0_level : lLk kX0 33 mX0_level 1 := ⟨lw_V q95 q96 q97 q27 q98, ⟨rfl, by decide +kernel, by decide +kernel, by decide +kernel⟩, by decide⟩
theorem lLX0_volume : lLk kX0 37 mX0_volume 0 := ⟨lw_V q125 q126 q127 q27 q128, ⟨rfl, by decide +kernel, by decide +kernel, by decide +kernel⟩, by decide⟩
theorem lLX0_lakes : lLk kX0 42 mX0_lakes 0 := ⟨lw_V q129 q130 q131 q27 q132, ⟨rfl, by decide +kernel, by decide +kernel, by decide +kernel⟩, by decide⟩
theorem lLX0_lakeSize : lLk kX0 46 mX0_lakeSize 1 := ⟨lw_V q141 q142 q143 q27 q144, ⟨rfl, by decide +kernel, by decide +kernel, by decide +kernel⟩, by decide⟩
theorem lLX0_pass : lLk kX0 50 mX0_pass 2 := ⟨lw_V q145 q146 q147 q27 q148, ⟨rfl, by decide +kernel, by decide +kernel, by decide +kernel⟩, by decide⟩
theorem lLX0_reach : lLk kX0 54 mX0_reach 2 := ⟨lw_V q165 q166 q167 q27 q168, ⟨rfl, by decide +kernel, by decide +kernel, by decide +kernel⟩, by decide⟩
theorem lLX0_prominence : lLk kX0 58 mX0_prominence 1 := ⟨lw_V q169 q170 q171 q27 q172, ⟨rfl, by decide +kernel, by decide +kernel, by decide +kernel⟩, by decide⟩
theorem lLX0_summits : lLk kX0 62 mX0_summits 0 := ⟨lw_V q173 q174 q175 q27 q176, ⟨rfl, by decide +kernel, by decide +kernel, by decide +kernel⟩, by decide⟩
theorem lLX1_set : lLk kX1 17 mX1_set 2 := ⟨lw_V q194 q195 q196 q28 q197, ⟨rfl, by decide +kernel, by decide +kernel, by decide +kernel⟩, by decide⟩
theorem lLX1_shift : lLk kX1 22 mX1_shift 3 := ⟨lw_V q202 q203 q204 q28 q205, ⟨rfl, by decide +kernel, by decide +kernel, by decide +kernel⟩, by decide⟩
theorem lLX1_pattern : lLk kX1 27 mX1_pattern 2 := ⟨lw_V q219 q220 q221 q28 q222, ⟨rfl, by decide +kernel, by decide +kernel, by decide +kernel⟩, by decide⟩
theorem lLX1_height : lLk kX1 32 mX1_height 1 := ⟨lw_V q223 q224 q225 q28 q226, ⟨rfl, by decide +kernel, by decide +kernel, by decide +kernel⟩, by decide⟩
theorem lLX1_level : lLk kX1 36 mX1_level 1 := ⟨lw_V q227 q228 q229 q28 q230, ⟨rfl, by decide +kernel, by decide +kernel, by decide +kernel⟩, by decide⟩
theorem lLX1_volume : lLk kX1 41 mX1_volume 0 := ⟨lw_V q251 q252 q253 q28 q254, ⟨rfl, by decide +kernel, by decide +kernel, by decide +kernel⟩, by decide⟩
theorem lLX1_lakes : lLk kX1 45 mX1_lakes 0 := ⟨lw_V q255 q256 q257 q28 q258, ⟨rfl, by decide +kernel, by decide +kernel, by decide +kernel⟩, by decide⟩
theorem lLX1_lakeSize : lLk kX1 49 mX1_lakeSize 1 := ⟨lw_V q263 q264 q265 q28 q266, ⟨rfl, by decide +kernel, by decide +kernel, by decide +kernel⟩, by decide⟩
theorem lLX1_pass : lLk kX1 53 mX1_pass 2 := ⟨lw_V q267 q268 q269 q28 q270, ⟨rfl, by decide +kernel, by decide +kernel, by decide +kernel⟩, by decide⟩
theorem lLX1_reach : lLk kX1 57 mX1_reach 2 := ⟨lw_V q275 q276 q277 q28 q278, ⟨rfl, by decide +kernel, by decide +kernel, by decide +kernel⟩, by decide⟩
theorem lLX1_prominence : lLk kX1 61 mX1_prominence 1 := ⟨lw_V q279 q280 q281 q28 q282, ⟨rfl, by decide +kernel, by decide +kernel, by decide +kernel⟩, by decide⟩
theorem lLX1_summits : lLk kX1 65 mX1_summits 0 := ⟨lw_V q287 q288 q289 q28 q290, ⟨rfl, by decide +kernel, by decide +kernel, by decide +kernel⟩, by decide⟩
/-- the law's world: the class's object and the reference's -/
def lwS (s : State) (D : va_G) (a0 a1 : Nat → Nat) (c0 c1 : Nat → ClassId) (M0 M1 : xMem) (H : Heap) (locs : List Loc) : Prop :=
  xrM M0 ∧ xrM M1 ∧ va_K D vwCl (xty kX0 (D, a0, c0) ++ xty kX1 (D, a1, c1)) s ∧ va_P D vwCl (xpx kX0 (D, a0, c0) M0 ++ xpx kX1 (D, a1, c1) M1) H ∧ va_D (fun q : Nat => s.heap.size ≤ q) (xpx kX0 (D, a0, c0) M0 ++ xpx kX1 (D, a1, c1) M1) ∧ va_S (fun q : Nat => s.heap.size ≤ q) s.heap H locs
abbrev lW (p : Program) (l : Launch) (e : Env) (s : State) (m : MethodId) (below : List Frame) (meth : Method) (c : Code) (b : Nat) (H : Heap) (locs : List Loc) (pc : Nat) (ls : Array Slot) (st : List Value) : Prop :=
  W p l e room_1 s m #[Value.ref b] below meth c H locs 13 717 (lw_Z below #[Value.ref b] s) (F0 m pc ls st)
abbrev lLv (b : Nat) (a0 a1 : Nat → Nat) (i : Nat) (ls : Array Slot) : Prop := lv_has ls 4 [(0, .ref b), (1, .ref (a0 0)), (2, .ref (a1 0)), (3, .int (nI i))]
theorem zz_rg (as : List Int32) : ∀ z ∈ as.map Int32.toInt, xrg z := by
  intro z hz
  obtain ⟨y, -, rfl⟩ := List.mem_map.mp hz
  exact xrg_i y
section LAW
variable {p : Program} {l : Launch} {e : Env} {s : State} {m : MethodId} {below : List Frame} {meth : Method} {c : Code} {b L : Nat} {xs : Nat → Int32} {D : va_G} {a0 a1 : Nat → Nat} {c0 c1 : Nat → ClassId} {H : Heap} {locs : List Loc} {ls : Array Slot} {M0 M1 : xMem} {pc : Nat} {rest : List Value}
theorem l_rd {i j : Nat} {n : Int} (hL : L ≤ 256) (C0 : lw_At p s m meth c b L xs) (hw : lwS s D a0 a1 c0 c1 M0 M1 H locs) (hl : lLv b a0 a1 i ls) (d0 : decode code pc = .ok (.aload_n 0, 1)) (d1 : decode code (pc + 1) = .ok (.iload_n 3, 1)) (d2 : decode code (pc + 2) = .ok (.iconst n, 1)) (d3 : decode code (pc + 3) = .ok (.iadd, 1)) (d4 : decode code (pc + 4) = .ok (.iaload, 1)) (hn : Int32.ofInt n = nI j) (hij : i + j < L) (kk : lW p l e s m below meth c b H locs (pc + 5) ls (.int (Int32.ofInt (xs (i + j)).toInt) :: rest)) : lW p l e s m below meth c b H locs pc ls rest := by
  obtain ⟨hx, hb, hr, hml, hown, hts, hX, hbl, hlocks, hgv⟩ := C0
  have hbA : ¬ (fun q : Nat => s.heap.size ≤ q) b := Nat.not_le.mpr hbl
  refine lv_aload_n hx hb d0 rfl (lv_at hl 0 rfl) ?_
  refine lv_iload_n hx hb d1 rfl (lv_at hl 3 rfl) ?_
  refine lv_iconst hx hb d2 hn ?_
  refine lv_iadd hx hb d3 ?_
  rw [nI_add]
  refine va_sld hx hb hX hbl hbA hw.2.2.2.2.2 (vp_in_nI hij (by omega)) d4 ?_
  rw [nI_clamp (by omega)]
  rw [Int32.ofInt_toInt] at kk
  exact kk
theorem lc_0 {n k : Nat} {μ : xMd} {as : List Int} {post : Int → xMem → Prop} {st0 : List Value} {lvs : List (Nat × Value)} (C0 : lw_At p s m meth c b L xs) (hw : lwS s D a0 a1 c0 c1 M0 M1 H locs) (hl : lv_has ls 4 lvs) (hm : xMet kX0 μ k true M0 as post) (hdg : decode code pc = .ok (.invokevirtual n, 3)) (hst : st0 = ((as.map Sum.inl).map (xcv (D, a0, c0))).reverse ++ .ref (a0 0) :: rest) (hlk : lLk kX0 n μ as.length) (hk : Nat.ble k 7 = true) (hrest : (rest.map fun v => v.category).sum ≤ 8) (hr : μ.2.2.2.1.isSome = true) (hz : ∀ z ∈ as, xrg z) (kk : ∀ (r : Int) (N0 : xMem) (H1 : Heap) (locs1 : List Loc), xrg r → post r N0 → lwS s D a0 a1 c0 c1 N0 M1 H1 locs1 → lW p l e s m below meth c b H1 locs1 (pc + 3) ls (.int (Int32.ofInt r) :: rest)) : lW p l e s m below meth c b H locs pc ls st0 := by
  obtain ⟨hx, hb, hrt, hml, hown, hts, hX, hbl, hlocks, hgv⟩ := C0
  have hts : ∀ w ∈ lw_all, w.before _ s = true := fun w h => hts w (lw_all_tbl h)
  obtain ⟨w1, w2, hK, hP, hD, hS⟩ := hw
  have hA : ∀ q : Nat, s.heap.size ≤ q → (fun q : Nat => s.heap.size ≤ q) q := fun _ h => h
  have hPc := hP.sub (ws' := xpx kX0 (D, a0, c0) M0) [0, 1, 2, 3, 4, 5, 6, 7, 8, 9] rfl
  have hDc := hD.sub (ws' := xpx kX0 (D, a0, c0) M0) [0, 1, 2, 3, 4, 5, 6, 7, 8, 9] (by decide) rfl
  have hKc := hK.sub (tys' := xty kX0 (D, a0, c0)) [0, 1, 2, 3, 4, 5, 6, 7, 8] rfl
  have hFc := va_free (wc := xpx kX0 (D, a0, c0) M0) hD hS hA [0, 1, 2, 3, 4, 5, 6, 7, 8, 9] rfl
  have hmet := hm w1 hz l (D, a0, c0) H.size
  have hrm : (xrm k).frames + 1 ≤ room_1.frames ∧ 8 + (μ.2.2.1 + 11) + (xrm k).locals ≤ room_1.locals := by
    have h1 := hlk.2.2
    have h2 := Nat.le_of_ble_eq_true hk
    refine ⟨?_, ?_⟩
    · show k + 1 ≤ 8
      omega
    · show 8 + (μ.2.2.1 + 11) + 33 * k ≤ 274
      omega
  cases hret : μ.2.2.2.1 with
  | none => rw [hret] at hr; cases hr
  | some ty =>
  have hQ : xQ kX0 μ (D, a0, c0) (va_A (xpx kX0 (D, a0, c0) M0) H.size) post = va_Qi (fun (r : Int32) (M' : xMem) => ∃ z : Int, r = Int32.ofInt z ∧ xrg z ∧ xrM M' ∧ post z M') (xB kX0 (D, a0, c0) (va_A (xpx kX0 (D, a0, c0) M0) H.size)) (va_A (xpx kX0 (D, a0, c0) M0) H.size) := by unfold xQ; rw [hret]
  rw [hQ] at hmet
  refine va_calli (va_runV (C := kX0.2.1.1) (b := a0 0) (As := (as.map Sum.inl).map (xcv (D, a0, c0))) (rest := rest) ⟨hx, hb, hml, hown, hts⟩ hmet (cwV as.length hts hlk.1 rfl rfl rfl hlk.2.1 hrm) ⟨xblind, va_recv hKc hPc (ci := 0) (q0 := 0) rfl rfl, fun U hU hW => ⟨rfl, by rw [hU], by rw [hU]; exact hPc, va_K.moved hW.alike hKc, hDc.weaken (fun _ _ _ _ => trivial)⟩⟩ rfl (by rw [List.length_map, List.length_map]) hl.1 hst (lv_room hrest) hdg ⟨Nat.le_of_ble_eq_true rfl, Nat.le_of_ble_eq_true rfl⟩) hS (fun q _ h => hFc q h) hFc (fun r M' t H1 locs1 ht hvm hpost hB hz1 hk1 hS1 => ?_)
  obtain ⟨z, rfl, hzr, hM', hp⟩ := hpost
  obtain ⟨hP1, hK1, hD1⟩ := hB
  rw [ht] at hP1
  obtain ⟨hP, hD⟩ := va_join (wr := xpx kX1 (D, a1, c1) M1) (w1 := xpx kX0 (D, a0, c0) M') hP hD [0, 1, 2, 3, 4, 5, 6, 7, 8, 9] [10, 11, 12] rfl rfl (by decide) (by decide) hk1 hFc hP1 hD1
  have hP := hP.sub (ws' := xpx kX0 (D, a0, c0) M' ++ xpx kX1 (D, a1, c1) M1) [3, 4, 5, 6, 7, 8, 9, 10, 11, 12, 0, 1, 2] rfl
  have hD := hD.sub (ws' := xpx kX0 (D, a0, c0) M' ++ xpx kX1 (D, a1, c1) M1) [3, 4, 5, 6, 7, 8, 9, 10, 11, 12, 0, 1, 2] (by decide) rfl
  exact kk z M' H1 locs1 hzr hp ⟨hM', w2, hK, hP, hD, hS1⟩
theorem lc_0v {n k : Nat} {μ : xMd} {as : List Int} {post : Int → xMem → Prop} {st0 : List Value} {lvs : List (Nat × Value)} (C0 : lw_At p s m meth c b L xs) (hw : lwS s D a0 a1 c0 c1 M0 M1 H locs) (hl : lv_has ls 4 lvs) (hm : xMet kX0 μ k true M0 as post) (hdg : decode code pc = .ok (.invokevirtual n, 3)) (hst : st0 = ((as.map Sum.inl).map (xcv (D, a0, c0))).reverse ++ .ref (a0 0) :: rest) (hlk : lLk kX0 n μ as.length) (hk : Nat.ble k 7 = true) (hrest : (rest.map fun v => v.category).sum ≤ 8) (hr : μ.2.2.2.1 = none) (hz : ∀ z ∈ as, xrg z) (kk : ∀ (N0 : xMem) (H1 : Heap) (locs1 : List Loc), post 0 N0 → lwS s D a0 a1 c0 c1 N0 M1 H1 locs1 → lW p l e s m below meth c b H1 locs1 (pc + 3) ls (rest)) : lW p l e s m below meth c b H locs pc ls st0 := by
  obtain ⟨hx, hb, hrt, hml, hown, hts, hX, hbl, hlocks, hgv⟩ := C0
  have hts : ∀ w ∈ lw_all, w.before _ s = true := fun w h => hts w (lw_all_tbl h)
  obtain ⟨w1, w2, hK, hP, hD, hS⟩ := hw
  have hA : ∀ q : Nat, s.heap.size ≤ q → (fun q : Nat => s.heap.size ≤ q) q := fun _ h => h
  have hPc := hP.sub (ws' := xpx kX0 (D, a0, c0) M0) [0, 1, 2, 3, 4, 5, 6, 7, 8, 9] rfl
  have hDc := hD.sub (ws' := xpx kX0 (D, a0, c0) M0) [0, 1, 2, 3, 4, 5, 6, 7, 8, 9] (by decide) rfl
  have hKc := hK.sub (tys' := xty kX0 (D, a0, c0)) [0, 1, 2, 3, 4, 5, 6, 7, 8] rfl
  have hFc := va_free (wc := xpx kX0 (D, a0, c0) M0) hD hS hA [0, 1, 2, 3, 4, 5, 6, 7, 8, 9] rfl
  have hmet := hm w1 hz l (D, a0, c0) H.size
  have hrm : (xrm k).frames + 1 ≤ room_1.frames ∧ 8 + (μ.2.2.1 + 11) + (xrm k).locals ≤ room_1.locals := by
    have h1 := hlk.2.2
    have h2 := Nat.le_of_ble_eq_true hk
    refine ⟨?_, ?_⟩
    · show k + 1 ≤ 8
      omega
    · show 8 + (μ.2.2.1 + 11) + 33 * k ≤ 274
      omega
  have hQ : xQ kX0 μ (D, a0, c0) (va_A (xpx kX0 (D, a0, c0) M0) H.size) post = va_Qv (fun (M' : xMem) => xrM M' ∧ post 0 M') (xB kX0 (D, a0, c0) (va_A (xpx kX0 (D, a0, c0) M0) H.size)) (va_A (xpx kX0 (D, a0, c0) M0) H.size) := by unfold xQ; rw [hr]
  rw [hQ] at hmet
  refine va_callv (va_runV (C := kX0.2.1.1) (b := a0 0) (As := (as.map Sum.inl).map (xcv (D, a0, c0))) (rest := rest) ⟨hx, hb, hml, hown, hts⟩ hmet (cwV as.length hts hlk.1 rfl rfl rfl hlk.2.1 hrm) ⟨xblind, va_recv hKc hPc (ci := 0) (q0 := 0) rfl rfl, fun U hU hW => ⟨rfl, by rw [hU], by rw [hU]; exact hPc, va_K.moved hW.alike hKc, hDc.weaken (fun _ _ _ _ => trivial)⟩⟩ rfl (by rw [List.length_map, List.length_map]) hl.1 hst (lv_room hrest) hdg ⟨Nat.le_of_ble_eq_true rfl, Nat.le_of_ble_eq_true rfl⟩) hS (fun q _ h => hFc q h) hFc (fun M' t H1 locs1 ht hvm hpost hB hz1 hk1 hS1 => ?_)
  obtain ⟨hM', hp⟩ := hpost
  obtain ⟨hP1, hK1, hD1⟩ := hB
  rw [ht] at hP1
  obtain ⟨hP, hD⟩ := va_join (wr := xpx kX1 (D, a1, c1) M1) (w1 := xpx kX0 (D, a0, c0) M') hP hD [0, 1, 2, 3, 4, 5, 6, 7, 8, 9] [10, 11, 12] rfl rfl (by decide) (by decide) hk1 hFc hP1 hD1
  have hP := hP.sub (ws' := xpx kX0 (D, a0, c0) M' ++ xpx kX1 (D, a1, c1) M1) [3, 4, 5, 6, 7, 8, 9, 10, 11, 12, 0, 1, 2] rfl
  have hD := hD.sub (ws' := xpx kX0 (D, a0, c0) M' ++ xpx kX1 (D, a1, c1) M1) [3, 4, 5, 6, 7, 8, 9, 10, 11, 12, 0, 1, 2] (by decide) rfl
  exact kk M' H1 locs1 hp ⟨hM', w2, hK, hP, hD, hS1⟩
theorem lc_1 {n k : Nat} {μ : xMd} {as : List Int} {post : Int → xMem → Prop} {st0 : List Value} {lvs : List (Nat × Value)} (C0 : lw_At p s m meth c b L xs) (hw : lwS s D a0 a1 c0 c1 M0 M1 H locs) (hl : lv_has ls 4 lvs) (hm : xMet kX1 μ k true M1 as post) (hdg : decode code pc = .ok (.invokevirtual n, 3)) (hst : st0 = ((as.map Sum.inl).map (xcv (D, a1, c1))).reverse ++ .ref (a1 0) :: rest) (hlk : lLk kX1 n μ as.length) (hk : Nat.ble k 7 = true) (hrest : (rest.map fun v => v.category).sum ≤ 8) (hr : μ.2.2.2.1.isSome = true) (hz : ∀ z ∈ as, xrg z) (kk : ∀ (r : Int) (N1 : xMem) (H1 : Heap) (locs1 : List Loc), xrg r → post r N1 → lwS s D a0 a1 c0 c1 M0 N1 H1 locs1 → lW p l e s m below meth c b H1 locs1 (pc + 3) ls (.int (Int32.ofInt r) :: rest)) : lW p l e s m below meth c b H locs pc ls st0 := by
  obtain ⟨hx, hb, hrt, hml, hown, hts, hX, hbl, hlocks, hgv⟩ := C0
  have hts : ∀ w ∈ lw_all, w.before _ s = true := fun w h => hts w (lw_all_tbl h)
  obtain ⟨w1, w2, hK, hP, hD, hS⟩ := hw
  have hA : ∀ q : Nat, s.heap.size ≤ q → (fun q : Nat => s.heap.size ≤ q) q := fun _ h => h
  have hPc := hP.sub (ws' := xpx kX1 (D, a1, c1) M1) [10, 11, 12] rfl
  have hDc := hD.sub (ws' := xpx kX1 (D, a1, c1) M1) [10, 11, 12] (by decide) rfl
  have hKc := hK.sub (tys' := xty kX1 (D, a1, c1)) [9, 10] rfl
  have hFc := va_free (wc := xpx kX1 (D, a1, c1) M1) hD hS hA [10, 11, 12] rfl
  have hmet := hm w2 hz l (D, a1, c1) H.size
  have hrm : (xrm k).frames + 1 ≤ room_1.frames ∧ 8 + (μ.2.2.1 + 11) + (xrm k).locals ≤ room_1.locals := by
    have h1 := hlk.2.2
    have h2 := Nat.le_of_ble_eq_true hk
    refine ⟨?_, ?_⟩
    · show k + 1 ≤ 8
      omega
    · show 8 + (μ.2.2.1 + 11) + 33 * k ≤ 274
      omega
  cases hret : μ.2.2.2.1 with
  | none => rw [hret] at hr; cases hr
  | some ty =>
  have hQ : xQ kX1 μ (D, a1, c1) (va_A (xpx kX1 (D, a1, c1) M1) H.size) post = va_Qi (fun (r : Int32) (M' : xMem) => ∃ z : Int, r = Int32.ofInt z ∧ xrg z ∧ xrM M' ∧ post z M') (xB kX1 (D, a1, c1) (va_A (xpx kX1 (D, a1, c1) M1) H.size)) (va_A (xpx kX1 (D, a1, c1) M1) H.size) := by unfold xQ; rw [hret]
  rw [hQ] at hmet
  refine va_calli (va_runV (C := kX1.2.1.1) (b := a1 0) (As := (as.map Sum.inl).map (xcv (D, a1, c1))) (rest := rest) ⟨hx, hb, hml, hown, hts⟩ hmet (cwV as.length hts hlk.1 rfl rfl rfl hlk.2.1 hrm) ⟨xblind, va_recv hKc hPc (ci := 1) (q0 := 0) rfl rfl, fun U hU hW => ⟨rfl, by rw [hU], by rw [hU]; exact hPc, va_K.moved hW.alike hKc, hDc.weaken (fun _ _ _ _ => trivial)⟩⟩ rfl (by rw [List.length_map, List.length_map]) hl.1 hst (lv_room hrest) hdg ⟨Nat.le_of_ble_eq_true rfl, Nat.le_of_ble_eq_true rfl⟩) hS (fun q _ h => hFc q h) hFc (fun r M' t H1 locs1 ht hvm hpost hB hz1 hk1 hS1 => ?_)
  obtain ⟨z, rfl, hzr, hM', hp⟩ := hpost
  obtain ⟨hP1, hK1, hD1⟩ := hB
  rw [ht] at hP1
  obtain ⟨hP, hD⟩ := va_join (wr := xpx kX0 (D, a0, c0) M0) (w1 := xpx kX1 (D, a1, c1) M') hP hD [10, 11, 12] [0, 1, 2, 3, 4, 5, 6, 7, 8, 9] rfl rfl (by decide) (by decide) hk1 hFc hP1 hD1
  exact kk z M' H1 locs1 hzr hp ⟨w1, hM', hK, hP, hD, hS1⟩
theorem lc_1v {n k : Nat} {μ : xMd} {as : List Int} {post : Int → xMem → Prop} {st0 : List Value} {lvs : List (Nat × Value)} (C0 : lw_At p s m meth c b L xs) (hw : lwS s D a0 a1 c0 c1 M0 M1 H locs) (hl : lv_has ls 4 lvs) (hm : xMet kX1 μ k true M1 as post) (hdg : decode code pc = .ok (.invokevirtual n, 3)) (hst : st0 = ((as.map Sum.inl).map (xcv (D, a1, c1))).reverse ++ .ref (a1 0) :: rest) (hlk : lLk kX1 n μ as.length) (hk : Nat.ble k 7 = true) (hrest : (rest.map fun v => v.category).sum ≤ 8) (hr : μ.2.2.2.1 = none) (hz : ∀ z ∈ as, xrg z) (kk : ∀ (N1 : xMem) (H1 : Heap) (locs1 : List Loc), post 0 N1 → lwS s D a0 a1 c0 c1 M0 N1 H1 locs1 → lW p l e s m below meth c b H1 locs1 (pc + 3) ls (rest)) : lW p l e s m below meth c b H locs pc ls st0 := by
  obtain ⟨hx, hb, hrt, hml, hown, hts, hX, hbl, hlocks, hgv⟩ := C0
  have hts : ∀ w ∈ lw_all, w.before _ s = true := fun w h => hts w (lw_all_tbl h)
  obtain ⟨w1, w2, hK, hP, hD, hS⟩ := hw
  have hA : ∀ q : Nat, s.heap.size ≤ q → (fun q : Nat => s.heap.size ≤ q) q := fun _ h => h
  have hPc := hP.sub (ws' := xpx kX1 (D, a1, c1) M1) [10, 11, 12] rfl
  have hDc := hD.sub (ws' := xpx kX1 (D, a1, c1) M1) [10, 11, 12] (by decide) rfl
  have hKc := hK.sub (tys' := xty kX1 (D, a1, c1)) [9, 10] rfl
  have hFc := va_free (wc := xpx kX1 (D, a1, c1) M1) hD hS hA [10, 11, 12] rfl
  have hmet := hm w2 hz l (D, a1, c1) H.size
  have hrm : (xrm k).frames + 1 ≤ room_1.frames ∧ 8 + (μ.2.2.1 + 11) + (xrm k).locals ≤ room_1.locals := by
    have h1 := hlk.2.2
    have h2 := Nat.le_of_ble_eq_true hk
    refine ⟨?_, ?_⟩
    · show k + 1 ≤ 8
      omega
    · show 8 + (μ.2.2.1 + 11) + 33 * k ≤ 274
      omega
  have hQ : xQ kX1 μ (D, a1, c1) (va_A (xpx kX1 (D, a1, c1) M1) H.size) post = va_Qv (fun (M' : xMem) => xrM M' ∧ post 0 M') (xB kX1 (D, a1, c1) (va_A (xpx kX1 (D, a1, c1) M1) H.size)) (va_A (xpx kX1 (D, a1, c1) M1) H.size) := by unfold xQ; rw [hr]
  rw [hQ] at hmet
  refine va_callv (va_runV (C := kX1.2.1.1) (b := a1 0) (As := (as.map Sum.inl).map (xcv (D, a1, c1))) (rest := rest) ⟨hx, hb, hml, hown, hts⟩ hmet (cwV as.length hts hlk.1 rfl rfl rfl hlk.2.1 hrm) ⟨xblind, va_recv hKc hPc (ci := 1) (q0 := 0) rfl rfl, fun U hU hW => ⟨rfl, by rw [hU], by rw [hU]; exact hPc, va_K.moved hW.alike hKc, hDc.weaken (fun _ _ _ _ => trivial)⟩⟩ rfl (by rw [List.length_map, List.length_map]) hl.1 hst (lv_room hrest) hdg ⟨Nat.le_of_ble_eq_true rfl, Nat.le_of_ble_eq_true rfl⟩) hS (fun q _ h => hFc q h) hFc (fun M' t H1 locs1 ht hvm hpost hB hz1 hk1 hS1 => ?_)
  obtain ⟨hM', hp⟩ := hpost
  obtain ⟨hP1, hK1, hD1⟩ := hB
  rw [ht] at hP1
  obtain ⟨hP, hD⟩ := va_join (wr := xpx kX0 (D, a0, c0) M0) (w1 := xpx kX1 (D, a1, c1) M') hP hD [10, 11, 12] [0, 1, 2, 3, 4, 5, 6, 7, 8, 9] rfl rfl (by decide) (by decide) hk1 hFc hP1 hD1
  exact kk M' H1 locs1 hp ⟨w1, hM', hK, hP, hD, hS1⟩
end LAW
end
section
set_option maxRecDepth 100000
/-! the law's twelve cases -/
section CASES
variable {p : Program} {l : Launch} {e : Env} {s : State} {m : MethodId} {below : List Frame} {meth : Method} {c : Code} {b L : Nat} {xs : Nat → Int32} {D : va_G} {a0 a1 : Nat → Nat} {c0 c1 : Nat → ClassId} {H : Heap} {locs : List Loc} {ls : Array Slot} {M0 M1 : xMem}
theorem lk_set {i : Nat} (hL : L ≤ 256) (C0 : lw_At p s m meth c b L xs) (hw : lwS s D a0 a1 c0 c1 M0 M1 H locs) (hl : lLv b a0 a1 i ls) (hi : i + 4 ≤ L) (hI : inv0 M0) (hE : M1 0 = M0 0) (kk : ∀ (N0 N1 : xMem) (H1 : Heap) (locs1 : List Loc), lwS s D a0 a1 c0 c1 N0 N1 H1 locs1 → inv0 N0 → N1 0 = N0 0 → lW p l e s m below meth c b H1 locs1 400 ls []) : lW p l e s m below meth c b H locs 96 ls [] := by
  have hx := C0.1
  have hb := C0.2.1
  refine lv_aload_n hx hb dL_law_96 rfl (lv_at hl 1 rfl) ?_
  refine l_rd (pc := 97) (j := 1) hL C0 hw hl dL_law_97 dL_law_98 dL_law_99 dL_law_100 dL_law_101 (by decide) (by omega) ?_
  refine l_rd (pc := 102) (j := 2) hL C0 hw hl dL_law_102 dL_law_103 dL_law_104 dL_law_105 dL_law_106 (by decide) (by omega) ?_
  refine lc_0 (pc := 107) (rest := []) C0 hw hl (mt_set M0 (xs (i + 1)).toInt (xs (i + 2)).toInt hI) dL_law_107 rfl lLX0_set rfl (Nat.le_of_ble_eq_true rfl) rfl (zz_rg [xs (i + 1), xs (i + 2)]) (fun r0 N0 H0 locs0 hr0 hp0 hw => ?_)
  refine lv_aload_n hx hb dL_law_110 rfl (lv_at hl 2 rfl) ?_
  refine l_rd (pc := 111) (j := 1) hL C0 hw hl dL_law_111 dL_law_112 dL_law_113 dL_law_114 dL_law_115 (by decide) (by omega) ?_
  refine l_rd (pc := 116) (j := 2) hL C0 hw hl dL_law_116 dL_law_117 dL_law_118 dL_law_119 dL_law_120 (by decide) (by omega) ?_
  refine lc_1 (pc := 121) (rest := [.int (Int32.ofInt r0)]) C0 hw hl (mm_set M1 (xs (i + 1)).toInt (xs (i + 2)).toInt) dL_law_121 rfl lLX1_set rfl (Nat.le_of_ble_eq_true rfl) rfl (zz_rg [xs (i + 1), xs (i + 2)]) (fun r1 N1 H1 locs1 hr1 hp1 hw => ?_)
  have hu := un_set hp0.1 (by rw [hE] at hp1; exact hp1)
  refine lv_icmp_eq (tgt := 400) hx hb dL_law_124 (by decide) (fun h => ?_) (fun h => ?_)
  · exact kk N0 N1 H1 locs1 hw hp0.2 hu.2
  · exact absurd (by rw [hu.1]) h
theorem lk_shift {i : Nat} (hL : L ≤ 256) (C0 : lw_At p s m meth c b L xs) (hw : lwS s D a0 a1 c0 c1 M0 M1 H locs) (hl : lLv b a0 a1 i ls) (hi : i + 4 ≤ L) (hI : inv0 M0) (hE : M1 0 = M0 0) (kk : ∀ (N0 N1 : xMem) (H1 : Heap) (locs1 : List Loc), lwS s D a0 a1 c0 c1 N0 N1 H1 locs1 → inv0 N0 → N1 0 = N0 0 → lW p l e s m below meth c b H1 locs1 400 ls []) : lW p l e s m below meth c b H locs 129 ls [] := by
  have hx := C0.1
  have hb := C0.2.1
  refine lv_aload_n hx hb dL_law_129 rfl (lv_at hl 1 rfl) ?_
  refine l_rd (pc := 130) (j := 1) hL C0 hw hl dL_law_130 dL_law_131 dL_law_132 dL_law_133 dL_law_134 (by decide) (by omega) ?_
  refine l_rd (pc := 135) (j := 2) hL C0 hw hl dL_law_135 dL_law_136 dL_law_137 dL_law_138 dL_law_139 (by decide) (by omega) ?_
  refine l_rd (pc := 140) (j := 3) hL C0 hw hl dL_law_140 dL_law_141 dL_law_142 dL_law_143 dL_law_144 (by decide) (by omega) ?_
  refine lc_0 (pc := 145) (rest := []) C0 hw hl (mt_shift M0 (xs (i + 1)).toInt (xs (i + 2)).toInt (xs (i + 3)).toInt hI) dL_law_145 rfl lLX0_shift rfl (Nat.le_of_ble_eq_true rfl) rfl (zz_rg [xs (i + 1), xs (i + 2), xs (i + 3)]) (fun r0 N0 H0 locs0 hr0 hp0 hw => ?_)
  refine lv_aload_n hx hb dL_law_148 rfl (lv_at hl 2 rfl) ?_
  refine l_rd (pc := 149) (j := 1) hL C0 hw hl dL_law_149 dL_law_150 dL_law_151 dL_law_152 dL_law_153 (by decide) (by omega) ?_
  refine l_rd (pc := 154) (j := 2) hL C0 hw hl dL_law_154 dL_law_155 dL_law_156 dL_law_157 dL_law_158 (by decide) (by omega) ?_
  refine l_rd (pc := 159) (j := 3) hL C0 hw hl dL_law_159 dL_law_160 dL_law_161 dL_law_162 dL_law_163 (by decide) (by omega) ?_
  refine lc_1 (pc := 164) (rest := [.int (Int32.ofInt r0)]) C0 hw hl (mm_shift M1 (xs (i + 1)).toInt (xs (i + 2)).toInt (xs (i + 3)).toInt) dL_law_164 rfl lLX1_shift rfl (Nat.le_of_ble_eq_true rfl) rfl (zz_rg [xs (i + 1), xs (i + 2), xs (i + 3)]) (fun r1 N1 H1 locs1 hr1 hp1 hw => ?_)
  have hu := un_shift hp0.1 (by rw [hE] at hp1; exact hp1)
  refine lv_icmp_eq (tgt := 400) hx hb dL_law_167 (by decide) (fun h => ?_) (fun h => ?_)
  · exact kk N0 N1 H1 locs1 hw hp0.2 hu.2
  · exact absurd (by rw [hu.1]) h
theorem lk_pattern {i : Nat} (hL : L ≤ 256) (C0 : lw_At p s m meth c b L xs) (hw : lwS s D a0 a1 c0 c1 M0 M1 H locs) (hl : lLv b a0 a1 i ls) (hi : i + 4 ≤ L) (hI : inv0 M0) (hE : M1 0 = M0 0) (kk : ∀ (N0 N1 : xMem) (H1 : Heap) (locs1 : List Loc), lwS s D a0 a1 c0 c1 N0 N1 H1 locs1 → inv0 N0 → N1 0 = N0 0 → lW p l e s m below meth c b H1 locs1 400 ls []) : lW p l e s m below meth c b H locs 172 ls [] := by
  have hx := C0.1
  have hb := C0.2.1
  refine lv_aload_n hx hb dL_law_172 rfl (lv_at hl 1 rfl) ?_
  refine l_rd (pc := 173) (j := 1) hL C0 hw hl dL_law_173 dL_law_174 dL_law_175 dL_law_176 dL_law_177 (by decide) (by omega) ?_
  refine l_rd (pc := 178) (j := 2) hL C0 hw hl dL_law_178 dL_law_179 dL_law_180 dL_law_181 dL_law_182 (by decide) (by omega) ?_
  refine lc_0v (pc := 183) (rest := []) C0 hw hl (mt_pattern M0 (xs (i + 1)).toInt (xs (i + 2)).toInt) dL_law_183 rfl lLX0_pattern rfl (Nat.le_of_ble_eq_true rfl) rfl (zz_rg [xs (i + 1), xs (i + 2)]) (fun N0 H0 locs0 hp0 hw => ?_)
  refine lv_aload_n hx hb dL_law_186 rfl (lv_at hl 2 rfl) ?_
  refine l_rd (pc := 187) (j := 1) hL C0 hw hl dL_law_187 dL_law_188 dL_law_189 dL_law_190 dL_law_191 (by decide) (by omega) ?_
  refine l_rd (pc := 192) (j := 2) hL C0 hw hl dL_law_192 dL_law_193 dL_law_194 dL_law_195 dL_law_196 (by decide) (by omega) ?_
  refine lc_1v (pc := 197) (rest := []) C0 hw hl (mm_pattern M1 (xs (i + 1)).toInt (xs (i + 2)).toInt) dL_law_197 rfl lLX1_pattern rfl (Nat.le_of_ble_eq_true rfl) rfl (zz_rg [xs (i + 1), xs (i + 2)]) (fun N1 H1 locs1 hp1 hw => ?_)
  refine lv_goto (tgt := 400) hx hb dL_law_200 (by decide) ?_
  exact kk N0 N1 H1 locs1 hw hp0.2 (by rw [hp0.1, hp1, hE])
theorem lk_height {i : Nat} (hL : L ≤ 256) (C0 : lw_At p s m meth c b L xs) (hw : lwS s D a0 a1 c0 c1 M0 M1 H locs) (hl : lLv b a0 a1 i ls) (hi : i + 4 ≤ L) (hI : inv0 M0) (hE : M1 0 = M0 0) (kk : ∀ (N0 N1 : xMem) (H1 : Heap) (locs1 : List Loc), lwS s D a0 a1 c0 c1 N0 N1 H1 locs1 → inv0 N0 → N1 0 = N0 0 → lW p l e s m below meth c b H1 locs1 400 ls []) : lW p l e s m below meth c b H locs 203 ls [] := by
  have hx := C0.1
  have hb := C0.2.1
  refine lv_aload_n hx hb dL_law_203 rfl (lv_at hl 1 rfl) ?_
  refine l_rd (pc := 204) (j := 1) hL C0 hw hl dL_law_204 dL_law_205 dL_law_206 dL_law_207 dL_law_208 (by decide) (by omega) ?_
  refine lc_0 (pc := 209) (rest := []) C0 hw hl (mt_height M0 (xs (i + 1)).toInt) dL_law_209 rfl lLX0_height rfl (Nat.le_of_ble_eq_true rfl) rfl (zz_rg [xs (i + 1)]) (fun r0 N0 H0 locs0 hr0 hp0 hw => ?_)
  refine lv_aload_n hx hb dL_law_212 rfl (lv_at hl 2 rfl) ?_
  refine l_rd (pc := 213) (j := 1) hL C0 hw hl dL_law_213 dL_law_214 dL_law_215 dL_law_216 dL_law_217 (by decide) (by omega) ?_
  refine lc_1 (pc := 218) (rest := [.int (Int32.ofInt r0)]) C0 hw hl (mm_height M1 (xs (i + 1)).toInt) dL_law_218 rfl lLX1_height rfl (Nat.le_of_ble_eq_true rfl) rfl (zz_rg [xs (i + 1)]) (fun r1 N1 H1 locs1 hr1 hp1 hw => ?_)
  have hu := un_height hp0.2 (by rw [hE] at hp1; exact hp1.2)
  refine lv_icmp_eq (tgt := 400) hx hb dL_law_221 (by decide) (fun h => ?_) (fun h => ?_)
  · exact kk N0 N1 H1 locs1 hw (by rw [← hp0.1]; exact hI) (by rw [← hp0.1, ← hp1.1]; exact hE)
  · exact absurd (by rw [hu]) h
theorem lk_level {i : Nat} (hL : L ≤ 256) (C0 : lw_At p s m meth c b L xs) (hw : lwS s D a0 a1 c0 c1 M0 M1 H locs) (hl : lLv b a0 a1 i ls) (hi : i + 4 ≤ L) (hI : inv0 M0) (hE : M1 0 = M0 0) (kk : ∀ (N0 N1 : xMem) (H1 : Heap) (locs1 : List Loc), lwS s D a0 a1 c0 c1 N0 N1 H1 locs1 → inv0 N0 → N1 0 = N0 0 → lW p l e s m below meth c b H1 locs1 400 ls []) : lW p l e s m below meth c b H locs 226 ls [] := by
  have hx := C0.1
  have hb := C0.2.1
  refine lv_aload_n hx hb dL_law_226 rfl (lv_at hl 1 rfl) ?_
  refine l_rd (pc := 227) (j := 1) hL C0 hw hl dL_law_227 dL_law_228 dL_law_229 dL_law_230 dL_law_231 (by decide) (by omega) ?_
  refine lc_0 (pc := 232) (rest := []) C0 hw hl (mt_level M0 (xs (i + 1)).toInt hI) dL_law_232 rfl lLX0_level rfl (Nat.le_of_ble_eq_true rfl) rfl (zz_rg [xs (i + 1)]) (fun r0 N0 H0 locs0 hr0 hp0 hw => ?_)
  refine lv_aload_n hx hb dL_law_235 rfl (lv_at hl 2 rfl) ?_
  refine l_rd (pc := 236) (j := 1) hL C0 hw hl dL_law_236 dL_law_237 dL_law_238 dL_law_239 dL_law_240 (by decide) (by omega) ?_
  refine lc_1 (pc := 241) (rest := [.int (Int32.ofInt r0)]) C0 hw hl (mm_level M1 (xs (i + 1)).toInt (by rw [hE]; exact hI.1)) dL_law_241 rfl lLX1_level rfl (Nat.le_of_ble_eq_true rfl) rfl (zz_rg [xs (i + 1)]) (fun r1 N1 H1 locs1 hr1 hp1 hw => ?_)
  have hu := un_level hp0.2.1 (by rw [hE] at hp1; exact hp1.2)
  refine lv_icmp_eq (tgt := 400) hx hb dL_law_244 (by decide) (fun h => ?_) (fun h => ?_)
  · exact kk N0 N1 H1 locs1 hw hp0.2.2 (by rw [hp0.1, hp1.1, hE])
  · exact absurd (by rw [hu]) h
theorem lk_volume {i : Nat} (hL : L ≤ 256) (C0 : lw_At p s m meth c b L xs) (hw : lwS s D a0 a1 c0 c1 M0 M1 H locs) (hl : lLv b a0 a1 i ls) (hi : i + 4 ≤ L) (hI : inv0 M0) (hE : M1 0 = M0 0) (kk : ∀ (N0 N1 : xMem) (H1 : Heap) (locs1 : List Loc), lwS s D a0 a1 c0 c1 N0 N1 H1 locs1 → inv0 N0 → N1 0 = N0 0 → lW p l e s m below meth c b H1 locs1 400 ls []) : lW p l e s m below meth c b H locs 249 ls [] := by
  have hx := C0.1
  have hb := C0.2.1
  refine lv_aload_n hx hb dL_law_249 rfl (lv_at hl 1 rfl) ?_
  refine lc_0 (pc := 250) (rest := []) C0 hw hl (mt_volume M0  hI) dL_law_250 rfl lLX0_volume rfl (Nat.le_of_ble_eq_true rfl) rfl (zz_rg []) (fun r0 N0 H0 locs0 hr0 hp0 hw => ?_)
  refine lv_aload_n hx hb dL_law_253 rfl (lv_at hl 2 rfl) ?_
  refine lc_1 (pc := 254) (rest := [.int (Int32.ofInt r0)]) C0 hw hl (mm_volume M1  (by rw [hE]; exact hI.1)) dL_law_254 rfl lLX1_volume rfl (Nat.le_of_ble_eq_true rfl) rfl (zz_rg []) (fun r1 N1 H1 locs1 hr1 hp1 hw => ?_)
  have hu := un_volume hp0.2.1 (by rw [hE] at hp1; exact hp1.2)
  refine lv_icmp_eq (tgt := 400) hx hb dL_law_257 (by decide) (fun h => ?_) (fun h => ?_)
  · exact kk N0 N1 H1 locs1 hw hp0.2.2 (by rw [hp0.1, hp1.1, hE])
  · exact absurd (by rw [hu]) h
theorem lk_lakes {i : Nat} (hL : L ≤ 256) (C0 : lw_At p s m meth c b L xs) (hw : lwS s D a0 a1 c0 c1 M0 M1 H locs) (hl : lLv b a0 a1 i ls) (hi : i + 4 ≤ L) (hI : inv0 M0) (hE : M1 0 = M0 0) (kk : ∀ (N0 N1 : xMem) (H1 : Heap) (locs1 : List Loc), lwS s D a0 a1 c0 c1 N0 N1 H1 locs1 → inv0 N0 → N1 0 = N0 0 → lW p l e s m below meth c b H1 locs1 400 ls []) : lW p l e s m below meth c b H locs 262 ls [] := by
  have hx := C0.1
  have hb := C0.2.1
  refine lv_aload_n hx hb dL_law_262 rfl (lv_at hl 1 rfl) ?_
  refine lc_0 (pc := 263) (rest := []) C0 hw hl (mt_lakes M0  hI) dL_law_263 rfl lLX0_lakes rfl (Nat.le_of_ble_eq_true rfl) rfl (zz_rg []) (fun r0 N0 H0 locs0 hr0 hp0 hw => ?_)
  refine lv_aload_n hx hb dL_law_266 rfl (lv_at hl 2 rfl) ?_
  refine lc_1 (pc := 267) (rest := [.int (Int32.ofInt r0)]) C0 hw hl (mm_lakes M1  (by rw [hE]; exact hI.1)) dL_law_267 rfl lLX1_lakes rfl (Nat.le_of_ble_eq_true rfl) rfl (zz_rg []) (fun r1 N1 H1 locs1 hr1 hp1 hw => ?_)
  have hu := un_lakes hp0.2.1 (by rw [hE] at hp1; exact hp1.2)
  refine lv_icmp_eq (tgt := 400) hx hb dL_law_270 (by decide) (fun h => ?_) (fun h => ?_)
  · exact kk N0 N1 H1 locs1 hw hp0.2.2 (by rw [hp0.1, hp1.1, hE])
  · exact absurd (by rw [hu]) h
theorem lk_lakeSize {i : Nat} (hL : L ≤ 256) (C0 : lw_At p s m meth c b L xs) (hw : lwS s D a0 a1 c0 c1 M0 M1 H locs) (hl : lLv b a0 a1 i ls) (hi : i + 4 ≤ L) (hI : inv0 M0) (hE : M1 0 = M0 0) (kk : ∀ (N0 N1 : xMem) (H1 : Heap) (locs1 : List Loc), lwS s D a0 a1 c0 c1 N0 N1 H1 locs1 → inv0 N0 → N1 0 = N0 0 → lW p l e s m below meth c b H1 locs1 400 ls []) : lW p l e s m below meth c b H locs 275 ls [] := by
  have hx := C0.1
  have hb := C0.2.1
  refine lv_aload_n hx hb dL_law_275 rfl (lv_at hl 1 rfl) ?_
  refine l_rd (pc := 276) (j := 1) hL C0 hw hl dL_law_276 dL_law_277 dL_law_278 dL_law_279 dL_law_280 (by decide) (by omega) ?_
  refine lc_0 (pc := 281) (rest := []) C0 hw hl (mt_lakeSize M0 (xs (i + 1)).toInt hI) dL_law_281 rfl lLX0_lakeSize rfl (Nat.le_of_ble_eq_true rfl) rfl (zz_rg [xs (i + 1)]) (fun r0 N0 H0 locs0 hr0 hp0 hw => ?_)
  refine lv_aload_n hx hb dL_law_284 rfl (lv_at hl 2 rfl) ?_
  refine l_rd (pc := 285) (j := 1) hL C0 hw hl dL_law_285 dL_law_286 dL_law_287 dL_law_288 dL_law_289 (by decide) (by omega) ?_
  refine lc_1 (pc := 290) (rest := [.int (Int32.ofInt r0)]) C0 hw hl (mm_lakeSize M1 (xs (i + 1)).toInt (by rw [hE]; exact hI.1)) dL_law_290 rfl lLX1_lakeSize rfl (Nat.le_of_ble_eq_true rfl) rfl (zz_rg [xs (i + 1)]) (fun r1 N1 H1 locs1 hr1 hp1 hw => ?_)
  have hu := un_lakeSize hp0.2.1 (by rw [hE] at hp1; exact hp1.2)
  refine lv_icmp_eq (tgt := 400) hx hb dL_law_293 (by decide) (fun h => ?_) (fun h => ?_)
  · exact kk N0 N1 H1 locs1 hw hp0.2.2 (by rw [hp0.1, hp1.1, hE])
  · exact absurd (by rw [hu]) h
theorem lk_pass {i : Nat} (hL : L ≤ 256) (C0 : lw_At p s m meth c b L xs) (hw : lwS s D a0 a1 c0 c1 M0 M1 H locs) (hl : lLv b a0 a1 i ls) (hi : i + 4 ≤ L) (hI : inv0 M0) (hE : M1 0 = M0 0) (kk : ∀ (N0 N1 : xMem) (H1 : Heap) (locs1 : List Loc), lwS s D a0 a1 c0 c1 N0 N1 H1 locs1 → inv0 N0 → N1 0 = N0 0 → lW p l e s m below meth c b H1 locs1 400 ls []) : lW p l e s m below meth c b H locs 298 ls [] := by
  have hx := C0.1
  have hb := C0.2.1
  refine lv_aload_n hx hb dL_law_298 rfl (lv_at hl 1 rfl) ?_
  refine l_rd (pc := 299) (j := 1) hL C0 hw hl dL_law_299 dL_law_300 dL_law_301 dL_law_302 dL_law_303 (by decide) (by omega) ?_
  refine l_rd (pc := 304) (j := 2) hL C0 hw hl dL_law_304 dL_law_305 dL_law_306 dL_law_307 dL_law_308 (by decide) (by omega) ?_
  refine lc_0 (pc := 309) (rest := []) C0 hw hl (mt_pass M0 (xs (i + 1)).toInt (xs (i + 2)).toInt hI) dL_law_309 rfl lLX0_pass rfl (Nat.le_of_ble_eq_true rfl) rfl (zz_rg [xs (i + 1), xs (i + 2)]) (fun r0 N0 H0 locs0 hr0 hp0 hw => ?_)
  refine lv_aload_n hx hb dL_law_312 rfl (lv_at hl 2 rfl) ?_
  refine l_rd (pc := 313) (j := 1) hL C0 hw hl dL_law_313 dL_law_314 dL_law_315 dL_law_316 dL_law_317 (by decide) (by omega) ?_
  refine l_rd (pc := 318) (j := 2) hL C0 hw hl dL_law_318 dL_law_319 dL_law_320 dL_law_321 dL_law_322 (by decide) (by omega) ?_
  refine lc_1 (pc := 323) (rest := [.int (Int32.ofInt r0)]) C0 hw hl (mm_pass M1 (xs (i + 1)).toInt (xs (i + 2)).toInt (by rw [hE]; exact hI.1)) dL_law_323 rfl lLX1_pass rfl (Nat.le_of_ble_eq_true rfl) rfl (zz_rg [xs (i + 1), xs (i + 2)]) (fun r1 N1 H1 locs1 hr1 hp1 hw => ?_)
  have hu := un_pass hp0.2.1 (by rw [hE] at hp1; exact hp1.2)
  refine lv_icmp_eq (tgt := 400) hx hb dL_law_326 (by decide) (fun h => ?_) (fun h => ?_)
  · exact kk N0 N1 H1 locs1 hw hp0.2.2 (by rw [hp0.1, hp1.1, hE])
  · exact absurd (by rw [hu]) h
theorem lk_reach {i : Nat} (hL : L ≤ 256) (C0 : lw_At p s m meth c b L xs) (hw : lwS s D a0 a1 c0 c1 M0 M1 H locs) (hl : lLv b a0 a1 i ls) (hi : i + 4 ≤ L) (hI : inv0 M0) (hE : M1 0 = M0 0) (kk : ∀ (N0 N1 : xMem) (H1 : Heap) (locs1 : List Loc), lwS s D a0 a1 c0 c1 N0 N1 H1 locs1 → inv0 N0 → N1 0 = N0 0 → lW p l e s m below meth c b H1 locs1 400 ls []) : lW p l e s m below meth c b H locs 331 ls [] := by
  have hx := C0.1
  have hb := C0.2.1
  refine lv_aload_n hx hb dL_law_331 rfl (lv_at hl 1 rfl) ?_
  refine l_rd (pc := 332) (j := 1) hL C0 hw hl dL_law_332 dL_law_333 dL_law_334 dL_law_335 dL_law_336 (by decide) (by omega) ?_
  refine l_rd (pc := 337) (j := 2) hL C0 hw hl dL_law_337 dL_law_338 dL_law_339 dL_law_340 dL_law_341 (by decide) (by omega) ?_
  refine lc_0 (pc := 342) (rest := []) C0 hw hl (mt_reach M0 (xs (i + 1)).toInt (xs (i + 2)).toInt hI) dL_law_342 rfl lLX0_reach rfl (Nat.le_of_ble_eq_true rfl) rfl (zz_rg [xs (i + 1), xs (i + 2)]) (fun r0 N0 H0 locs0 hr0 hp0 hw => ?_)
  refine lv_aload_n hx hb dL_law_345 rfl (lv_at hl 2 rfl) ?_
  refine l_rd (pc := 346) (j := 1) hL C0 hw hl dL_law_346 dL_law_347 dL_law_348 dL_law_349 dL_law_350 (by decide) (by omega) ?_
  refine l_rd (pc := 351) (j := 2) hL C0 hw hl dL_law_351 dL_law_352 dL_law_353 dL_law_354 dL_law_355 (by decide) (by omega) ?_
  refine lc_1 (pc := 356) (rest := [.int (Int32.ofInt r0)]) C0 hw hl (mm_reach M1 (xs (i + 1)).toInt (xs (i + 2)).toInt (by rw [hE]; exact hI.1)) dL_law_356 rfl lLX1_reach rfl (Nat.le_of_ble_eq_true rfl) rfl (zz_rg [xs (i + 1), xs (i + 2)]) (fun r1 N1 H1 locs1 hr1 hp1 hw => ?_)
  have hu := un_reach hp0.2.1 (by rw [hE] at hp1; exact hp1.2)
  refine lv_icmp_eq (tgt := 400) hx hb dL_law_359 (by decide) (fun h => ?_) (fun h => ?_)
  · exact kk N0 N1 H1 locs1 hw hp0.2.2 (by rw [hp0.1, hp1.1, hE])
  · exact absurd (by rw [hu]) h
theorem lk_prominence {i : Nat} (hL : L ≤ 256) (C0 : lw_At p s m meth c b L xs) (hw : lwS s D a0 a1 c0 c1 M0 M1 H locs) (hl : lLv b a0 a1 i ls) (hi : i + 4 ≤ L) (hI : inv0 M0) (hE : M1 0 = M0 0) (kk : ∀ (N0 N1 : xMem) (H1 : Heap) (locs1 : List Loc), lwS s D a0 a1 c0 c1 N0 N1 H1 locs1 → inv0 N0 → N1 0 = N0 0 → lW p l e s m below meth c b H1 locs1 400 ls []) : lW p l e s m below meth c b H locs 364 ls [] := by
  have hx := C0.1
  have hb := C0.2.1
  refine lv_aload_n hx hb dL_law_364 rfl (lv_at hl 1 rfl) ?_
  refine l_rd (pc := 365) (j := 1) hL C0 hw hl dL_law_365 dL_law_366 dL_law_367 dL_law_368 dL_law_369 (by decide) (by omega) ?_
  refine lc_0 (pc := 370) (rest := []) C0 hw hl (mt_prominence M0 (xs (i + 1)).toInt hI) dL_law_370 rfl lLX0_prominence rfl (Nat.le_of_ble_eq_true rfl) rfl (zz_rg [xs (i + 1)]) (fun r0 N0 H0 locs0 hr0 hp0 hw => ?_)
  refine lv_aload_n hx hb dL_law_373 rfl (lv_at hl 2 rfl) ?_
  refine l_rd (pc := 374) (j := 1) hL C0 hw hl dL_law_374 dL_law_375 dL_law_376 dL_law_377 dL_law_378 (by decide) (by omega) ?_
  refine lc_1 (pc := 379) (rest := [.int (Int32.ofInt r0)]) C0 hw hl (mm_prominence M1 (xs (i + 1)).toInt (by rw [hE]; exact hI.1)) dL_law_379 rfl lLX1_prominence rfl (Nat.le_of_ble_eq_true rfl) rfl (zz_rg [xs (i + 1)]) (fun r1 N1 H1 locs1 hr1 hp1 hw => ?_)
  have hu := un_prominence hp0.2.1 (by rw [hE] at hp1; exact hp1.2)
  refine lv_icmp_eq (tgt := 400) hx hb dL_law_382 (by decide) (fun h => ?_) (fun h => ?_)
  · exact kk N0 N1 H1 locs1 hw hp0.2.2 (by rw [hp0.1, hp1.1, hE])
  · exact absurd (by rw [hu]) h
theorem lk_summits {i : Nat} (hL : L ≤ 256) (C0 : lw_At p s m meth c b L xs) (hw : lwS s D a0 a1 c0 c1 M0 M1 H locs) (hl : lLv b a0 a1 i ls) (hi : i + 4 ≤ L) (hI : inv0 M0) (hE : M1 0 = M0 0) (kk : ∀ (N0 N1 : xMem) (H1 : Heap) (locs1 : List Loc), lwS s D a0 a1 c0 c1 N0 N1 H1 locs1 → inv0 N0 → N1 0 = N0 0 → lW p l e s m below meth c b H1 locs1 400 ls []) : lW p l e s m below meth c b H locs 387 ls [] := by
  have hx := C0.1
  have hb := C0.2.1
  refine lv_aload_n hx hb dL_law_387 rfl (lv_at hl 1 rfl) ?_
  refine lc_0 (pc := 388) (rest := []) C0 hw hl (mt_summits M0 hI) dL_law_388 rfl lLX0_summits rfl (Nat.le_of_ble_eq_true rfl) rfl (zz_rg []) (fun r0 N0 H0 locs0 hr0 hp0 hw => ?_)
  refine lv_aload_n hx hb dL_law_391 rfl (lv_at hl 2 rfl) ?_
  refine lc_1 (pc := 392) (rest := [.int (Int32.ofInt r0)]) C0 hw hl (mm_summits M1) dL_law_392 rfl lLX1_summits rfl (Nat.le_of_ble_eq_true rfl) rfl (zz_rg []) (fun r1 N1 H1 locs1 hr1 hp1 hw => ?_)
  have hu := un_summits hp0.2.1 (by rw [hE] at hp1; exact hp1.2)
  refine lv_icmp_eq (tgt := 400) hx hb dL_law_395 (by decide) (fun h => ?_) (fun h => ?_)
  · exact kk N0 N1 H1 locs1 hw hp0.2.2 (by rw [hp0.1, hp1.1, hE])
  · exact absurd (by rw [hu]) h
end CASES
end
section
set_option maxRecDepth 100000
section LOOP
variable {p : Program} {l : Launch} {e : Env} {s : State} {m : MethodId} {below : List Frame} {meth : Method} {c : Code} {b L : Nat} {xs : Nat → Int32} {D : va_G} {a0 a1 : Nat → Nat} {c0 c1 : Nat → ClassId}
theorem law_loop (hL : L ≤ 256) (C0 : lw_At p s m meth c b L xs) : ∀ (n i : Nat), i ≤ L + 4 → L + 5 ≤ i + n → ∀ (M0 M1 : xMem) (H : Heap) (locs : List Loc), lwS s D a0 a1 c0 c1 M0 M1 H locs → inv0 M0 → M1 0 = M0 0 → ∀ ls : Array Slot, lLv b a0 a1 i ls → lW p l e s m below meth c b H locs 18 ls [] := by
  intro n
  induction n with
  | zero =>
    intro i h1 h2
    exact absurd h2 (by omega)
  | succ n ih =>
    intro i h1 h2 M0 M1 H locs hw hI hE ls hl
    obtain ⟨hx, hb, hr, hml, hown, hts, hX, hbl, hlocks, hgv⟩ := id C0
    have hbA : ¬ (fun q : Nat => s.heap.size ≤ q) b := Nat.not_le.mpr hbl
    have hS := hw.2.2.2.2.2
    refine lv_iload_n hx hb dL_law_18 rfl (lv_at hl 3 rfl) ?_
    refine lv_aload_n hx hb dL_law_19 rfl (lv_at hl 0 rfl) ?_
    refine va_slen hx hb hX hbl hbA hS dL_law_20 ?_
    refine lv_iconst hx hb dL_law_21 rfl ?_
    refine lv_isub hx hb dL_law_22 ?_
    have e1 : Int32.ofNat L - Int32.ofInt 4 = Int32.ofInt ((L : Int) - 4) := by
      rw [Int32.ofInt_sub]
      exact congrArg (· - Int32.ofInt 4) (xnI L)
    rw [e1, xnI i]
    have r1 : xrg ((L : Int) - 4) := ⟨by omega, by omega⟩
    have r2 : xrg (i : Int) := ⟨by omega, by omega⟩
    refine lv_icmp_gt (tgt := 406) hx hb dL_law_23 (by decide) (fun h => ?_) (fun h => ?_)
    · refine lv_iconst (v := 1) hx hb dL_law_406 (by decide) ?_
      refine va_forget (fun q hq => hS.2.2 q hq) ?_
      refine W.widen (k := 600000) (n := 7290000) (Nat.le_of_ble_eq_true rfl) (Nat.le_of_ble_eq_true rfl) ?_
      exact lw_ret hx hb hr hlocks dL_law_407
    · have hi : i + 4 ≤ L := by
        have h3 : ¬ ((L : Int) - 4 < (i : Int)) := fun q => h ((xlt r1 r2).mpr q)
        omega
      have k400 : ∀ (N0 N1 : xMem) (H1 : Heap) (locs1 : List Loc), lwS s D a0 a1 c0 c1 N0 N1 H1 locs1 → inv0 N0 → N1 0 = N0 0 → lW p l e s m below meth c b H1 locs1 400 ls [] := by
        intro N0 N1 H1 locs1 hw1 hI1 hE1
        refine lv_iinc (v := nI (i + 4)) (lv' := [(3, .int (nI (i + 4))), (0, .ref b), (1, .ref (a0 0)), (2, .ref (a1 0))]) hx hb dL_law_400 hl (k := 3) rfl (by rw [show Int32.ofInt 4 = nI 4 from by decide, nI_add]) (by decide) rfl (fun ls hl => ?_)
        refine lv_goto (tgt := 18) hx hb dL_law_403 (by decide) ?_
        exact ih (i + 4) (by omega) (by omega) N0 N1 H1 locs1 hw1 hI1 hE1 ls (lv_sub hl [1, 2, 3, 0] rfl)
      refine lv_aload_n hx hb dL_law_26 rfl (lv_at hl 0 rfl) ?_
      refine lv_iload_n hx hb dL_law_27 rfl (lv_at hl 3 rfl) ?_
      refine va_sld hx hb hX hbl hbA hS (vp_in_nI (by omega) (by omega)) dL_law_28 ?_
      refine lv_bipush (v := 15) hx hb dL_law_29 (by decide) ?_
      refine lv_iand hx hb dL_law_31 ?_
      rw [nI_clamp (by omega)]
      obtain ⟨j, hj, ej⟩ : ∃ j : Nat, j < 16 ∧ xs i &&& 15 = nI j := ⟨_, Nat.mod_lt _ (by decide), pk_and (xs i) (m := 15) 4 (by decide)⟩
      rw [ej]
      rcases (show j = 0 ∨ j = 1 ∨ j = 2 ∨ j = 3 ∨ j = 4 ∨ j = 5 ∨ j = 6 ∨ j = 7 ∨ j = 8 ∨ j = 9 ∨ j = 10 ∨ j = 11 ∨ 12 ≤ j by omega) with rfl | rfl | rfl | rfl | rfl | rfl | rfl | rfl | rfl | rfl | rfl | rfl | h12
      · refine lv_tableIn (tgt := 96) hx hb dL_law_32 (by decide) (by decide) (off := 64) (by decide) (by decide) ?_
        exact lk_set hL C0 hw hl hi hI hE k400
      · refine lv_tableIn (tgt := 129) hx hb dL_law_32 (by decide) (by decide) (off := 97) (by decide) (by decide) ?_
        exact lk_shift hL C0 hw hl hi hI hE k400
      · refine lv_tableIn (tgt := 172) hx hb dL_law_32 (by decide) (by decide) (off := 140) (by decide) (by decide) ?_
        exact lk_pattern hL C0 hw hl hi hI hE k400
      · refine lv_tableIn (tgt := 203) hx hb dL_law_32 (by decide) (by decide) (off := 171) (by decide) (by decide) ?_
        exact lk_height hL C0 hw hl hi hI hE k400
      · refine lv_tableIn (tgt := 226) hx hb dL_law_32 (by decide) (by decide) (off := 194) (by decide) (by decide) ?_
        exact lk_level hL C0 hw hl hi hI hE k400
      · refine lv_tableIn (tgt := 249) hx hb dL_law_32 (by decide) (by decide) (off := 217) (by decide) (by decide) ?_
        exact lk_volume hL C0 hw hl hi hI hE k400
      · refine lv_tableIn (tgt := 262) hx hb dL_law_32 (by decide) (by decide) (off := 230) (by decide) (by decide) ?_
        exact lk_lakes hL C0 hw hl hi hI hE k400
      · refine lv_tableIn (tgt := 275) hx hb dL_law_32 (by decide) (by decide) (off := 243) (by decide) (by decide) ?_
        exact lk_lakeSize hL C0 hw hl hi hI hE k400
      · refine lv_tableIn (tgt := 298) hx hb dL_law_32 (by decide) (by decide) (off := 266) (by decide) (by decide) ?_
        exact lk_pass hL C0 hw hl hi hI hE k400
      · refine lv_tableIn (tgt := 331) hx hb dL_law_32 (by decide) (by decide) (off := 299) (by decide) (by decide) ?_
        exact lk_reach hL C0 hw hl hi hI hE k400
      · refine lv_tableIn (tgt := 364) hx hb dL_law_32 (by decide) (by decide) (off := 332) (by decide) (by decide) ?_
        exact lk_prominence hL C0 hw hl hi hI hE k400
      · refine lv_tableIn (tgt := 387) hx hb dL_law_32 (by decide) (by decide) (off := 355) (by decide) (by decide) ?_
        exact lk_summits hL C0 hw hl hi hI hE k400
      · refine lv_tableOut (tgt := 400) hx hb dL_law_32 (Or.inr (by rw [nI_toInt (by omega)]; omega)) (by decide) ?_
        exact k400 M0 M1 H locs hw hI hE
end LOOP
theorem inv_0 : inv0 xM0 := ⟨fun _ _ => show (0 : Int) ≤ 0 ∧ (0 : Int) ≤ 99 from ⟨by decide, by decide⟩, Or.inl rfl⟩
theorem xrM_0 : xrM xM0 := fun _ _ => xrg0
set_option maxHeartbeats 4000000 in
/-- THE LAW, from its entry -/
theorem whole_start {p : Program} {e : Env} {s : State} {m : MethodId} {below : List Frame} {meth : Method} {c : Code} (l : Launch) {b L : Nat} {xs : Nat → Int32} (hL : L ≤ 256) (C0 : lw_At p s m meth c b L xs) : W p l e room_1 s m #[Value.ref b] below meth c s.heap [] 0 0 (lw_Z below #[Value.ref b] s) (entryFrame m ([Value.ref b] : List Value).toArray 4) := by
  obtain ⟨hx, hb, hr, hml, hown, hts0, hX, hbl, hlocks, hgv⟩ := id C0
  have hts : ∀ w ∈ lw_all, w.before _ s = true := fun w h => hts0 w (lw_all_tbl h)
  have hA : ∀ q : Nat, s.heap.size ≤ q → (fun q : Nat => s.heap.size ≤ q) q := fun _ h => h
  obtain ⟨d0, iS0, hKn0⟩ := u_known (C := RX0) (T := TX0) (N := 11) (n := 11) hts in_X0 (hts _ q30)
  obtain ⟨d1, iS1, hKn1⟩ := u_known (C := RX1) (T := TX1) (N := 2) (n := 2) hts in_X1 (hts _ q182)
  obtain ⟨dC, dI, hKc⟩ : ∃ (dC : Nat → ClassId) (dI : Nat → Nat → Nat), ∀ (k : Nat) (q : vw_C), vwCl[k]? = some q → u_Kn s q.1 q.2.1 q.2.2 (dC k) (dI k) := by
    refine ⟨fun k => if k = 0 then d0 else d1, fun k => if k = 0 then iS0 else iS1, ?_⟩
    intro k q hq
    match k, hq with
    | 0, hq => cases hq; exact hKn0
    | 1, hq => cases hq; exact hKn1
    | k + 2, hq => simp [vwCl] at hq
  have hS : va_S (fun q : Nat => s.heap.size ≤ q) s.heap s.heap [] := va_S.rf
  have hK : va_K (dC, dI) vwCl [] s := ⟨hKc, fun k q h => by simp at h⟩
  have hP : va_P (dC, dI) vwCl [] s.heap := fun k q h => by simp at h
  have hD : va_D (fun q : Nat => s.heap.size ≤ q) [] := ⟨fun i j p q h => by simp at h, fun k q h => by simp at h⟩
  have hl := lv_entry ([.ref b]) (n := 4) (Nat.le_of_ble_eq_true rfl)
  rw [lg_entry_eq]
  generalize (lg_sl ([.ref b]) ++ List.replicate (4 - (lg_sl ([.ref b])).length) Slot.unset).toArray = ls at hl ⊢
  have hl : lv_has ls 4 [(0, .ref b)] := hl
  refine va_new (ci := 0) (fs := [.null, .int 0, .null, .int 0, .null, .null, .null, .null, .null, .null, .null]) (C := RX0) (T := TX0) (N := 11) hx hb hts in_X0 tyX0 tyX0_ok hown (hts _ q29) (hts _ q30) (hts _ q27) hK hP hD hS hA rfl (fun j hj => by rcases (show j = 0 ∨ j = 1 ∨ j = 2 ∨ j = 3 ∨ j = 4 ∨ j = 5 ∨ j = 6 ∨ j = 7 ∨ j = 8 ∨ j = 9 ∨ j = 10 by omega) with rfl | rfl | rfl | rfl | rfl | rfl | rfl | rfl | rfl | rfl | rfl <;> rfl) (Nat.le_of_ble_eq_true rfl) (Nat.le_of_ble_eq_true rfl) dL_law_0 (fun q0 H hP hD hS => ?_)
  have hP : va_P (dC, dI) vwCl [(q0, .inr (0, [.null, .int 0, .null, .int 0, .null, .null, .null, .null, .null, .null, .null]))] H := hP
  have hD : va_D (fun q : Nat => s.heap.size ≤ q) [(q0, .inr (0, [.null, .int 0, .null, .int 0, .null, .null, .null, .null, .null, .null, .null]))] := hD
  refine W.widen (k := 1) (n := 11) (Nat.le_of_ble_eq_true rfl) (Nat.le_of_ble_eq_true rfl) ?_
  refine lv_dup hx hb dL_law_3 rfl ?_
  have hFc := va_free (wc := [(q0, .inr (0, [.null, .int 0, .null, .int 0, .null, .null, .null, .null, .null, .null, .null]))]) hD hS hA [0] rfl
  refine va_callv (va_runI (As := []) (rest := [.ref q0]) ⟨hx, hb, hml, hown, hts⟩ (mi_X0 l dC dI q0 H.size) (cwI 0 hts (lw_meth q33) rfl rfl rfl (hts _ q27) (hts _ q31) (hts _ q32) rfl (by decide +kernel) ⟨Nat.le_of_ble_eq_true rfl, Nat.le_of_ble_eq_true rfl⟩) ⟨fun a U g mk q => by obtain ⟨q0, q1, qP, qK, qD⟩ := q; exact ⟨q0, q1, qP, va_K.moved (u := U) (U := U.calling g mk a) (Vm.Alike.refl U.vm) qK, qD⟩, fun U hU hW => ⟨rfl, by rw [hU], by rw [hU]; exact hP, va_K.moved hW.alike hK, hD.weaken (fun _ _ _ _ => trivial)⟩⟩ rfl rfl hl.1 rfl (lv_room (Nat.le_of_ble_eq_true rfl)) dL_law_4 ⟨Nat.le_of_ble_eq_true rfl, Nat.le_of_ble_eq_true rfl⟩) hS (fun q _ h => hFc q h) hFc (fun G t H1 locs ht hvm hw hB hz1 hk1 hS => ?_)
  obtain ⟨G0, a0, c0⟩ := G
  obtain ⟨hG1, hG2⟩ := hw
  have hG1 : G0 = (dC, dI) := hG1
  have hG2 : a0 0 = q0 := hG2
  subst hG1
  subst hG2
  obtain ⟨hP1, hK1, hD1⟩ := hB
  rw [ht] at hP1
  have hK0 : va_K (dC, dI) vwCl (xty kX0 ((dC, dI), a0, c0)) s := va_K.moved hvm.symm hK1
  have hP0 : va_P (dC, dI) vwCl (xpx kX0 ((dC, dI), a0, c0) xM0) H1 := hP1
  have hD0 : va_D (fun q : Nat => s.heap.size ≤ q) (xpx kX0 ((dC, dI), a0, c0) xM0) := hD1.weaken (fun _ _ _ h => hFc _ h)
  clear hP hD hFc hP1 hK1 hD1 hz1 hk1 ht hvm
  refine W.widen (k := 10) (n := 587) (Nat.le_of_ble_eq_true rfl) (Nat.le_of_ble_eq_true rfl) ?_
  refine lv_astore_n (lv' := [(1, .ref (a0 0)), (0, .ref b)]) hx hb dL_law_7 rfl hl (by decide) rfl (fun ls hl => ?_)
  refine va_new (ci := 1) (fs := [.null, .null]) (C := RX1) (T := TX1) (N := 2) hx hb hts in_X1 tyX1 tyX1_ok hown (hts _ q181) (hts _ q182) (hts _ q28) hK0 hP0 hD0 hS hA rfl (fun j hj => by rcases (show j = 0 ∨ j = 1 by omega) with rfl | rfl <;> rfl) (Nat.le_of_ble_eq_true rfl) (Nat.le_of_ble_eq_true rfl) dL_law_8 (fun q1 H hP hD hS => ?_)
  refine W.widen (k := 11) (n := 589) (Nat.le_of_ble_eq_true rfl) (Nat.le_of_ble_eq_true rfl) ?_
  refine lv_dup hx hb dL_law_11 rfl ?_
  have hPc := hP.sub (ws' := [(q1, .inr (1, [.null, .null]))]) [10] rfl
  have hDc := hD.sub (ws' := [(q1, .inr (1, [.null, .null]))]) [10] (by decide) rfl
  have hFc := va_free (wc := [(q1, .inr (1, [.null, .null]))]) hD hS hA [10] rfl
  refine va_callv (va_runI (As := []) (rest := [.ref q1]) ⟨hx, hb, hml, hown, hts⟩ (mi_X1 l dC dI q1 H.size) (cwI 0 hts (lw_meth q185) rfl rfl rfl (hts _ q28) (hts _ q183) (hts _ q184) rfl (by decide +kernel) ⟨Nat.le_of_ble_eq_true rfl, Nat.le_of_ble_eq_true rfl⟩) ⟨fun a U g mk q => by obtain ⟨q0, q1, qP, qK, qD⟩ := q; exact ⟨q0, q1, qP, va_K.moved (u := U) (U := U.calling g mk a) (Vm.Alike.refl U.vm) qK, qD⟩, fun U hU hW => ⟨rfl, by rw [hU], by rw [hU]; exact hPc, va_K.moved hW.alike hK, hDc.weaken (fun _ _ _ _ => trivial)⟩⟩ rfl rfl hl.1 rfl (lv_room (Nat.le_of_ble_eq_true rfl)) dL_law_12 ⟨Nat.le_of_ble_eq_true rfl, Nat.le_of_ble_eq_true rfl⟩) hS (fun q _ h => hFc q h) hFc (fun G t H1 locs ht hvm hw hB hz1 hk1 hS => ?_)
  obtain ⟨G1, a1, c1⟩ := G
  obtain ⟨hG1, hG2⟩ := hw
  have hG1 : G1 = (dC, dI) := hG1
  have hG2 : a1 0 = q1 := hG2
  subst hG1
  subst hG2
  obtain ⟨hP1, hK1, hD1⟩ := hB
  rw [ht] at hP1
  have hK1 : va_K (dC, dI) vwCl (xty kX1 ((dC, dI), a1, c1)) s := va_K.moved hvm.symm hK1
  obtain ⟨hP, hD⟩ := va_join (wr := xpx kX0 ((dC, dI), a0, c0) xM0) (w1 := xpx kX1 ((dC, dI), a1, c1) xM0) hP hD [10] [0, 1, 2, 3, 4, 5, 6, 7, 8, 9] rfl rfl (by decide) (by decide) hk1 hFc hP1 hD1
  refine W.widen (k := 13) (n := 717) (Nat.le_of_ble_eq_true rfl) (Nat.le_of_ble_eq_true rfl) ?_
  refine lv_astore_n (lv' := [(2, .ref (a1 0)), (1, .ref (a0 0)), (0, .ref b)]) hx hb dL_law_15 rfl hl (by decide) rfl (fun ls hl => ?_)
  refine lv_iconst (v := nI 0) hx hb dL_law_16 (by decide) ?_
  refine lv_istore_n (lv' := [(3, .int (nI 0)), (2, .ref (a1 0)), (1, .ref (a0 0)), (0, .ref b)]) hx hb dL_law_17 rfl hl (by decide) rfl (fun ls hl => ?_)
  exact law_loop hL C0 (L + 5) 0 (Nat.zero_le _) (by omega) xM0 xM0 _ _ ⟨xrM_0, xrM_0, hK0.app hK1, hP, hD, hS⟩ inv_0 rfl ls (lv_sub hl [3, 2, 1, 0] rfl)
set_option maxHeartbeats 4000000 in
theorem lw_walk (l : Launch) (b : Addr) (xs : List Int32) : MetFree l x (headSpec (Jvm.Cond.code x code maxLocals ret :: tables_1) room_1) (lw_P b xs) (fun _ _ _ _ _ => True) lw_Q := by
  refine MetFree.of_bodyS (code := code) (maxLocals := maxLocals) (ret := ret) (by decide) ?_ ?_
  · intro args s m h hn
    obtain ⟨meth, c, h1, h2, h3, h4, h5, h6, -, -⟩ := Cond.code_spec hn (atoms_spec (ws := Jvm.Cond.code x code maxLocals ret :: tables_1) h _ List.mem_cons_self)
    exact ⟨meth, c, h1, h2, h3, h4, h5, h6⟩
  · intro p e s m args below meth c s₁ B hml0 hP _
    obtain ⟨rfl, hx, hbd, hgv⟩ := hP
    obtain ⟨scr, harrAt, hlist, hof, hsmall⟩ := hx
    obtain ⟨hcb, hkn, -, -⟩ := State.arrayAt?_spec harrAt
    have hown : s.vm.findClass R_law = some m.cls := findClass_of_methodNamed B.named
    have hts0 : ∀ c ∈ (Jvm.Cond.code x code maxLocals ret :: tables_1), c.before #[Value.ref b] s = true := atoms_spec (ws := Jvm.Cond.code x code maxLocals ret :: tables_1) B.pre
    have hts : ∀ w ∈ lw_tbl, w.before #[Value.ref b] s = true := k2_hts_sels lw_privs (fun w hw => hts0 w (List.mem_cons_of_mem _ hw)) lw_privs_ok
    have hml : c.maxLocals = 4 := B.maxLocals_eq (hts0 _ List.mem_cons_self)
    have X₀ : Stand p l e room_1 s m #[Value.ref b] below meth c s₁ [] 0 0 := Stand.of_body B
    have hh0 : s₁.heap = s.heap := by rw [B.state]; rfl
    have hsz : scr.slots.size = xs.length := by rw [← Array.length_toList, hlist, List.length_map]
    have hval : ∀ j : Nat, j < xs.length → scr.slots[j]? = some (.int (xs.getD j 0)) := fun j hj => by
      rw [← Array.getElem?_toList, hlist]
      simp [hj]
    have hbl : b < s.heap.size := (Array.getElem?_eq_some_iff.mp hcb).1
    have hX : va_X b xs.length (fun j => xs.getD j 0) s s.heap := ⟨scr, hcb, hof, hkn, hsz, hval⟩
    have K : W p l e room_1 s m #[Value.ref b] below meth c s₁.heap [] 0 0 (lw_Z below #[Value.ref b] s) (entryFrame m ([Value.ref b] : List Value).toArray 4) := by
      rw [hh0]
      exact whole_start l hbd ⟨B.exec, B.bytes, B.returns, hml, hown, hts, hX, hbl, B.notSynchronized, hgv⟩
    obtain ⟨t, a1, o, b1, b2, b3⟩ := K s₁ rfl X₀
    exact ⟨t, o, a1, b1, b2, b3⟩
theorem lw_pre_spec {args : Array Value} {s : State} (h : (Jvm.Cond.and given_1 narrow_1).before args s = true) (hr : rest_1_c.before args s = true) : ∃ (b : Addr) (xs : List Int32), lw_P b xs args s := by
  have hs := flat_of_before _ h
  have hq := flat_of_before _ hr
  have hc : (Cond.count 1).before args s = true := hs _ (by decide +kernel)
  have harr : (Cond.arrayOf (.arg 0) .int).before args s = true := hs _ (by decide +kernel)
  have hle : (Cond.le (.length (.arg 0)) (.int 256)).before args s = true := hs _ (by decide +kernel)
  have hlen : (Cond.isInt (.length (.arg 0))).before args s = true := hq _ (by decide +kernel)
  have hall : (Cond.all (.arg 0) (.isInt (.elem (.arg 0) (.index 0)))).before args s = true := hq _ (by decide +kernel)
  obtain ⟨b, xs, hb, hx⟩ := State.ints_of_pre rfl harr hlen hall
  have hsm : xs.length < 2 ^ 31 := hx.choose_spec.2.2.2
  have hev : (Term.length (.arg 0)).eval args s none [] s = some (.int xs.length.toInt32) := hx.length_eval hb
  have hv := Cond.le_ints hev (show (Term.int 256).eval args s none [] s = some (.int 256) from rfl)
  have hd : xs.length.toInt32 ≤ 256 := by
    simpa [Cond.before, Cond.holds, hv] using hle
  have hN : xs.length ≤ 256 := (Int32.ofNat_le_ofNat hsm (by decide)).mp (show Int32.ofNat xs.length ≤ Int32.ofNat 256 from hd)
  exact ⟨b, xs, Cond.one_arg hc (show args[0]? = some (.ref b) from hb), hx, hN, h⟩
theorem lw_comes (l : Launch) : Comes l x (Jvm.Cond.code x code maxLocals ret :: tables_1) room_1 (fun tb e args s => Calls_1 tb e args s ∧ rest_1 tb e args s ∧ Pre_1 tb e args s)
    (fun _ _ args s o t => lw_Q args s o t) := by
  intro p e ha hc hk s m args below hf hfit hheap happ hpre
  obtain ⟨b, xs, hP⟩ := lw_pre_spec hpre.2.2 hpre.2.1
  obtain ⟨k, o, h1, h2, h3, hQ⟩ := lw_walk l b xs p e ha hc hk s m args below hf ((Spec.applies_iff_loose hf).mp happ).1 hP trivial
  exact ⟨k, o, h1, h2, h3, hQ⟩
theorem lw_frame {s t : State} {o : Outcome} {args : Array Value} (h : Framed s o t [] 600000 7290000) :
    Framed s o t (fieldLocs frame_1_writes args s ++ arrayLocs frame_1_arrays args s ++ staticLocs frame_1_statics s) 600000 7290000 := h
theorem lw_limb (L : Cond) (hL : ∀ (args : Array Value) (s t : State), L.after args s (.returned (some (.int 1))) t = true) :
    ArmFor flags0 classFile x code maxLocals ret World_1 tables_1 room_1 Calls_1 rest_1 Pre_1
      (fun tb e a s o t => postC L tb e a s o t ∧ Framed s o t (fieldLocs frame_1_writes a s ++ arrayLocs frame_1_arrays a s ++ staticLocs frame_1_statics s) 600000 7290000) := by
  intro l _ _ _ p e ha hc hk s m args below hf hfit hheap happ hpre
  obtain ⟨k, o, h1, h2, h3, rfl, hF⟩ := lw_comes l p e ha hc hk s m args below hf hfit hheap happ hpre
  exact ⟨k, _, h1, h2, h3, hL args s _, lw_frame hF⟩
theorem i_vc : Claimed_1_1 ∧ Claimed_1_2 := ⟨lw_limb limb_1_1 (fun args s t => by simp [limb_1_1, Cond.after, Cond.holds, Cond.value]), lw_limb limb_1_2 (fun args s t => Cond.after_iff.mpr (by
  first | (rw [show limb_1_2 = Cond.eq .result (.int 1) from rfl, Cond.eq_ints (x := 1) (y := 1) rfl rfl]; simp; done) | (simp [limb_1_2, Cond.value, Term.eval]; done)))⟩
end
